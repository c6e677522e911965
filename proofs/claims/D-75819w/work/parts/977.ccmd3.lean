set_option maxRecDepth 100000
section CM4
variable {G : sx_G} {σ τ : sx_St} {mu : Nat → Nat} {oc lo sv nl cap : Nat} {ow : Nat → Nat} {Λ : Nat → Nat → Nat → Nat} {A : a_A} {V : a_V} {W : Nat → Prop} {c sl : Nat} {N : List a_N}
theorem cpx_clo1 (hK : c_K G mu oc σ A) {s : Int32} (hi : i_in s (A_v A).2.2.length = false) : sx_C G 100 YX1_close [.ref (mu 0), .int s] σ (c_X0 "java/lang/IndexOutOfBoundsException" σ) := by
  refine sx_body (by decide) (Nat.le_of_ble_eq_true rfl) ?_
  obtain ⟨sv, nl, hX, hF, hN⟩ := hK
  obtain ⟨Λ0, hV, hzz, hw⟩ := id hF
  have hx := hX.1
  have hnb := hw.1.1
  have hns := hw.1.2.1
  have hX0 : c_X G mu (sx_n σ) oc σ sv nl (A_st A 0) := hX
  have hF0 : c_F G mu (sx_n σ) σ sv (A_v (A_st A 0)) := hF
  refine sv_aload_n dX1_close_0 rfl ?_
  refine sv_iload_n dX1_close_1 rfl ?_
  refine sv_cv _ (cgx_sesAt hx hV hi) okX1_sessionAt (sx_rd_c hx) rfl kv_X1_240.1 kv_X1_240.2.1 kv_X1_240.2.2 dX1_close_2 rfl rfl (by omega) (Nat.le_of_ble_eq_true rfl) (fun v τ h => by obtain ⟨q, e, _⟩ := h; cases e) (fun E q τ h => ?_)
  obtain ⟨q9, e9, F9⟩ := h
  cases e9
  refine sv_out (fun x hx => by cases hx) ?_
  exact ⟨_, rfl, F9⟩
theorem cpx_clo2 (hK : c_K G mu oc σ A) {j : Nat} (hj : j < (A_v A).2.2.length) (h : ((a_bx (A_v A) j).isSome && !(a_id (A_v A) j)) = false) : sx_C G 100 YX1_close [.ref (mu 0), .int (nI j)] σ (c_X0 "java/lang/IllegalStateException" σ) := by
  refine sx_body (by decide) (Nat.le_of_ble_eq_true rfl) ?_
  obtain ⟨sv, nl, hX, hF, hN⟩ := hK
  obtain ⟨Λ0, hV, hzz, hw⟩ := id hF
  have hx := hX.1
  have hnb := hw.1.1
  have hns := hw.1.2.1
  have hX0 : c_X G mu (sx_n σ) oc σ sv nl (A_st A 0) := hX
  have hF0 : c_F G mu (sx_n σ) σ sv (A_v (A_st A 0)) := hF
  have hbl : ∀ b, a_bx (A_v A) j = some b → b < 100 := fun b hb => by have := hw.2.2.1 j b hj hb; omega
  refine sv_aload_n dX1_close_0 rfl ?_
  refine sv_iload_n dX1_close_1 rfl ?_
  refine sv_cvR _ (cg_sesAt hx hV hj) okX1_sessionAt kv_X1_240 (sx_rd_c hx) rfl dX1_close_2 rfl rfl (by omega) (Nat.le_of_ble_eq_true rfl) ?_
  refine sv_cs _ (cgx_open hV hj hbl h) okX1_requireOpen ks_X1_343.1 ks_X1_343.2 dX1_close_5 rfl rfl (by omega) (Nat.le_of_ble_eq_true rfl) (fun v τ h => by obtain ⟨q, e, _⟩ := h; cases e) (fun E q τ h => ?_)
  obtain ⟨q9, e9, F9⟩ := h
  cases e9
  refine sv_out (fun x hx => by cases hx) ?_
  exact ⟨_, rfl, F9⟩
theorem cp_clo_r (hK : c_K G mu oc σ A) {z : Nat} (hz : g_Z G z) {j : Nat} (hj : j < (A_v A).2.2.length) (h : ((a_bx (A_v A) j).isSome && !(a_id (A_v A) j)) = true) (hr : a_rd (A_v A) j = true) : sx_C G 100 YX1_close [.ref (mu 0), .int (nI j)] σ (c_R ["java/lang/IndexOutOfBoundsException", "java/lang/IllegalStateException"] G mu oc σ (x_clo (A_st A 0) j)) := by
  refine sx_body (by decide) (Nat.le_of_ble_eq_true rfl) ?_
  have hK0 := hK
  obtain ⟨sv, nl, hX, hF, hN⟩ := hK
  obtain ⟨Λ0, hV, hzz, hw⟩ := id hF
  have hx := hX.1
  have hnb := hw.1.1
  have hns := hw.1.2.1
  have hX0 : c_X G mu (sx_n σ) oc σ sv nl (A_st A 0) := hX
  have hF0 : c_F G mu (sx_n σ) σ sv (A_v (A_st A 0)) := hF
  have hbl : ∀ b, a_bx (A_v A) j = some b → b < 100 := fun b hb => by have := hw.2.2.1 j b hj hb; omega
  obtain ⟨b, hbx⟩ := Option.isSome_iff_exists.mp (show (a_bx (A_v A) j).isSome = true by cases hq : (a_bx (A_v A) j).isSome with | true => rfl | false => rw [hq] at h; cases h)
  have hb := hw.2.2.1 j b hj hbx
  have hm30 := hw.1.2.2 b hb
  refine sv_aload_n dX1_close_0 rfl ?_
  refine sv_iload_n dX1_close_1 rfl ?_
  refine sv_cvR _ (cg_sesAt hx hV hj) okX1_sessionAt kv_X1_240 (sx_rd_c hx) rfl dX1_close_2 rfl rfl (by omega) (Nat.le_of_ble_eq_true rfl) ?_
  refine sv_csR _ (cg_open hV hj hbl h) okX1_requireOpen ks_X1_343 dX1_close_5 rfl rfl (by omega) (Nat.le_of_ble_eq_true rfl) ?_
  refine sv_aload_n dX1_close_8 rfl ?_
  refine sv_iload_n dX1_close_9 rfl ?_
  refine sv_cvP _ (cc_begin (A := A_st A 0) hX0 hF0 hz hj) okX1_begin kv_X1_336 (sx_rd_c hx) rfl dX1_close_10 rfl rfl (by omega) (Nat.le_of_ble_eq_true rfl) ?_
  intro v6 τ4 hp5
  obtain ⟨a, nl2, ow2, Λ2, rfl, ea, hA2, hB2, FG2⟩ := hp5
  have hx2 := hA2.1.1
  have hj2 : j < (A_v (s_be (A_st A 0) j)).2.2.length := by rw [be_len]; exact hj
  obtain ⟨fu2, ft2, fa2, hso2, -⟩ := k_V_ses hA2.2.1.1.1 hj2
  refine sv_astore_n dX1_close_13 (by decide) ?_
  refine sv_aload_n dX1_close_14 rfl ?_
  refine sv_get fg_X1_246 dX1_close_15 (sx_rd_c hso2) rfl ?_
  refine sv_if_eqB (tgt := 25) dX1_close_18 (by decide) (fun c18 => ?_) (fun c18 => ?_)
  · exact absurd ((be_rd (A_st A 0) _ hj).trans hr) (by rw [c18]; decide)
  · refine sv_iconst (nI 0) dX1_close_21 (by decide +kernel) ?_
    refine sv_goto (tgt := 37) dX1_close_22 (by decide) ?_
    refine sv_istore_n dX1_close_37 (by decide) ?_
    refine sv_aload_n dX1_close_38 rfl ?_
    have hso5 := hso2
    refine sv_cvP _ (cc_leave (hA2.2.1.1.1.2.2.2.2 j hj2).1) okX8_leave kv_X1_404 (sx_rd_c hso5) rfl dX1_close_39 rfl rfl (by omega) (Nat.le_of_ble_eq_true rfl) ?_
    intro v9 τ7 hp8
    obtain ⟨rfl, hS5, F5⟩ := hp8
    have hA5 := c_A_s F5 hA2 hj2 (fun q z => Or.inl z) hS5 rfl (w_V_lv hA2.2.1.2.2.1)
    have hx5 := hA5.1.1
    refine sv_aload_n dX1_close_42 rfl ?_
    refine sv_get fg_X1_44 dX1_close_43 (sx_rd_c hx5) rfl ?_
    refine sv_aload_n dX1_close_46 rfl ?_
    refine sv_get fg_X1_64 dX1_close_47 (sx_rd_c hx5) rfl ?_
    refine sv_cvP _ (cc_tellIdle hA5.2.1 (by show 0 + 700 ≤ 5000; omega)) okX2_tellIdle kv_X1_332 (sx_rd_c hA5.2.1.1.1.1) rfl dX1_close_50 rfl rfl (by omega) (Nat.le_of_ble_eq_true rfl) ?_
    intro v12 τ10 hp11
    obtain ⟨rfl, ow8, cap8, hJ8, hT8⟩ := hp11
    obtain ⟨hA9, hB9⟩ := c_A_ti hA5 hJ8 hT8 (Nat.zero_le _)
    refine sv_iload_n dX1_close_53 rfl ?_
    refine sv_iret rfl rfl dX1_close_54 ?_
    have hsp : x_clo (A_st A 0) j = (0, s_ti 5 (A_sv (s_be (A_st A 0) j) (v_lv (A_v (s_be (A_st A 0) j)) j)) 0) := if_pos hr
    rw [hsp]
    exact c_R_ok nI_0 ti_t (c_S_B (c_A_K hA9) (c_B_t hB2 (c_B_t (c_B_F F5) hB9 (Nat.le_refl _) (Nat.le_refl _)) (Nat.le_refl _) (Nat.le_refl _)) (by omega) (by omega))
theorem cp_clo_w (hK : c_K G mu oc σ A) {z : Nat} (hz : g_Z G z) (hG : g_L G) {j : Nat} (hj : j < (A_v A).2.2.length) {t : Nat} (ho : o_V t (A_v A)) (h : ((a_bx (A_v A) j).isSome && !(a_id (A_v A) j)) = true) (hr : a_rd (A_v A) j = false) : sx_C G 100 YX1_close [.ref (mu 0), .int (nI j)] σ (c_R ["java/lang/IndexOutOfBoundsException", "java/lang/IllegalStateException"] G mu oc σ (x_clo (A_st A 0) j)) := by
  refine sx_body (by decide) (Nat.le_of_ble_eq_true rfl) ?_
  have hK0 := hK
  obtain ⟨sv, nl, hX, hF, hN⟩ := hK
  obtain ⟨Λ0, hV, hzz, hw⟩ := id hF
  have hx := hX.1
  have hnb := hw.1.1
  have hns := hw.1.2.1
  have hX0 : c_X G mu (sx_n σ) oc σ sv nl (A_st A 0) := hX
  have hF0 : c_F G mu (sx_n σ) σ sv (A_v (A_st A 0)) := hF
  have hbl : ∀ b, a_bx (A_v A) j = some b → b < 100 := fun b hb => by have := hw.2.2.1 j b hj hb; omega
  obtain ⟨b, hbx⟩ := Option.isSome_iff_exists.mp (show (a_bx (A_v A) j).isSome = true by cases hq : (a_bx (A_v A) j).isSome with | true => rfl | false => rw [hq] at h; cases h)
  have hb := hw.2.2.1 j b hj hbx
  have hm30 := hw.1.2.2 b hb
  refine sv_aload_n dX1_close_0 rfl ?_
  refine sv_iload_n dX1_close_1 rfl ?_
  refine sv_cvR _ (cg_sesAt hx hV hj) okX1_sessionAt kv_X1_240 (sx_rd_c hx) rfl dX1_close_2 rfl rfl (by omega) (Nat.le_of_ble_eq_true rfl) ?_
  refine sv_csR _ (cg_open hV hj hbl h) okX1_requireOpen ks_X1_343 dX1_close_5 rfl rfl (by omega) (Nat.le_of_ble_eq_true rfl) ?_
  refine sv_aload_n dX1_close_8 rfl ?_
  refine sv_iload_n dX1_close_9 rfl ?_
  refine sv_cvP _ (cc_begin (A := A_st A 0) hX0 hF0 hz hj) okX1_begin kv_X1_336 (sx_rd_c hx) rfl dX1_close_10 rfl rfl (by omega) (Nat.le_of_ble_eq_true rfl) ?_
  intro v15 τ13 hp14
  obtain ⟨a, nl2, ow2, Λ2, rfl, ea, hA2, hB2, FG2⟩ := hp14
  have hx2 := hA2.1.1
  have hj2 : j < (A_v (s_be (A_st A 0) j)).2.2.length := by rw [be_len]; exact hj
  obtain ⟨fu2, ft2, fa2, hso2, -⟩ := k_V_ses hA2.2.1.1.1 hj2
  refine sv_astore_n dX1_close_13 (by decide) ?_
  refine sv_aload_n dX1_close_14 rfl ?_
  refine sv_get fg_X1_246 dX1_close_15 (sx_rd_c hso2) rfl ?_
  refine sv_if_eqB (tgt := 25) dX1_close_18 (by decide) (fun c18 => ?_) (fun c18 => ?_)
  · refine sv_aload_n dX1_close_25 rfl ?_
    refine sv_aload_n dX1_close_26 rfl ?_
    refine sv_cvR _ (cc_boxOf hx2 hA2.2.1.1.1 hj2 hb ((be_bx _ _ hj).trans hbx)) okX1_boxOf kv_X1_355 (sx_rd_c hx2) rfl dX1_close_27 rfl rfl (by omega) (Nat.le_of_ble_eq_true rfl) ?_
    refine sv_iconst (nI 3) dX1_close_30 (by decide +kernel) ?_
    refine sv_csP _ (cm_flagged hG) okX1_flagged ks_X1_211 dX1_close_31 rfl rfl (by omega) (Nat.le_of_ble_eq_true rfl) ?_
    intro v18 τ16 hp17
    obtain ⟨te, rfl, hte, htc, F1⟩ := hp17
    have hA3 := c_A_0 F1 hA2
    have hBb := (hA3.2.1.1.1.2.2.2.1 b hb).1
    have hP3 : k_P G 1 _ te (fun m => decide (m.2.2 >>> (nI 3 &&& 31) &&& 1 = 1)) := Or.inr (Or.inl ⟨_, sx_rd_c htc, fun m => rfl⟩)
    have hm31 : (a_b (A_v (s_be (A_st A 0) j)) b).2.2.length ≤ 30 := hm30
    refine sv_cvP _ (cc_bremove hBb hG hP3 (by omega)) okX6_remove kv_X1_386 (sx_rd_c hBb.1) rfl dX1_close_34 rfl rfl (by omega) (Nat.le_of_ble_eq_true rfl) ?_
    intro v21 τ19 hp20
    obtain ⟨rfl, g2, hB3, hg3, F3⟩ := hp20
    have hpe : ∀ m ∈ a_ms (A_v (s_be (A_st A 0) j)) b, (fun m : a_M => decide (m.2.2 >>> (nI 3 &&& 31) &&& 1 = 1)) m = a_dl 0 2147483647 m := fun m hm => (dl_all ((ho.2.1 b hb).2.1 m hm).1).symm
    have hbs : a_bs (A_v (s_be (A_st A 0) j)) j = b := a_bs_e ((be_bx (A_st A 0) j hj).trans hbx)
    have hrd := rd_eq (A := s_be (A_st A 0) j) (f := 0) (l := 2147483647) hbs hpe
    have hw3 : w_V (v_bm (A_v (s_be (A_st A 0) j)) b ((a_ms (A_v A) b).filter (fun m => !((fun m : a_M => decide (m.2.2 >>> (nI 3 &&& 31) &&& 1 = 1)) m)))) := w_V_bm hA2.2.1.2.2.1 (Nat.le_trans (List.length_filter_le _ _) hm30)
    have hA4 := c_A_b F3 hA3 hb (fun q z => Or.inr z) hB3 rfl (Or.inl rfl) (fun i hi => Or.inl (hg3 i hi)) (hA2.2.2.2.1 b hb) hw3
    have hA4 := (congrArg (c_A G mu oc a τ19 a nl2 (ow_b ow2 b (Λ2 1 b 2)) (Λ_b Λ2 b (Λ2 1 b 2) (Λ2 1 b 3) g2) 0) hrd.2).mpr hA4
    obtain ⟨Λ3, eΛ3⟩ : ∃ L, L = Λ_b Λ2 b (Λ2 1 b 2) (Λ2 1 b 3) g2 := ⟨_, rfl⟩
    rw [← eΛ3] at hA4
    have e30 : Λ2 3 j 0 = Λ3 3 j 0 := by rw [eΛ3, Λ_b_3]
    have hj4 : j < (A_v (s_rd (s_be (A_st A 0) j) j 0 2147483647)).2.2.length := hj2
    obtain ⟨fu4, ft4, fa4, hso5, -⟩ := k_V_ses hA4.2.1.1.1 hj4
    refine sv_istore_n dX1_close_37 (by decide) ?_
    refine sv_aload_n dX1_close_38 rfl ?_
    rw [e30]
    refine sv_cvP _ (cc_leave (hA4.2.1.1.1.2.2.2.2 j hj4).1) okX8_leave kv_X1_404 (sx_rd_c hso5) rfl dX1_close_39 rfl rfl (by omega) (Nat.le_of_ble_eq_true rfl) ?_
    intro v24 τ22 hp23
    obtain ⟨rfl, hS5, F5⟩ := hp23
    have hA5 := c_A_s F5 hA4 hj4 (fun q z => Or.inl z) hS5 rfl (w_V_lv hA4.2.1.2.2.1)
    have hx5 := hA5.1.1
    refine sv_aload_n dX1_close_42 rfl ?_
    refine sv_get fg_X1_44 dX1_close_43 (sx_rd_c hx5) rfl ?_
    refine sv_aload_n dX1_close_46 rfl ?_
    refine sv_get fg_X1_64 dX1_close_47 (sx_rd_c hx5) rfl ?_
    refine sv_cvP _ (cc_tellIdle hA5.2.1 (by show 0 + 700 ≤ 5000; omega)) okX2_tellIdle kv_X1_332 (sx_rd_c hA5.2.1.1.1.1) rfl dX1_close_50 rfl rfl (by omega) (Nat.le_of_ble_eq_true rfl) ?_
    intro v27 τ25 hp26
    obtain ⟨rfl, ow8, cap8, hJ8, hT8⟩ := hp26
    obtain ⟨hA9, hB9⟩ := c_A_ti hA5 hJ8 hT8 (Nat.zero_le _)
    refine sv_iload_n dX1_close_53 rfl ?_
    refine sv_iret rfl rfl dX1_close_54 ?_
    have hsp : x_clo (A_st A 0) j = (n_rd (s_be (A_st A 0) j) j 0 2147483647, s_ti 5 (A_sv (s_rd (s_be (A_st A 0) j) j 0 2147483647) (v_lv (A_v (s_rd (s_be (A_st A 0) j) j 0 2147483647)) j)) 0) := if_neg (show ¬ (a_rd (A_v A) j = true) by rw [hr]; decide)
    rw [hsp]
    exact c_R_ok hrd.1.symm ti_t (c_S_B (c_A_K hA9) (c_B_t hB2 (c_B_t (c_B_F F1) (c_B_t (c_B_F F3) (c_B_t (c_B_F F5) hB9 (Nat.le_refl _) (Nat.le_refl _)) (Nat.le_refl _) (Nat.le_refl _)) (Nat.le_refl _) (Nat.le_refl _)) (Nat.le_refl _) (Nat.le_refl _)) (by omega) (by omega))
  · exact absurd ((be_rd (A_st A 0) _ hj).trans hr) (by rw [c18]; decide)
theorem pm_clo (hK : c_K G mu oc σ A) {z : Nat} (hz : g_Z G z) (hG : g_L G) {t : Nat} (ho : o_V t (A_v A)) {s : Int32} : sx_C G 100 YX1_close [.ref (mu 0), .int s] σ (c_R ["java/lang/IndexOutOfBoundsException", "java/lang/IllegalStateException"] G mu oc σ (sp_clo A s)) := by
  have hns : (A_v A).2.2.length ≤ 4 := by obtain ⟨_, _, _, ⟨_, _, _, hw⟩, _⟩ := hK; exact hw.1.2.1
  unfold sp_clo
  refine c_2 hK (fun h => cpx_clo1 hK h) (fun h1 h2 => ?_) (fun h1 h2 => ?_)
  · obtain ⟨j, hj, rfl⟩ := i_in_of (by omega) h1
    rw [can_j hj hns] at h2
    exact cpx_clo2 hK hj h2
  · obtain ⟨j, hj, rfl⟩ := i_in_of (by omega) h1
    rw [can_j hj hns] at h2
    rw [nI_clamp (by omega)]
    cases hr : a_rd (A_v A) j with
    | true => exact cp_clo_r hK hz hj h2 hr
    | false => exact cp_clo_w hK hz hG hj ho h2 hr
theorem cpx_sel1 (hK : c_K G mu oc σ A) {b rd : Int32} {s : Int32} (hi : i_in s (A_v A).2.2.length = false) : sx_C G 100 YX1_select [.ref (mu 0), .int s, .int b, .int rd] σ (c_X0 "java/lang/IndexOutOfBoundsException" σ) := by
  refine sx_body (by decide) (Nat.le_of_ble_eq_true rfl) ?_
  obtain ⟨sv, nl, hX, hF, hN⟩ := hK
  obtain ⟨Λ0, hV, hzz, hw⟩ := id hF
  have hx := hX.1
  have hnb := hw.1.1
  have hns := hw.1.2.1
  have hX0 : c_X G mu (sx_n σ) oc σ sv nl (A_st A 0) := hX
  have hF0 : c_F G mu (sx_n σ) σ sv (A_v (A_st A 0)) := hF
  refine sv_aload_n dX1_select_0 rfl ?_
  refine sv_iload_n dX1_select_1 rfl ?_
  refine sv_cv _ (cgx_sesAt hx hV hi) okX1_sessionAt (sx_rd_c hx) rfl kv_X1_240.1 kv_X1_240.2.1 kv_X1_240.2.2 dX1_select_2 rfl rfl (by omega) (Nat.le_of_ble_eq_true rfl) (fun v τ h => by obtain ⟨q, e, _⟩ := h; cases e) (fun E q τ h => ?_)
  obtain ⟨q9, e9, F9⟩ := h
  cases e9
  refine sv_out (fun x hx => by cases hx) ?_
  exact ⟨_, rfl, F9⟩
theorem cpx_sel2 (hK : c_K G mu oc σ A) {j : Nat} (hj : j < (A_v A).2.2.length) {b rd : Int32} (hi : i_in b (A_v A).2.1.length = false) : sx_C G 100 YX1_select [.ref (mu 0), .int (nI j), .int b, .int rd] σ (c_X0 "java/lang/IndexOutOfBoundsException" σ) := by
  refine sx_body (by decide) (Nat.le_of_ble_eq_true rfl) ?_
  obtain ⟨sv, nl, hX, hF, hN⟩ := hK
  obtain ⟨Λ0, hV, hzz, hw⟩ := id hF
  have hx := hX.1
  have hnb := hw.1.1
  have hns := hw.1.2.1
  have hX0 : c_X G mu (sx_n σ) oc σ sv nl (A_st A 0) := hX
  have hF0 : c_F G mu (sx_n σ) σ sv (A_v (A_st A 0)) := hF
  refine sv_aload_n dX1_select_0 rfl ?_
  refine sv_iload_n dX1_select_1 rfl ?_
  refine sv_cvR _ (cg_sesAt hx hV hj) okX1_sessionAt kv_X1_240 (sx_rd_c hx) rfl dX1_select_2 rfl rfl (by omega) (Nat.le_of_ble_eq_true rfl) ?_
  refine sv_astore dX1_select_5 (by decide) ?_
  refine sv_aload_n dX1_select_7 rfl ?_
  refine sv_iload_n dX1_select_8 rfl ?_
  refine sv_cv _ (cgx_boxAt hx hV hi) okX1_boxAt (sx_rd_c hx) rfl kv_X1_197.1 kv_X1_197.2.1 kv_X1_197.2.2 dX1_select_9 rfl rfl (by omega) (Nat.le_of_ble_eq_true rfl) (fun v τ h => by obtain ⟨q, e, _⟩ := h; cases e) (fun E q τ h => ?_)
  obtain ⟨q9, e9, F9⟩ := h
  cases e9
  refine sv_out (fun x hx => by cases hx) ?_
  exact ⟨_, rfl, F9⟩
theorem cpx_sel3 (hK : c_K G mu oc σ A) {j : Nat} (hj : j < (A_v A).2.2.length) {i : Nat} (hi : i < (A_v A).2.1.length) {rd : Int32} (h : a_id (A_v A) j = true) : sx_C G 100 YX1_select [.ref (mu 0), .int (nI j), .int (nI i), .int rd] σ (c_X0 "java/lang/IllegalStateException" σ) := by
  refine sx_body (by decide) (Nat.le_of_ble_eq_true rfl) ?_
  obtain ⟨sv, nl, hX, hF, hN⟩ := hK
  obtain ⟨Λ0, hV, hzz, hw⟩ := id hF
  have hx := hX.1
  have hnb := hw.1.1
  have hns := hw.1.2.1
  have hX0 : c_X G mu (sx_n σ) oc σ sv nl (A_st A 0) := hX
  have hF0 : c_F G mu (sx_n σ) σ sv (A_v (A_st A 0)) := hF
  obtain ⟨fu0, ft0, fa0, hso, -⟩ := k_V_ses hV hj
  refine sv_aload_n dX1_select_0 rfl ?_
  refine sv_iload_n dX1_select_1 rfl ?_
  refine sv_cvR _ (cg_sesAt hx hV hj) okX1_sessionAt kv_X1_240 (sx_rd_c hx) rfl dX1_select_2 rfl rfl (by omega) (Nat.le_of_ble_eq_true rfl) ?_
  refine sv_astore dX1_select_5 (by decide) ?_
  refine sv_aload_n dX1_select_7 rfl ?_
  refine sv_iload_n dX1_select_8 rfl ?_
  refine sv_cvR _ (cg_boxAt hx hV hi) okX1_boxAt kv_X1_197 (sx_rd_c hx) rfl dX1_select_9 rfl rfl (by omega) (Nat.le_of_ble_eq_true rfl) ?_
  refine sv_astore dX1_select_12 (by decide) ?_
  refine sv_aload dX1_select_14 rfl ?_
  refine sv_get fg_X1_254 dX1_select_16 (sx_rd_c hso) rfl ?_
  refine sv_if_neB (tgt := 26) dX1_select_19 (by decide) (fun c19 => ?_) (fun c19 => ?_)
  · refine sv_iconst (nI 0) dX1_select_26 (by decide +kernel) ?_
    refine sv_tI (y := b_I false) rfl ?_
    refine sv_cs _ cx_S okX1_requireState ks_X1_86.1 ks_X1_86.2 dX1_select_27 rfl rfl (by omega) (Nat.le_of_ble_eq_true rfl) (fun v τ h => by obtain ⟨q, e, _⟩ := h; cases e) (fun E q τ h => ?_)
    obtain ⟨q9, e9, F9⟩ := h
    cases e9
    refine sv_out (fun x hx => by cases hx) ?_
    exact ⟨_, rfl, F9⟩
  · exact absurd h (by rw [c19]; decide)
theorem cp_sel (hK : c_K G mu oc σ A) {z : Nat} (hz : g_Z G z) {j : Nat} (hj : j < (A_v A).2.2.length) {i : Nat} (hi : i < (A_v A).2.1.length) {rd : Bool} (h : a_id (A_v A) j = false) : sx_C G 100 YX1_select [.ref (mu 0), .int (nI j), .int (nI i), .int (b_I rd)] σ (c_R ["java/lang/IndexOutOfBoundsException", "java/lang/IllegalStateException"] G mu oc σ (x_sel (A_st A 0) j i rd)) := by
  refine sx_body (by decide) (Nat.le_of_ble_eq_true rfl) ?_
  have hK0 := hK
  obtain ⟨sv, nl, hX, hF, hN⟩ := hK
  obtain ⟨Λ0, hV, hzz, hw⟩ := id hF
  have hx := hX.1
  have hnb := hw.1.1
  have hns := hw.1.2.1
  have hX0 : c_X G mu (sx_n σ) oc σ sv nl (A_st A 0) := hX
  have hF0 : c_F G mu (sx_n σ) σ sv (A_v (A_st A 0)) := hF
  obtain ⟨fu0, ft0, fa0, hso, -⟩ := k_V_ses hV hj
  refine sv_aload_n dX1_select_0 rfl ?_
  refine sv_iload_n dX1_select_1 rfl ?_
  refine sv_cvR _ (cg_sesAt hx hV hj) okX1_sessionAt kv_X1_240 (sx_rd_c hx) rfl dX1_select_2 rfl rfl (by omega) (Nat.le_of_ble_eq_true rfl) ?_
  refine sv_astore dX1_select_5 (by decide) ?_
  refine sv_aload_n dX1_select_7 rfl ?_
  refine sv_iload_n dX1_select_8 rfl ?_
  refine sv_cvR _ (cg_boxAt hx hV hi) okX1_boxAt kv_X1_197 (sx_rd_c hx) rfl dX1_select_9 rfl rfl (by omega) (Nat.le_of_ble_eq_true rfl) ?_
  refine sv_astore dX1_select_12 (by decide) ?_
  refine sv_aload dX1_select_14 rfl ?_
  refine sv_get fg_X1_254 dX1_select_16 (sx_rd_c hso) rfl ?_
  refine sv_if_neB (tgt := 26) dX1_select_19 (by decide) (fun c19 => ?_) (fun c19 => ?_)
  · exact absurd h (by rw [c19]; decide)
  · refine sv_iconst (nI 1) dX1_select_22 (by decide +kernel) ?_
    refine sv_goto (tgt := 27) dX1_select_23 (by decide) ?_
    refine sv_tI (y := b_I true) rfl ?_
    refine sv_csR _ cr_S okX1_requireState ks_X1_86 dX1_select_27 rfl rfl (by omega) (Nat.le_of_ble_eq_true rfl) ?_
    refine sv_aload_n dX1_select_30 rfl ?_
    refine sv_iload_n dX1_select_31 rfl ?_
    refine sv_cvP _ (cc_begin (A := A_st A 0) hX0 hF0 hz hj) okX1_begin kv_X1_336 (sx_rd_c hx) rfl dX1_select_32 rfl rfl (by omega) (Nat.le_of_ble_eq_true rfl) ?_
    intro v30 τ28 hp29
    obtain ⟨a, nl2, ow2, Λ2, rfl, ea, hA2, hB2, FG2⟩ := hp29
    have hx2 := hA2.1.1
    have hj2 : j < (A_v (s_be (A_st A 0) j)).2.2.length := by rw [be_len]; exact hj
    obtain ⟨fu2, ft2, fa2, hso2, -⟩ := k_V_ses hA2.2.1.1.1 hj2
    refine sv_astore dX1_select_35 (by decide) ?_
    refine sv_aload_n dX1_select_37 rfl ?_
    refine sv_get fg_X1_44 dX1_select_38 (sx_rd_c hx2) rfl ?_
    refine sv_aload dX1_select_41 rfl ?_
    refine sv_iload_n dX1_select_43 rfl ?_
    refine sv_iload_n dX1_select_44 rfl ?_
    refine sv_cvP _ (cc_select hA2.2.1.1.1 hA2.2.1.1.2.1 (rd := rd) hj2 hi (hA2.2.1.2.2.1.1.2.2 i hi)) okX2_select kv_X1_339 (sx_rd_c hA2.2.1.1.1.1) rfl dX1_select_45 rfl rfl (by omega) (Nat.le_of_ble_eq_true rfl) ?_
    intro v33 τ31 hp32
    obtain ⟨rfl, hS5, F5⟩ := hp32
    have e5 := a_us_s (V := A_v (s_be (A_st A 0) j)) (s := j) ((a_s (A_v (s_be (A_st A 0) j)) j).1, some i, rd, (a_s (A_v (s_be (A_st A 0) j)) j).2.2.2.1, (a_b (A_v (s_be (A_st A 0) j)) i).2.1 - 1, (a_s (A_v (s_be (A_st A 0) j)) j).2.2.2.2.2.1, (a_ms (A_v (s_be (A_st A 0) j)) i).map (fun m => (m.1, m.2.2))) hj2
    have e5 : a_s (v_se (A_v (s_be (A_st A 0) j)) j i rd) j = _ := e5
    rw [e5] at hS5
    have hA5 := c_A_s F5 hA2 hj2 (fun q z => by rcases z with z | z | z; exact Or.inl z; exact Or.inr (Or.inl z); exact Or.inr (Or.inr (Or.inl z))) hS5 rfl (w_V_se hA2.2.1.2.2.1 hi)
    have hA5 : c_A G mu oc a _ a nl2 ow2 Λ2 0 (s_se (s_be (A_st A 0) j) j i rd) := hA5
    have hx5 := hA5.1.1
    refine sv_aload_n dX1_select_48 rfl ?_
    refine sv_get fg_X1_44 dX1_select_49 (sx_rd_c hx5) rfl ?_
    refine sv_aload_n dX1_select_52 rfl ?_
    refine sv_get fg_X1_64 dX1_select_53 (sx_rd_c hx5) rfl ?_
    refine sv_cvP _ (cc_tellIdle hA5.2.1 (by show 0 + 700 ≤ 5000; omega)) okX2_tellIdle kv_X1_332 (sx_rd_c hA5.2.1.1.1.1) rfl dX1_select_56 rfl rfl (by omega) (Nat.le_of_ble_eq_true rfl) ?_
    intro v36 τ34 hp35
    obtain ⟨rfl, ow8, cap8, hJ8, hT8⟩ := hp35
    obtain ⟨hA9, hB9⟩ := c_A_ti hA5 hJ8 hT8 (Nat.zero_le _)
    have hj9 : j < (A_v (s_ti 5 (s_se (s_be (A_st A 0) j) j i rd) 0)).2.2.length := by rw [(kp_ti 5 _ 0).2.2.1]; show j < (a_us _ _ _).2.2.length; rw [a_us_n]; exact hj2
    obtain ⟨fu9, ft9, fa9, hso9, -⟩ := k_V_ses hA9.2.1.1.1 hj9
    refine sv_aload dX1_select_59 rfl ?_
    refine sv_get fg_X1_257 dX1_select_61 (sx_rd_c hso9) rfl ?_
    refine sv_iret rfl rfl dX1_select_64 ?_
    exact c_R_ok (x := x_sel (A_st A 0) j i rd) rfl ti_t (c_S_B (c_A_K hA9) (c_B_t hB2 (c_B_t (c_B_F F5) hB9 (Nat.le_refl _) (Nat.le_refl _)) (Nat.le_refl _) (Nat.le_refl _)) (by omega) (by omega))
theorem pm_sel (hK : c_K G mu oc σ A) {z : Nat} (hz : g_Z G z) {s b : Int32} {rd : Bool} : sx_C G 100 YX1_select [.ref (mu 0), .int s, .int b, .int (b_I rd)] σ (c_R ["java/lang/IndexOutOfBoundsException", "java/lang/IllegalStateException"] G mu oc σ (sp_sel A s b rd)) := by
  have hns : (A_v A).2.2.length ≤ 4 := by obtain ⟨_, _, _, ⟨_, _, _, hw⟩, _⟩ := hK; exact hw.1.2.1
  have hnb : (A_v A).2.1.length ≤ 3 := by obtain ⟨_, _, _, ⟨_, _, _, hw⟩, _⟩ := hK; exact hw.1.1
  unfold sp_sel
  refine c_2 hK (fun h => ?_) (fun h1 h2 => ?_) (fun h1 h2 => ?_)
  · cases h1 : i_in s (A_v A).2.2.length with
    | false => exact cpx_sel1 hK h1
    | true =>
      rw [h1] at h
      obtain ⟨j, hj, rfl⟩ := i_in_of (by omega) h1
      exact cpx_sel2 hK hj h
  · rw [h1] at h2
    rw [Bool.and_eq_true] at h1
    obtain ⟨j, hj, rfl⟩ := i_in_of (by omega) h1.1
    obtain ⟨i, hi, rfl⟩ := i_in_of (by omega) h1.2
    rw [nI_clamp (by omega)] at h2
    exact cpx_sel3 hK hj hi (by simpa using h2)
  · rw [h1] at h2
    rw [Bool.and_eq_true] at h1
    obtain ⟨j, hj, rfl⟩ := i_in_of (by omega) h1.1
    obtain ⟨i, hi, rfl⟩ := i_in_of (by omega) h1.2
    rw [nI_clamp (by omega)] at h2
    rw [nI_clamp (by omega), nI_clamp (by omega)]
    exact cp_sel hK hz hj hi (by simpa using h2)
end CM4
