set_option maxRecDepth 100000
section CM8
variable {G : sx_G} {σ τ : sx_St} {mu : Nat → Nat} {oc lo sv nl cap : Nat} {ow : Nat → Nat} {Λ : Nat → Nat → Nat → Nat} {A : a_A} {V : a_V} {W : Nat → Prop} {c sl : Nat} {N : List a_N}
theorem cpx_ust1 (hK : c_K G mu oc σ A) {f l md fl : Int32} {s : Int32} (hi : i_in s (A_v A).2.2.length = false) : sx_C G 100 YX1_uidStore [.ref (mu 0), .int s, .int f, .int l, .int md, .int fl] σ (c_X0 "java/lang/IndexOutOfBoundsException" σ) := by
  refine sx_body (by decide) (Nat.le_of_ble_eq_true rfl) ?_
  obtain ⟨sv, nl, hX, hF, hN⟩ := hK
  obtain ⟨Λ0, hV, hzz, hw⟩ := id hF
  have hx := hX.1
  have hnb := hw.1.1
  have hns := hw.1.2.1
  have hX0 : c_X G mu (sx_n σ) oc σ sv nl (A_st A 0) := hX
  have hF0 : c_F G mu (sx_n σ) σ sv (A_v (A_st A 0)) := hF
  refine sv_aload_n dX1_uidStore_0 rfl ?_
  refine sv_iload_n dX1_uidStore_1 rfl ?_
  refine sv_cv _ (cgx_sesAt hx hV hi) okX1_sessionAt (sx_rd_c hx) rfl kv_X1_240.1 kv_X1_240.2.1 kv_X1_240.2.2 dX1_uidStore_2 rfl rfl (by omega) (Nat.le_of_ble_eq_true rfl) (fun v τ h => by obtain ⟨q, e, _⟩ := h; cases e) (fun E q τ h => ?_)
  obtain ⟨q9, e9, F9⟩ := h
  cases e9
  refine sv_out (fun x hx => by cases hx) ?_
  exact ⟨_, rfl, F9⟩
theorem cpx_ust2 (hK : c_K G mu oc σ A) {f l md fl : Int32} {j : Nat} (hj : j < (A_v A).2.2.length) (h : (a_in md 0 2 && a_in fl 0 31) = false) : sx_C G 100 YX1_uidStore [.ref (mu 0), .int (nI j), .int f, .int l, .int md, .int fl] σ (c_X0 "java/lang/IllegalArgumentException" σ) := by
  refine sx_body (by decide) (Nat.le_of_ble_eq_true rfl) ?_
  obtain ⟨sv, nl, hX, hF, hN⟩ := hK
  obtain ⟨Λ0, hV, hzz, hw⟩ := id hF
  have hx := hX.1
  have hnb := hw.1.1
  have hns := hw.1.2.1
  have hX0 : c_X G mu (sx_n σ) oc σ sv nl (A_st A 0) := hX
  have hF0 : c_F G mu (sx_n σ) σ sv (A_v (A_st A 0)) := hF
  have hbl : ∀ b, a_bx (A_v A) j = some b → b < 100 := fun b hb => by have := hw.2.2.1 j b hj hb; omega
  refine sv_aload_n dX1_uidStore_0 rfl ?_
  refine sv_iload_n dX1_uidStore_1 rfl ?_
  refine sv_cvR _ (cg_sesAt hx hV hj) okX1_sessionAt kv_X1_240 (sx_rd_c hx) rfl dX1_uidStore_2 rfl rfl (by omega) (Nat.le_of_ble_eq_true rfl) ?_
  refine sv_astore dX1_uidStore_5 (by decide) ?_
  refine sv_iload dX1_uidStore_7 rfl ?_
  refine sv_iload dX1_uidStore_9 rfl ?_
  refine sv_cs _ (cgx_fl h) okX1_requireFlags ks_X1_371.1 ks_X1_371.2 dX1_uidStore_11 rfl rfl (by omega) (Nat.le_of_ble_eq_true rfl) (fun v τ h => by obtain ⟨q, e, _⟩ := h; cases e) (fun E q τ h => ?_)
  obtain ⟨q9, e9, F9⟩ := h
  cases e9
  refine sv_out (fun x hx => by cases hx) ?_
  exact ⟨_, rfl, F9⟩
theorem cpx_ust3 (hK : c_K G mu oc σ A) {f l md fl : Int32} {j : Nat} (hj : j < (A_v A).2.2.length) (hfl : (a_in md 0 2 && a_in fl 0 31) = true) (h : ((a_bx (A_v A) j).isSome && !(a_id (A_v A) j) && !(a_rd (A_v A) j)) = false) : sx_C G 100 YX1_uidStore [.ref (mu 0), .int (nI j), .int f, .int l, .int md, .int fl] σ (c_X0 "java/lang/IllegalStateException" σ) := by
  refine sx_body (by decide) (Nat.le_of_ble_eq_true rfl) ?_
  obtain ⟨sv, nl, hX, hF, hN⟩ := hK
  obtain ⟨Λ0, hV, hzz, hw⟩ := id hF
  have hx := hX.1
  have hnb := hw.1.1
  have hns := hw.1.2.1
  have hX0 : c_X G mu (sx_n σ) oc σ sv nl (A_st A 0) := hX
  have hF0 : c_F G mu (sx_n σ) σ sv (A_v (A_st A 0)) := hF
  have hbl : ∀ b, a_bx (A_v A) j = some b → b < 100 := fun b hb => by have := hw.2.2.1 j b hj hb; omega
  refine sv_aload_n dX1_uidStore_0 rfl ?_
  refine sv_iload_n dX1_uidStore_1 rfl ?_
  refine sv_cvR _ (cg_sesAt hx hV hj) okX1_sessionAt kv_X1_240 (sx_rd_c hx) rfl dX1_uidStore_2 rfl rfl (by omega) (Nat.le_of_ble_eq_true rfl) ?_
  refine sv_astore dX1_uidStore_5 (by decide) ?_
  refine sv_iload dX1_uidStore_7 rfl ?_
  refine sv_iload dX1_uidStore_9 rfl ?_
  refine sv_csR _ (cg_fl hfl) okX1_requireFlags ks_X1_371 dX1_uidStore_11 rfl rfl (by omega) (Nat.le_of_ble_eq_true rfl) ?_
  refine sv_aload dX1_uidStore_14 rfl ?_
  refine sv_cs _ (cgx_wr hV hj hbl h) okX1_requireWriter ks_X1_375.1 ks_X1_375.2 dX1_uidStore_16 rfl rfl (by omega) (Nat.le_of_ble_eq_true rfl) (fun v τ h => by obtain ⟨q, e, _⟩ := h; cases e) (fun E q τ h => ?_)
  obtain ⟨q9, e9, F9⟩ := h
  cases e9
  refine sv_out (fun x hx => by cases hx) ?_
  exact ⟨_, rfl, F9⟩
theorem cp_ust (hK : c_K G mu oc σ A) {z : Nat} (hz : g_Z G z) (hG : g_L G) {f l md fl : Int32} {j : Nat} (hj : j < (A_v A).2.2.length) (hfl : (a_in md 0 2 && a_in fl 0 31) = true) (h : ((a_bx (A_v A) j).isSome && !(a_id (A_v A) j) && !(a_rd (A_v A) j)) = true) : sx_C G 100 YX1_uidStore [.ref (mu 0), .int (nI j), .int f, .int l, .int md, .int fl] σ (c_R ["java/lang/IndexOutOfBoundsException", "java/lang/IllegalArgumentException", "java/lang/IllegalStateException"] G mu oc σ (x_ust (A_st A 0) j f l md fl)) := by
  refine sx_body (by decide) (Nat.le_of_ble_eq_true rfl) ?_
  have hK0 := hK
  obtain ⟨sv, nl, hX, hF, hN⟩ := hK
  obtain ⟨Λ0, hV, hzz, hw⟩ := id hF
  have hx := hX.1
  have hnb := hw.1.1
  have hns := hw.1.2.1
  have hX0 : c_X G mu (sx_n σ) oc σ sv nl (A_st A 0) := hX
  have hF0 : c_F G mu (sx_n σ) σ sv (A_v (A_st A 0)) := hF
  have hbl : ∀ b, a_bx (A_v A) j = some b → b < 100 := fun b hb => by have := hw.2.2.1 j b hj hb; omega
  obtain ⟨b, hbx⟩ := Option.isSome_iff_exists.mp (show (a_bx (A_v A) j).isSome = true by cases hq : (a_bx (A_v A) j).isSome with | true => rfl | false => rw [hq] at h; cases h)
  have hb := hw.2.2.1 j b hj hbx
  have hm30 := hw.1.2.2 b hb
  refine sv_aload_n dX1_uidStore_0 rfl ?_
  refine sv_iload_n dX1_uidStore_1 rfl ?_
  refine sv_cvR _ (cg_sesAt hx hV hj) okX1_sessionAt kv_X1_240 (sx_rd_c hx) rfl dX1_uidStore_2 rfl rfl (by omega) (Nat.le_of_ble_eq_true rfl) ?_
  refine sv_astore dX1_uidStore_5 (by decide) ?_
  refine sv_iload dX1_uidStore_7 rfl ?_
  refine sv_iload dX1_uidStore_9 rfl ?_
  refine sv_csR _ (cg_fl hfl) okX1_requireFlags ks_X1_371 dX1_uidStore_11 rfl rfl (by omega) (Nat.le_of_ble_eq_true rfl) ?_
  refine sv_aload dX1_uidStore_14 rfl ?_
  refine sv_csR _ (cg_wr hV hj hbl h) okX1_requireWriter ks_X1_375 dX1_uidStore_16 rfl rfl (by omega) (Nat.le_of_ble_eq_true rfl) ?_
  refine sv_aload_n dX1_uidStore_19 rfl ?_
  refine sv_iload_n dX1_uidStore_20 rfl ?_
  refine sv_cvP _ (cc_begin (A := A_st A 0) hX0 hF0 hz hj) okX1_begin kv_X1_336 (sx_rd_c hx) rfl dX1_uidStore_21 rfl rfl (by omega) (Nat.le_of_ble_eq_true rfl) ?_
  intro v6 τ4 hp5
  obtain ⟨a, nl2, ow2, Λ2, rfl, ea, hA2, hB2, FG2⟩ := hp5
  have hx2 := hA2.1.1
  have hj2 : j < (A_v (s_be (A_st A 0) j)).2.2.length := by rw [be_len]; exact hj
  refine sv_astore dX1_uidStore_24 (by decide) ?_
  refine sv_aload_n dX1_uidStore_26 rfl ?_
  refine sv_aload dX1_uidStore_27 rfl ?_
  refine sv_cvR _ (cc_boxOf hx2 hA2.2.1.1.1 hj2 hb ((be_bx _ _ hj).trans hbx)) okX1_boxOf kv_X1_355 (sx_rd_c hx2) rfl dX1_uidStore_29 rfl rfl (by omega) (Nat.le_of_ble_eq_true rfl) ?_
  refine sv_iload_n dX1_uidStore_32 rfl ?_
  refine sv_iload_n dX1_uidStore_33 rfl ?_
  refine sv_csP _ (cm_named hG) okX1_named ks_X1_381 dX1_uidStore_34 rfl rfl (by omega) (Nat.le_of_ble_eq_true rfl) ?_
  intro v9 τ7 hp8
  obtain ⟨te, rfl, hte, htc, F1⟩ := hp8
  refine sv_iload dX1_uidStore_37 rfl ?_
  refine sv_iload dX1_uidStore_39 rfl ?_
  refine sv_csP _ (cm_changed hG (Bool.and_eq_true _ _ ▸ hfl).1) okX1_changed ks_X1_378 dX1_uidStore_41 rfl rfl (by omega) (Nat.le_of_ble_eq_true rfl) ?_
  intro v12 τ10 hp11
  obtain ⟨ch, rfl, hch, hkc, F2⟩ := hp11
  have hA4 := c_A_0 F2 (c_A_0 F1 hA2)
  have htc := h_F_c F2 htc (fun z => z)
  have hBb := (hA4.2.1.1.1.2.2.2.1 b hb).1
  have hP3 : k_P G 1 _ te (fun m => a_in m.1 f l) := Or.inl ⟨_, _, sx_rd_c htc, fun m => rfl⟩
  have hm31 : (a_b (A_v (s_be (A_st A 0) j)) b).2.2.length ≤ 30 := hm30
  refine sv_cvP _ (cc_bchange hBb hG hP3 hkc (by omega)) okX6_change kv_X1_366 (sx_rd_c hBb.1) rfl dX1_uidStore_44 rfl rfl (by omega) (Nat.le_of_ble_eq_true rfl) ?_
  intro v15 τ13 hp14
  obtain ⟨rfl, g2, hB3, hg3, F3⟩ := hp14
  have hw3 : w_V (v_bm (A_v (s_be (A_st A 0) j)) b ((a_ms (A_v (s_be (A_st A 0) j)) b).map (m_F (fun m => a_in m.1 f l) (fun h => a_fb h md fl)))) := w_V_bm hA2.2.1.2.2.1 (by rw [List.length_map]; exact hm30)
  have hA5 := c_A_b F3 hA4 hb (fun q z => Or.inr (Or.inr z)) hB3 rfl (Or.inl rfl) (fun i hi => hg3 i (by rw [List.length_map] at hi; exact hi)) (hA2.2.2.2.1 b hb) hw3
  have hx3 := hA5.1.1
  have hF3l : c_B 30 90 _ τ13 := ⟨(c_B_F F3).1, by have h8 := (c_B_F F3).2.1; omega, by have h8 := (c_B_F F3).2.2; omega⟩
  refine sv_istore dX1_uidStore_47 (by decide) ?_
  refine sv_aload_n dX1_uidStore_49 rfl ?_
  refine sv_iload_n dX1_uidStore_50 rfl ?_
  refine sv_iconst (nI 1) dX1_uidStore_51 (by decide +kernel) ?_
  refine sv_tI (y := b_I true) rfl ?_
  refine sv_cvP _ (cc_end hA5 hj2 (all := true) (Nat.zero_le _)) okX1_end kv_X1_347 (sx_rd_c hx3) rfl dX1_uidStore_52 rfl rfl (by omega) (Nat.le_of_ble_eq_true rfl) ?_
  intro v18 τ16 hp17
  obtain ⟨rfl, ow9, cap9, hA9, hB9⟩ := hp17
  refine sv_istore dX1_uidStore_55 (by decide) ?_
  refine sv_iload dX1_uidStore_57 rfl ?_
  refine sv_iret rfl rfl dX1_uidStore_59 ?_
  have hbs : a_bs (A_v (s_be (A_st A 0) j)) j = b := a_bs_e ((be_bx (A_st A 0) j hj).trans hbx)
  have hsp : x_ust (A_st A 0) j f l md fl = (nI ((a_ms (A_v (s_be (A_st A 0) j)) b).countP (c_u f l md fl)), s_en (A_sv (s_be (A_st A 0) j) (v_bm (A_v (s_be (A_st A 0) j)) b ((a_ms (A_v (s_be (A_st A 0) j)) b).map (f_u f l md fl)))) j true) := by unfold x_ust; rw [hbs]
  rw [hsp]
  exact c_R_ok (x := (_, s_en _ j true)) rfl en_t (c_S_B (c_A_K hA9) (c_B_t hB2 (c_B_t (c_B_F F1) (c_B_t (c_B_F F2) (c_B_t hF3l hB9 (Nat.le_refl _) (Nat.le_refl _)) (Nat.le_refl _) (Nat.le_refl _)) (Nat.le_refl _) (Nat.le_refl _)) (Nat.le_refl _) (Nat.le_refl _)) (by omega) (by omega))
theorem pm_ust (hK : c_K G mu oc σ A) {z : Nat} (hz : g_Z G z) (hG : g_L G) {s f l md fl : Int32} : sx_C G 100 YX1_uidStore [.ref (mu 0), .int s, .int f, .int l, .int md, .int fl] σ (c_R ["java/lang/IndexOutOfBoundsException", "java/lang/IllegalArgumentException", "java/lang/IllegalStateException"] G mu oc σ (sp_ust A s f l md fl)) := by
  have hns : (A_v A).2.2.length ≤ 4 := by obtain ⟨_, _, _, ⟨_, _, _, hw⟩, _⟩ := hK; exact hw.1.2.1
  unfold sp_ust
  refine c_3 hK (fun h => cpx_ust1 hK h) (fun h1 h2 => ?_) (fun h1 h2 h3 => ?_) (fun h1 h2 h3 => ?_)
  · obtain ⟨j, hj, rfl⟩ := i_in_of (by omega) h1
    exact cpx_ust2 hK hj h2
  · obtain ⟨j, hj, rfl⟩ := i_in_of (by omega) h1
    rw [chg_j hj hns] at h3
    exact cpx_ust3 hK hj h2 h3
  · obtain ⟨j, hj, rfl⟩ := i_in_of (by omega) h1
    rw [chg_j hj hns] at h3
    rw [nI_clamp (by omega)]
    exact cp_ust hK hz hG hj h2 h3
end CM8
