set_option maxRecDepth 100000
section CMB
variable {G : sx_G} {σ τ : sx_St} {mu : Nat → Nat} {oc lo sv nl cap : Nat} {ow : Nat → Nat} {Λ : Nat → Nat → Nat → Nat} {A : a_A} {V : a_V} {W : Nat → Prop} {c sl : Nat} {N : List a_N}
theorem i_en_nI {f n : Nat} (h : f < n) (hn : n < 2 ^ 31) : i_en (nI (f + 1)) n = true := by
  rw [i_en_b hn]
  refine decide_eq_true ⟨?_, ?_⟩
  · rw [Int64.le_iff_toInt_le, Int32.toInt_toInt64, nI_toInt (by omega)]
    show (1 : Int) ≤ _
    omega
  · rw [Int64.le_iff_toInt_le, Int32.toInt_toInt64, Int32.toInt_toInt64, nI_toInt (by omega), nI_toInt (by omega)]
    omega
theorem cpx_fet1 (hK : c_K G mu oc σ A) {s k l pk : Int32} (h : a_are (A_v A) s k l = false) : sx_C G 100 YX1_fetch [.ref (mu 0), .int s, .int k, .int l, .int pk] σ (c_X0 "java/lang/IndexOutOfBoundsException" σ) := by
  refine sx_body (by decide) (Nat.le_of_ble_eq_true rfl) ?_
  obtain ⟨sv, nl, hX, hF, hN⟩ := hK
  obtain ⟨Λ0, hV, hzz, hw⟩ := id hF
  have hx := hX.1
  have hnb := hw.1.1
  have hns := hw.1.2.1
  have hX0 : c_X G mu (sx_n σ) oc σ sv nl (A_st A 0) := hX
  have hF0 : c_F G mu (sx_n σ) σ sv (A_v (A_st A 0)) := hF
  refine sv_aload_n dX1_fetch_0 rfl ?_
  refine sv_iload_n dX1_fetch_1 rfl ?_
  refine sv_iload_n dX1_fetch_2 rfl ?_
  refine sv_iload_n dX1_fetch_3 rfl ?_
  refine sv_cv _ (cgx_rng hx hV hns h) okX1_rangeOf (sx_rd_c hx) rfl kv_X1_351.1 kv_X1_351.2.1 kv_X1_351.2.2 dX1_fetch_4 rfl rfl (by omega) (Nat.le_of_ble_eq_true rfl) (fun v τ h => by obtain ⟨q, e, _⟩ := h; cases e) (fun E q τ h => ?_)
  obtain ⟨q9, e9, F9⟩ := h
  cases e9
  refine sv_out (fun x hx => by cases hx) ?_
  exact ⟨_, rfl, F9⟩
theorem cpx_fet2 (hK : c_K G mu oc σ A) {j : Nat} (hj : j < (A_v A).2.2.length) {k l pk : Int32} (hk : i_en k (a_es (A_v A) j).length = true) (hl2 : i_en l (a_es (A_v A) j).length = true) (hle : ¬ k ≤ l) : sx_C G 100 YX1_fetch [.ref (mu 0), .int (nI j), .int k, .int l, .int pk] σ (c_X0 "java/lang/IllegalArgumentException" σ) := by
  refine sx_body (by decide) (Nat.le_of_ble_eq_true rfl) ?_
  obtain ⟨sv, nl, hX, hF, hN⟩ := hK
  obtain ⟨Λ0, hV, hzz, hw⟩ := id hF
  have hx := hX.1
  have hnb := hw.1.1
  have hns := hw.1.2.1
  have hX0 : c_X G mu (sx_n σ) oc σ sv nl (A_st A 0) := hX
  have hF0 : c_F G mu (sx_n σ) σ sv (A_v (A_st A 0)) := hF
  refine sv_aload_n dX1_fetch_0 rfl ?_
  refine sv_iload_n dX1_fetch_1 rfl ?_
  refine sv_iload_n dX1_fetch_2 rfl ?_
  refine sv_iload_n dX1_fetch_3 rfl ?_
  refine sv_cv _ (cgx_rng4 hx hV hj hk hl2 hle) okX1_rangeOf (sx_rd_c hx) rfl kv_X1_351.1 kv_X1_351.2.1 kv_X1_351.2.2 dX1_fetch_4 rfl rfl (by omega) (Nat.le_of_ble_eq_true rfl) (fun v τ h => by obtain ⟨q, e, _⟩ := h; cases e) (fun E q τ h => ?_)
  obtain ⟨q9, e9, F9⟩ := h
  cases e9
  refine sv_out (fun x hx => by cases hx) ?_
  exact ⟨_, rfl, F9⟩
theorem cpx_fet3 (hK : c_K G mu oc σ A) {j : Nat} (hj : j < (A_v A).2.2.length) {k l pk : Int32} (hk : i_en k (a_es (A_v A) j).length = true) (hl2 : i_en l (a_es (A_v A) j).length = true) (hle : k ≤ l) (h : ((a_bx (A_v A) j).isSome && !(a_id (A_v A) j)) = false) : sx_C G 100 YX1_fetch [.ref (mu 0), .int (nI j), .int k, .int l, .int pk] σ (c_X0 "java/lang/IllegalStateException" σ) := by
  refine sx_body (by decide) (Nat.le_of_ble_eq_true rfl) ?_
  obtain ⟨sv, nl, hX, hF, hN⟩ := hK
  obtain ⟨Λ0, hV, hzz, hw⟩ := id hF
  have hx := hX.1
  have hnb := hw.1.1
  have hns := hw.1.2.1
  have hX0 : c_X G mu (sx_n σ) oc σ sv nl (A_st A 0) := hX
  have hF0 : c_F G mu (sx_n σ) σ sv (A_v (A_st A 0)) := hF
  have hbl : ∀ b, a_bx (A_v A) j = some b → b < 100 := fun b hb => by have := hw.2.2.1 j b hj hb; omega
  refine sv_aload_n dX1_fetch_0 rfl ?_
  refine sv_iload_n dX1_fetch_1 rfl ?_
  refine sv_iload_n dX1_fetch_2 rfl ?_
  refine sv_iload_n dX1_fetch_3 rfl ?_
  refine sv_cvR _ (cg_rng hx hV hj hk hl2 hle) okX1_rangeOf kv_X1_351 (sx_rd_c hx) rfl dX1_fetch_4 rfl rfl (by omega) (Nat.le_of_ble_eq_true rfl) ?_
  refine sv_cs _ (cgx_open hV hj hbl h) okX1_requireOpen ks_X1_343.1 ks_X1_343.2 dX1_fetch_7 rfl rfl (by omega) (Nat.le_of_ble_eq_true rfl) (fun v τ h => by obtain ⟨q, e, _⟩ := h; cases e) (fun E q τ h => ?_)
  obtain ⟨q9, e9, F9⟩ := h
  cases e9
  refine sv_out (fun x hx => by cases hx) ?_
  exact ⟨_, rfl, F9⟩
theorem cp_fet (hK : c_K G mu oc σ A) {z : Nat} (hz : g_Z G z) (hG : g_L G) (hM : g_M G) {j : Nat} (hj : j < (A_v A).2.2.length) {f u : Nat} (hf : f < (a_es (A_v A) j).length) (hu : u < (a_es (A_v A) j).length) (hfu : f ≤ u) {pk : Bool} (h : ((a_bx (A_v A) j).isSome && !(a_id (A_v A) j)) = true) : sx_C G 100 YX1_fetch [.ref (mu 0), .int (nI j), .int (nI (f + 1)), .int (nI (u + 1)), .int (b_I pk)] σ (c_R ["java/lang/IndexOutOfBoundsException", "java/lang/IllegalArgumentException", "java/lang/IllegalStateException"] G mu oc σ (x_fet (A_st A 0) j f (u + 1) pk)) := by
  have loop : ∀ (a nl2 b : Nat) (ow2 : Nat → Nat) (Λ2 : Nat → Nat → Nat → Nat) (τ : sx_St), c_A G mu oc a τ a nl2 ow2 Λ2 0 (s_be (A_st A 0) j) → c_B 170 2620 σ τ → a_bx (A_v A) j = some b → ∀ r i (y : Option Value), f ≤ i → i ≤ u + 1 → u + 2 ≤ i + r → sx_V G 100 YX1_fetch 25 [some (.ref (mu 0)), some (.int (nI j)), some (.int (nI (f + 1))), some (.int (nI (u + 1))), some (.int (b_I pk)), some (.ref (Λ2 3 j 0)), some (.int (z_s (A_v (s_be (A_st A 0) j)) j f (i - f))), some (.int (nI i)), y] [] τ (c_R ["java/lang/IndexOutOfBoundsException", "java/lang/IllegalArgumentException", "java/lang/IllegalStateException"] G mu oc σ (x_fet (A_st A 0) j f (u + 1) pk)) := by
    intro a nl2 b ow2 Λ2 τ hA2 hB2 hbx r
    induction r with
    | zero => intro i y h1 h2 h3; omega
    | succ r ih =>
    intro i y hi1 hi2 hi3
    have hx2 := hA2.1.1
    have hj2 : j < (A_v (s_be (A_st A 0) j)).2.2.length := by rw [be_len]; exact hj
    have hw := hA2.2.1.2.2.1
    have ees : a_es (A_v (s_be (A_st A 0) j)) j = a_es (A_v A) j := v_ac_es hj
    have hel : (a_es (A_v A) j).length ≤ 60 := by rw [← ees]; exact hw.2.1 j hj2
    have hbx2 : a_bx (A_v (s_be (A_st A 0) j)) j = some b := (be_bx (A_st A 0) _ hj).trans hbx
    have hb := hw.2.2.1 j b hj2 hbx2
    have hm30 := hw.1.2.2 b hb
    have hbs := a_bs_e hbx2
    obtain ⟨fu2, ft2, fa2, hso2, hu2, ht2, hac2, -⟩ := k_V_ses hA2.2.1.1.1 hj2
    refine sv_iload dX1_fetch_25 rfl ?_
    refine sv_iload_n dX1_fetch_27 rfl ?_
    refine sv_icmp_geN (tgt := 69) dX1_fetch_28 (by decide) (by omega) (by omega) (fun c28 => ?_) (fun c28 => ?_)
    · obtain rfl : i = u + 1 := by omega
      refine sv_aload dX1_fetch_69 rfl ?_
      refine sv_get fg_X1_304 dX1_fetch_71 (sx_rd_c hso2) rfl ?_
      refine sv_iconst (nI 4) dX1_fetch_74 (by decide +kernel) ?_
      refine sv_dup2 dX1_fetch_75 rfl rfl ?_
      refine sv_iald dX1_fetch_76 (sx_rd_c hac2) (vp_in_nI (by omega) (by omega)) ?_
      rw [nI_clamp (show 4 < 2 ^ 31 by omega)]
      refine sv_iload dX1_fetch_77 rfl ?_
      refine sv_iadd dX1_fetch_79 ?_
      refine sv_iast dX1_fetch_80 hac2 (vp_in_nI (by omega) (by omega)) ?_
      rw [nI_clamp (show 4 < 2 ^ 31 by omega)]
      refine hs_up hac2 (fun τ4 F5 h6 N7 Z8 => ?_)
      have h6 : sx_c τ4 ((Λ2 3 j 3)) = some (.inl (sg_a G 0, 5, .inl ((upd fa2 4 _)))) := h6
      have hx2' := h_F_c F5 hx2 (e_kn hx2 hac2 rfl)
      have hso2' := h_F_c F5 hso2 (e_kn hso2 hac2 rfl)
      have hA3 := c_A_s F5 hA2 hj2 (fun q z => Or.inr (Or.inr (Or.inr z))) (k_S_ac (hA2.2.1.1.1.2.2.2.2 j hj2).1 F5 hac2 h6 (by decide)) rfl (w_V_ac hw hj2)
      have hA3 : c_A G mu oc a _ a nl2 ow2 Λ2 0 (A_sv (s_be (A_st A 0) j) (v_ac (A_v (s_be (A_st A 0) j)) j 4 (z_s (A_v (s_be (A_st A 0) j)) j f (u + 1 - f)))) := hA3
      have hx3 := hA3.1.1
      have hB3b := c_B_t hB2 (c_B_F F5) (Nat.le_refl _) (Nat.le_refl _)
      refine sv_iload dX1_fetch_81 rfl ?_
      refine sv_if_neB (tgt := 121) dX1_fetch_83 (by decide) (fun c83 => ?_) (fun c83 => ?_)
      · have hw0 : (!pk && !(a_rd (A_v (s_be (A_st A 0) j)) j)) = false := by rw [c83]; rfl
        have hvf : v_fr (A_v (s_be (A_st A 0) j)) j b f (u + 1) (g_w (!pk && !(a_rd (A_v (s_be (A_st A 0) j)) j))) = A_v (s_be (A_st A 0) j) := by unfold v_fr; rw [f_m_id (fun x => by rw [hw0]; rfl)]; exact v_bm_id hb
        have eA : (A_sv (s_be (A_st A 0) j) (v_ac (v_fr (A_v (s_be (A_st A 0) j)) j b f (u + 1) (g_w (!pk && !(a_rd (A_v (s_be (A_st A 0) j)) j)))) j 4 (z_s (A_v (s_be (A_st A 0) j)) j f (u + 1 - f)))) = (A_sv (s_be (A_st A 0) j) (v_ac (A_v (s_be (A_st A 0) j)) j 4 (z_s (A_v (s_be (A_st A 0) j)) j f (u + 1 - f)))) := by rw [hvf]
        have hA5 := hA3
        rw [← eA] at hA5
        have hB5 : c_B 250 3000 σ _ := ⟨hB3b.1, by have := hB3b.2.1; omega, by have := hB3b.2.2; omega⟩
        have hj5 : j < (A_v (A_sv (s_be (A_st A 0) j) (v_ac (v_fr (A_v (s_be (A_st A 0) j)) j b f (u + 1) (g_w (!pk && !(a_rd (A_v (s_be (A_st A 0) j)) j)))) j 4 (z_s (A_v (s_be (A_st A 0) j)) j f (u + 1 - f))))).2.2.length := by rw [eA]; show j < (v_ac _ _ _ _).2.2.length; rw [v_ac_n]; exact hj2
        refine sv_aload_n dX1_fetch_121 rfl ?_
        refine sv_iload_n dX1_fetch_122 rfl ?_
        refine sv_iconst (nI 0) dX1_fetch_123 (by decide +kernel) ?_
        refine sv_tI (y := b_I false) rfl ?_
        refine sv_cvP _ (cc_end hA5 hj5 (all := false) (Nat.zero_le _)) okX1_end kv_X1_347 (sx_rd_c hx2') rfl dX1_fetch_124 rfl rfl (by omega) (Nat.le_of_ble_eq_true rfl) ?_
        intro v11 τ9 hp10
        obtain ⟨rfl, ow9, cap9, hA9, hB9⟩ := hp10
        refine sv_istore dX1_fetch_127 (by decide) ?_
        refine sv_iload dX1_fetch_129 rfl ?_
        refine sv_iret rfl rfl dX1_fetch_131 ?_
        have hsp : x_fet (A_st A 0) j f (u + 1) pk = (z_s (A_v (s_be (A_st A 0) j)) j f (u + 1 - f), s_en (A_sv (s_be (A_st A 0) j) (v_ac (v_fr (A_v (s_be (A_st A 0) j)) j b f (u + 1) (g_w (!pk && !(a_rd (A_v (s_be (A_st A 0) j)) j)))) j 4 (z_s (A_v (s_be (A_st A 0) j)) j f (u + 1 - f)))) j false) := by unfold x_fet; rw [hbs]
        rw [hsp]
        exact c_R_ok (x := (_, s_en _ j false)) rfl en_t (c_S_B (c_A_K hA9) (c_B_t hB5 hB9 (Nat.le_refl _) (Nat.le_refl _)) (by omega) (by omega))
      · refine sv_aload dX1_fetch_86 rfl ?_
        refine sv_get fg_X1_246 dX1_fetch_88 (sx_rd_c hso2') rfl ?_
        refine sv_if_neB (tgt := 121) dX1_fetch_91 (by decide) (fun c91 => ?_) (fun c91 => ?_)
        · have hw0 : (!pk && !(a_rd (A_v (s_be (A_st A 0) j)) j)) = false := by rw [c91, Bool.not_true, Bool.and_false]
          have hvf : v_fr (A_v (s_be (A_st A 0) j)) j b f (u + 1) (g_w (!pk && !(a_rd (A_v (s_be (A_st A 0) j)) j))) = A_v (s_be (A_st A 0) j) := by unfold v_fr; rw [f_m_id (fun x => by rw [hw0]; rfl)]; exact v_bm_id hb
          have eA : (A_sv (s_be (A_st A 0) j) (v_ac (v_fr (A_v (s_be (A_st A 0) j)) j b f (u + 1) (g_w (!pk && !(a_rd (A_v (s_be (A_st A 0) j)) j)))) j 4 (z_s (A_v (s_be (A_st A 0) j)) j f (u + 1 - f)))) = (A_sv (s_be (A_st A 0) j) (v_ac (A_v (s_be (A_st A 0) j)) j 4 (z_s (A_v (s_be (A_st A 0) j)) j f (u + 1 - f)))) := by rw [hvf]
          have hA5 := hA3
          rw [← eA] at hA5
          have hB5 : c_B 250 3000 σ _ := ⟨hB3b.1, by have := hB3b.2.1; omega, by have := hB3b.2.2; omega⟩
          have hj5 : j < (A_v (A_sv (s_be (A_st A 0) j) (v_ac (v_fr (A_v (s_be (A_st A 0) j)) j b f (u + 1) (g_w (!pk && !(a_rd (A_v (s_be (A_st A 0) j)) j)))) j 4 (z_s (A_v (s_be (A_st A 0) j)) j f (u + 1 - f))))).2.2.length := by rw [eA]; show j < (v_ac _ _ _ _).2.2.length; rw [v_ac_n]; exact hj2
          refine sv_aload_n dX1_fetch_121 rfl ?_
          refine sv_iload_n dX1_fetch_122 rfl ?_
          refine sv_iconst (nI 0) dX1_fetch_123 (by decide +kernel) ?_
          refine sv_tI (y := b_I false) rfl ?_
          refine sv_cvP _ (cc_end hA5 hj5 (all := false) (Nat.zero_le _)) okX1_end kv_X1_347 (sx_rd_c hx2') rfl dX1_fetch_124 rfl rfl (by omega) (Nat.le_of_ble_eq_true rfl) ?_
          intro v14 τ12 hp13
          obtain ⟨rfl, ow9, cap9, hA9, hB9⟩ := hp13
          refine sv_istore dX1_fetch_127 (by decide) ?_
          refine sv_iload dX1_fetch_129 rfl ?_
          refine sv_iret rfl rfl dX1_fetch_131 ?_
          have hsp : x_fet (A_st A 0) j f (u + 1) pk = (z_s (A_v (s_be (A_st A 0) j)) j f (u + 1 - f), s_en (A_sv (s_be (A_st A 0) j) (v_ac (v_fr (A_v (s_be (A_st A 0) j)) j b f (u + 1) (g_w (!pk && !(a_rd (A_v (s_be (A_st A 0) j)) j)))) j 4 (z_s (A_v (s_be (A_st A 0) j)) j f (u + 1 - f)))) j false) := by unfold x_fet; rw [hbs]
          rw [hsp]
          exact c_R_ok (x := (_, s_en _ j false)) rfl en_t (c_S_B (c_A_K hA9) (c_B_t hB5 hB9 (Nat.le_refl _) (Nat.le_refl _)) (by omega) (by omega))
        · have hw1 : (!pk && !(a_rd (A_v (s_be (A_st A 0) j)) j)) = true := by rw [c83, c91]; rfl
          have hj3 : j < (A_v (A_sv (s_be (A_st A 0) j) (v_ac (A_v (s_be (A_st A 0) j)) j 4 (z_s (A_v (s_be (A_st A 0) j)) j f (u + 1 - f))))).2.2.length := by show j < (v_ac _ _ _ _).2.2.length; rw [v_ac_n]; exact hj2
          have hb3 : b < (A_v (A_sv (s_be (A_st A 0) j) (v_ac (A_v (s_be (A_st A 0) j)) j 4 (z_s (A_v (s_be (A_st A 0) j)) j f (u + 1 - f))))).2.1.length := hb
          have hbx3 : a_bx (A_v (A_sv (s_be (A_st A 0) j) (v_ac (A_v (s_be (A_st A 0) j)) j 4 (z_s (A_v (s_be (A_st A 0) j)) j f (u + 1 - f))))) j = some b := (v_ac_bx hj2).trans hbx2
          refine sv_aload_n dX1_fetch_94 rfl ?_
          refine sv_aload dX1_fetch_95 rfl ?_
          refine sv_cvR _ (cc_boxOf hx3 hA3.2.1.1.1 hj3 hb3 hbx3) okX1_boxOf kv_X1_355 (sx_rd_c hx2') rfl dX1_fetch_97 rfl rfl (by omega) (Nat.le_of_ble_eq_true rfl) ?_
          refine sv_aload_n dX1_fetch_100 rfl ?_
          refine sv_get fg_X1_44 dX1_fetch_101 (sx_rd_c hx2') rfl ?_
          refine sv_aload dX1_fetch_104 rfl ?_
          refine sv_iload_n dX1_fetch_106 rfl ?_
          refine sv_iload_n dX1_fetch_107 rfl ?_
          refine sv_cvP _ (cm_range hG) okX2_range kv_X1_359 (sx_rd_c hA3.2.1.1.1.1) rfl dX1_fetch_108 rfl rfl (by omega) (Nat.le_of_ble_eq_true rfl) ?_
          intro v17 τ15 hp16
          obtain ⟨te, rfl, hte, htc, F1⟩ := hp16
          have hA4 := c_A_0 F1 hA3
          have hBb := (hA4.2.1.1.1.2.2.2.1 b hb3).1
          have hS4 := (hA4.2.1.1.1.2.2.2.2 j hj3).1
          have hP4 : k_P G 1 _ te (p_rg (a_es (A_v (A_sv (s_be (A_st A 0) j) (v_ac (A_v (s_be (A_st A 0) j)) j 4 (z_s (A_v (s_be (A_st A 0) j)) j f (u + 1 - f))))) j) (nI (f + 1)) (nI (u + 1))) := Or.inr (Or.inr (Or.inr (Or.inr (Or.inr (Or.inr (Or.inr (Or.inr (Or.inr (Or.inr ⟨_, _, _, _, _, _, _, _, sx_rd_c htc, hS4, fun m => rfl⟩)))))))))
          have hkc : k_C G τ15 (sg_m G 11) (fun h => h ||| 1) := Or.inl ⟨Or.inr (hM 11 rfl), fun h => rfl⟩
          have hm31 : (a_b (A_v (A_sv (s_be (A_st A 0) j) (v_ac (A_v (s_be (A_st A 0) j)) j 4 (z_s (A_v (s_be (A_st A 0) j)) j f (u + 1 - f))))) b).2.2.length ≤ 30 := hm30
          refine sv_lamC (i := 11) (f := sh_11) rfl rfl dX1_fetch_111 (by omega) (Nat.le_of_ble_eq_true rfl) ?_
          refine sv_cvP _ (cc_bchange hBb hG hP4 hkc (by omega)) okX6_change kv_X1_366 (sx_rd_c hBb.1) rfl dX1_fetch_116 rfl rfl (by omega) (Nat.le_of_ble_eq_true rfl) ?_
          intro v20 τ18 hp19
          obtain ⟨rfl, g2, hB3x, hg3, F3⟩ := hp19
          have hw3 : w_V (v_bm (A_v (A_sv (s_be (A_st A 0) j) (v_ac (A_v (s_be (A_st A 0) j)) j 4 (z_s (A_v (s_be (A_st A 0) j)) j f (u + 1 - f))))) b ((a_ms (A_v (A_sv (s_be (A_st A 0) j) (v_ac (A_v (s_be (A_st A 0) j)) j 4 (z_s (A_v (s_be (A_st A 0) j)) j f (u + 1 - f))))) b).map (m_F (p_rg (a_es (A_v (A_sv (s_be (A_st A 0) j) (v_ac (A_v (s_be (A_st A 0) j)) j 4 (z_s (A_v (s_be (A_st A 0) j)) j f (u + 1 - f))))) j) (nI (f + 1)) (nI (u + 1))) (fun h => h ||| 1)))) := w_V_bm hA3.2.1.2.2.1 (by rw [List.length_map]; exact hm30)
          have hA5 := c_A_b F3 hA4 hb3 (fun q z => Or.inr (Or.inr z)) hB3x rfl (Or.inl rfl) (fun i hi => hg3 i (by rw [List.length_map] at hi; exact hi)) (hA2.2.2.2.1 b hb) hw3
          have em : ((a_ms (A_v (A_sv (s_be (A_st A 0) j) (v_ac (A_v (s_be (A_st A 0) j)) j 4 (z_s (A_v (s_be (A_st A 0) j)) j f (u + 1 - f))))) b).map (m_F (p_rg (a_es (A_v (A_sv (s_be (A_st A 0) j) (v_ac (A_v (s_be (A_st A 0) j)) j 4 (z_s (A_v (s_be (A_st A 0) j)) j f (u + 1 - f))))) j) (nI (f + 1)) (nI (u + 1))) (fun h => h ||| 1))) = (a_ms (A_v (s_be (A_st A 0) j)) b).map (f_m (a_es (A_v (s_be (A_st A 0) j)) j) f (u + 1) (g_w true)) := by rw [show a_es (A_v (A_sv (s_be (A_st A 0) j) (v_ac (A_v (s_be (A_st A 0) j)) j 4 (z_s (A_v (s_be (A_st A 0) j)) j f (u + 1 - f))))) j = a_es (A_v (s_be (A_st A 0) j)) j from v_ac_es hj2]; exact List.map_congr_left (fun m hm => by unfold m_F f_m; rw [p_rg_e (by rw [ees]; exact hel) (by rw [ees]; exact hf) (by rw [ees]; exact hu)]; rfl)
          have eA : (A_sv (s_be (A_st A 0) j) (v_ac (v_fr (A_v (s_be (A_st A 0) j)) j b f (u + 1) (g_w (!pk && !(a_rd (A_v (s_be (A_st A 0) j)) j)))) j 4 (z_s (A_v (s_be (A_st A 0) j)) j f (u + 1 - f)))) = A_sv (A_sv (s_be (A_st A 0) j) (v_ac (A_v (s_be (A_st A 0) j)) j 4 (z_s (A_v (s_be (A_st A 0) j)) j f (u + 1 - f)))) (v_bm (A_v (A_sv (s_be (A_st A 0) j) (v_ac (A_v (s_be (A_st A 0) j)) j 4 (z_s (A_v (s_be (A_st A 0) j)) j f (u + 1 - f))))) b ((a_ms (A_v (A_sv (s_be (A_st A 0) j) (v_ac (A_v (s_be (A_st A 0) j)) j 4 (z_s (A_v (s_be (A_st A 0) j)) j f (u + 1 - f))))) b).map (m_F (p_rg (a_es (A_v (A_sv (s_be (A_st A 0) j) (v_ac (A_v (s_be (A_st A 0) j)) j 4 (z_s (A_v (s_be (A_st A 0) j)) j f (u + 1 - f))))) j) (nI (f + 1)) (nI (u + 1))) (fun h => h ||| 1)))) := by rw [em, hw1]; rfl
          have hA5 : c_A G mu oc a τ18 a nl2 _ _ 0 (A_sv (A_sv (s_be (A_st A 0) j) (v_ac (A_v (s_be (A_st A 0) j)) j 4 (z_s (A_v (s_be (A_st A 0) j)) j f (u + 1 - f)))) (v_bm (A_v (A_sv (s_be (A_st A 0) j) (v_ac (A_v (s_be (A_st A 0) j)) j 4 (z_s (A_v (s_be (A_st A 0) j)) j f (u + 1 - f))))) b ((a_ms (A_v (A_sv (s_be (A_st A 0) j) (v_ac (A_v (s_be (A_st A 0) j)) j 4 (z_s (A_v (s_be (A_st A 0) j)) j f (u + 1 - f))))) b).map (m_F (p_rg (a_es (A_v (A_sv (s_be (A_st A 0) j) (v_ac (A_v (s_be (A_st A 0) j)) j 4 (z_s (A_v (s_be (A_st A 0) j)) j f (u + 1 - f))))) j) (nI (f + 1)) (nI (u + 1))) (fun h => h ||| 1))))) := hA5
          rw [← eA] at hA5
          have hx5 := hA5.1.1
          have hF3l : c_B 30 90 _ τ18 := ⟨(c_B_F F3).1, by have h8 := (c_B_F F3).2.1; omega, by have h8 := (c_B_F F3).2.2; omega⟩
          have hB5 : c_B 250 3000 σ τ18 := c_B_t hB3b (c_B_t (c_B_F F1) hF3l (Nat.le_refl _) (Nat.le_refl _)) (by omega) (by omega)
          have hj5 : j < (A_v (A_sv (s_be (A_st A 0) j) (v_ac (v_fr (A_v (s_be (A_st A 0) j)) j b f (u + 1) (g_w (!pk && !(a_rd (A_v (s_be (A_st A 0) j)) j)))) j 4 (z_s (A_v (s_be (A_st A 0) j)) j f (u + 1 - f))))).2.2.length := by rw [eA]; exact hj3
          refine sv_istore dX1_fetch_119 (by decide) ?_
          refine sv_aload_n dX1_fetch_121 rfl ?_
          refine sv_iload_n dX1_fetch_122 rfl ?_
          refine sv_iconst (nI 0) dX1_fetch_123 (by decide +kernel) ?_
          refine sv_tI (y := b_I false) rfl ?_
          refine sv_cvP _ (cc_end hA5 hj5 (all := false) (Nat.zero_le _)) okX1_end kv_X1_347 (sx_rd_c hx5) rfl dX1_fetch_124 rfl rfl (by omega) (Nat.le_of_ble_eq_true rfl) ?_
          intro v23 τ21 hp22
          obtain ⟨rfl, ow9, cap9, hA9, hB9⟩ := hp22
          refine sv_istore dX1_fetch_127 (by decide) ?_
          refine sv_iload dX1_fetch_129 rfl ?_
          refine sv_iret rfl rfl dX1_fetch_131 ?_
          have hsp : x_fet (A_st A 0) j f (u + 1) pk = (z_s (A_v (s_be (A_st A 0) j)) j f (u + 1 - f), s_en (A_sv (s_be (A_st A 0) j) (v_ac (v_fr (A_v (s_be (A_st A 0) j)) j b f (u + 1) (g_w (!pk && !(a_rd (A_v (s_be (A_st A 0) j)) j)))) j 4 (z_s (A_v (s_be (A_st A 0) j)) j f (u + 1 - f)))) j false) := by unfold x_fet; rw [hbs]
          rw [hsp]
          exact c_R_ok (x := (_, s_en _ j false)) rfl en_t (c_S_B (c_A_K hA9) (c_B_t hB5 hB9 (Nat.le_refl _) (Nat.le_refl _)) (by omega) (by omega))
    · refine sv_aload_n dX1_fetch_31 rfl ?_
      refine sv_get fg_X1_44 dX1_fetch_32 (sx_rd_c hx2) rfl ?_
      refine sv_aload dX1_fetch_35 rfl ?_
      refine sv_iload dX1_fetch_37 rfl ?_
      refine sv_cvR _ (cc_at hA2.2.1.1.1 hj2 hbx2 hb (show i < (a_es (A_v (s_be (A_st A 0) j)) j).length by rw [ees]; omega)) okX2_at kv_X1_274 (sx_rd_c hA2.2.1.1.1.1) rfl dX1_fetch_39 rfl rfl (by omega) (Nat.le_of_ble_eq_true rfl) ?_
      refine sv_astoreq dX1_fetch_42 (by decide) ?_
      refine sv_iload dX1_fetch_44 rfl ?_
      refine sv_aloadq dX1_fetch_46 rfl ?_
      refine sv_ifnonnullq (tgt := 55) dX1_fetch_48 (by decide) (fun a48 c48 => ?_) (fun c48 => ?_)
      · obtain ⟨m, hmo, e48⟩ := Option.map_eq_some_iff.mp c48
        have hm : m < (a_ms (A_v (s_be (A_st A 0) j)) b).length := a_find_lt ((a_mo_e hbx2).symm.trans hmo)
        have hmm : sx_c τ (Λ2 2 b m) = some (.inr (6, [.int (a_m (A_v (s_be (A_st A 0) j)) b m).1, .int (a_m (A_v (s_be (A_st A 0) j)) b m).2.1, .int (a_m (A_v (s_be (A_st A 0) j)) b m).2.2])) := (hA2.2.1.1.1.2.2.2.1 b hb).1.2.2 m hm
        have hz9 : z_s (A_v (s_be (A_st A 0) j)) j f (i - f) + (a_m (A_v (s_be (A_st A 0) j)) b m).2.1 = z_s (A_v (s_be (A_st A 0) j)) j f (i + 1 - f) := by rw [show i + 1 - f = i - f + 1 by omega]; show _ = _ + (match a_mo (A_v (s_be (A_st A 0) j)) j (f + (i - f)) with | some m => (a_m (A_v (s_be (A_st A 0) j)) (a_bs (A_v (s_be (A_st A 0) j)) j) m).2.1 | none => 0); rw [show f + (i - f) = i by omega, hmo, hbs]
        refine sv_aloadq dX1_fetch_55 rfl ?_
        refine sv_topR (a := (Λ2 2 b m)) (by rw [hmo]; rfl) ?_
        refine sv_get fg_X1_232 dX1_fetch_57 (sx_rd_c hmm) rfl ?_
        refine sv_iadd dX1_fetch_60 ?_
        rw [hz9]
        refine sv_istore dX1_fetch_61 (by decide) ?_
        refine sv_iincN dX1_fetch_63 rfl (by decide) ?_
        refine sv_goto (tgt := 25) dX1_fetch_66 (by decide) ?_
        exact ih (i + 1) _ (by omega) (by omega) (by omega)
      · have hmo : a_mo (A_v (s_be (A_st A 0) j)) j i = none := Option.map_eq_none_iff.mp c48
        have hz9 : z_s (A_v (s_be (A_st A 0) j)) j f (i - f) + nI 0 = z_s (A_v (s_be (A_st A 0) j)) j f (i + 1 - f) := by rw [show i + 1 - f = i - f + 1 by omega]; show _ = _ + (match a_mo (A_v (s_be (A_st A 0) j)) j (f + (i - f)) with | some m => (a_m (A_v (s_be (A_st A 0) j)) (a_bs (A_v (s_be (A_st A 0) j)) j) m).2.1 | none => 0); rw [show f + (i - f) = i by omega, hmo, nI_0]
        refine sv_iconst (nI 0) dX1_fetch_51 (by decide +kernel) ?_
        refine sv_goto (tgt := 60) dX1_fetch_52 (by decide) ?_
        refine sv_iadd dX1_fetch_60 ?_
        rw [hz9]
        refine sv_istore dX1_fetch_61 (by decide) ?_
        refine sv_iincN dX1_fetch_63 rfl (by decide) ?_
        refine sv_goto (tgt := 25) dX1_fetch_66 (by decide) ?_
        exact ih (i + 1) _ (by omega) (by omega) (by omega)
  refine sx_body (by decide) (Nat.le_of_ble_eq_true rfl) ?_
  have hK0 := hK
  obtain ⟨sv, nl, hX, hF, hN⟩ := hK
  obtain ⟨Λ0, hV, hzz, hw⟩ := id hF
  have hx := hX.1
  have hnb := hw.1.1
  have hns := hw.1.2.1
  have hX0 : c_X G mu (sx_n σ) oc σ sv nl (A_st A 0) := hX
  have hF0 : c_F G mu (sx_n σ) σ sv (A_v (A_st A 0)) := hF
  have hbl : ∀ b, a_bx (A_v A) j = some b → b < 100 := fun b hb => by have := hw.2.2.1 j b hj hb; omega
  obtain ⟨b, hbx⟩ := Option.isSome_iff_exists.mp (show (a_bx (A_v A) j).isSome = true by cases hq : (a_bx (A_v A) j).isSome with | true => rfl | false => rw [hq] at h; cases h)
  have hb := hw.2.2.1 j b hj hbx
  have hm30 := hw.1.2.2 b hb
  have hel := hw.2.1 j hj
  have hk1 : i_en (nI (f + 1)) (a_es (A_v A) j).length = true := i_en_nI hf (by omega)
  have hk2 : i_en (nI (u + 1)) (a_es (A_v A) j).length = true := i_en_nI hu (by omega)
  have hle : nI (f + 1) ≤ nI (u + 1) := (nI_leI (by omega) (by omega)).mpr (by omega)
  refine sv_aload_n dX1_fetch_0 rfl ?_
  refine sv_iload_n dX1_fetch_1 rfl ?_
  refine sv_iload_n dX1_fetch_2 rfl ?_
  refine sv_iload_n dX1_fetch_3 rfl ?_
  refine sv_cvR _ (cg_rng hx hV hj hk1 hk2 hle) okX1_rangeOf kv_X1_351 (sx_rd_c hx) rfl dX1_fetch_4 rfl rfl (by omega) (Nat.le_of_ble_eq_true rfl) ?_
  refine sv_csR _ (cg_open hV hj hbl h) okX1_requireOpen ks_X1_343 dX1_fetch_7 rfl rfl (by omega) (Nat.le_of_ble_eq_true rfl) ?_
  refine sv_aload_n dX1_fetch_10 rfl ?_
  refine sv_iload_n dX1_fetch_11 rfl ?_
  refine sv_cvP _ (cc_begin (A := A_st A 0) hX0 hF0 hz hj) okX1_begin kv_X1_336 (sx_rd_c hx) rfl dX1_fetch_12 rfl rfl (by omega) (Nat.le_of_ble_eq_true rfl) ?_
  intro v26 τ24 hp25
  obtain ⟨a, nl2, ow2, Λ2, rfl, ea, hA2, hB2, FG2⟩ := hp25
  have hx2 := hA2.1.1
  have hj2 : j < (A_v (s_be (A_st A 0) j)).2.2.length := by rw [be_len]; exact hj
  refine sv_astore dX1_fetch_15 (by decide) ?_
  refine sv_iconst (nI 0) dX1_fetch_17 (by decide +kernel) ?_
  refine sv_tI (y := 0) nI_0 ?_
  refine sv_istore dX1_fetch_18 (by decide) ?_
  refine sv_iload_n dX1_fetch_20 rfl ?_
  refine sv_iconst (nI 1) dX1_fetch_21 (by decide +kernel) ?_
  refine sv_isubN dX1_fetch_22 (by omega) ?_
  refine sv_istore dX1_fetch_23 (by decide) ?_
  have hlo := loop a nl2 b ow2 Λ2 _ hA2 hB2 hbx (u + 3 - f) f none (Nat.le_refl _) (by omega) (by omega)
  rw [Nat.sub_self] at hlo
  exact hlo
theorem pm_fet (hK : c_K G mu oc σ A) {z : Nat} (hz : g_Z G z) (hG : g_L G) (hM : g_M G) {s k l : Int32} {pk : Bool} : sx_C G 100 YX1_fetch [.ref (mu 0), .int s, .int k, .int l, .int (b_I pk)] σ (c_R ["java/lang/IndexOutOfBoundsException", "java/lang/IllegalArgumentException", "java/lang/IllegalStateException"] G mu oc σ (sp_fet A s k l pk)) := by
  have hw : w_V (A_v A) := by obtain ⟨_, _, _, ⟨_, _, _, hw⟩, _⟩ := hK; exact hw
  have hns := hw.1.2.1
  unfold sp_fet
  refine c_3 hK (fun h => cpx_fet1 hK h) (fun h1 h2 => ?_) (fun h1 h2 h3 => ?_) (fun h1 h2 h3 => ?_)
  all_goals obtain ⟨j, f, u, hj, hf, hu, rfl, rfl, rfl, ej, ek, el⟩ := a_are_of hw h1
  all_goals have hel := hw.2.1 j hj
  · exact cpx_fet2 hK hj (i_en_nI hf (by omega)) (i_en_nI hu (by omega)) (of_decide_eq_false h2)
  · rw [can_j hj hns] at h3
    exact cpx_fet3 hK hj (i_en_nI hf (by omega)) (i_en_nI hu (by omega)) (of_decide_eq_true h2) h3
  · rw [can_j hj hns] at h3
    rw [ej, ek, el]
    have hfu := of_decide_eq_true h2
    rw [nI_leI (by omega) (by omega)] at hfu
    exact cp_fet hK hz hG hM hj hf hu (by omega) h3
end CMB
