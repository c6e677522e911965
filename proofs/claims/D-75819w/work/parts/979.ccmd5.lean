set_option maxRecDepth 100000
section CM6
variable {G : sx_G} {σ τ : sx_St} {mu : Nat → Nat} {oc lo sv nl cap : Nat} {ow : Nat → Nat} {Λ : Nat → Nat → Nat → Nat} {A : a_A} {V : a_V} {W : Nat → Prop} {c sl : Nat} {N : List a_N}
theorem c_S_r (h : c_K G mu oc σ A) : c_S G mu oc σ σ A := c_S_0 (c := 0) (s := 0) h h_F_r (by omega) (by omega)
/-- what is asked without a change -/
theorem c_R_q {es : List String} {v w : Int32} (h : c_K G mu oc σ A) (e : v = w) : c_R es G mu oc σ (w, A_st A 0) (.inl (some (.int v))) σ := c_R_ok (x := (w, A_st A 0)) e rfl (c_S_r (c_K_t h 0))
theorem cpx_res1 (hK : c_K G mu oc σ A) {x : Int32} (h : a_in x 0 1 = false) : sx_C G 100 YX1_restore [.ref (mu 0), .int x] σ (c_X0 "java/lang/IndexOutOfBoundsException" σ) := by
  refine sx_body (by decide) (Nat.le_of_ble_eq_true rfl) ?_
  obtain ⟨sv, nl, hX, hF, hN⟩ := hK
  obtain ⟨Λ0, hV, hzz, hw⟩ := id hF
  have hx := hX.1
  have hnb := hw.1.1
  have hns := hw.1.2.1
  have hX0 : c_X G mu (sx_n σ) oc σ sv nl (A_st A 0) := hX
  have hF0 : c_F G mu (sx_n σ) σ sv (A_v (A_st A 0)) := hF
  refine sv_iload_n dX1_restore_0 rfl ?_
  refine sv_cs _ (cgx_slot h) okX1_requireSlot ks_X1_419.1 ks_X1_419.2 dX1_restore_1 rfl rfl (by omega) (Nat.le_of_ble_eq_true rfl) (fun v τ h => by obtain ⟨q, e, _⟩ := h; cases e) (fun E q τ h => ?_)
  obtain ⟨q9, e9, F9⟩ := h
  cases e9
  refine sv_out (fun x hx => by cases hx) ?_
  exact ⟨_, rfl, F9⟩
theorem cpx_res2 (hK : c_K G mu oc σ A) {jj : Nat} (hjj : jj < 2) (h : A_k A jj = none) : sx_C G 100 YX1_restore [.ref (mu 0), .int (nI jj)] σ (c_X0 "java/lang/IllegalStateException" σ) := by
  refine sx_body (by decide) (Nat.le_of_ble_eq_true rfl) ?_
  have hK0 := hK
  obtain ⟨sv, nl, hX, hF, hN⟩ := hK
  obtain ⟨Λ0, hV, hzz, hw⟩ := id hF
  have hx := hX.1
  have hnb := hw.1.1
  have hns := hw.1.2.1
  have hX0 : c_X G mu (sx_n σ) oc σ sv nl (A_st A 0) := hX
  have hF0 : c_F G mu (sx_n σ) σ sv (A_v (A_st A 0)) := hF
  obtain ⟨fs, hsl, hks, -⟩ := id hX.2.2.1
  have lsv := sx_lt hV.1
  obtain ⟨a, ea⟩ : ∃ a, a = sx_n σ := ⟨_, rfl⟩
  have hjs : a_in (nI jj) 0 1 = true := by match jj, hjj with | 0, _ => decide +kernel | 1, _ => decide +kernel
  refine sv_iload_n dX1_restore_0 rfl ?_
  refine sv_csR _ (cg_slot hjs) okX1_requireSlot ks_X1_419 dX1_restore_1 rfl rfl (by omega) (Nat.le_of_ble_eq_true rfl) ?_
  refine sv_aload_n dX1_restore_4 rfl ?_
  refine sv_get fg_X1_57 dX1_restore_5 (sx_rd_c hx) rfl ?_
  refine sv_iload_n dX1_restore_8 rfl ?_
  refine sv_aald 6 rfl dX1_restore_9 (sx_rd_c hsl) (vp_in_nI (by omega) (by omega)) ?_
  rw [nI_clamp (show jj < 2 ^ 31 by omega)]
  refine sv_ifnullq (tgt := 17) dX1_restore_10 (by decide) (fun c10 => ?_) (fun a10 c10 => ?_)
  · refine sv_iconst (nI 0) dX1_restore_17 (by decide +kernel) ?_
    refine sv_tI (y := b_I false) rfl ?_
    refine sv_cs _ cx_S okX1_requireState ks_X1_86.1 ks_X1_86.2 dX1_restore_18 rfl rfl (by omega) (Nat.le_of_ble_eq_true rfl) (fun v τ h => by obtain ⟨q, e, _⟩ := h; cases e) (fun E q τ h => ?_)
    obtain ⟨q9, e9, F9⟩ := h
    cases e9
    refine sv_out (fun x hx => by cases hx) ?_
    exact ⟨_, rfl, F9⟩
  · exact absurd ((hks jj hjj).1 h) (by rw [c10]; intro z; cases z)
theorem cp_res (hK : c_K G mu oc σ A) {z : Nat} (hz : g_Z G z) {jj : Nat} (hjj : jj < 2) {V : a_V} (h : A_k A jj = some V) : sx_C G 100 YX1_restore [.ref (mu 0), .int (nI jj)] σ (c_R ["java/lang/IndexOutOfBoundsException", "java/lang/IllegalStateException"] G mu oc σ ((a_tot V, s_re (A_st A 0) V))) := by
  refine sx_body (by decide) (Nat.le_of_ble_eq_true rfl) ?_
  have hK0 := hK
  obtain ⟨sv, nl, hX, hF, hN⟩ := hK
  obtain ⟨Λ0, hV, hzz, hw⟩ := id hF
  have hx := hX.1
  have hnb := hw.1.1
  have hns := hw.1.2.1
  have hX0 : c_X G mu (sx_n σ) oc σ sv nl (A_st A 0) := hX
  have hF0 : c_F G mu (sx_n σ) σ sv (A_v (A_st A 0)) := hF
  obtain ⟨fs, hsl, hks, -⟩ := id hX.2.2.1
  have lsv := sx_lt hV.1
  obtain ⟨a, ea⟩ : ∃ a, a = sx_n σ := ⟨_, rfl⟩
  have hjs : a_in (nI jj) 0 1 = true := by match jj, hjj with | 0, _ => decide +kernel | 1, _ => decide +kernel
  obtain ⟨a0, e0, hFa0⟩ := (hks jj hjj).2 V h
  obtain ⟨Λa, hV0, hz0, hw0⟩ := id hFa0
  have la0 := sx_lt hV0.1
  have FF0 : h_F (fun q => q = a) 0 0 σ σ := h_F_r
  refine sv_iload_n dX1_restore_0 rfl ?_
  refine sv_csR _ (cg_slot hjs) okX1_requireSlot ks_X1_419 dX1_restore_1 rfl rfl (by omega) (Nat.le_of_ble_eq_true rfl) ?_
  refine sv_aload_n dX1_restore_4 rfl ?_
  refine sv_get fg_X1_57 dX1_restore_5 (sx_rd_c hx) rfl ?_
  refine sv_iload_n dX1_restore_8 rfl ?_
  refine sv_aald 6 rfl dX1_restore_9 (sx_rd_c hsl) (vp_in_nI (by omega) (by omega)) ?_
  rw [nI_clamp (show jj < 2 ^ 31 by omega)]
  refine sv_ifnullq (tgt := 17) dX1_restore_10 (by decide) (fun c10 => ?_) (fun a10 c10 => ?_)
  · exact absurd (c10.symm.trans e0) (by intro z; cases z)
  · refine sv_iconst (nI 1) dX1_restore_13 (by decide +kernel) ?_
    refine sv_goto (tgt := 18) dX1_restore_14 (by decide) ?_
    refine sv_tI (y := b_I true) rfl ?_
    refine sv_csR _ cr_S okX1_requireState ks_X1_86 dX1_restore_18 rfl rfl (by omega) (Nat.le_of_ble_eq_true rfl) ?_
    refine sv_aload_n dX1_restore_21 rfl ?_
    refine sv_new fn_X1_41 dX1_restore_22 ?_
    refine hs_al (fun a1 τ4 E9 F5 h6 N7 Z8 => ?_)
    have hx' := h_F_c F5 hx (fun z => z)
    have hsl' := h_F_c F5 hsl (fun z => z)
    have FF10 := h_F_u FF0 F5 (fun _ _ z => z) (fun _ _ z => z.elim) (Nat.le_refl _) (Nat.le_refl _)
    have h6 : sx_c τ4 a1 = some (.inr (1, [.null, .null, .int (nI 0)])) := by rw [nI_0]; exact h6
    refine sv_dup dX1_restore_25 rfl ?_
    refine sv_aload_n dX1_restore_26 rfl ?_
    refine sv_get fg_X1_57 dX1_restore_27 (sx_rd_c hx') rfl ?_
    refine sv_iload_n dX1_restore_30 rfl ?_
    refine sv_aald 6 rfl dX1_restore_31 (sx_rd_c hsl') (vp_in_nI (by omega) (by omega)) ?_
    rw [nI_clamp (show jj < 2 ^ 31 by omega)]
    refine sv_topR (a := a0) e0 ?_
    have FFp : h_F (fun _ => False) _ _ σ _ := F5
    obtain rfl : a1 = a := by omega
    refine sv_ciP _ (cc_vinit2 (k_V_Z hV0 hz0 FFp (fun _ _ z => z)) hw0 (by omega) h6) okX2_init_2 ki_X1_113 dX1_restore_32 rfl rfl (by omega) (Nat.le_of_ble_eq_true rfl) ?_
    intro v14 τ12 hp13
    obtain ⟨rfl, ow2, Λ2, hI2, hY2, F11⟩ := hp13
    have N15 := (F11).1.1
    have hx'' := h_F_c F11 hx' (e_kn hx' h6 rfl)
    have hsl'' := h_F_c F11 hsl' (e_kn hsl' h6 rfl)
    have FF16 := h_F_u FF10 F11 (fun _ _ z => z) (by intro q hq hz; omega) (Nat.le_refl _) (Nat.le_refl _)
    have FF2 := FF16
    have hmu := c_X_mu hX
    have zW : ∀ q, c_Zm mu (sx_n σ) q → ¬ (q = a1) := fun q zq w => by have := zq.1; omega
    have hX2 := c_X_fr hX0 FF2 zW (fun i hi w => by have := hmu i hi; omega)
    have hmu2 : ∀ i, i < 7 → mu i < a1 := fun i hi => by have := hmu i hi; omega
    have hcz := c_Y_z hY2 hz0
    have n2 := FF2.1.1
    have hF2 := c_F_fr hF0 FF2 zW (Nat.le_refl _)
    have hx2 := hX2.1
    refine sv_cvP _ (cc_become (a := a1) hX2 hF2 hz) okX1_become kv_X1_116 (sx_rd_c hx2) rfl dX1_restore_35 rfl rfl (by omega) (Nat.le_of_ble_eq_true rfl) ?_
    intro v19 τ17 hp18
    obtain ⟨rfl, nl2, hn2, hL2, hX3, F3⟩ := hp18
    have hx3 := hX3.1
    have n3 := F3.1.1
    have kz := c_I_z hX2 hI2 hcz hmu2
    have hV3 := k_V_Z hI2.1 kz F3 (fun q zq => zm_3 zq)
    obtain ⟨mc0, z0, hL0, -⟩ := id hL2
    have n4 := sx_lt hL0
    refine sv_aload_n dX1_restore_38 rfl ?_
    refine sv_get fg_X1_44 dX1_restore_39 (sx_rd_c hx3) rfl ?_
    refine sv_cvR _ (cc_messages hV3) okX2_messages kv_X1_142 (sx_rd_c hV3.1) rfl dX1_restore_42 rfl rfl (by omega) (Nat.le_of_ble_eq_true rfl) ?_
    refine sv_iret rfl rfl dX1_restore_45 ?_
    have hc9 := c_Zm mu (sx_n σ)
    refine c_R_ok (x := (a_tot V, s_re (A_st A 0) V)) rfl rfl (c_S_B ⟨a1, nl2, c_X_n hX3 (by omega) (Nat.le_refl _), ⟨Λ2, hV3, k_z_of kz (fun q z => c_Zm_le z n3), hw0⟩, ⟨⟨n4, fun i hi w => by have h8 := hmu2 i hi; have h9 := (k_V_lt hI2.1).1; omega⟩, Or.inl ⟨hL2, rfl⟩⟩⟩ (c_B_t (c_B_F FF2) (c_B_F F3) (Nat.le_refl _) (Nat.le_refl _)) (by omega) (by omega))
theorem pm_res (hK : c_K G mu oc σ A) {z : Nat} (hz : g_Z G z) {x : Int32} : sx_C G 100 YX1_restore [.ref (mu 0), .int x] σ (c_R ["java/lang/IndexOutOfBoundsException", "java/lang/IllegalStateException"] G mu oc σ (sp_res A x)) := by
  unfold sp_res
  refine c_2 hK (fun h => cpx_res1 hK h) (fun h1 h2 => ?_) (fun h1 h2 => ?_)
  · unfold a_kp at h2
    rw [h1] at h2
    obtain ⟨jj, hjj, rfl⟩ := in_01 h1
    rw [nI_clamp (by omega)] at h2
    refine cpx_res2 hK hjj ?_
    cases hk : A_k A jj with
    | none => rfl
    | some V => rw [hk] at h2; cases h2
  · unfold a_kp at h2
    rw [h1] at h2
    obtain ⟨jj, hjj, rfl⟩ := in_01 h1
    rw [nI_clamp (by omega)] at h2 ⊢
    cases hk : A_k A jj with
    | none => rw [hk] at h2; cases h2
    | some V => exact cp_res hK hz hjj hk
theorem cpx_und (hK : c_K G mu oc σ A) (h : ¬ (0 < (A_h A).length)) : sx_C G 100 YX1_undo [.ref (mu 0)] σ (c_X0 "java/lang/IllegalStateException" σ) := by
  refine sx_body (by decide) (Nat.le_of_ble_eq_true rfl) ?_
  have hK0 := hK
  obtain ⟨sv, nl, hX, hF, hN⟩ := hK
  obtain ⟨Λ0, hV, hzz, hw⟩ := id hF
  have hx := hX.1
  have hnb := hw.1.1
  have hns := hw.1.2.1
  have hX0 : c_X G mu (sx_n σ) oc σ sv nl (A_st A 0) := hX
  have hF0 : c_F G mu (sx_n σ) σ sv (A_v (A_st A 0)) := hF
  obtain ⟨h0, gd, hD, hl6, hfz⟩ := id hX.2.1
  obtain ⟨fd, hq, hda, -⟩ := id hD
  refine sv_aload_n dX1_undo_0 rfl ?_
  refine sv_get fg_X1_53 dX1_undo_1 (sx_rd_c hx) rfl ?_
  refine sv_cvR _ (cj_dEmpty hD) okJ17_isEmpty kv_X1_422 (sx_rd_c hq) rfl dX1_undo_4 rfl rfl (by omega) (Nat.le_of_ble_eq_true rfl) ?_
  refine sv_if_neB (tgt := 14) dX1_undo_7 (by decide) (fun c7 => ?_) (fun c7 => ?_)
  · refine sv_iconst (nI 0) dX1_undo_14 (by decide +kernel) ?_
    refine sv_tI (y := b_I false) rfl ?_
    refine sv_cs _ cx_S okX1_requireState ks_X1_86.1 ks_X1_86.2 dX1_undo_15 rfl rfl (by omega) (Nat.le_of_ble_eq_true rfl) (fun v τ h => by obtain ⟨q, e, _⟩ := h; cases e) (fun E q τ h => ?_)
    obtain ⟨q9, e9, F9⟩ := h
    cases e9
    refine sv_out (fun x hx => by cases hx) ?_
    exact ⟨_, rfl, F9⟩
  · exact absurd (of_decide_eq_false c7) (by omega)
theorem cp_und (hK : c_K G mu oc σ A) {z : Nat} (hz : g_Z G z) (h : 0 < (A_h A).length) : sx_C G 100 YX1_undo [.ref (mu 0)] σ (c_R ["java/lang/IllegalStateException"] G mu oc σ ((nI ((A_h A).length - 1), s_un (A_st A 0)))) := by
  refine sx_body (by decide) (Nat.le_of_ble_eq_true rfl) ?_
  have hK0 := hK
  obtain ⟨sv, nl, hX, hF, hN⟩ := hK
  obtain ⟨Λ0, hV, hzz, hw⟩ := id hF
  have hx := hX.1
  have hnb := hw.1.1
  have hns := hw.1.2.1
  have hX0 : c_X G mu (sx_n σ) oc σ sv nl (A_st A 0) := hX
  have hF0 : c_F G mu (sx_n σ) σ sv (A_v (A_st A 0)) := hF
  obtain ⟨h0, gd, hD, hl6, hfz⟩ := id hX.2.1
  obtain ⟨fd, hq, hda, -⟩ := id hD
  have FF0 : h_F (fun q => q = mu 0 ∨ q = mu 1 ∨ q = mu 2) 0 0 σ σ := h_F_r
  refine sv_aload_n dX1_undo_0 rfl ?_
  refine sv_get fg_X1_53 dX1_undo_1 (sx_rd_c hx) rfl ?_
  refine sv_cvR _ (cj_dEmpty hD) okJ17_isEmpty kv_X1_422 (sx_rd_c hq) rfl dX1_undo_4 rfl rfl (by omega) (Nat.le_of_ble_eq_true rfl) ?_
  refine sv_if_neB (tgt := 14) dX1_undo_7 (by decide) (fun c7 => ?_) (fun c7 => ?_)
  · exact absurd (of_decide_eq_true c7) (by omega)
  · refine sv_iconst (nI 1) dX1_undo_10 (by decide +kernel) ?_
    refine sv_goto (tgt := 15) dX1_undo_11 (by decide) ?_
    refine sv_tI (y := b_I true) rfl ?_
    refine sv_csR _ cr_S okX1_requireState ks_X1_86 dX1_undo_15 rfl rfl (by omega) (Nat.le_of_ble_eq_true rfl) ?_
    refine sv_aload_n dX1_undo_18 rfl ?_
    refine sv_aload_n dX1_undo_19 rfl ?_
    refine sv_get fg_X1_53 dX1_undo_20 (sx_rd_c hx) rfl ?_
    refine sv_cvP _ (cj_removeLast hD h) okJ17_removeLast kv_X1_423 (sx_rd_c hq) rfl dX1_undo_23 rfl rfl (by omega) (Nat.le_of_ble_eq_true rfl) ?_
    intro v23 τ21 hp22
    obtain ⟨rfl, hD2, F20⟩ := hp22
    have N24 := (F20).1.1
    have hx' := h_F_c F20 hx (fun z => z.elim (e_kn hx hq rfl) (e_kn hx hda rfl))
    have FF25 := h_F_u FF0 F20 (fun _ _ z => z) (by intro q hq hz; omega) (Nat.le_refl _) (Nat.le_refl _)
    obtain ⟨fd1, hq1, hda1, -⟩ := id hD2
    have hF9 := c_F_fr (hfz ((A_h A).length - 1) (by omega)) F20 (fun q zq w => zm_3 zq (Or.inr w)) (Nat.le_refl _)
    obtain ⟨Λ9, hV9, -⟩ := id hF9
    have hv9 := hV9.1
    refine sv_cast (C0 := "") (sx_rd_c hv9) rfl q196 dX1_undo_26 ?_
    refine sv_put fp_X1_44 dX1_undo_29 hx' rfl rfl (Nat.le_of_ble_eq_true rfl) ?_
    refine hs_up hx' (fun τ26 F27 h28 N29 Z30 => ?_)
    have h28 : sx_c τ26 ((mu 0)) = some (.inr (0, [.ref (gd ((A_h A).length - 1)), .ref (mu 1), .ref (mu 3), .ref nl, .ref (mu 4), .int (nI (A_i A).length), .int (A_c A), .int (A_p A), .ref (mu 5)])) := h28
    have hv9' := h_F_c F27 hv9 (e_kn hv9 hx' rfl)
    have hq1' := h_F_c F27 hq1 (e_kn hq1 hx' rfl)
    have hda1' := h_F_c F27 hda1 (e_kn hda1 hx' rfl)
    have hD2 := k_D_fr F27 hD2 (e_kn hq1 hx' rfl) (e_kn hda1 hx' rfl)
    have FF31 := h_F_u FF25 F27 (fun _ _ z => z) (by intro q hq hz; omega) (Nat.le_refl _) (Nat.le_refl _)
    refine sv_aload_n dX1_undo_32 rfl ?_
    refine sv_new fn_X1_61 dX1_undo_33 ?_
    refine hs_al (fun nl2 τ32 E37 F33 h34 N35 Z36 => ?_)
    have hv9'' := h_F_c F33 hv9' (fun z => z)
    have hq1'' := h_F_c F33 hq1' (fun z => z)
    have hda1'' := h_F_c F33 hda1' (fun z => z)
    have h28' := h_F_c F33 h28 (fun z => z)
    have hD2 := k_D_fr F33 hD2 (fun z => z) (fun z => z)
    have FF38 := h_F_u FF31 F33 (fun _ _ z => z) (fun _ _ z => z.elim) (Nat.le_refl _) (Nat.le_refl _)
    have h34 : sx_c τ32 nl2 = some (.inr (9, [.int (nI 0), .null, .int (nI 0)])) := by rw [nI_0]; exact h34
    refine sv_dup dX1_undo_36 rfl ?_
    refine sv_ciP _ (cj_init0 hz h34) okJ2_init_2 ki_X1_63 dX1_undo_37 rfl rfl (by omega) (Nat.le_of_ble_eq_true rfl) ?_
    intro v42 τ40 hp41
    obtain ⟨rfl, hL0, F39⟩ := hp41
    have N43 := (F39).1.1
    have hv9''' := h_F_c F39 hv9'' (e_kn hv9'' h34 rfl)
    have hq1''' := h_F_c F39 hq1'' (e_kn hq1'' h34 rfl)
    have hda1''' := h_F_c F39 hda1'' (e_kn hda1'' h34 rfl)
    have h28'' := h_F_c F39 h28' (e_kn h28' h34 rfl)
    have hD2 := k_D_fr F39 hD2 (e_kn hq1'' h34 rfl) (e_kn hda1'' h34 rfl)
    have FF44 := h_F_u FF38 F39 (fun _ _ z => z) (by intro q hq hz; omega) (Nat.le_refl _) (Nat.le_refl _)
    refine sv_put fp_X1_64 dX1_undo_40 h28'' rfl rfl (Nat.le_of_ble_eq_true rfl) ?_
    refine hs_up h28'' (fun τ45 F46 h47 N48 Z49 => ?_)
    have h47 : sx_c τ45 ((mu 0)) = some (.inr (0, [.ref (gd ((A_h A).length - 1)), .ref (mu 1), .ref (mu 3), .ref nl2, .ref (mu 4), .int (nI (A_i A).length), .int (A_c A), .int (A_p A), .ref (mu 5)])) := h47
    have hv9'''' := h_F_c F46 hv9''' (e_kn hv9''' h28'' rfl)
    have hq1'''' := h_F_c F46 hq1''' (e_kn hq1''' h28'' rfl)
    have hda1'''' := h_F_c F46 hda1''' (e_kn hda1''' h28'' rfl)
    have hD2 := k_D_fr F46 hD2 (e_kn hq1''' h28'' rfl) (e_kn hda1''' h28'' rfl)
    have hL0 := k_L0_fr F46 hL0 (by obtain ⟨_, _, z, _⟩ := id hL0; exact e_kn z h28'' rfl)
    have FF50 := h_F_u FF44 F46 (fun _ _ z => z) (by intro q hq hz; omega) (Nat.le_refl _) (Nat.le_refl _)
    refine sv_aload_n dX1_undo_43 rfl ?_
    refine sv_get fg_X1_53 dX1_undo_44 (sx_rd_c h47) rfl ?_
    refine sv_cvR _ (cj_dsize hD2) okJ17_size kv_X1_101 (sx_rd_c hq1'''') rfl dX1_undo_47 rfl rfl (by omega) (Nat.le_of_ble_eq_true rfl) ?_
    refine sv_iret rfl rfl dX1_undo_50 ?_
    have FFb := FF50
    have zW : ∀ q, c_Zm mu (sx_n σ) q → ¬ (q = mu 0 ∨ q = mu 1 ∨ q = mu 2) := fun q zq => zm_3 zq
    have n9 := FFb.1.1
    have hmu := c_X_mu hX
    obtain ⟨mc0, z0, hLc, -⟩ := id hL0
    have n4 := sx_lt hLc
    have hm := c_X_m hX
    obtain ⟨-, -, hXk, hXi, hXo, hX6, hX7⟩ := hX
    have hdl : (A_h A).dropLast.length = (A_h A).length - 1 := List.length_dropLast
    have hX3 : c_X G mu (sx_n _) oc _ (gd ((A_h A).length - 1)) nl2 (s_un (A_st A 0)) := ⟨h47, ⟨h0, gd, by show k_D _ _ _ _ _ (A_h A).dropLast.length _; rw [hdl]; exact hD2, by show (A_h A).dropLast.length ≤ 6; omega, fun i hi => ?_⟩, c_Xk_fr hXk FFb zW (hm 3 (by decide) (by decide)) n9, c_Xi_fr hXi FFb (hm 4 (by decide) (by decide)), c_Xo_fr hXo FFb (hm 5 (by decide) (by decide)) (hm 6 (by decide) (by decide)), hX6, Nat.le_refl _⟩
    exact c_R_ok (x := (nI ((A_h A).length - 1), s_un (A_st A 0))) rfl rfl (c_S_B ⟨(gd ((A_h A).length - 1)), nl2, hX3, c_F_fr (hfz ((A_h A).length - 1) (by omega)) FFb zW n9, ⟨n4, fun i hi w => by have h8 := hmu i hi; omega⟩, Or.inl ⟨hL0, rfl⟩⟩ (c_B_F FFb) (by omega) (by omega))
    · have hi : i < (A_h A).dropLast.length := hi
      show c_F _ _ _ _ _ ((A_h A).dropLast.getD i _)
      rw [List.getD_eq_getElem?_getD, List.getElem?_dropLast, if_pos (by omega), ← List.getD_eq_getElem?_getD]
      exact c_F_fr (hfz i (by omega)) FFb zW n9
theorem pm_und (hK : c_K G mu oc σ A) {z : Nat} (hz : g_Z G z) : sx_C G 100 YX1_undo [.ref (mu 0)] σ (c_R ["java/lang/IllegalStateException"] G mu oc σ (sp_und A)) := by
  unfold sp_und
  exact c_1 hK (fun h => cpx_und hK (of_decide_eq_false h)) (fun h => cp_und hK hz (of_decide_eq_true h))
theorem pm_cnt (hK : c_K G mu oc σ A) : sx_C G 100 YX1_undoCount [.ref (mu 0)] σ (c_R [] G mu oc σ (sp_cnt A)) := by
  refine sx_body (by decide) (Nat.le_of_ble_eq_true rfl) ?_
  have hK0 := hK
  obtain ⟨sv, nl, hX, hF, hN⟩ := hK
  obtain ⟨Λ0, hV, hzz, hw⟩ := id hF
  have hx := hX.1
  have hnb := hw.1.1
  have hns := hw.1.2.1
  have hX0 : c_X G mu (sx_n σ) oc σ sv nl (A_st A 0) := hX
  have hF0 : c_F G mu (sx_n σ) σ sv (A_v (A_st A 0)) := hF
  obtain ⟨h0, gd, hD, hl6, hfz⟩ := id hX.2.1
  obtain ⟨fd, hq, hda, -⟩ := id hD
  refine sv_aload_n dX1_undoCount_0 rfl ?_
  refine sv_get fg_X1_53 dX1_undoCount_1 (sx_rd_c hx) rfl ?_
  refine sv_cvR _ (cj_dsize hD) okJ17_size kv_X1_101 (sx_rd_c hq) rfl dX1_undoCount_4 rfl rfl (by omega) (Nat.le_of_ble_eq_true rfl) ?_
  refine sv_iret rfl rfl dX1_undoCount_7 ?_
  exact c_R_q hK0 rfl
theorem pm_erc (hK : c_K G mu oc σ A) : sx_C G 100 YX1_errorCode [.ref (mu 0)] σ (c_R [] G mu oc σ (sp_erc A)) := by
  refine sx_body (by decide) (Nat.le_of_ble_eq_true rfl) ?_
  have hK0 := hK
  obtain ⟨sv, nl, hX, hF, hN⟩ := hK
  obtain ⟨Λ0, hV, hzz, hw⟩ := id hF
  have hx := hX.1
  have hnb := hw.1.1
  have hns := hw.1.2.1
  have hX0 : c_X G mu (sx_n σ) oc σ sv nl (A_st A 0) := hX
  have hF0 : c_F G mu (sx_n σ) σ sv (A_v (A_st A 0)) := hF
  refine sv_aload_n dX1_errorCode_0 rfl ?_
  refine sv_get fg_X1_119 dX1_errorCode_1 (sx_rd_c hx) rfl ?_
  refine sv_iret rfl rfl dX1_errorCode_4 ?_
  exact c_R_q hK0 rfl
theorem pm_erp (hK : c_K G mu oc σ A) : sx_C G 100 YX1_errorPosition [.ref (mu 0)] σ (c_R [] G mu oc σ (sp_erp A)) := by
  refine sx_body (by decide) (Nat.le_of_ble_eq_true rfl) ?_
  have hK0 := hK
  obtain ⟨sv, nl, hX, hF, hN⟩ := hK
  obtain ⟨Λ0, hV, hzz, hw⟩ := id hF
  have hx := hX.1
  have hnb := hw.1.1
  have hns := hw.1.2.1
  have hX0 : c_X G mu (sx_n σ) oc σ sv nl (A_st A 0) := hX
  have hF0 : c_F G mu (sx_n σ) σ sv (A_v (A_st A 0)) := hF
  refine sv_aload_n dX1_errorPosition_0 rfl ?_
  refine sv_get fg_X1_72 dX1_errorPosition_1 (sx_rd_c hx) rfl ?_
  refine sv_iret rfl rfl dX1_errorPosition_4 ?_
  exact c_R_q hK0 rfl
end CM6
