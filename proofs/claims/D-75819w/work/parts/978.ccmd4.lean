set_option maxRecDepth 100000
section CM5
variable {G : sx_G} {σ τ : sx_St} {mu : Nat → Nat} {oc lo sv nl cap : Nat} {ow : Nat → Nat} {Λ : Nat → Nat → Nat → Nat} {A : a_A} {V : a_V} {W : Nat → Prop} {c sl : Nat} {N : List a_N}
theorem c_A_lim {x : Int32} (F : h_F (fun q => q = sv) c sl σ τ) (h : c_A G mu oc lo σ sv nl ow Λ cap A) (h1 : sx_c τ sv = some (.inr (1, [.ref (Λ 0 0 0), .ref (Λ 0 2 0), .int x]))) : c_A G mu oc lo τ sv nl ow Λ cap (A_sv A (x, (A_v A).2)) := by
  obtain ⟨g1, ⟨hI, hN, hw0, hlo, hc0⟩, h3, h4, h5⟩ := h
  have t1 := hI.2.1.1
  exact ⟨c_X_lo g1 F (fun q z => hI.2.2.1 q (by rw [z]; omega)) h5, ⟨c_I_lim F hI h1, c_N_w F hN (fun q z => by rw [z]; omega), w_V_lm hw0, Nat.le_trans hlo F.1.1, hc0⟩, h3, h4, h5⟩
theorem c_X_m {n : Nat} (h : c_X G mu n oc σ sv nl A) : ∀ i, 3 ≤ i → i < 7 → ¬ (mu i = mu 0 ∨ mu i = mu 1 ∨ mu i = mu 2) := by
  obtain ⟨hx, ⟨_, _, ⟨_, hq, hda, _⟩, _⟩, hX3, hX4, hX5, hX6⟩ := h
  intro i h3 h7 w
  match i, h3, h7 with
  | 3, _, _ => obtain ⟨fs, z, -⟩ := id hX3; rcases w with w | w | w; exact e_kn z hx rfl w; exact e_kn z hq rfl w; exact hX6.1.2 w.symm
  | 4, _, _ => obtain ⟨fs, z, -⟩ := id hX4; rcases w with w | w | w; exact e_kn z hx rfl w; exact e_kn z hq rfl w; exact e_kn z hda rfl w
  | 5, _, _ => obtain ⟨fs, y, z, -⟩ := id hX5; rcases w with w | w | w; exact e_kn z hx rfl w; exact e_kn z hq rfl w; exact e_kn z hda rfl w
  | 6, _, _ => obtain ⟨fs, y, -, z, -⟩ := id hX5; rcases w with w | w | w; exact e_kn z hx rfl w; exact e_kn z hq rfl w; exact e_kn z hda rfl w
theorem zm_3 {n q : Nat} (zq : c_Zm mu n q) : ¬ (q = mu 0 ∨ q = mu 1 ∨ q = mu 2) := fun w => by rcases w with w | w | w; exact zq.2 0 (by decide) w; exact zq.2 1 (by decide) w; exact zq.2 2 (by decide) w
/-- a server made anew, frozen -/
theorem c_I_F {a n' : Nat} (h1 : c_X G mu n' oc σ sv nl A) (hI : c_I G lo σ ow a Λ V) (hz : c_Z (fun q => ∀ i, i < 7 → q ≠ mu i) Λ V) (hm : ∀ i, i < 7 → mu i < lo) (hw : w_V V) : c_F G mu (sx_n σ) σ a V := ⟨Λ, hI.1, c_I_z h1 hI hz hm, hw⟩
theorem c_Y_z {a n : Nat} {Λ0 Λ2 : Nat → Nat → Nat → Nat} {o : Nat} (hY : c_Y σ a ow Λ0 Λ2 V) (hzz : k_z (c_Zm mu n) o Λ0 V) : c_Z (fun q => ∀ i, i < 7 → q ≠ mu i) Λ2 V := by
  refine ⟨fun i hi => ?_, fun s hs => ?_⟩
  · rw [(hY.2.2.1 i hi).1, (hY.2.2.1 i hi).2]
    have hz9 := hzz.2.2.2.2.2.1 i hi
    exact ⟨hz9.2.2.2.1.2, hz9.2.2.2.2.1.2⟩
  · rw [(hY.2.2.2 s hs).1, (hY.2.2.2 s hs).2]
    have hz9 := hzz.2.2.2.2.2.2 s hs
    exact ⟨hz9.2.2.2.2.1.2, hz9.2.2.2.2.2.2⟩
theorem cpx_lim (hK : c_K G mu oc σ A) {x : Int32} (h : a_in x 1 30 = false) : sx_C G 100 YX1_setLimit [.ref (mu 0), .int x] σ (c_X0 "java/lang/IllegalArgumentException" σ) := by
  refine sx_body (by decide) (Nat.le_of_ble_eq_true rfl) ?_
  obtain ⟨sv, nl, hX, hF, hN⟩ := hK
  obtain ⟨Λ0, hV, hzz, hw⟩ := id hF
  have hx := hX.1
  have hnb := hw.1.1
  have hns := hw.1.2.1
  have hX0 : c_X G mu (sx_n σ) oc σ sv nl (A_st A 0) := hX
  have hF0 : c_F G mu (sx_n σ) σ sv (A_v (A_st A 0)) := hF
  refine sv_iload_n dX1_setLimit_0 rfl ?_
  refine sv_i2l dX1_setLimit_1 ?_
  refine sv_lconst 1 dX1_setLimit_2 (by decide) ?_
  refine sv_ldc2 q1962 dX1_setLimit_3 ?_
  refine sv_csR _ cc_inRange okX1_inRange ks_X1_94 dX1_setLimit_6 rfl rfl (by omega) (Nat.le_of_ble_eq_true rfl) ?_
  refine sv_tI (y := b_I false) (congrArg b_I h) ?_
  refine sv_cs _ cx_A okX1_requireArgument ks_X1_98.1 ks_X1_98.2 dX1_setLimit_9 rfl rfl (by omega) (Nat.le_of_ble_eq_true rfl) (fun v τ h => by obtain ⟨q, e, _⟩ := h; cases e) (fun E q τ h => ?_)
  obtain ⟨q9, e9, F9⟩ := h
  cases e9
  refine sv_out (fun x hx => by cases hx) ?_
  exact ⟨_, rfl, F9⟩
theorem cp_lim (hK : c_K G mu oc σ A) {z : Nat} (hz : g_Z G z) {x : Int32} (h : a_in x 1 30 = true) : sx_C G 100 YX1_setLimit [.ref (mu 0), .int x] σ (c_R ["java/lang/IllegalArgumentException"] G mu oc σ (x_lim (A_st A 0) x)) := by
  refine sx_body (by decide) (Nat.le_of_ble_eq_true rfl) ?_
  have hK0 := hK
  obtain ⟨sv, nl, hX, hF, hN⟩ := hK
  obtain ⟨Λ0, hV, hzz, hw⟩ := id hF
  have hx := hX.1
  have hnb := hw.1.1
  have hns := hw.1.2.1
  have hX0 : c_X G mu (sx_n σ) oc σ sv nl (A_st A 0) := hX
  have hF0 : c_F G mu (sx_n σ) σ sv (A_v (A_st A 0)) := hF
  have hv1 := hV.1
  refine sv_iload_n dX1_setLimit_0 rfl ?_
  refine sv_i2l dX1_setLimit_1 ?_
  refine sv_lconst 1 dX1_setLimit_2 (by decide) ?_
  refine sv_ldc2 q1962 dX1_setLimit_3 ?_
  refine sv_csR _ cc_inRange okX1_inRange ks_X1_94 dX1_setLimit_6 rfl rfl (by omega) (Nat.le_of_ble_eq_true rfl) ?_
  refine sv_tI (y := b_I true) (congrArg b_I h) ?_
  refine sv_csR _ cr_A okX1_requireArgument ks_X1_98 dX1_setLimit_9 rfl rfl (by omega) (Nat.le_of_ble_eq_true rfl) ?_
  refine sv_aload_n dX1_setLimit_12 rfl ?_
  refine sv_get fg_X1_44 dX1_setLimit_13 (sx_rd_c hx) rfl ?_
  refine sv_get fg_X1_180 dX1_setLimit_16 (sx_rd_c hv1) rfl ?_
  refine sv_istore_n dX1_setLimit_19 (by decide) ?_
  refine sv_aload_n dX1_setLimit_20 rfl ?_
  refine sv_cvP _ (cc_change (A := A_st A 0) hX0 hF0 hz) okX1_change kv_X1_325 (sx_rd_c hx) rfl dX1_setLimit_21 rfl rfl (by omega) (Nat.le_of_ble_eq_true rfl) ?_
  intro v6 τ4 hp5
  obtain ⟨a, rfl, nl2, ow2, Λ2, ea, hA2, hB2, FG2⟩ := hp5
  have hv2 := hA2.2.1.1.1.1
  refine sv_iload_n dX1_setLimit_24 rfl ?_
  refine sv_put fp_X1_180 dX1_setLimit_25 hv2 rfl rfl (Nat.le_of_ble_eq_true rfl) ?_
  refine hs_up hv2 (fun τ7 F8 h9 N10 Z11 => ?_)
  have h9 : sx_c τ7 a = some (.inr (1, [.ref (Λ2 0 0 0), .ref (Λ2 0 2 0), .int x])) := h9
  refine sv_iload_n dX1_setLimit_28 rfl ?_
  refine sv_iret rfl rfl dX1_setLimit_29 ?_
  have hA3 := c_A_lim F8 hA2 h9
  exact c_R_ok (x := x_lim (A_st A 0) x) rfl rfl (c_S_B (c_A_K hA3) (c_B_t hB2 (c_B_F F8) (Nat.le_refl _) (Nat.le_refl _)) (by omega) (by omega))
theorem pm_lim (hK : c_K G mu oc σ A) {z : Nat} (hz : g_Z G z) {x : Int32} : sx_C G 100 YX1_setLimit [.ref (mu 0), .int x] σ (c_R ["java/lang/IllegalArgumentException"] G mu oc σ (sp_lim A x)) := by
  unfold sp_lim
  exact c_1 hK (fun h => cpx_lim hK h) (fun h => cp_lim hK hz h)
theorem cpx_kee (hK : c_K G mu oc σ A) {x : Int32} (h : a_in x 0 1 = false) : sx_C G 100 YX1_keep [.ref (mu 0), .int x] σ (c_X0 "java/lang/IndexOutOfBoundsException" σ) := by
  refine sx_body (by decide) (Nat.le_of_ble_eq_true rfl) ?_
  obtain ⟨sv, nl, hX, hF, hN⟩ := hK
  obtain ⟨Λ0, hV, hzz, hw⟩ := id hF
  have hx := hX.1
  have hnb := hw.1.1
  have hns := hw.1.2.1
  have hX0 : c_X G mu (sx_n σ) oc σ sv nl (A_st A 0) := hX
  have hF0 : c_F G mu (sx_n σ) σ sv (A_v (A_st A 0)) := hF
  refine sv_iload_n dX1_keep_0 rfl ?_
  refine sv_cs _ (cgx_slot h) okX1_requireSlot ks_X1_419.1 ks_X1_419.2 dX1_keep_1 rfl rfl (by omega) (Nat.le_of_ble_eq_true rfl) (fun v τ h => by obtain ⟨q, e, _⟩ := h; cases e) (fun E q τ h => ?_)
  obtain ⟨q9, e9, F9⟩ := h
  cases e9
  refine sv_out (fun x hx => by cases hx) ?_
  exact ⟨_, rfl, F9⟩
theorem in_01 {x : Int32} (h : a_in x 0 1 = true) : ∃ j : Nat, j < 2 ∧ x = nI j := by
  have h := of_decide_eq_true h
  rw [Int64.le_iff_toInt_le, Int64.le_iff_toInt_le, Int32.toInt_toInt64, Int32.toInt_toInt64, Int32.toInt_toInt64] at h
  have h1 : (0 : Int) ≤ x.toInt := h.1
  have h2 : x.toInt ≤ 1 := h.2
  by_cases hx : x.toInt = 0
  · exact ⟨0, by omega, Int32.toInt_inj.mp (by rw [hx]; rfl)⟩
  · exact ⟨1, by omega, Int32.toInt_inj.mp (by rw [show x.toInt = 1 by omega]; rfl)⟩
theorem cp_kee (hK : c_K G mu oc σ A) {jj : Nat} (hjj : jj < 2) : sx_C G 100 YX1_keep [.ref (mu 0), .int (nI jj)] σ (c_R ["java/lang/IndexOutOfBoundsException"] G mu oc σ ((a_tot (A_v A), s_ke (A_st A 0) jj))) := by
  refine sx_body (by decide) (Nat.le_of_ble_eq_true rfl) ?_
  have hK0 := hK
  obtain ⟨sv, nl, hX, hF, hN⟩ := hK
  obtain ⟨Λ0, hV, hzz, hw⟩ := id hF
  have hx := hX.1
  have hnb := hw.1.1
  have hns := hw.1.2.1
  have hX0 : c_X G mu (sx_n σ) oc σ sv nl (A_st A 0) := hX
  have hF0 : c_F G mu (sx_n σ) σ sv (A_v (A_st A 0)) := hF
  obtain ⟨fs, hsl, hks, -⟩ := id hX.2.2.1
  have lsv := sx_lt hV.1
  obtain ⟨a, ea⟩ : ∃ a, a = sx_n σ := ⟨_, rfl⟩
  have hjs : a_in (nI jj) 0 1 = true := by match jj, hjj with | 0, _ => decide +kernel | 1, _ => decide +kernel
  have FF0 : h_F (fun q => q = a) 0 0 σ σ := h_F_r
  refine sv_iload_n dX1_keep_0 rfl ?_
  refine sv_csR _ (cg_slot hjs) okX1_requireSlot ks_X1_419 dX1_keep_1 rfl rfl (by omega) (Nat.le_of_ble_eq_true rfl) ?_
  refine sv_aload_n dX1_keep_4 rfl ?_
  refine sv_get fg_X1_57 dX1_keep_5 (sx_rd_c hx) rfl ?_
  refine sv_iload_n dX1_keep_8 rfl ?_
  refine sv_new fn_X1_41 dX1_keep_9 ?_
  refine hs_al (fun a1 τ12 E17 F13 h14 N15 Z16 => ?_)
  have hx' := h_F_c F13 hx (fun z => z)
  have hsl' := h_F_c F13 hsl (fun z => z)
  have FF18 := h_F_u FF0 F13 (fun _ _ z => z) (fun _ _ z => z.elim) (Nat.le_refl _) (Nat.le_refl _)
  have h14 : sx_c τ12 a1 = some (.inr (1, [.null, .null, .int (nI 0)])) := by rw [nI_0]; exact h14
  refine sv_dup dX1_keep_12 rfl ?_
  refine sv_aload_n dX1_keep_13 rfl ?_
  refine sv_get fg_X1_44 dX1_keep_14 (sx_rd_c hx') rfl ?_
  have FFp : h_F (fun _ => False) _ _ σ _ := F13
  obtain rfl : a1 = a := by omega
  refine sv_ciP _ (cc_vinit2 (k_V_Z hV hzz FFp (fun _ _ z => z)) hw (by omega) h14) okX2_init_2 ki_X1_113 dX1_keep_17 rfl rfl (by omega) (Nat.le_of_ble_eq_true rfl) ?_
  intro v22 τ20 hp21
  obtain ⟨rfl, ow2, Λ2, hI2, hY2, F19⟩ := hp21
  have N23 := (F19).1.1
  have hx'' := h_F_c F19 hx' (e_kn hx' h14 rfl)
  have hsl'' := h_F_c F19 hsl' (e_kn hsl' h14 rfl)
  have FF24 := h_F_u FF18 F19 (fun _ _ z => z) (by intro q hq hz; omega) (Nat.le_refl _) (Nat.le_refl _)
  have FF2 := FF24
  have hmu := c_X_mu hX
  have zW : ∀ q, c_Zm mu (sx_n σ) q → ¬ (q = a1) := fun q zq w => by have := zq.1; omega
  have hX2 := c_X_fr hX FF2 zW (fun i hi w => by have := hmu i hi; omega)
  have hmu2 : ∀ i, i < 7 → mu i < a1 := fun i hi => by have := hmu i hi; omega
  have hcz := c_Y_z hY2 hzz
  have hFa := c_I_F hX2 hI2 hcz hmu2 hw
  have n2 := FF2.1.1
  refine sv_aast 6 rfl (sx_rd_c hI2.1.1) rfl (Or.inl rfl) dX1_keep_20 hsl'' (vp_in_nI (by omega) (by omega)) ?_
  rw [nI_clamp (show jj < 2 ^ 31 by omega)]
  refine hs_up hsl'' (fun τ25 F26 h27 N28 Z29 => ?_)
  have h27 : sx_c τ25 ((mu 3)) = some (.inl (sg_a G 6, 2, .inr (.inr (.inr (.inr ((va_up fs jj (some a1)))))))) := h27
  have hx''' := h_F_c F26 hx'' (e_kn hx'' hsl'' rfl)
  have F3 := F26
  have n3 := F3.1.1
  have zW3 : ∀ n q, c_Zm mu n q → ¬ (q = mu 3) := fun n q zq w => zq.2 3 (by decide) w
  have hF2 : c_F G mu (sx_n _) _ sv (A_v A) := c_F_fr hF FF2 zW (Nat.le_refl _)
  have hF3 := c_F_fr hF2 F3 (zW3 _) (Nat.le_refl _)
  obtain ⟨Λ3, hV3, -⟩ := id hF3
  refine sv_aload_n dX1_keep_21 rfl ?_
  refine sv_get fg_X1_44 dX1_keep_22 (sx_rd_c hx''') rfl ?_
  refine sv_cvR _ (cc_messages hV3) okX2_messages kv_X1_142 (sx_rd_c hV3.1) rfl dX1_keep_25 rfl rfl (by omega) (Nat.le_of_ble_eq_true rfl) ?_
  refine sv_iret rfl rfl dX1_keep_28 ?_
  obtain ⟨hx3, hXh, hXk, hXi, hXo, hX6, hX7⟩ := c_X_n hX2 (n' := sx_n _) n2 (Nat.le_refl _)
  obtain ⟨_, _, _, hkp⟩ := id hXk
  have mne : ∀ i, i < 7 → i ≠ 3 → ¬ (mu i = mu 3) := fun i hi h3 w => ?_
  have hFa3 := c_F_fr hFa F3 (zW3 _) n3
  have hX3 : c_X G mu (sx_n _) oc _ sv nl (s_ke (A_st A 0) jj) := ⟨h_F_c F3 hx3 (mne 0 (by decide) (by decide)), c_Xh_fr hXh F3 (zW3 _) (mne 1 (by decide) (by decide)) (mne 2 (by decide) (by decide)) n3, ⟨_, h27, fun k hk => ?_, fun q e hq => ⟨h_F_c F3 (hkp q e hq).1 (zW3 _ q (hkp q e hq).2), c_Zm_le (hkp q e hq).2 n3⟩⟩, c_Xi_fr hXi F3 (mne 4 (by decide) (by decide)), c_Xo_fr hXo F3 (mne 5 (by decide) (by decide)) (mne 6 (by decide) (by decide)), hX6, Nat.le_refl _⟩
  refine c_R_ok (x := (a_tot (A_v A), s_ke (A_st A 0) jj)) rfl rfl (c_S_B ⟨sv, nl, hX3, c_F_fr (c_F_fr hF FF2 zW n2) F3 (zW3 _) n3, c_Fn_fr (c_Fn_fr hN FF2 zW n2) F3 (zW3 _) n3⟩ (c_B_t (c_B_F FF2) (c_B_F F3) (Nat.le_refl _) (Nat.le_refl _)) (by omega) (by omega))
  · show ((if k = jj then some (A_v A) else A_k A k) = none → va_up fs jj (some a1) k = none) ∧ ∀ V, (if k = jj then some (A_v A) else A_k A k) = some V → ∃ a, va_up fs jj (some a1) k = some a ∧ _
    unfold va_up
    by_cases hkj : k = jj
    · rw [if_pos hkj, if_pos hkj]
      exact ⟨fun z => (by cases z), fun V hV9 => ⟨a1, rfl, by cases hV9; exact hFa3⟩⟩
    · rw [if_neg hkj, if_neg hkj]
      refine ⟨(hks k hk).1, fun V hV9 => ?_⟩
      obtain ⟨a9, e9, f9⟩ := (hks k hk).2 V hV9
      exact ⟨a9, e9, c_F_fr (c_F_fr f9 FF2 zW n2) F3 (zW3 _) n3⟩
  · have hm := c_X_m hX2
    match i, hi, h3 with
    | 0, _, _ => exact hm 3 (by decide) (by decide) (Or.inl w.symm)
    | 1, _, _ => exact hm 3 (by decide) (by decide) (Or.inr (Or.inl w.symm))
    | 2, _, _ => exact hm 3 (by decide) (by decide) (Or.inr (Or.inr w.symm))
    | 4, _, _ => obtain ⟨_, z, -⟩ := hXi; obtain ⟨_, y, -⟩ := hXk; exact e_kn z y rfl w
    | 5, _, _ => obtain ⟨_, _, z, -⟩ := hXo; obtain ⟨_, y, -⟩ := hXk; exact e_kn z y rfl w
    | 6, _, _ => obtain ⟨_, _, -, z, -⟩ := hXo; obtain ⟨_, y, -⟩ := hXk; exact e_kn z y rfl w
theorem pm_kee (hK : c_K G mu oc σ A) {x : Int32} : sx_C G 100 YX1_keep [.ref (mu 0), .int x] σ (c_R ["java/lang/IndexOutOfBoundsException"] G mu oc σ (sp_kee A x)) := by
  unfold sp_kee
  refine c_1 hK (fun h => cpx_kee hK h) (fun h => ?_)
  obtain ⟨jj, hjj, rfl⟩ := in_01 h
  rw [nI_clamp (by omega)]
  exact cp_kee hK hjj
end CM5
