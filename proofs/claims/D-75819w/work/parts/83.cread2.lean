set_option maxRecDepth 100000
section CSS
variable {G : sx_G} {σ τ : sx_St} {a : Nat} {Λ : Nat → Nat → Nat → Nat} {V : a_V}
theorem cm_named (hG : g_L G) {f l : Int32} : sx_Cp G 80 YX1_named [.int f, .int l] σ (fun v τ => ∃ te, v = some (.ref te) ∧ sx_n σ ≤ te ∧ sx_c τ te = some (.inr (17, [.int f, .int l])) ∧ h_F (fun q => False) 1 2 σ τ) := by
  refine sx_body (by decide) (Nat.le_of_ble_eq_true rfl) ?_
  have FF0 : h_F (fun q => False) 0 0 σ σ := h_F_r
  refine sv_iload_n dX1_named_0 rfl ?_
  refine sv_iload_n dX1_named_1 rfl ?_
  refine sv_lamM (i := 0) (f := sh_0) (code := sh_0_c) (ix := [16, 18]) (im := 26) [.int f, .int l] _ hG rfl sh_0_k rfl rfl rfl (by
    intro j ty v h1 h2
    match j, h1, h2 with
    | 0, h1, h2 => cases h1; cases h2; exact ⟨rfl, rfl⟩
    | 1, h1, h2 => cases h1; cases h2; exact ⟨rfl, rfl⟩
    | j + 2, h1, h2 => cases h1) dX1_named_2 rfl (by omega) (Nat.le_of_ble_eq_true rfl) ?_
  refine hs_al (fun te τ4 E9 F5 h6 N7 Z8 => ?_)
  have FF10 := h_F_u FF0 F5 (fun _ _ z => z) (fun _ _ z => z.elim) (Nat.le_refl _) (Nat.le_refl _)
  have h6 : sx_c τ4 te = some (.inr (17, [.int f, .int l])) := h6
  refine sv_aret (Or.inr ⟨_, rfl⟩) (Or.inl ⟨_, rfl⟩) rfl dX1_named_7 ?_
  exact ⟨_, rfl, te, rfl, by omega, h6, h_F_w FF10 (fun _ _ z => z) (Nat.le_of_ble_eq_true rfl) (Nat.le_of_ble_eq_true rfl)⟩
theorem cm_flagged (hG : g_L G) {f : Int32} : sx_Cp G 80 YX1_flagged [.int f] σ (fun v τ => ∃ te, v = some (.ref te) ∧ sx_n σ ≤ te ∧ sx_c τ te = some (.inr (18, [.int f])) ∧ h_F (fun q => False) 1 1 σ τ) := by
  refine sx_body (by decide) (Nat.le_of_ble_eq_true rfl) ?_
  have FF0 : h_F (fun q => False) 0 0 σ σ := h_F_r
  refine sv_iload_n dX1_flagged_0 rfl ?_
  refine sv_lamM (i := 1) (f := sh_1) (code := sh_1_c) (ix := [15]) (im := 23) [.int f] _ hG rfl sh_1_k rfl rfl rfl (by
    intro j ty v h1 h2
    match j, h1, h2 with
    | 0, h1, h2 => cases h1; cases h2; exact ⟨rfl, rfl⟩
    | j + 1, h1, h2 => cases h1) dX1_flagged_1 rfl (by omega) (Nat.le_of_ble_eq_true rfl) ?_
  refine hs_al (fun te τ11 E16 F12 h13 N14 Z15 => ?_)
  have FF17 := h_F_u FF0 F12 (fun _ _ z => z) (fun _ _ z => z.elim) (Nat.le_refl _) (Nat.le_refl _)
  have h13 : sx_c τ11 te = some (.inr (18, [.int f])) := h13
  refine sv_aret (Or.inr ⟨_, rfl⟩) (Or.inl ⟨_, rfl⟩) rfl dX1_flagged_6 ?_
  exact ⟨_, rfl, te, rfl, by omega, h13, h_F_w FF17 (fun _ _ z => z) (Nat.le_of_ble_eq_true rfl) (Nat.le_of_ble_eq_true rfl)⟩
theorem cm_not (hG : g_L G) {b : Nat} : sx_Cp G 80 YX1_not [.ref b] σ (fun v τ => ∃ te, v = some (.ref te) ∧ sx_n σ ≤ te ∧ sx_c τ te = some (.inr (19, [.ref b])) ∧ h_F (fun q => False) 1 1 σ τ) := by
  refine sx_body (by decide) (Nat.le_of_ble_eq_true rfl) ?_
  have FF0 : h_F (fun q => False) 0 0 σ σ := h_F_r
  refine sv_aload_n dX1_not_0 rfl ?_
  refine sv_lamM (i := 2) (f := sh_2) (code := sh_2_c) (ix := [15]) (im := 23) [.ref b] _ hG rfl sh_2_k rfl rfl rfl (by
    intro j ty v h1 h2
    match j, h1, h2 with
    | 0, h1, h2 => cases h1; cases h2; exact ⟨rfl, rfl⟩
    | j + 1, h1, h2 => cases h1) dX1_not_1 rfl (by omega) (Nat.le_of_ble_eq_true rfl) ?_
  refine hs_al (fun te τ18 E23 F19 h20 N21 Z22 => ?_)
  have FF24 := h_F_u FF0 F19 (fun _ _ z => z) (fun _ _ z => z.elim) (Nat.le_refl _) (Nat.le_refl _)
  have h20 : sx_c τ18 te = some (.inr (19, [.ref b])) := h20
  refine sv_aret (Or.inr ⟨_, rfl⟩) (Or.inl ⟨_, rfl⟩) rfl dX1_not_6 ?_
  exact ⟨_, rfl, te, rfl, by omega, h20, h_F_w FF24 (fun _ _ z => z) (Nat.le_of_ble_eq_true rfl) (Nat.le_of_ble_eq_true rfl)⟩
theorem cm_both (hG : g_L G) {b c : Nat} : sx_Cp G 80 YX1_both [.ref b, .ref c] σ (fun v τ => ∃ te, v = some (.ref te) ∧ sx_n σ ≤ te ∧ sx_c τ te = some (.inr (25, [.ref b, .ref c])) ∧ h_F (fun q => False) 1 2 σ τ) := by
  refine sx_body (by decide) (Nat.le_of_ble_eq_true rfl) ?_
  have FF0 : h_F (fun q => False) 0 0 σ σ := h_F_r
  refine sv_aload_n dX1_both_0 rfl ?_
  refine sv_aload_n dX1_both_1 rfl ?_
  refine sv_lamM (i := 8) (f := sh_8) (code := sh_8_c) (ix := [16, 18]) (im := 26) [.ref b, .ref c] _ hG rfl sh_8_k rfl rfl rfl (by
    intro j ty v h1 h2
    match j, h1, h2 with
    | 0, h1, h2 => cases h1; cases h2; exact ⟨rfl, rfl⟩
    | 1, h1, h2 => cases h1; cases h2; exact ⟨rfl, rfl⟩
    | j + 2, h1, h2 => cases h1) dX1_both_2 rfl (by omega) (Nat.le_of_ble_eq_true rfl) ?_
  refine hs_al (fun te τ25 E30 F26 h27 N28 Z29 => ?_)
  have FF31 := h_F_u FF0 F26 (fun _ _ z => z) (fun _ _ z => z.elim) (Nat.le_refl _) (Nat.le_refl _)
  have h27 : sx_c τ25 te = some (.inr (25, [.ref b, .ref c])) := h27
  refine sv_aret (Or.inr ⟨_, rfl⟩) (Or.inl ⟨_, rfl⟩) rfl dX1_both_7 ?_
  exact ⟨_, rfl, te, rfl, by omega, h27, h_F_w FF31 (fun _ _ z => z) (Nat.le_of_ble_eq_true rfl) (Nat.le_of_ble_eq_true rfl)⟩
theorem cm_either (hG : g_L G) {b c : Nat} : sx_Cp G 80 YX1_either [.ref b, .ref c] σ (fun v τ => ∃ te, v = some (.ref te) ∧ sx_n σ ≤ te ∧ sx_c τ te = some (.inr (26, [.ref b, .ref c])) ∧ h_F (fun q => False) 1 2 σ τ) := by
  refine sx_body (by decide) (Nat.le_of_ble_eq_true rfl) ?_
  have FF0 : h_F (fun q => False) 0 0 σ σ := h_F_r
  refine sv_aload_n dX1_either_0 rfl ?_
  refine sv_aload_n dX1_either_1 rfl ?_
  refine sv_lamM (i := 9) (f := sh_9) (code := sh_9_c) (ix := [16, 18]) (im := 26) [.ref b, .ref c] _ hG rfl sh_9_k rfl rfl rfl (by
    intro j ty v h1 h2
    match j, h1, h2 with
    | 0, h1, h2 => cases h1; cases h2; exact ⟨rfl, rfl⟩
    | 1, h1, h2 => cases h1; cases h2; exact ⟨rfl, rfl⟩
    | j + 2, h1, h2 => cases h1) dX1_either_2 rfl (by omega) (Nat.le_of_ble_eq_true rfl) ?_
  refine hs_al (fun te τ32 E37 F33 h34 N35 Z36 => ?_)
  have FF38 := h_F_u FF0 F33 (fun _ _ z => z) (fun _ _ z => z.elim) (Nat.le_refl _) (Nat.le_refl _)
  have h34 : sx_c τ32 te = some (.inr (26, [.ref b, .ref c])) := h34
  refine sv_aret (Or.inr ⟨_, rfl⟩) (Or.inl ⟨_, rfl⟩) rfl dX1_either_7 ?_
  exact ⟨_, rfl, te, rfl, by omega, h34, h_F_w FF38 (fun _ _ z => z) (Nat.le_of_ble_eq_true rfl) (Nat.le_of_ble_eq_true rfl)⟩
theorem cm_range (hG : g_L G) {x b : Nat} {f l : Int32} : sx_Cp G 80 YX2_range [.ref x, .ref b, .int f, .int l] σ (fun v τ => ∃ te, v = some (.ref te) ∧ sx_n σ ≤ te ∧ sx_c τ te = some (.inr (27, [.ref b, .int f, .int l])) ∧ h_F (fun q => False) 1 3 σ τ) := by
  refine sx_body (by decide) (Nat.le_of_ble_eq_true rfl) ?_
  have FF0 : h_F (fun q => False) 0 0 σ σ := h_F_r
  refine sv_aload_n dX2_range_0 rfl ?_
  refine sv_iload_n dX2_range_1 rfl ?_
  refine sv_iload_n dX2_range_2 rfl ?_
  refine sv_lamM (i := 10) (f := sh_10) (code := sh_10_c) (ix := [18, 20, 22]) (im := 30) [.ref b, .int f, .int l] _ hG rfl sh_10_k rfl rfl rfl (by
    intro j ty v h1 h2
    match j, h1, h2 with
    | 0, h1, h2 => cases h1; cases h2; exact ⟨rfl, rfl⟩
    | 1, h1, h2 => cases h1; cases h2; exact ⟨rfl, rfl⟩
    | 2, h1, h2 => cases h1; cases h2; exact ⟨rfl, rfl⟩
    | j + 3, h1, h2 => cases h1) dX2_range_3 rfl (by omega) (Nat.le_of_ble_eq_true rfl) ?_
  refine hs_al (fun te τ39 E44 F40 h41 N42 Z43 => ?_)
  have FF45 := h_F_u FF0 F40 (fun _ _ z => z) (fun _ _ z => z.elim) (Nat.le_refl _) (Nat.le_refl _)
  have h41 : sx_c τ39 te = some (.inr (27, [.ref b, .int f, .int l])) := h41
  refine sv_aret (Or.inr ⟨_, rfl⟩) (Or.inl ⟨_, rfl⟩) rfl dX2_range_8 ?_
  exact ⟨_, rfl, te, rfl, by omega, h41, h_F_w FF45 (fun _ _ z => z) (Nat.le_of_ble_eq_true rfl) (Nat.le_of_ble_eq_true rfl)⟩
theorem cc_isChanged (hV : k_V G σ a Λ V) {s : Nat} (hs : s < V.2.2.length) {b : Nat} (hbx : a_bx V s = some b) (hb : b < V.2.1.length) {k : Nat} (hk : k < (a_es V s).length) : sx_Cr G 6 YX2_isChanged [.ref a, .ref (Λ 3 s 0), .int (nI k)] σ (some (.int (b_I (a_ot V s k)))) σ := by
  refine sx_body (by decide) (Nat.le_of_ble_eq_true rfl) ?_
  have hV0 := hV
  obtain ⟨hv1, hv2, hv3, hv4, hv5⟩ := hV
  obtain ⟨mcb, fb, hlb, hab, b1, b2, b3, -⟩ := id hv2
  obtain ⟨mcs, fs, hls, has, s1, s2, s3, -⟩ := id hv3
  obtain ⟨fu, ft, fa, hso, hu, ht, hac, ⟨n1, n2, n3⟩, hl, eu, et, ea⟩ := k_V_ses hV0 hs
  refine sv_aload_n dX2_isChanged_0 rfl ?_
  refine sv_aload_n dX2_isChanged_1 rfl ?_
  refine sv_iload_n dX2_isChanged_2 rfl ?_
  refine sv_cvR _ (cc_at hV0 hs hbx hb (k := k) hk) okX2_at kv_X2_91 (sx_rd_c hv1) rfl dX2_isChanged_3 rfl rfl (by omega) (Nat.le_of_ble_eq_true rfl) ?_
  refine sv_astore_nq dX2_isChanged_6 (by decide) ?_
  refine sv_aload_nq dX2_isChanged_7 rfl ?_
  refine sv_ifnullq (tgt := 28) dX2_isChanged_8 (by decide) (fun c8 => ?_) (fun a8 c8 => ?_)
  · have h0 : a_ot V s k = false := by unfold a_ot a_go; rw [Option.map_eq_none_iff.mp c8]; rfl
    refine sv_iconst (nI 0) dX2_isChanged_28 (by decide +kernel) ?_
    refine sv_iret (by first | exact b_I_nar _ | rfl) rfl dX2_isChanged_29 ?_
    exact ⟨_, rfl, r_I (by rw [h0]; rfl), rfl⟩
  · obtain ⟨m, hm, rfl⟩ := Option.map_eq_some_iff.mp c8
    have hm9 := hm
    rw [a_mo_b hbx] at hm9
    have hml := a_find_lt hm9
    have hmm : k_M σ (Λ 2 b m) (a_m V b m) := (hv4 b hb).1.2.2 m hml
    have h1 : a_ot V s k = (a_fl V s k != (a_e V s k).2) := by unfold a_ot a_go; rw [hm]; rfl
    rw [a_fl_b hbx hm] at h1
    rw [hm]
    refine sv_aload_n dX2_isChanged_11 rfl ?_
    refine sv_get fg_X2_99 dX2_isChanged_12 (sx_rd_c hmm) rfl ?_
    refine sv_aload_n dX2_isChanged_15 rfl ?_
    refine sv_get fg_X2_102 dX2_isChanged_16 (sx_rd_c hso) rfl ?_
    refine sv_iload_n dX2_isChanged_19 rfl ?_
    refine sv_iald dX2_isChanged_20 (sx_rd_c ht) (vp_in_nI (by omega) (by omega)) ?_
    rw [nI_clamp (show k < 2 ^ 31 by omega)]
    refine sv_tI (y := (a_e V s k).2) (et k hk) ?_
    refine sv_icmp_eq (tgt := 28) dX2_isChanged_21 (by decide) (fun c21 => ?_) (fun c21 => ?_)
    · have h0 : a_ot V s k = false := by rw [h1]; exact bne_eq_false_iff_eq.mpr c21
      refine sv_iconst (nI 0) dX2_isChanged_28 (by decide +kernel) ?_
      refine sv_iret (by first | exact b_I_nar _ | rfl) rfl dX2_isChanged_29 ?_
      exact ⟨_, rfl, r_I (by rw [h0]; rfl), rfl⟩
    · have h0 : a_ot V s k = true := by rw [h1]; exact bne_iff_ne.mpr c21
      refine sv_iconst (nI 1) dX2_isChanged_24 (by decide +kernel) ?_
      refine sv_goto (tgt := 29) dX2_isChanged_25 (by decide) ?_
      refine sv_iret (by first | exact b_I_nar _ | rfl) rfl dX2_isChanged_29 ?_
      exact ⟨_, rfl, r_I (by rw [h0]; rfl), rfl⟩
theorem cc_changed (hV : k_V G σ a Λ V) {s : Nat} (hs : s < V.2.2.length) (hw : ∀ b, a_bx V s = some b → b < V.2.1.length) (hw2 : a_bx V s = none → a_es V s = []) : sx_Cr G 7 YX2_changed [.ref a, .ref (Λ 3 s 0)] σ (some (.int (nI (a_om V s)))) σ := by
  have loop : ∀ r k, k ≤ (a_es V s).length → (a_es V s).length + 1 ≤ k + r → sx_V G 7 YX2_changed 4 [some (.ref a), some (.ref (Λ 3 s 0)), some (.int (nI ((List.range k).countP (a_ot V s)))), some (.int (nI k))] [] σ (fun o τ => ∃ v, o = .inl v ∧ v = (some (.int (nI (a_om V s)))) ∧ τ = σ) := by
    have hV0 := hV
    obtain ⟨hv1, hv2, hv3, hv4, hv5⟩ := hV
    obtain ⟨mcb, fb, hlb, hab, b1, b2, b3, -⟩ := id hv2
    obtain ⟨mcs, fs, hls, has, s1, s2, s3, -⟩ := id hv3
    obtain ⟨fu, ft, fa, hso, hu, ht, hac, ⟨n1, n2, n3⟩, hl, eu, et, ea⟩ := k_V_ses hV0 hs
    intro r
    induction r with
    | zero => intro k h1 h2; omega
    | succ r ih =>
    intro k hk1 hk2
    refine sv_iload_n dX2_changed_4 rfl ?_
    refine sv_aload_n dX2_changed_5 rfl ?_
    refine sv_get fg_X2_105 dX2_changed_6 (sx_rd_c hso) rfl ?_
    refine sv_icmp_geN (tgt := 30) dX2_changed_9 (by decide) (by omega) (by omega) (fun c9 => ?_) (fun c9 => ?_)
    · refine sv_iload_n dX2_changed_30 rfl ?_
      refine sv_iret rfl rfl dX2_changed_31 ?_
      exact ⟨_, rfl, r_I (by unfold a_om; rw [show k = (a_es V s).length by omega]), rfl⟩
    · have hkn : k < (a_es V s).length := by omega
      obtain ⟨b, hbx⟩ : ∃ b, a_bx V s = some b := by
        cases hz : a_bx V s with
        | none => have h8 := hw2 hz; rw [h8] at hkn; exact absurd hkn (Nat.not_lt_zero _)
        | some b => exact ⟨b, rfl⟩
      have hb := hw b hbx
      refine sv_iload_n dX2_changed_12 rfl ?_
      refine sv_aload_n dX2_changed_13 rfl ?_
      refine sv_aload_n dX2_changed_14 rfl ?_
      refine sv_iload_n dX2_changed_15 rfl ?_
      refine sv_cvR _ (cc_isChanged hV0 hs hbx hb (k := k) (by omega)) okX2_isChanged kv_X2_107 (sx_rd_c hv1) rfl dX2_changed_16 rfl rfl (by omega) (Nat.le_of_ble_eq_true rfl) ?_
      refine sv_cnR _ (cc_count (c := a_ot V s k)) okX1_count ks_X2_95 dX2_changed_19 rfl rfl (by omega) (Nat.le_of_ble_eq_true rfl) ?_
      refine sv_iaddN dX2_changed_22 ?_
      refine sv_istore_n dX2_changed_23 (by decide) ?_
      refine sv_iincN dX2_changed_24 rfl (by decide) ?_
      refine sv_goto (tgt := 4) dX2_changed_27 (by decide) ?_
      rw [← countP_rs]
      exact ih (k + 1) (by omega) (by omega)
  refine sx_body (by decide) (Nat.le_of_ble_eq_true rfl) ?_
  have hes : (a_es V s).length ≤ 60 := by obtain ⟨_, _, _, _, _, _, _, _, h, _⟩ := k_V_ses hV hs; exact h
  refine sv_iconst (nI 0) dX2_changed_0 (by decide +kernel) ?_
  refine sv_istore_n dX2_changed_1 (by decide) ?_
  refine sv_iconst (nI 0) dX2_changed_2 (by decide +kernel) ?_
  refine sv_istore_n dX2_changed_3 (by decide) ?_
  exact loop ((a_es V s).length + 1) 0 (by omega) (by omega)
theorem in_fresh (u l : Int32) (hl : l.toInt < 2147483647) : a_in u (l + 1) 2147483647 = decide (l < u) := by
  unfold a_in
  refine decide_eq_decide.mpr ?_
  have h1 : (l + 1).toInt = l.toInt + 1 := by
    rw [Int32.toInt_add]
    have := Int32.le_toInt l
    rw [show (1 : Int32).toInt = 1 from rfl, Int.bmod_eq_of_le (by omega) (by omega)]
  rw [i64_le, i64_le, Int32.le_iff_toInt_le, Int32.le_iff_toInt_le, Int32.lt_iff_toInt_lt, h1]
  have h2 := Int32.toInt_lt u
  have h3 : (2147483647 : Int32).toInt = 2147483647 := rfl
  rw [h3]
  omega
theorem cc_fresh (hG : g_L G) (hV : k_V G σ a Λ V) {s : Nat} (hs : s < V.2.2.length) (hw : ∀ b, a_bx V s = some b → b < V.2.1.length) (hw2 : a_bx V s = none → a_es V s = []) (hl9 : ∀ b, a_bx V s = some b → (a_ls V s).toInt < 2147483647) : sx_Cp G 90 YX2_fresh [.ref a, .ref (Λ 3 s 0)] σ (fun v τ => v = some (.int (nI (a_nm V s))) ∧ h_F (fun q => False) 1 2 σ τ) := by
  refine sx_body (by decide) (Nat.le_of_ble_eq_true rfl) ?_
  have hV0 := hV
  obtain ⟨hv1, hv2, hv3, hv4, hv5⟩ := hV
  obtain ⟨mcb, fb, hlb, hab, b1, b2, b3, -⟩ := id hv2
  obtain ⟨mcs, fs, hls, has, s1, s2, s3, -⟩ := id hv3
  obtain ⟨fu, ft, fa, hso, hu, ht, hac, ⟨n1, n2, n3⟩, hl, eu, et, ea⟩ := k_V_ses hV0 hs
  have FF0 : h_F (fun q => False) 0 0 σ σ := h_F_r
  refine sv_aload_n dX2_fresh_0 rfl ?_
  refine sv_get fg_X2_65 dX2_fresh_1 (sx_rd_c hso) rfl ?_
  refine sv_iconst (-1) dX2_fresh_4 (by decide +kernel) ?_
  refine sv_icmp_ne (tgt := 12) dX2_fresh_5 (by decide) (fun c5 => ?_) (fun c5 => ?_)
  · obtain ⟨b, hbx⟩ : ∃ b, a_bx V s = some b := by
      cases hz : a_bx V s with
      | none => rw [hz] at c5; exact absurd rfl c5
      | some b => exact ⟨b, rfl⟩
    have hb := hw b hbx
    refine sv_aload_n dX2_fresh_12 rfl ?_
    refine sv_get fg_X2_14 dX2_fresh_13 (sx_rd_c hv1) rfl ?_
    refine sv_aload_n dX2_fresh_16 rfl ?_
    refine sv_get fg_X2_65 dX2_fresh_17 (sx_rd_c hso) rfl ?_
    refine sv_tI (y := nI b) (by rw [hbx]; rfl) ?_
    refine sv_cvR _ (cj_get hv2 (i := b) hb) okJ2_get kv_X2_33 (sx_rd_c hlb) rfl dX2_fresh_20 rfl rfl (by omega) (Nat.le_of_ble_eq_true rfl) ?_
    have hbb46 := (hv4 b hb).1.1
    refine sv_cast (C0 := "") (sx_rd_c hbb46) rfl q826 dX2_fresh_23 ?_
    refine sv_aload_n dX2_fresh_26 rfl ?_
    refine sv_get fg_X2_80 dX2_fresh_27 (sx_rd_c hso) rfl ?_
    refine sv_iconst (nI 1) dX2_fresh_30 (by decide +kernel) ?_
    refine sv_iadd dX2_fresh_31 ?_
    refine sv_ldc q1260 dX2_fresh_32 ?_
    refine sv_cnP _ (cm_named hG) okX1_named ks_X2_114 dX2_fresh_34 rfl rfl (by omega) (Nat.le_of_ble_eq_true rfl) ?_
    intro v53 τ51 hp52
    obtain ⟨t50, rfl, n49, h48, F47⟩ := hp52
    have N54 := (F47).1.1
    have hv1' := h_F_c F47 hv1 (fun z => z)
    have hlb' := h_F_c F47 hlb (fun z => z)
    have hls' := h_F_c F47 hls (fun z => z)
    have hso' := h_F_c F47 hso (fun z => z)
    have hu' := h_F_c F47 hu (fun z => z)
    have ht' := h_F_c F47 ht (fun z => z)
    have hac' := h_F_c F47 hac (fun z => z)
    have hbb46' := h_F_c F47 hbb46 (fun z => z)
    have FF55 := h_F_u FF0 F47 (fun _ _ z => z) (fun _ _ z => z.elim) (Nat.le_refl _) (Nat.le_refl _)
    have hbc := h_F_c F47 (hv4 b hb).1.1 (fun z => z)
    refine sv_cvR _ (cc_many (n := 1) (p := fun m => decide (a_ls V s < m.1)) (k_B_fr F47 (hv4 b hb).1 (fun z => z) (fun z => z) (fun z => z) (fun _ _ z => z)) hG (Or.inl ⟨_, _, sx_rd_c h48, fun m => (in_fresh m.1 _ (hl9 b hbx)).symm⟩)) okX6_many kv_X2_117 (sx_rd_c hbc) rfl dX2_fresh_37 rfl rfl (by omega) (Nat.le_of_ble_eq_true rfl) ?_
    refine sv_iret rfl rfl dX2_fresh_40 ?_
    exact ⟨_, rfl, r_I (by unfold a_nm; rw [hbx]; try rfl), h_F_w FF55 (fun _ _ z => z) (by omega) (by omega)⟩
  · have hbx : a_bx V s = none := (o_I_m1 _ (fun k h => by have := hw k h; omega)).mp c5
    refine sv_iconst (nI 0) dX2_fresh_8 (by decide +kernel) ?_
    refine sv_goto (tgt := 40) dX2_fresh_9 (by decide) ?_
    refine sv_iret rfl rfl dX2_fresh_40 ?_
    exact ⟨_, rfl, r_I (by unfold a_nm; rw [hbx]; try rfl), h_F_w FF0 (fun _ _ z => z) (by omega) (by omega)⟩
theorem cc_pending (hG : g_L G) (hV : k_V G σ a Λ V) {s : Nat} (hs : s < V.2.2.length) (hw : ∀ b, a_bx V s = some b → b < V.2.1.length) (hw2 : a_bx V s = none → a_es V s = []) (hl9 : ∀ b, a_bx V s = some b → (a_ls V s).toInt < 2147483647) : sx_Cp G 91 YX2_pending [.ref a, .ref (Λ 3 s 0)] σ (fun v τ => v = some (.int (nI (a_pe V s))) ∧ h_F (fun q => False) 1 2 σ τ) := by
  refine sx_body (by decide) (Nat.le_of_ble_eq_true rfl) ?_
  have hV0 := hV
  obtain ⟨hv1, hv2, hv3, hv4, hv5⟩ := hV
  obtain ⟨mcb, fb, hlb, hab, b1, b2, b3, -⟩ := id hv2
  obtain ⟨mcs, fs, hls, has, s1, s2, s3, -⟩ := id hv3
  obtain ⟨fu, ft, fa, hso, hu, ht, hac, ⟨n1, n2, n3⟩, hl, eu, et, ea⟩ := k_V_ses hV0 hs
  have hgl : a_gm V s (a_es V s).length ≤ (a_es V s).length := countP_rl _ _
  have hol : a_om V s ≤ (a_es V s).length := countP_rl _ _
  have hnm : a_nm V s < 2 ^ 31 := by
    unfold a_nm
    cases hz : a_bx V s with
    | none => exact (show 0 < 2 ^ 31 by decide)
    | some b =>
      obtain ⟨_, ⟨_, _, _, _, h7, _, h8, _⟩, _⟩ := (hv4 b (hw b hz)).1
      have h9 := List.countP_le_length (p := fun m => decide (a_ls V s < m.1)) (l := a_ms V b)
      show (a_ms V b).countP _ < _
      have h7 : (a_ms V b).length ≤ _ := h7
      omega
  have FF0 : h_F (fun q => False) 0 0 σ σ := h_F_r
  refine sv_aload_n dX2_pending_0 rfl ?_
  refine sv_aload_n dX2_pending_1 rfl ?_
  refine sv_aload_n dX2_pending_2 rfl ?_
  refine sv_get fg_X2_105 dX2_pending_3 (sx_rd_c hso) rfl ?_
  refine sv_cvR _ (cc_gone hV0 hs (Nat.le_refl _) hw hw2) okX2_gone kv_X2_121 (sx_rd_c hv1) rfl dX2_pending_6 rfl rfl (by omega) (Nat.le_of_ble_eq_true rfl) ?_
  refine sv_istore_n dX2_pending_9 (by decide) ?_
  refine sv_iload_n dX2_pending_10 rfl ?_
  refine sv_aload_n dX2_pending_11 rfl ?_
  refine sv_aload_n dX2_pending_12 rfl ?_
  refine sv_cvR _ (cc_changed hV0 hs hw hw2) okX2_changed kv_X2_125 (sx_rd_c hv1) rfl dX2_pending_13 rfl rfl (by omega) (Nat.le_of_ble_eq_true rfl) ?_
  refine sv_iaddN dX2_pending_16 ?_
  refine sv_aload_n dX2_pending_17 rfl ?_
  refine sv_aload_n dX2_pending_18 rfl ?_
  refine sv_cvP _ (cc_fresh hG hV0 hs hw hw2 hl9) okX2_fresh kv_X2_129 (sx_rd_c hv1) rfl dX2_pending_19 rfl rfl (by omega) (Nat.le_of_ble_eq_true rfl) ?_
  intro v59 τ57 hp58
  obtain ⟨rfl, F56⟩ := hp58
  have N60 := (F56).1.1
  have hv1' := h_F_c F56 hv1 (fun z => z)
  have hlb' := h_F_c F56 hlb (fun z => z)
  have hls' := h_F_c F56 hls (fun z => z)
  have hso' := h_F_c F56 hso (fun z => z)
  have hu' := h_F_c F56 hu (fun z => z)
  have ht' := h_F_c F56 ht (fun z => z)
  have hac' := h_F_c F56 hac (fun z => z)
  have FF61 := h_F_u FF0 F56 (fun _ _ z => z) (fun _ _ z => z.elim) (Nat.le_refl _) (Nat.le_refl _)
  refine sv_if_leN (tgt := 40) dX2_pending_22 (by decide) (by omega) (fun c22 => ?_) (fun c22 => ?_)
  · refine sv_iconst (nI 0) dX2_pending_40 (by decide +kernel) ?_
    obtain ⟨cq, hcq⟩ : ∃ x : Bool, x = decide (0 < a_nm V s ∧ (a_es V s).length - a_gm V s (a_es V s).length < 60) := ⟨_, rfl⟩
    refine sv_tI (y := b_I cq) (by rw [hcq]; first | exact b_I_pos (by omega) | exact b_I_neg (by omega)) ?_
    refine sv_cnR _ cc_count okX1_count ks_X2_95 dX2_pending_41 rfl rfl (by omega) (Nat.le_of_ble_eq_true rfl) ?_
    refine sv_iaddN dX2_pending_44 ?_
    refine sv_iret rfl rfl dX2_pending_45 ?_
    exact ⟨_, rfl, r_I (by unfold a_pe; rw [hcq]; congr 2; by_cases h : 0 < a_nm V s ∧ (a_es V s).length - a_gm V s (a_es V s).length < 60 <;> simp [h]), h_F_w FF61 (fun _ _ z => z) (by omega) (by omega)⟩
  · refine sv_aload_n dX2_pending_25 rfl ?_
    refine sv_get fg_X2_105 dX2_pending_26 (sx_rd_c hso') rfl ?_
    refine sv_iload_n dX2_pending_29 rfl ?_
    refine sv_isubN dX2_pending_30 (by omega) ?_
    refine sv_bipush (nI 60) dX2_pending_31 (by decide +kernel) ?_
    refine sv_icmp_geN (tgt := 40) dX2_pending_33 (by decide) (by omega) (by omega) (fun c33 => ?_) (fun c33 => ?_)
    · refine sv_iconst (nI 0) dX2_pending_40 (by decide +kernel) ?_
      obtain ⟨cq, hcq⟩ : ∃ x : Bool, x = decide (0 < a_nm V s ∧ (a_es V s).length - a_gm V s (a_es V s).length < 60) := ⟨_, rfl⟩
      refine sv_tI (y := b_I cq) (by rw [hcq]; first | exact b_I_pos (by omega) | exact b_I_neg (by omega)) ?_
      refine sv_cnR _ cc_count okX1_count ks_X2_95 dX2_pending_41 rfl rfl (by omega) (Nat.le_of_ble_eq_true rfl) ?_
      refine sv_iaddN dX2_pending_44 ?_
      refine sv_iret rfl rfl dX2_pending_45 ?_
      exact ⟨_, rfl, r_I (by unfold a_pe; rw [hcq]; congr 2; by_cases h : 0 < a_nm V s ∧ (a_es V s).length - a_gm V s (a_es V s).length < 60 <;> simp [h]), h_F_w FF61 (fun _ _ z => z) (by omega) (by omega)⟩
    · refine sv_iconst (nI 1) dX2_pending_36 (by decide +kernel) ?_
      refine sv_goto (tgt := 41) dX2_pending_37 (by decide) ?_
      obtain ⟨cq, hcq⟩ : ∃ x : Bool, x = decide (0 < a_nm V s ∧ (a_es V s).length - a_gm V s (a_es V s).length < 60) := ⟨_, rfl⟩
      refine sv_tI (y := b_I cq) (by rw [hcq]; first | exact b_I_pos (by omega) | exact b_I_neg (by omega)) ?_
      refine sv_cnR _ cc_count okX1_count ks_X2_95 dX2_pending_41 rfl rfl (by omega) (Nat.le_of_ble_eq_true rfl) ?_
      refine sv_iaddN dX2_pending_44 ?_
      refine sv_iret rfl rfl dX2_pending_45 ?_
      exact ⟨_, rfl, r_I (by unfold a_pe; rw [hcq]; congr 2; by_cases h : 0 < a_nm V s ∧ (a_es V s).length - a_gm V s (a_es V s).length < 60 <;> simp [h]), h_F_w FF61 (fun _ _ z => z) (by omega) (by omega)⟩
end CSS
