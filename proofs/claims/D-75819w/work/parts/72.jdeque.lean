set_option maxRecDepth 100000
section JDA
variable {G : sx_G} {σ τ : sx_St}
/-- a deque's cells: deque, array (17 places), head, how many, which -/
def k_D (G : sx_G) (σ : sx_St) (dq da h n : Nat) (g : Nat → Nat) : Prop := ∃ (f : Nat → Option Nat), sx_c σ dq = some (.inr (10, [.ref da, .int (nI h), .int (nI ((h + n) % 17))])) ∧ sx_c σ da = some (.inl (sg_a G 5, 17, .inr (.inr (.inr (.inr f))))) ∧ h < 17 ∧ n ≤ 8 ∧ ∀ i, i < n → f ((h + i) % 17) = some (g i)
theorem k_D_fr {W : Nat → Prop} {c s dq da h n : Nat} {g : Nat → Nat} (F : h_F W c s σ τ) (hD : k_D G σ dq da h n g) (h1 : ¬ W dq) (h2 : ¬ W da) : k_D G τ dq da h n g := by
  obtain ⟨f, a1, a2, a3⟩ := hD
  exact ⟨f, h_F_c F a1 h1, h_F_c F a2 h2, a3⟩
theorem dq_sub : ∀ a, a < 17 → ∀ b, b < 17 → (if 0 ≤ nI a - nI b then nI a - nI b else nI a - nI b + nI 17) = nI ((a + 17 - b) % 17) := by decide +kernel
theorem dq_dec : ∀ a, a < 17 → (if 0 ≤ nI a + Int32.ofInt (-1) then nI a + Int32.ofInt (-1) else nI (17 - 1)) = nI ((a + 16) % 17) := by decide +kernel
theorem cj_dinit {dq : Nat} (hq : sx_c σ dq = some (.inr (10, [.null, .int (nI 0), .int (nI 0)]))) : sx_Cp G 2 YJ17_init [.ref dq] σ (fun v τ => v = none ∧ ∃ da, sx_n σ ≤ da ∧ (∀ g, k_D G τ dq da 0 0 g) ∧ h_F (fun q => q = dq) 1 17 σ τ) := by
  refine sx_body (by decide) (Nat.le_of_ble_eq_true rfl) ?_
  have FF0 : h_F (fun q => q = dq) 0 0 σ σ := h_F_r
  refine sv_aload_n dJ17_init_0 rfl ?_
  refine sv_ciR _ cj_J0i okJ0_init ki_J17_42 dJ17_init_1 rfl rfl (by decide) (Nat.le_of_ble_eq_true rfl) ?_
  refine sv_aload_n dJ17_init_4 rfl ?_
  refine sv_bipush (nI 17) dJ17_init_5 (by decide +kernel) ?_
  refine sv_anew 5 17 rfl q571 q215 dJ17_init_7 (nI_pos (by omega)) (nI_clamp (by omega)) (by omega) ?_
  refine hs_al (fun a1 τ2 E7 F3 h4 N5 Z6 => ?_)
  have hq' := h_F_c F3 hq (fun z => z)
  have FF8 := h_F_u FF0 F3 (fun _ _ z => z) (fun _ _ z => z.elim) (Nat.le_refl _) (Nat.le_refl _)
  have h4 : sx_c τ2 a1 = some (.inl (sg_a G 5, 17, .inr (.inr (.inr (.inr ((fun _ => none))))))) := h4
  refine sv_put fp_J17_3 dJ17_init_10 hq' rfl rfl (Nat.le_of_ble_eq_true rfl) ?_
  refine hs_up hq' (fun τ9 F10 h11 N12 Z13 => ?_)
  have h11 : sx_c τ9 dq = some (.inr (10, [.ref a1, .int (nI 0), .int (nI 0)])) := h11
  have h4' := h_F_c F10 h4 (e_kn h4 hq' rfl)
  have FF14 := h_F_u FF8 F10 (fun _ _ z => z) (by intro q hq hz; omega) (Nat.le_refl _) (Nat.le_refl _)
  refine sv_vret rfl dJ17_init_13 ?_
  exact ⟨_, rfl, rfl, _, by omega, fun g => ⟨_, h11, h4', by omega, by omega, fun i hi => absurd hi (Nat.not_lt_zero i)⟩, h_F_w FF14 (fun _ _ z => z) (by omega) (by omega)⟩
theorem cj_dsub {a b : Nat} (ha : a < 17) (hb : b < 17) : sx_Cr G 0 YJ17_sub [.int (nI a), .int (nI b), .int (nI 17)] σ (some (.int (nI ((a + 17 - b) % 17)))) σ := by
  refine sx_body (by decide) (Nat.le_of_ble_eq_true rfl) ?_
  have hh := dq_sub a ha b hb
  refine sv_iload_n dJ17_sub_0 rfl ?_
  refine sv_iload_n dJ17_sub_1 rfl ?_
  refine sv_isub dJ17_sub_2 ?_
  refine sv_dup dJ17_sub_3 rfl ?_
  refine sv_istore_n dJ17_sub_4 (by decide) ?_
  refine sv_if_ge (tgt := 12) dJ17_sub_5 (by decide) (fun c5 => ?_) (fun c5 => ?_)
  · rw [if_pos c5] at hh
    refine sv_iload_n dJ17_sub_12 rfl ?_
    refine sv_iret rfl rfl dJ17_sub_13 ?_
    exact ⟨_, rfl, r_I hh, rfl⟩
  · rw [if_neg c5] at hh
    refine sv_iload_n dJ17_sub_8 rfl ?_
    refine sv_iload_n dJ17_sub_9 rfl ?_
    refine sv_iadd dJ17_sub_10 ?_
    refine sv_istore_n dJ17_sub_11 (by decide) ?_
    refine sv_iload_n dJ17_sub_12 rfl ?_
    refine sv_iret rfl rfl dJ17_sub_13 ?_
    exact ⟨_, rfl, r_I hh, rfl⟩
theorem cj_dinc {a : Nat} (ha : a < 17) : sx_Cr G 0 YJ17_inc [.int (nI a), .int (nI 17)] σ (some (.int (nI ((a + 1) % 17)))) σ := by
  refine sx_body (by decide) (Nat.le_of_ble_eq_true rfl) ?_
  refine sv_iincN dJ17_inc_0 rfl (by decide) ?_
  refine sv_iload_n dJ17_inc_3 rfl ?_
  refine sv_iload_n dJ17_inc_4 rfl ?_
  refine sv_icmp_ltN (tgt := 10) dJ17_inc_5 (by decide) (by omega) (by omega) (fun c5 => ?_) (fun c5 => ?_)
  · refine sv_iload_n dJ17_inc_10 rfl ?_
    refine sv_iret rfl rfl dJ17_inc_11 ?_
    first | exact ⟨_, rfl, r_I (congrArg nI (by omega)), rfl⟩ | exact ⟨_, rfl, r_I (congrArg nI (show 0 = _ by omega)), rfl⟩
  · refine sv_iconst (nI 0) dJ17_inc_8 (by decide +kernel) ?_
    refine sv_istore_n dJ17_inc_9 (by decide) ?_
    refine sv_iload_n dJ17_inc_10 rfl ?_
    refine sv_iret rfl rfl dJ17_inc_11 ?_
    first | exact ⟨_, rfl, r_I (congrArg nI (by omega)), rfl⟩ | exact ⟨_, rfl, r_I (congrArg nI (show 0 = _ by omega)), rfl⟩
theorem cj_ddec {a : Nat} (ha : a < 17) : sx_Cr G 0 YJ17_dec [.int (nI a), .int (nI 17)] σ (some (.int (nI ((a + 16) % 17)))) σ := by
  refine sx_body (by decide) (Nat.le_of_ble_eq_true rfl) ?_
  have hh := dq_dec a ha
  refine sv_iinc _ dJ17_dec_0 rfl rfl (by decide) ?_
  refine sv_iload_n dJ17_dec_3 rfl ?_
  refine sv_if_ge (tgt := 11) dJ17_dec_4 (by decide) (fun c4 => ?_) (fun c4 => ?_)
  · rw [if_pos c4] at hh
    refine sv_iload_n dJ17_dec_11 rfl ?_
    refine sv_iret rfl rfl dJ17_dec_12 ?_
    exact ⟨_, rfl, r_I hh, rfl⟩
  · rw [if_neg c4] at hh
    refine sv_iload_n dJ17_dec_7 rfl ?_
    refine sv_iconst (nI 1) dJ17_dec_8 (by decide +kernel) ?_
    refine sv_isubN dJ17_dec_9 (by omega) ?_
    refine sv_istore_n dJ17_dec_10 (by decide) ?_
    refine sv_iload_n dJ17_dec_11 rfl ?_
    refine sv_iret rfl rfl dJ17_dec_12 ?_
    exact ⟨_, rfl, r_I hh, rfl⟩
theorem cj_dsize {dq da h n : Nat} {g : Nat → Nat} (hD : k_D G σ dq da h n g) : sx_Cr G 1 YJ17_size [.ref dq] σ (some (.int (nI n))) σ := by
  refine sx_body (by decide) (Nat.le_of_ble_eq_true rfl) ?_
  obtain ⟨f, hq, ha, h1, h2, hg⟩ := hD
  refine sv_aload_n dJ17_size_0 rfl ?_
  refine sv_get fg_J17_20 dJ17_size_1 (sx_rd_c hq) rfl ?_
  refine sv_aload_n dJ17_size_4 rfl ?_
  refine sv_get fg_J17_24 dJ17_size_5 (sx_rd_c hq) rfl ?_
  refine sv_aload_n dJ17_size_8 rfl ?_
  refine sv_get fg_J17_3 dJ17_size_9 (sx_rd_c hq) rfl ?_
  refine sv_alen 5 rfl (nI 17) dJ17_size_12 (sx_rd_c ha) rfl ?_
  refine sv_csR _ (cj_dsub (by omega) h1) okJ17_sub ks_J17_127 dJ17_size_13 rfl rfl (by decide) (Nat.le_of_ble_eq_true rfl) ?_
  refine sv_iret rfl rfl dJ17_size_16 ?_
  exact ⟨_, rfl, r_I (congrArg nI (by omega)), rfl⟩
theorem cj_dEmpty {dq da h n : Nat} {g : Nat → Nat} (hD : k_D G σ dq da h n g) : sx_Cr G 0 YJ17_isEmpty [.ref dq] σ (some (.int (b_I (decide (n = 0))))) σ := by
  refine sx_body (by decide) (Nat.le_of_ble_eq_true rfl) ?_
  obtain ⟨f, hq, ha, h1, h2, hg⟩ := hD
  refine sv_aload_n dJ17_isEmpty_0 rfl ?_
  refine sv_get fg_J17_24 dJ17_isEmpty_1 (sx_rd_c hq) rfl ?_
  refine sv_aload_n dJ17_isEmpty_4 rfl ?_
  refine sv_get fg_J17_20 dJ17_isEmpty_5 (sx_rd_c hq) rfl ?_
  refine sv_icmp_neN (tgt := 15) dJ17_isEmpty_8 (by decide) (by omega) (by omega) (fun c8 => ?_) (fun c8 => ?_)
  · refine sv_iconst (nI 0) dJ17_isEmpty_15 (by decide +kernel) ?_
    refine sv_iret (by first | exact b_I_nar _ | rfl) rfl dJ17_isEmpty_16 ?_
    first | exact ⟨_, rfl, r_I (b_I_neg (by omega)), rfl⟩ | exact ⟨_, rfl, r_I (b_I_pos (by omega)), rfl⟩
  · refine sv_iconst (nI 1) dJ17_isEmpty_11 (by decide +kernel) ?_
    refine sv_goto (tgt := 16) dJ17_isEmpty_12 (by decide) ?_
    refine sv_iret (by first | exact b_I_nar _ | rfl) rfl dJ17_isEmpty_16 ?_
    first | exact ⟨_, rfl, r_I (b_I_neg (by omega)), rfl⟩ | exact ⟨_, rfl, r_I (b_I_pos (by omega)), rfl⟩
theorem cj_dAt {a n i y : Nat} {f : Nat → Option Nat} (ha : sx_c σ a = some (.inl (sg_a G 5, n, .inr (.inr (.inr (.inr f)))))) (hi : i < n) (hn : n < 2 ^ 31) (hf : f i = some y) : sx_Cr G 0 YJ17_elementAt [.ref a, .int (nI i)] σ (some (.ref y)) σ := by
  refine sx_body (by decide) (Nat.le_of_ble_eq_true rfl) ?_
  refine sv_aload_n dJ17_elementAt_0 rfl ?_
  refine sv_iload_n dJ17_elementAt_1 rfl ?_
  refine sv_aald 5 rfl dJ17_elementAt_2 (sx_rd_c ha) (vp_in_nI (by omega) (by omega)) ?_
  rw [nI_clamp (show i < 2 ^ 31 by omega)]
  refine sv_topR (a := y) hf ?_
  refine sv_aret (Or.inr ⟨_, rfl⟩) (Or.inl ⟨_, rfl⟩) rfl dJ17_elementAt_3 ?_
  exact ⟨_, rfl, rfl, rfl⟩
theorem k_E_q {ci y l cj : Nat} {vs : List Value} (h : k_E G σ ci y) (hl : sx_c σ l = some (.inr (cj, vs))) (hc : ci ≠ cj) : y ≠ l := by
  obtain ⟨ws, a⟩ := h
  intro z
  subst z
  have h1 := Option.some.inj (a.symm.trans hl)
  exact hc (congrArg Prod.fst (Sum.inr.inj h1))
theorem k_D_add {dq da h n v : Nat} {g : Nat → Nat} {f : Nat → Option Nat} (hq : sx_c σ dq = some (.inr (10, [.ref da, .int (nI h), .int (nI (((h + n) % 17 + 1) % 17))]))) (ha : sx_c σ da = some (.inl (sg_a G 5, 17, .inr (.inr (.inr (.inr (va_up f ((h + n) % 17) (some v)))))))) (h1 : h < 17) (h2 : n < 8) (hg : ∀ i, i < n → f ((h + i) % 17) = some (g i)) : k_D G σ dq da h (n + 1) (va_up g n v) := by
  refine ⟨_, ?_, ha, h1, by omega, fun j hj => ?_⟩
  · rw [show (h + (n + 1)) % 17 = ((h + n) % 17 + 1) % 17 by omega]; exact hq
  · unfold va_up
    by_cases hji : j = n
    · rw [if_pos (by rw [hji]), if_pos hji]
    · rw [if_neg (by omega), if_neg hji]
      exact hg j (by omega)
theorem cj_addLast {dq da h n : Nat} {g : Nat → Nat} (hD : k_D G σ dq da h n g) {v ci : Nat} (ho : k_O ci) (hc : ci ≠ 10) (hv : k_E G σ ci v) (hn : n < 8) : sx_Cp G 1 YJ17_addLast [.ref dq, .ref v] σ (fun w τ => w = none ∧ k_D G τ dq da h (n + 1) (va_up g n v) ∧ h_F (fun q => q = dq ∨ q = da) 0 0 σ τ) := by
  refine sx_body (by decide) (Nat.le_of_ble_eq_true rfl) ?_
  obtain ⟨f, hq, ha, h1, h2, hg⟩ := hD
  have FF0 : h_F (fun q => q = dq ∨ q = da) 0 0 σ σ := h_F_r
  refine sv_aload_n dJ17_addLast_0 rfl ?_
  refine sv_ifnonnull (tgt := 12) dJ17_addLast_1 (by decide) ?_
  refine sv_aload_n dJ17_addLast_12 rfl ?_
  refine sv_get fg_J17_3 dJ17_addLast_13 (sx_rd_c hq) rfl ?_
  refine sv_astore_n dJ17_addLast_16 (by decide) ?_
  refine sv_aload_n dJ17_addLast_17 rfl ?_
  refine sv_aload_n dJ17_addLast_18 rfl ?_
  refine sv_get fg_J17_20 dJ17_addLast_19 (sx_rd_c hq) rfl ?_
  refine sv_aload_n dJ17_addLast_22 rfl ?_
  obtain ⟨C0, T0, N0, o1, o2⟩ := ho
  have hvv := hv
  obtain ⟨vs, hvv⟩ := hvv
  refine sv_aast 5 rfl (sx_rd_c hvv) o1 (Or.inr o2) dJ17_addLast_23 ha (vp_in_nI (by omega) (by omega)) ?_
  rw [nI_clamp (show ((h + n) % 17) < 2 ^ 31 by omega)]
  refine hs_up ha (fun τ15 F16 h17 N18 Z19 => ?_)
  have h17 : sx_c τ15 da = some (.inl (sg_a G 5, 17, .inr (.inr (.inr (.inr ((va_up f (((h + n) % 17)) (some v)))))))) := h17
  have hq' := h_F_c F16 hq (e_kn hq ha rfl)
  have hv := k_E_fr F16 hv (k_E_a hv ha)
  have FF20 := h_F_u FF0 F16 (fun _ _ z => z) (by intro q hq hz; omega) (Nat.le_refl _) (Nat.le_refl _)
  refine sv_aload_n dJ17_addLast_24 rfl ?_
  refine sv_get fg_J17_24 dJ17_addLast_25 (sx_rd_c hq') rfl ?_
  refine sv_aload_n dJ17_addLast_28 rfl ?_
  refine sv_aload_n dJ17_addLast_29 rfl ?_
  refine sv_get fg_J17_20 dJ17_addLast_30 (sx_rd_c hq') rfl ?_
  refine sv_aload_n dJ17_addLast_33 rfl ?_
  refine sv_alen 5 rfl (nI 17) dJ17_addLast_34 (sx_rd_c h17) rfl ?_
  refine sv_csR _ (cj_dinc (by omega)) okJ17_inc ks_J17_74 dJ17_addLast_35 rfl rfl (by decide) (Nat.le_of_ble_eq_true rfl) ?_
  refine sv_dup_x1 dJ17_addLast_38 rfl rfl ?_
  refine sv_put fp_J17_20 dJ17_addLast_39 hq' rfl rfl (Nat.le_of_ble_eq_true rfl) ?_
  refine hs_up hq' (fun τ21 F22 h23 N24 Z25 => ?_)
  have h23 : sx_c τ21 dq = some (.inr (10, [.ref da, .int (nI h), .int (nI (((h + n) % 17 + 1) % 17))])) := h23
  have h17' := h_F_c F22 h17 (e_kn h17 hq' rfl)
  have hv := k_E_fr F22 hv (k_E_q hv hq' hc)
  have FF26 := h_F_u FF20 F22 (fun _ _ z => z) (by intro q hq hz; omega) (Nat.le_refl _) (Nat.le_refl _)
  refine sv_icmp_neN (tgt := 50) dJ17_addLast_42 (by decide) (by omega) (by omega) (fun c42 => ?_) (fun c42 => ?_)
  · refine sv_vret rfl dJ17_addLast_50 ?_
    exact ⟨_, rfl, rfl, k_D_add h23 h17' h1 hn hg, FF26⟩
  · omega
theorem k_D_pf {dq da h n : Nat} {g : Nat → Nat} {f : Nat → Option Nat} (hq : sx_c σ dq = some (.inr (10, [.ref da, .int (nI ((h + 1) % 17)), .int (nI ((h + n) % 17))]))) (ha : sx_c σ da = some (.inl (sg_a G 5, 17, .inr (.inr (.inr (.inr (va_up f h none))))))) (h1 : h < 17) (h0 : 0 < n) (h2 : n ≤ 8) (hg : ∀ i, i < n → f ((h + i) % 17) = some (g i)) : k_D G σ dq da ((h + 1) % 17) (n - 1) (fun j => g (j + 1)) := by
  refine ⟨_, ?_, ha, by omega, by omega, fun j hj => ?_⟩
  · rw [show ((h + 1) % 17 + (n - 1)) % 17 = (h + n) % 17 by omega]; exact hq
  · unfold va_up
    rw [if_neg (by omega), show ((h + 1) % 17 + j) % 17 = (h + (j + 1)) % 17 by omega]
    exact hg (j + 1) (by omega)
theorem k_D_pl {dq da h n : Nat} {g : Nat → Nat} {f : Nat → Option Nat} (hq : sx_c σ dq = some (.inr (10, [.ref da, .int (nI h), .int (nI ((h + (n - 1)) % 17))]))) (ha : sx_c σ da = some (.inl (sg_a G 5, 17, .inr (.inr (.inr (.inr (va_up f ((h + (n - 1)) % 17) none))))))) (h1 : h < 17) (h0 : 0 < n) (h2 : n ≤ 8) (hg : ∀ i, i < n → f ((h + i) % 17) = some (g i)) : k_D G σ dq da h (n - 1) g := by
  refine ⟨_, hq, ha, by omega, by omega, fun j hj => ?_⟩
  unfold va_up
  rw [if_neg (by omega)]
  exact hg j (by omega)
theorem cj_pollFirst {dq da h n : Nat} {g : Nat → Nat} (hD : k_D G σ dq da h n g) (hn : 0 < n) : sx_Cp G 1 YJ17_pollFirst [.ref dq] σ (fun w τ => w = some (.ref (g 0)) ∧ k_D G τ dq da ((h + 1) % 17) (n - 1) (fun j => g (j + 1)) ∧ h_F (fun q => q = dq ∨ q = da) 0 0 σ τ) := by
  refine sx_body (by decide) (Nat.le_of_ble_eq_true rfl) ?_
  obtain ⟨f, hq, ha, h1, h2, hg⟩ := hD
  have hf0 : f h = some (g 0) := by have := hg 0 hn; rwa [Nat.add_zero, Nat.mod_eq_of_lt h1] at this
  have FF0 : h_F (fun q => q = dq ∨ q = da) 0 0 σ σ := h_F_r
  refine sv_aload_n dJ17_pollFirst_0 rfl ?_
  refine sv_get fg_J17_3 dJ17_pollFirst_1 (sx_rd_c hq) rfl ?_
  refine sv_dup dJ17_pollFirst_4 rfl ?_
  refine sv_astore_n dJ17_pollFirst_5 (by decide) ?_
  refine sv_aload_n dJ17_pollFirst_6 rfl ?_
  refine sv_get fg_J17_24 dJ17_pollFirst_7 (sx_rd_c hq) rfl ?_
  refine sv_dup dJ17_pollFirst_10 rfl ?_
  refine sv_istore_n dJ17_pollFirst_11 (by decide) ?_
  refine sv_csR _ (cj_dAt ha h1 (by decide) hf0) okJ17_elementAt ks_J17_103 dJ17_pollFirst_12 rfl rfl (by decide) (Nat.le_of_ble_eq_true rfl) ?_
  refine sv_astore_n dJ17_pollFirst_15 (by decide) ?_
  refine sv_aload_n dJ17_pollFirst_16 rfl ?_
  refine sv_ifnull dJ17_pollFirst_17 ?_
  refine sv_aload_n dJ17_pollFirst_20 rfl ?_
  refine sv_iload_n dJ17_pollFirst_21 rfl ?_
  refine sv_null dJ17_pollFirst_22 ?_
  refine sv_aastN 5 rfl dJ17_pollFirst_23 ha (vp_in_nI (by omega) (by omega)) ?_
  rw [nI_clamp (show h < 2 ^ 31 by omega)]
  refine hs_up ha (fun τ27 F28 h29 N30 Z31 => ?_)
  have h29 : sx_c τ27 da = some (.inl (sg_a G 5, 17, .inr (.inr (.inr (.inr ((va_up f h none))))))) := h29
  have hq' := h_F_c F28 hq (e_kn hq ha rfl)
  have FF32 := h_F_u FF0 F28 (fun _ _ z => z) (by intro q hq hz; omega) (Nat.le_refl _) (Nat.le_refl _)
  refine sv_aload_n dJ17_pollFirst_24 rfl ?_
  refine sv_iload_n dJ17_pollFirst_25 rfl ?_
  refine sv_aload_n dJ17_pollFirst_26 rfl ?_
  refine sv_alen 5 rfl (nI 17) dJ17_pollFirst_27 (sx_rd_c h29) rfl ?_
  refine sv_csR _ (cj_dinc h1) okJ17_inc ks_J17_74 dJ17_pollFirst_28 rfl rfl (by decide) (Nat.le_of_ble_eq_true rfl) ?_
  refine sv_put fp_J17_24 dJ17_pollFirst_31 hq' rfl rfl (Nat.le_of_ble_eq_true rfl) ?_
  refine hs_up hq' (fun τ33 F34 h35 N36 Z37 => ?_)
  have h35 : sx_c τ33 dq = some (.inr (10, [.ref da, .int (nI ((h + 1) % 17)), .int (nI ((h + n) % 17))])) := h35
  have h29' := h_F_c F34 h29 (e_kn h29 hq' rfl)
  have FF38 := h_F_u FF32 F34 (fun _ _ z => z) (by intro q hq hz; omega) (Nat.le_refl _) (Nat.le_refl _)
  refine sv_aload_n dJ17_pollFirst_34 rfl ?_
  refine sv_aret (Or.inr ⟨_, rfl⟩) (Or.inl ⟨_, rfl⟩) rfl dJ17_pollFirst_35 ?_
  exact ⟨_, rfl, rfl, k_D_pf h35 h29' h1 hn h2 hg, FF38⟩
theorem cj_pollLast {dq da h n : Nat} {g : Nat → Nat} (hD : k_D G σ dq da h n g) (hn : 0 < n) : sx_Cp G 1 YJ17_pollLast [.ref dq] σ (fun w τ => w = some (.ref (g (n - 1))) ∧ k_D G τ dq da h (n - 1) g ∧ h_F (fun q => q = dq ∨ q = da) 0 0 σ τ) := by
  refine sx_body (by decide) (Nat.le_of_ble_eq_true rfl) ?_
  obtain ⟨f, hq, ha, h1, h2, hg⟩ := hD
  have FF0 : h_F (fun q => q = dq ∨ q = da) 0 0 σ σ := h_F_r
  refine sv_aload_n dJ17_pollLast_0 rfl ?_
  refine sv_get fg_J17_3 dJ17_pollLast_1 (sx_rd_c hq) rfl ?_
  refine sv_dup dJ17_pollLast_4 rfl ?_
  refine sv_astore_n dJ17_pollLast_5 (by decide) ?_
  refine sv_aload_n dJ17_pollLast_6 rfl ?_
  refine sv_get fg_J17_20 dJ17_pollLast_7 (sx_rd_c hq) rfl ?_
  refine sv_aload_n dJ17_pollLast_10 rfl ?_
  refine sv_alen 5 rfl (nI 17) dJ17_pollLast_11 (sx_rd_c ha) rfl ?_
  refine sv_csR _ (cj_ddec (by omega)) okJ17_dec ks_J17_68 dJ17_pollLast_12 rfl rfl (by decide) (Nat.le_of_ble_eq_true rfl) ?_
  refine sv_tI (y := nI ((h + (n - 1)) % 17)) (congrArg nI (by omega)) ?_
  refine sv_dup dJ17_pollLast_15 rfl ?_
  refine sv_istore_n dJ17_pollLast_16 (by decide) ?_
  refine sv_csR _ (cj_dAt ha (by omega) (by decide) (hg (n - 1) (by omega))) okJ17_elementAt ks_J17_103 dJ17_pollLast_17 rfl rfl (by decide) (Nat.le_of_ble_eq_true rfl) ?_
  refine sv_astore_n dJ17_pollLast_20 (by decide) ?_
  refine sv_aload_n dJ17_pollLast_21 rfl ?_
  refine sv_ifnull dJ17_pollLast_22 ?_
  refine sv_aload_n dJ17_pollLast_25 rfl ?_
  refine sv_aload_n dJ17_pollLast_26 rfl ?_
  refine sv_iload_n dJ17_pollLast_27 rfl ?_
  refine sv_dup_x1 dJ17_pollLast_28 rfl rfl ?_
  refine sv_put fp_J17_20 dJ17_pollLast_29 hq rfl rfl (Nat.le_of_ble_eq_true rfl) ?_
  refine hs_up hq (fun τ39 F40 h41 N42 Z43 => ?_)
  have h41 : sx_c τ39 dq = some (.inr (10, [.ref da, .int (nI h), .int (nI ((h + (n - 1)) % 17))])) := h41
  have ha' := h_F_c F40 ha (e_kn ha hq rfl)
  have FF44 := h_F_u FF0 F40 (fun _ _ z => z) (by intro q hq hz; omega) (Nat.le_refl _) (Nat.le_refl _)
  refine sv_null dJ17_pollLast_32 ?_
  refine sv_aastN 5 rfl dJ17_pollLast_33 ha' (vp_in_nI (by omega) (by omega)) ?_
  rw [nI_clamp (show ((h + (n - 1)) % 17) < 2 ^ 31 by omega)]
  refine hs_up ha' (fun τ45 F46 h47 N48 Z49 => ?_)
  have h47 : sx_c τ45 da = some (.inl (sg_a G 5, 17, .inr (.inr (.inr (.inr ((va_up f (((h + (n - 1)) % 17)) none))))))) := h47
  have h41' := h_F_c F46 h41 (e_kn h41 ha' rfl)
  have FF50 := h_F_u FF44 F46 (fun _ _ z => z) (by intro q hq hz; omega) (Nat.le_refl _) (Nat.le_refl _)
  refine sv_aload_n dJ17_pollLast_34 rfl ?_
  refine sv_aret (Or.inr ⟨_, rfl⟩) (Or.inl ⟨_, rfl⟩) rfl dJ17_pollLast_35 ?_
  exact ⟨_, rfl, rfl, k_D_pl h41' h47 h1 hn h2 hg, FF50⟩
theorem cj_removeFirst {dq da h n : Nat} {g : Nat → Nat} (hD : k_D G σ dq da h n g) (hn : 0 < n) : sx_Cp G 2 YJ17_removeFirst [.ref dq] σ (fun w τ => w = some (.ref (g 0)) ∧ k_D G τ dq da ((h + 1) % 17) (n - 1) (fun j => g (j + 1)) ∧ h_F (fun q => q = dq ∨ q = da) 0 0 σ τ) := by
  refine sx_body (by decide) (Nat.le_of_ble_eq_true rfl) ?_
  have hD0 := hD
  obtain ⟨f, hq, ha, h1, h2, hg⟩ := hD
  refine sv_aload_n dJ17_removeFirst_0 rfl ?_
  refine sv_cvP _ (cj_pollFirst hD0 hn) okJ17_pollFirst kv_J17_93 (sx_rd_c hq) rfl dJ17_removeFirst_1 rfl rfl (by decide) (Nat.le_of_ble_eq_true rfl) ?_
  intro v55 τ53 hp54
  obtain ⟨rfl, h52, F51⟩ := hp54
  refine sv_astore_n dJ17_removeFirst_4 (by decide) ?_
  refine sv_aload_n dJ17_removeFirst_5 rfl ?_
  refine sv_ifnonnull (tgt := 17) dJ17_removeFirst_6 (by decide) ?_
  refine sv_aload_n dJ17_removeFirst_17 rfl ?_
  refine sv_aret (Or.inr ⟨_, rfl⟩) (Or.inl ⟨_, rfl⟩) rfl dJ17_removeFirst_18 ?_
  exact ⟨_, rfl, rfl, h52, F51⟩
theorem cj_removeLast {dq da h n : Nat} {g : Nat → Nat} (hD : k_D G σ dq da h n g) (hn : 0 < n) : sx_Cp G 2 YJ17_removeLast [.ref dq] σ (fun w τ => w = some (.ref (g (n - 1))) ∧ k_D G τ dq da h (n - 1) g ∧ h_F (fun q => q = dq ∨ q = da) 0 0 σ τ) := by
  refine sx_body (by decide) (Nat.le_of_ble_eq_true rfl) ?_
  have hD0 := hD
  obtain ⟨f, hq, ha, h1, h2, hg⟩ := hD
  refine sv_aload_n dJ17_removeLast_0 rfl ?_
  refine sv_cvP _ (cj_pollLast hD0 hn) okJ17_pollLast kv_J17_100 (sx_rd_c hq) rfl dJ17_removeLast_1 rfl rfl (by decide) (Nat.le_of_ble_eq_true rfl) ?_
  intro v60 τ58 hp59
  obtain ⟨rfl, h57, F56⟩ := hp59
  refine sv_astore_n dJ17_removeLast_4 (by decide) ?_
  refine sv_aload_n dJ17_removeLast_5 rfl ?_
  refine sv_ifnonnull (tgt := 17) dJ17_removeLast_6 (by decide) ?_
  refine sv_aload_n dJ17_removeLast_17 rfl ?_
  refine sv_aret (Or.inr ⟨_, rfl⟩) (Or.inl ⟨_, rfl⟩) rfl dJ17_removeLast_18 ?_
  exact ⟨_, rfl, rfl, h57, F56⟩
end JDA
