set_option maxRecDepth 100000
section JLA
variable {G : sx_G} {σ : sx_St}
theorem cj_J0i {a : Nat} : sx_Cr G 1 YJ0_init [.ref a] σ none σ := by
  refine sx_body (by decide) (Nat.le_of_ble_eq_true rfl) ?_
  refine sv_aload_n dJ0_init_0 rfl ?_
  refine sv_oi q213 q194 q195 dJ0_init_1 (by decide) (Nat.le_of_ble_eq_true rfl) ?_
  refine sv_vret rfl dJ0_init_4 ?_
  exact ⟨_, rfl, rfl, rfl⟩
theorem cj_J1i {l : Nat} {x : Int32} {e z : Value} (hl : sx_c σ l = some (.inr (9, [.int x, e, z]))) : sx_Cp G 2 YJ1_init [.ref l] σ (fun v τ => v = none ∧ sx_c τ l = some (.inr (9, [.int (nI 0), e, z])) ∧ h_F (fun q => q = l) 0 0 σ τ) := by
  refine sx_body (by decide) (Nat.le_of_ble_eq_true rfl) ?_
  have FF0 : h_F (fun q => q = l) 0 0 σ σ := h_F_r
  refine sv_aload_n dJ1_init_0 rfl ?_
  refine sv_ciR _ cj_J0i okJ0_init ki_J1_1 dJ1_init_1 rfl rfl (by decide) (Nat.le_of_ble_eq_true rfl) ?_
  refine sv_aload_n dJ1_init_4 rfl ?_
  refine sv_iconst (nI 0) dJ1_init_5 (by decide +kernel) ?_
  refine sv_put fp_J1_7 dJ1_init_6 hl rfl rfl (Nat.le_of_ble_eq_true rfl) ?_
  refine hs_up hl (fun τ1 F2 h3 N4 Z5 => ?_)
  have h3 : sx_c τ1 l = some (.inr (9, [.int (nI 0), e, z])) := h3
  have FF6 := h_F_u FF0 F2 (fun _ _ z => z) (by intro q hq hz; omega) (Nat.le_refl _) (Nat.le_refl _)
  refine sv_vret rfl dJ1_init_9 ?_
  exact ⟨_, rfl, rfl, h3, FF6⟩
theorem cj_init {l c : Nat} (hc : 0 < c) (hc2 : c ≤ 100) (hl : sx_c σ l = some (.inr (9, [.int (nI 0), .null, .int (nI 0)]))) : sx_Cp G 3 YJ2_init [.ref l, .int (nI c)] σ (fun v τ => v = none ∧ ∃ ar, sx_n σ ≤ ar ∧ (∀ g, k_L G τ l ar c 0 g) ∧ h_F (fun q => q = l) 1 c σ τ) := by
  refine sx_body (by decide) (Nat.le_of_ble_eq_true rfl) ?_
  have FF0 : h_F (fun q => q = l) 0 0 σ σ := h_F_r
  refine sv_aload_n dJ2_init_0 rfl ?_
  refine sv_ciP _ (cj_J1i hl) okJ1_init ki_J2_1 dJ2_init_1 rfl rfl (by decide) (Nat.le_of_ble_eq_true rfl) ?_
  intro v11 τ9 hp10
  obtain ⟨rfl, h8, F7⟩ := hp10
  have N12 := (F7).1.1
  have FF13 := h_F_u FF0 F7 (fun _ _ z => z) (by intro q hq hz; omega) (Nat.le_refl _) (Nat.le_refl _)
  refine sv_iload_n dJ2_init_4 rfl ?_
  refine sv_if_leN (tgt := 19) dJ2_init_5 (by decide) (by omega) (fun c5 => ?_) (fun c5 => ?_)
  · omega
  · refine sv_aload_n dJ2_init_8 rfl ?_
    refine sv_iload_n dJ2_init_9 rfl ?_
    refine sv_anew 5 c rfl q214 q215 dJ2_init_10 (nI_pos (by omega)) (nI_clamp (by omega)) (by omega) ?_
    refine hs_al (fun a14 τ15 E20 F16 h17 N18 Z19 => ?_)
    have h8' := h_F_c F16 h8 (fun z => z)
    have FF21 := h_F_u FF13 F16 (fun _ _ z => z) (fun _ _ z => z.elim) (Nat.le_refl _) (Nat.le_refl _)
    have h17 : sx_c τ15 a14 = some (.inl (sg_a G 5, c, .inr (.inr (.inr (.inr ((fun _ => none))))))) := h17
    refine sv_put fp_J2_9 dJ2_init_13 h8' rfl rfl (Nat.le_of_ble_eq_true rfl) ?_
    refine hs_up h8' (fun τ22 F23 h24 N25 Z26 => ?_)
    have h24 : sx_c τ22 l = some (.inr (9, [.int (nI 0), .ref a14, .int (nI 0)])) := h24
    have h17' := h_F_c F23 h17 (e_kn h17 h8' rfl)
    have FF27 := h_F_u FF21 F23 (fun _ _ z => z) (by intro q hq hz; omega) (Nat.le_refl _) (Nat.le_refl _)
    refine sv_goto (tgt := 60) dJ2_init_16 (by decide) ?_
    refine sv_vret rfl dJ2_init_60 ?_
    exact ⟨_, rfl, rfl, _, by omega, fun g => ⟨_, _, h24, h17', by omega, by omega, by omega, fun i hi => absurd hi (Nat.not_lt_zero i)⟩, h_F_w FF27 (fun _ _ z => z) (by omega) (by omega)⟩
theorem cj_init0 {l z : Nat} (hz : g_Z G z) (hl : sx_c σ l = some (.inr (9, [.int (nI 0), .null, .int (nI 0)]))) : sx_Cp G 3 YJ2_init_2 [.ref l] σ (fun v τ => v = none ∧ k_L0 G τ l ∧ h_F (fun q => q = l) 0 0 σ τ) := by
  refine sx_body (by decide) (Nat.le_of_ble_eq_true rfl) ?_
  have FF0 : h_F (fun q => q = l) 0 0 σ σ := h_F_r
  refine sv_aload_n dJ2_init_2_0 rfl ?_
  refine sv_ciP _ (cj_J1i hl) okJ1_init ki_J2_1 dJ2_init_2_1 rfl rfl (by decide) (Nat.le_of_ble_eq_true rfl) ?_
  intro v32 τ30 hp31
  obtain ⟨rfl, h29, F28⟩ := hp31
  have N33 := (F28).1.1
  have FF34 := h_F_u FF0 F28 (fun _ _ z => z) (by intro q hq hz; omega) (Nat.le_refl _) (Nat.le_refl _)
  refine sv_aload_n dJ2_init_2_4 rfl ?_
  refine sv_gets 5 rfl q587 dJ2_init_2_5 ?_
  refine sv_top hz.1 ?_
  refine sv_put fp_J2_9 dJ2_init_2_8 h29 rfl rfl (Nat.le_of_ble_eq_true rfl) ?_
  refine hs_up h29 (fun τ35 F36 h37 N38 Z39 => ?_)
  have h37 : sx_c τ35 l = some (.inr (9, [.int (nI 0), .ref z, .int (nI 0)])) := h37
  have FF40 := h_F_u FF34 F36 (fun _ _ z => z) (by intro q hq hz; omega) (Nat.le_refl _) (Nat.le_refl _)
  refine sv_vret rfl dJ2_init_2_11 ?_
  exact ⟨_, rfl, rfl, ⟨_, _, h37, hz⟩, FF40⟩
theorem cj_size {l ar cap n : Nat} {g : Nat → Nat} (hL : k_L G σ l ar cap n g) : sx_Cr G 0 YJ2_size [.ref l] σ (some (.int (nI n))) σ := by
  refine sx_body (by decide) (Nat.le_of_ble_eq_true rfl) ?_
  obtain ⟨mc, f, hl, ha, h1, h2, h3, hg⟩ := hL
  refine sv_aload_n dJ2_size_0 rfl ?_
  refine sv_get fg_J2_48 dJ2_size_1 (sx_rd_c hl) rfl ?_
  refine sv_iret rfl rfl dJ2_size_4 ?_
  exact ⟨_, rfl, rfl, rfl⟩
theorem cj_size0 {l : Nat} (hL : k_L0 G σ l) : sx_Cr G 0 YJ2_size [.ref l] σ (some (.int (nI 0))) σ := by
  refine sx_body (by decide) (Nat.le_of_ble_eq_true rfl) ?_
  obtain ⟨mc, z, hl, hz⟩ := hL
  refine sv_aload_n dJ2_size_0 rfl ?_
  refine sv_get fg_J2_48 dJ2_size_1 (sx_rd_c hl) rfl ?_
  refine sv_iret rfl rfl dJ2_size_4 ?_
  exact ⟨_, rfl, rfl, rfl⟩
theorem cj_isEmpty {l ar cap n : Nat} {g : Nat → Nat} (hL : k_L G σ l ar cap n g) : sx_Cr G 0 YJ2_isEmpty [.ref l] σ (some (.int (b_I (decide (n = 0))))) σ := by
  refine sx_body (by decide) (Nat.le_of_ble_eq_true rfl) ?_
  obtain ⟨mc, f, hl, ha, h1, h2, h3, hg⟩ := hL
  refine sv_aload_n dJ2_isEmpty_0 rfl ?_
  refine sv_get fg_J2_48 dJ2_isEmpty_1 (sx_rd_c hl) rfl ?_
  refine sv_if_neN (tgt := 11) dJ2_isEmpty_4 (by decide) (by omega) (fun c4 => ?_) (fun c4 => ?_)
  · refine sv_iconst (nI 0) dJ2_isEmpty_11 (by decide +kernel) ?_
    refine sv_iret (by first | exact b_I_nar _ | rfl) rfl dJ2_isEmpty_12 ?_
    first | exact ⟨_, rfl, r_I (b_I_neg (by omega)), rfl⟩ | exact ⟨_, rfl, r_I (b_I_pos (by omega)), rfl⟩
  · refine sv_iconst (nI 1) dJ2_isEmpty_7 (by decide +kernel) ?_
    refine sv_goto (tgt := 12) dJ2_isEmpty_8 (by decide) ?_
    refine sv_iret (by first | exact b_I_nar _ | rfl) rfl dJ2_isEmpty_12 ?_
    first | exact ⟨_, rfl, r_I (b_I_neg (by omega)), rfl⟩ | exact ⟨_, rfl, r_I (b_I_pos (by omega)), rfl⟩
theorem cj_J14 {i n : Nat} (hi : i < n) (hn : n < 2 ^ 31) : sx_Cr G 0 YJ14_checkIndex [.int (nI i), .int (nI n), .null] σ (some (.int (nI i))) σ := by
  refine sx_body (by decide) (Nat.le_of_ble_eq_true rfl) ?_
  refine sv_iload_n dJ14_checkIndex_0 rfl ?_
  refine sv_if_lt (tgt := 9) dJ14_checkIndex_1 (by decide) (fun c1 => ?_) (fun c1 => ?_)
  · exact absurd c1 (nI_pos (by omega))
  · refine sv_iload_n dJ14_checkIndex_4 rfl ?_
    refine sv_iload_n dJ14_checkIndex_5 rfl ?_
    refine sv_icmp_ltN (tgt := 16) dJ14_checkIndex_6 (by decide) (by omega) (by omega) (fun c6 => ?_) (fun c6 => ?_)
    · refine sv_iload_n dJ14_checkIndex_16 rfl ?_
      refine sv_iret rfl rfl dJ14_checkIndex_17 ?_
      exact ⟨_, rfl, rfl, rfl⟩
    · omega
theorem cj_J19 {i n : Nat} (hi : i < n) (hn : n < 2 ^ 31) : sx_Cr G 1 YJ19_checkIndex [.int (nI i), .int (nI n)] σ (some (.int (nI i))) σ := by
  refine sx_body (by decide) (Nat.le_of_ble_eq_true rfl) ?_
  refine sv_iload_n dJ19_checkIndex_0 rfl ?_
  refine sv_iload_n dJ19_checkIndex_1 rfl ?_
  refine sv_null dJ19_checkIndex_2 ?_
  refine sv_csR _ (cj_J14 hi hn) okJ14_checkIndex ks_J19_105 dJ19_checkIndex_3 rfl rfl (by decide) (Nat.le_of_ble_eq_true rfl) ?_
  refine sv_iret rfl rfl dJ19_checkIndex_6 ?_
  exact ⟨_, rfl, rfl, rfl⟩
theorem cj_eD {l ar cap n : Nat} {g : Nat → Nat} (hL : k_L G σ l ar cap n g) {i : Nat} (hi : i < n) : sx_Cr G 0 YJ2_elementData [.ref l, .int (nI i)] σ (some (.ref (g i))) σ := by
  refine sx_body (by decide) (Nat.le_of_ble_eq_true rfl) ?_
  obtain ⟨mc, f, hl, ha, h1, h2, h3, hg⟩ := hL
  refine sv_aload_n dJ2_elementData_0 rfl ?_
  refine sv_get fg_J2_9 dJ2_elementData_1 (sx_rd_c hl) rfl ?_
  refine sv_iload_n dJ2_elementData_4 rfl ?_
  refine sv_aald 5 rfl dJ2_elementData_5 (sx_rd_c ha) (vp_in_nI (by omega) (by omega)) ?_
  rw [nI_clamp (show i < 2 ^ 31 by omega)]
  refine sv_topR (a := (g i)) (hg i hi) ?_
  refine sv_aret (Or.inr ⟨_, rfl⟩) (Or.inl ⟨_, rfl⟩) rfl dJ2_elementData_6 ?_
  exact ⟨_, rfl, rfl, rfl⟩
theorem cj_get {l ar cap n : Nat} {g : Nat → Nat} (hL : k_L G σ l ar cap n g) {i : Nat} (hi : i < n) : sx_Cr G 2 YJ2_get [.ref l, .int (nI i)] σ (some (.ref (g i))) σ := by
  refine sx_body (by decide) (Nat.le_of_ble_eq_true rfl) ?_
  have hL0 := hL
  obtain ⟨mc, f, hl, ha, h1, h2, h3, hg⟩ := hL
  refine sv_iload_n dJ2_get_0 rfl ?_
  refine sv_aload_n dJ2_get_1 rfl ?_
  refine sv_get fg_J2_48 dJ2_get_2 (sx_rd_c hl) rfl ?_
  refine sv_csR _ (cj_J19 hi (by omega)) okJ19_checkIndex ks_J2_118 dJ2_get_5 rfl rfl (by decide) (Nat.le_of_ble_eq_true rfl) ?_
  refine sv_pop dJ2_get_8 rfl ?_
  refine sv_aload_n dJ2_get_9 rfl ?_
  refine sv_iload_n dJ2_get_10 rfl ?_
  refine sv_cvR _ (cj_eD hL0 hi) okJ2_elementData kv_J2_123 (sx_rd_c hl) rfl dJ2_get_11 rfl rfl (by decide) (Nat.le_of_ble_eq_true rfl) ?_
  refine sv_aret (Or.inr ⟨_, rfl⟩) (Or.inl ⟨_, rfl⟩) rfl dJ2_get_14 ?_
  exact ⟨_, rfl, rfl, rfl⟩
theorem cj_set {l ar cap n : Nat} {g : Nat → Nat} (hL : k_L G σ l ar cap n g) {i v : Nat} (hi : i < n) {ci : Nat} (ho : k_O ci) (hv : k_E G σ ci v) : sx_Cp G 2 YJ2_set [.ref l, .int (nI i), .ref v] σ (fun w τ => w = some (.ref (g i)) ∧ k_L G τ l ar cap n (va_up g i v) ∧ h_F (fun q => q = ar) 0 0 σ τ) := by
  refine sx_body (by decide) (Nat.le_of_ble_eq_true rfl) ?_
  have hL0 := hL
  obtain ⟨mc, f, hl, ha, h1, h2, h3, hg⟩ := hL
  obtain ⟨vs, hv⟩ := hv
  obtain ⟨C0, T0, N0, o1, o2⟩ := ho
  have FF0 : h_F (fun q => q = ar) 0 0 σ σ := h_F_r
  refine sv_iload_n dJ2_set_0 rfl ?_
  refine sv_aload_n dJ2_set_1 rfl ?_
  refine sv_get fg_J2_48 dJ2_set_2 (sx_rd_c hl) rfl ?_
  refine sv_csR _ (cj_J19 hi (by omega)) okJ19_checkIndex ks_J2_118 dJ2_set_5 rfl rfl (by decide) (Nat.le_of_ble_eq_true rfl) ?_
  refine sv_pop dJ2_set_8 rfl ?_
  refine sv_aload_n dJ2_set_9 rfl ?_
  refine sv_iload_n dJ2_set_10 rfl ?_
  refine sv_cvR _ (cj_eD hL0 hi) okJ2_elementData kv_J2_123 (sx_rd_c hl) rfl dJ2_set_11 rfl rfl (by decide) (Nat.le_of_ble_eq_true rfl) ?_
  refine sv_astore_n dJ2_set_14 (by decide) ?_
  refine sv_aload_n dJ2_set_15 rfl ?_
  refine sv_get fg_J2_9 dJ2_set_16 (sx_rd_c hl) rfl ?_
  refine sv_iload_n dJ2_set_19 rfl ?_
  refine sv_aload_n dJ2_set_20 rfl ?_
  refine sv_aast 5 rfl (sx_rd_c hv) o1 (Or.inr o2) dJ2_set_21 ha (vp_in_nI (by omega) (by omega)) ?_
  rw [nI_clamp (show i < 2 ^ 31 by omega)]
  refine hs_up ha (fun τ41 F42 h43 N44 Z45 => ?_)
  have h43 : sx_c τ41 ar = some (.inl (sg_a G 5, cap, .inr (.inr (.inr (.inr ((va_up f i (some v)))))))) := h43
  have hl' := h_F_c F42 hl (e_kn hl ha rfl)
  have FF46 := h_F_u FF0 F42 (fun _ _ z => z) (by intro q hq hz; omega) (Nat.le_refl _) (Nat.le_refl _)
  refine sv_aload_n dJ2_set_22 rfl ?_
  refine sv_aret (Or.inr ⟨_, rfl⟩) (Or.inl ⟨_, rfl⟩) rfl dJ2_set_23 ?_
  refine ⟨_, rfl, rfl, ⟨_, _, hl', h43, h1, h2, h3, fun j hj => ?_⟩, FF46⟩
  unfold va_up
  by_cases hji : j = i
  · rw [if_pos hji, if_pos hji]
  · rw [if_neg hji, if_neg hji]; exact hg j hj
theorem cj_newLength {a b c : Nat} (h : a + max b c < 2000000000) (h0 : 0 < a + max b c) : sx_Cr G 1 YJ11_newLength [.int (nI a), .int (nI b), .int (nI c)] σ (some (.int (nI (a + max b c)))) σ := by
  refine sx_body (by decide) (Nat.le_of_ble_eq_true rfl) ?_
  refine sv_iload_n dJ11_newLength_0 rfl ?_
  refine sv_iload_n dJ11_newLength_1 rfl ?_
  refine sv_iload_n dJ11_newLength_2 rfl ?_
  refine sv_jmax q319 q320 q165 q321 dJ11_newLength_3 (by decide) (Nat.le_of_ble_eq_true rfl) ?_
  refine sv_tI (y := nI (max b c)) (nI_mx (by omega) (by omega)) ?_
  refine sv_iaddN dJ11_newLength_6 ?_
  refine sv_istore_n dJ11_newLength_7 (by decide) ?_
  refine sv_iconst (nI 0) dJ11_newLength_8 (by decide +kernel) ?_
  refine sv_iload_n dJ11_newLength_9 rfl ?_
  refine sv_icmp_geN (tgt := 21) dJ11_newLength_10 (by decide) (by omega) (by omega) (fun c10 => ?_) (fun c10 => ?_)
  · omega
  · refine sv_iload_n dJ11_newLength_13 rfl ?_
    refine sv_ldc q322 dJ11_newLength_14 ?_
    refine sv_tI (y := nI 2147483639) (by decide +kernel) ?_
    refine sv_icmp_gtN (tgt := 21) dJ11_newLength_16 (by decide) (by omega) (by omega) (fun c16 => ?_) (fun c16 => ?_)
    · omega
    · refine sv_iload_n dJ11_newLength_19 rfl ?_
      refine sv_iret rfl rfl dJ11_newLength_20 ?_
      exact ⟨_, rfl, rfl, rfl⟩
theorem cj_copyOf3 {a cap n : Nat} {f : Nat → Option Nat} {ci : Nat} (ho : k_O ci) (ha : sx_c σ a = some (.inl (sg_a G 5, cap, .inr (.inr (.inr (.inr f)))))) (hel : ∀ i, i < cap → ∀ y, f i = some y → k_E G σ ci y) (hcap : cap ≤ n) (hn : n ≤ 200000) : sx_Cp G 1 YJ13_copyOf_3 [.ref a, .int (nI n), .ref (sg_m G 99)] σ (fun v τ => ∃ ar, v = some (.ref ar) ∧ sx_n σ ≤ ar ∧ (∃ f2, sx_c τ ar = some (.inl (sg_a G 5, n, .inr (.inr (.inr (.inr f2))))) ∧ ∀ i, i < cap → f2 i = f i) ∧ h_F (fun q => False) 1 n σ τ) := by
  refine sx_body (by decide) (Nat.le_of_ble_eq_true rfl) ?_
  obtain ⟨C0, T0, N0, o1, o2⟩ := ho
  have FF0 : h_F (fun q => False) 0 0 σ σ := h_F_r
  refine sv_aload_n dJ13_copyOf_3_0 rfl ?_
  refine sv_ldcM q968 dJ13_copyOf_3_1 ?_
  refine sv_acmp_ne (rx := (some ((sg_m G 99)))) (ry := (some ((sg_m G 99)))) (tgt := 13) dJ13_copyOf_3_3 (by decide) (fun c3 => ?_) (fun c3 => ?_)
  · exact absurd rfl c3
  · refine sv_iload_n dJ13_copyOf_3_6 rfl ?_
    refine sv_anew 5 n rfl q969 q215 dJ13_copyOf_3_7 (nI_pos (by omega)) (nI_clamp (by omega)) (by omega) ?_
    refine hs_al (fun a47 τ48 E53 F49 h50 N51 Z52 => ?_)
    have e54 : a ≠ a47 := by have := sx_lt ha; omega
    have ha' := h_F_c F49 ha (fun z => z)
    have hel := fun (i : Nat) (hi : _) (y : Nat) (hy : _) => k_E_fr F49 (hel i hi y hy) (fun z => z)
    have FF55 := h_F_u FF0 F49 (fun _ _ z => z) (fun _ _ z => z.elim) (Nat.le_refl _) (Nat.le_refl _)
    have h50 : sx_c τ48 a47 = some (.inl (sg_a G 5, n, .inr (.inr (.inr (.inr ((fun _ => none))))))) := h50
    refine sv_goto (tgt := 24) dJ13_copyOf_3_10 (by decide) ?_
    refine sv_astore_n dJ13_copyOf_3_24 (by decide) ?_
    refine sv_aload_n dJ13_copyOf_3_25 rfl ?_
    refine sv_iconst (nI 0) dJ13_copyOf_3_26 (by decide +kernel) ?_
    refine sv_aload_n dJ13_copyOf_3_27 rfl ?_
    refine sv_iconst (nI 0) dJ13_copyOf_3_28 (by decide +kernel) ?_
    refine sv_aload_n dJ13_copyOf_3_29 rfl ?_
    refine sv_alen 5 rfl (nI cap) dJ13_copyOf_3_30 (sx_rd_c ha') rfl ?_
    refine sv_iload_n dJ13_copyOf_3_31 rfl ?_
    refine sv_jmin q337 q338 q165 q339 dJ13_copyOf_3_32 (by decide) (Nat.le_of_ble_eq_true rfl) ?_
    refine sv_tI (y := nI cap) (by rw [nI_mn (by omega) (by omega), Nat.min_eq_left hcap]) ?_
    refine sv_copyQ ci q340 (sx_rd_c ha') h50 (nI_pos (by omega)) (nI_pos (by omega)) (nI_pos (by omega)) (by rw [(nI_clamp (show 0 < 2 ^ 31 by omega)), (nI_clamp (show cap < 2 ^ 31 by omega))]; omega) (by rw [(nI_clamp (show 0 < 2 ^ 31 by omega)), (nI_clamp (show cap < 2 ^ 31 by omega))]; omega) o1 o2 (by rw [(nI_clamp (show 0 < 2 ^ 31 by omega)), (nI_clamp (show cap < 2 ^ 31 by omega))]; exact (fun i hi y hy => by rw [Nat.zero_add] at hy; obtain ⟨vs, hv⟩ := hel i hi y hy; exact ⟨vs, sx_rd_c hv⟩)) dJ13_copyOf_3_35 (by decide) (Nat.le_of_ble_eq_true rfl) ?_
    rw [(nI_clamp (show 0 < 2 ^ 31 by omega)), (nI_clamp (show cap < 2 ^ 31 by omega))]
    refine hs_up h50 (fun τ56 F57 h58 N59 Z60 => ?_)
    have h58 : sx_c τ56 a47 = some (.inl (sg_a G 5, n, .inr (.inr (.inr (.inr ((va_cpy f ((fun _ => none)) 0 0 cap))))))) := h58
    have ha'' := h_F_c F57 ha' e54
    have hel := fun (i : Nat) (hi : _) (y : Nat) (hy : _) => k_E_fr F57 (hel i hi y hy) (k_E_a (hel i hi y hy) h50)
    have FF61 := h_F_u FF55 F57 (fun _ _ z => z) (by intro q hq hz; omega) (Nat.le_refl _) (Nat.le_refl _)
    refine sv_aload_n dJ13_copyOf_3_38 rfl ?_
    refine sv_aret (Or.inr ⟨_, rfl⟩) (Or.inr ⟨_, rfl⟩) rfl dJ13_copyOf_3_39 ?_
    refine ⟨_, rfl, _, rfl, by omega, ⟨_, h58, fun i hi => ?_⟩, h_F_w FF61 (fun _ _ z => z) (by omega) (by omega)⟩
    unfold va_cpy
    rw [if_pos ⟨by omega, by omega⟩, Nat.sub_zero, Nat.zero_add]
theorem cj_copyOf2 {a cap n : Nat} {f : Nat → Option Nat} {ci : Nat} (ho : k_O ci) (ha : sx_c σ a = some (.inl (sg_a G 5, cap, .inr (.inr (.inr (.inr f)))))) (hel : ∀ i, i < cap → ∀ y, f i = some y → k_E G σ ci y) (hcap : cap ≤ n) (hn : n ≤ 200000) : sx_Cp G 2 YJ13_copyOf_2 [.ref a, .int (nI n)] σ (fun v τ => ∃ ar, v = some (.ref ar) ∧ sx_n σ ≤ ar ∧ (∃ f2, sx_c τ ar = some (.inl (sg_a G 5, n, .inr (.inr (.inr (.inr f2))))) ∧ ∀ i, i < cap → f2 i = f i) ∧ h_F (fun q => False) 1 n σ τ) := by
  refine sx_body (by decide) (Nat.le_of_ble_eq_true rfl) ?_
  refine sv_aload_n dJ13_copyOf_2_0 rfl ?_
  refine sv_iload_n dJ13_copyOf_2_1 rfl ?_
  refine sv_aload_n dJ13_copyOf_2_2 rfl ?_
  refine sv_getC (sx_rd_c ha) q940 q2835 q2834 q941 q964 dJ13_copyOf_2_3 (by decide) (Nat.le_of_ble_eq_true rfl) ?_
  refine sv_csP _ (cj_copyOf3 ho ha hel hcap hn) okJ13_copyOf_3 ks_J13_300 dJ13_copyOf_2_6 rfl rfl (by decide) (Nat.le_of_ble_eq_true rfl) ?_
  intro v70 τ68 hp69
  obtain ⟨ar63, rfl, hn67, ⟨g65, h66, e64⟩, F62⟩ := hp69
  have N71 := (F62).1.1
  have ha' := h_F_c F62 ha (fun z => z)
  refine sv_aret (Or.inr ⟨_, rfl⟩) (Or.inr ⟨_, rfl⟩) rfl dJ13_copyOf_2_9 ?_
  exact ⟨_, rfl, _, rfl, hn67, ⟨_, h66, e64⟩, F62⟩
theorem cj_grow2 {l ar cap : Nat} {mc : Int32} {f : Nat → Option Nat} {ci : Nat} (ho : k_O ci) (hc9 : ci ≠ 9) (hl : sx_c σ l = some (.inr (9, [.int mc, .ref ar, .int (nI cap)]))) (ha : sx_c σ ar = some (.inl (sg_a G 5, cap, .inr (.inr (.inr (.inr f)))))) (h2 : 0 < cap) (h3 : cap ≤ 60000) (hel : ∀ i, i < cap → ∀ y, f i = some y → k_E G σ ci y) : sx_Cp G 3 YJ2_grow_2 [.ref l, .int (nI (cap + 1))] σ (fun v τ => ∃ ar2, v = some (.ref ar2) ∧ sx_n σ ≤ ar2 ∧ (∃ cap2 f2, cap < cap2 ∧ cap2 ≤ 2 * cap + 2 ∧ sx_c τ l = some (.inr (9, [.int mc, .ref ar2, .int (nI cap)])) ∧ sx_c τ ar2 = some (.inl (sg_a G 5, cap2, .inr (.inr (.inr (.inr f2))))) ∧ (∀ i, i < cap → f2 i = f i) ∧ h_F (fun q => q = l) 1 (4 * (cap2 - cap)) σ τ)) := by
  refine sx_body (by decide) (Nat.le_of_ble_eq_true rfl) ?_
  have FF0 : h_F (fun q => q = l) 0 0 σ σ := h_F_r
  refine sv_aload_n dJ2_grow_2_0 rfl ?_
  refine sv_get fg_J2_9 dJ2_grow_2_1 (sx_rd_c hl) rfl ?_
  refine sv_alen 5 rfl (nI cap) dJ2_grow_2_4 (sx_rd_c ha) rfl ?_
  refine sv_istore_n dJ2_grow_2_5 (by decide) ?_
  refine sv_iload_n dJ2_grow_2_6 rfl ?_
  refine sv_if_gtN (tgt := 20) dJ2_grow_2_7 (by decide) (by omega) (fun c7 => ?_) (fun c7 => ?_)
  · refine sv_iload_n dJ2_grow_2_20 rfl ?_
    refine sv_iload_n dJ2_grow_2_21 rfl ?_
    refine sv_iload_n dJ2_grow_2_22 rfl ?_
    refine sv_isubN dJ2_grow_2_23 (by omega) ?_
    refine sv_iload_n dJ2_grow_2_24 rfl ?_
    refine sv_iconst (nI 1) dJ2_grow_2_25 (by decide +kernel) ?_
    refine sv_ishr dJ2_grow_2_26 ?_
    refine sv_tI (y := nI (cap / 2)) (nI_half (by omega)) ?_
    refine sv_csR _ (cj_newLength (by omega) (by omega)) okJ11_newLength ks_J2_73 dJ2_grow_2_27 rfl rfl (by decide) (Nat.le_of_ble_eq_true rfl) ?_
    refine sv_istore_n dJ2_grow_2_30 (by decide) ?_
    refine sv_aload_n dJ2_grow_2_31 rfl ?_
    refine sv_aload_n dJ2_grow_2_32 rfl ?_
    refine sv_get fg_J2_9 dJ2_grow_2_33 (sx_rd_c hl) rfl ?_
    refine sv_iload_n dJ2_grow_2_36 rfl ?_
    refine sv_csP _ (cj_copyOf2 ho ha hel (by omega) (by omega)) okJ13_copyOf_2 ks_J2_66 dJ2_grow_2_37 rfl rfl (by decide) (Nat.le_of_ble_eq_true rfl) ?_
    intro v80 τ78 hp79
    obtain ⟨ar73, rfl, hn77, ⟨g75, h76, e74⟩, F72⟩ := hp79
    have N81 := (F72).1.1
    have hl' := h_F_c F72 hl (fun z => z)
    have ha' := h_F_c F72 ha (fun z => z)
    have FF82 := h_F_u FF0 F72 (fun _ _ z => z) (fun _ _ z => z.elim) (Nat.le_refl _) (Nat.le_refl _)
    have hnar := hn77
    have hsl := e74
    refine sv_dup_x1 dJ2_grow_2_40 rfl rfl ?_
    refine sv_put fp_J2_9 dJ2_grow_2_41 hl' rfl rfl (Nat.le_of_ble_eq_true rfl) ?_
    refine hs_up hl' (fun τ83 F84 h85 N86 Z87 => ?_)
    have h85 : sx_c τ83 l = some (.inr (9, [.int mc, .ref ar73, .int (nI cap)])) := h85
    have ha'' := h_F_c F84 ha' (e_kn ha' hl' rfl)
    have h76' := h_F_c F84 h76 (e_kn h76 hl' rfl)
    have FF88 := h_F_u FF82 F84 (fun _ _ z => z) (by intro q hq hz; omega) (Nat.le_refl _) (Nat.le_refl _)
    refine sv_aret (Or.inr ⟨_, rfl⟩) (Or.inr ⟨_, rfl⟩) rfl dJ2_grow_2_44 ?_
    exact ⟨_, rfl, _, rfl, by omega, _, _, by omega, by omega, h85, h76', hsl, h_F_w FF88 (fun _ _ z => z) (by omega) (by omega)⟩
  · omega
theorem cj_grow {l ar cap : Nat} {mc : Int32} {f : Nat → Option Nat} {ci : Nat} (ho : k_O ci) (hc9 : ci ≠ 9) (hl : sx_c σ l = some (.inr (9, [.int mc, .ref ar, .int (nI cap)]))) (ha : sx_c σ ar = some (.inl (sg_a G 5, cap, .inr (.inr (.inr (.inr f)))))) (h2 : 0 < cap) (h3 : cap ≤ 60000) (hel : ∀ i, i < cap → ∀ y, f i = some y → k_E G σ ci y) : sx_Cp G 4 YJ2_grow [.ref l] σ (fun v τ => ∃ ar2, v = some (.ref ar2) ∧ sx_n σ ≤ ar2 ∧ (∃ cap2 f2, cap < cap2 ∧ cap2 ≤ 2 * cap + 2 ∧ sx_c τ l = some (.inr (9, [.int mc, .ref ar2, .int (nI cap)])) ∧ sx_c τ ar2 = some (.inl (sg_a G 5, cap2, .inr (.inr (.inr (.inr f2))))) ∧ (∀ i, i < cap → f2 i = f i) ∧ h_F (fun q => q = l) 1 (4 * (cap2 - cap)) σ τ)) := by
  refine sx_body (by decide) (Nat.le_of_ble_eq_true rfl) ?_
  refine sv_aload_n dJ2_grow_0 rfl ?_
  refine sv_aload_n dJ2_grow_1 rfl ?_
  refine sv_get fg_J2_48 dJ2_grow_2 (sx_rd_c hl) rfl ?_
  refine sv_iconst (nI 1) dJ2_grow_5 (by decide +kernel) ?_
  refine sv_iaddN dJ2_grow_6 ?_
  refine sv_cvP _ (cj_grow2 ho hc9 hl ha h2 h3 hel) okJ2_grow_2 kv_J2_69 (sx_rd_c hl) rfl dJ2_grow_7 rfl rfl (by decide) (Nat.le_of_ble_eq_true rfl) ?_
  intro v94 τ92 hp93
  obtain ⟨ar89, rfl, hn90, rest91⟩ := hp93
  refine sv_aret (Or.inr ⟨_, rfl⟩) (Or.inr ⟨_, rfl⟩) rfl dJ2_grow_10 ?_
  exact ⟨_, rfl, _, rfl, hn90, rest91⟩
theorem k_L_put {l ar cap n v : Nat} {g : Nat → Nat} {mc : Int32} {f : Nat → Option Nat} (hl : sx_c σ l = some (.inr (9, [.int mc, .ref ar, .int (nI (n + 1))]))) (ha : sx_c σ ar = some (.inl (sg_a G 5, cap, .inr (.inr (.inr (.inr (va_up f n (some v)))))))) (h1 : n < cap) (h3 : cap ≤ 100000) (hg : ∀ i, i < n → f i = some (g i)) : k_L G σ l ar cap (n + 1) (va_up g n v) := by
  refine ⟨mc, _, hl, ha, by omega, by omega, h3, fun j hj => ?_⟩
  unfold va_up
  by_cases hji : j = n
  · rw [if_pos hji, if_pos hji]
  · rw [if_neg hji, if_neg hji]
    exact hg j (by omega)
theorem cj_add2 {l ar cap n : Nat} {g : Nat → Nat} (hL : k_L G σ l ar cap n g) {v ci : Nat} (ho : k_O ci) (hc9 : ci ≠ 9) (hv : k_E G σ ci v) (hel : ∀ i, i < n → k_E G σ ci (g i)) (hn : n ≤ 40000) : sx_Cp G 5 YJ2_add_2 [.ref l, .ref v, .ref ar, .int (nI n)] σ (fun w τ => w = none ∧ ∃ ar2 cap2, cap ≤ cap2 ∧ (cap2 ≤ cap ∨ cap2 ≤ 2 * n + 2) ∧ (ar2 = ar ∨ sx_n σ ≤ ar2) ∧ k_L G τ l ar2 cap2 (n + 1) (va_up g n v) ∧ h_F (fun q => q = l ∨ q = ar) 1 (4 * (cap2 - cap)) σ τ) := by
  refine sx_body (by decide) (Nat.le_of_ble_eq_true rfl) ?_
  obtain ⟨mc, f, hl, ha, h1, h2, h3, hg⟩ := hL
  have FF0 : h_F (fun q => q = l ∨ q = ar) 0 0 σ σ := h_F_r
  refine sv_iload_n dJ2_add_2_0 rfl ?_
  refine sv_aload_n dJ2_add_2_1 rfl ?_
  refine sv_alen 5 rfl (nI cap) dJ2_add_2_2 (sx_rd_c ha) rfl ?_
  refine sv_icmp_neN (tgt := 11) dJ2_add_2_3 (by decide) (by omega) (by omega) (fun c3 => ?_) (fun c3 => ?_)
  · refine sv_aload_n dJ2_add_2_11 rfl ?_
    refine sv_iload_n dJ2_add_2_12 rfl ?_
    refine sv_aload_n dJ2_add_2_13 rfl ?_
    obtain ⟨C0, T0, N0, o1, o2⟩ := ho
    have hvv := hv
    obtain ⟨vs, hvv⟩ := hvv
    refine sv_aast 5 rfl (sx_rd_c hvv) o1 (Or.inr o2) dJ2_add_2_14 ha (vp_in_nI (by omega) (by omega)) ?_
    rw [nI_clamp (show n < 2 ^ 31 by omega)]
    refine hs_up ha (fun τ95 F96 h97 N98 Z99 => ?_)
    have h97 : sx_c τ95 ar = some (.inl (sg_a G 5, cap, .inr (.inr (.inr (.inr ((va_up f n (some v)))))))) := h97
    have hl' := h_F_c F96 hl (e_kn hl ha rfl)
    have hv := k_E_fr F96 hv (k_E_a hv ha)
    have FF100 := h_F_u FF0 F96 (fun _ _ z => z) (by intro q hq hz; omega) (Nat.le_refl _) (Nat.le_refl _)
    refine sv_aload_n dJ2_add_2_15 rfl ?_
    refine sv_iload_n dJ2_add_2_16 rfl ?_
    refine sv_iconst (nI 1) dJ2_add_2_17 (by decide +kernel) ?_
    refine sv_iaddN dJ2_add_2_18 ?_
    refine sv_put fp_J2_48 dJ2_add_2_19 hl' rfl rfl (Nat.le_of_ble_eq_true rfl) ?_
    refine hs_up hl' (fun τ101 F102 h103 N104 Z105 => ?_)
    have h103 : sx_c τ101 l = some (.inr (9, [.int mc, .ref ar, .int (nI (n + 1))])) := h103
    have h97' := h_F_c F102 h97 (e_kn h97 hl' rfl)
    have hv := k_E_fr F102 hv (fun z => k_E_l hv hl' hc9 z)
    have FF106 := h_F_u FF100 F102 (fun _ _ z => z) (by intro q hq hz; omega) (Nat.le_refl _) (Nat.le_refl _)
    refine sv_vret rfl dJ2_add_2_22 ?_
    exact ⟨_, rfl, rfl, ar, cap, by omega, by omega, by first | exact Or.inl rfl | exact Or.inr (by omega), k_L_put h103 h97' (by omega) (by omega) (by first | exact hg | exact hg2), h_F_w FF106 (fun _ _ z => z) (by omega) (by omega)⟩
  · obtain rfl : n = cap := by omega
    have hel4 : ∀ i, i < n → ∀ y, f i = some y → k_E G σ ci y := fun i hi y hy => by rw [hg i hi] at hy; cases hy; exact hel i hi
    refine sv_aload_n dJ2_add_2_6 rfl ?_
    refine sv_cvP _ (cj_grow ho hc9 hl ha h2 (by omega) hel4) okJ2_grow kv_J2_129 (sx_rd_c hl) rfl dJ2_add_2_7 rfl rfl (by decide) (Nat.le_of_ble_eq_true rfl) ?_
    intro v119 τ117 hp118
    obtain ⟨ar108, rfl, hn114, c109, g111, l1115, l2116, h112, h2113, e110, F107⟩ := hp118
    have N120 := (F107).1.1
    have ha' := h_F_c F107 ha (e_kn ha hl rfl)
    have hv := k_E_fr F107 hv (fun z => k_E_l hv hl hc9 z)
    have FF121 := h_F_u FF0 F107 (fun _ _ z => z) (by intro q hq hz; omega) (Nat.le_refl _) (Nat.le_refl _)
    have hg2 : ∀ i, i < n → g111 i = some (g i) := fun i hi => (e110 i hi).trans (hg i hi)
    refine sv_astore_n dJ2_add_2_10 (by decide) ?_
    refine sv_aload_n dJ2_add_2_11 rfl ?_
    refine sv_iload_n dJ2_add_2_12 rfl ?_
    refine sv_aload_n dJ2_add_2_13 rfl ?_
    obtain ⟨C0, T0, N0, o1, o2⟩ := ho
    have hvv := hv
    obtain ⟨vs, hvv⟩ := hvv
    refine sv_aast 5 rfl (sx_rd_c hvv) o1 (Or.inr o2) dJ2_add_2_14 h2113 (vp_in_nI (by omega) (by omega)) ?_
    rw [nI_clamp (show n < 2 ^ 31 by omega)]
    refine hs_up h2113 (fun τ122 F123 h124 N125 Z126 => ?_)
    have h124 : sx_c τ122 ar108 = some (.inl (sg_a G 5, c109, .inr (.inr (.inr (.inr ((va_up g111 n (some v)))))))) := h124
    have h112' := h_F_c F123 h112 (e_kn h112 h2113 rfl)
    have hv := k_E_fr F123 hv (k_E_a hv h2113)
    have FF127 := h_F_u FF121 F123 (fun _ _ z => z) (by intro q hq hz; omega) (Nat.le_refl _) (Nat.le_refl _)
    refine sv_aload_n dJ2_add_2_15 rfl ?_
    refine sv_iload_n dJ2_add_2_16 rfl ?_
    refine sv_iconst (nI 1) dJ2_add_2_17 (by decide +kernel) ?_
    refine sv_iaddN dJ2_add_2_18 ?_
    refine sv_put fp_J2_48 dJ2_add_2_19 h112' rfl rfl (Nat.le_of_ble_eq_true rfl) ?_
    refine hs_up h112' (fun τ128 F129 h130 N131 Z132 => ?_)
    have h130 : sx_c τ128 l = some (.inr (9, [.int mc, .ref ar108, .int (nI (n + 1))])) := h130
    have h124' := h_F_c F129 h124 (e_kn h124 h112' rfl)
    have hv := k_E_fr F129 hv (fun z => k_E_l hv h112' hc9 z)
    have FF133 := h_F_u FF127 F129 (fun _ _ z => z) (by intro q hq hz; omega) (Nat.le_refl _) (Nat.le_refl _)
    refine sv_vret rfl dJ2_add_2_22 ?_
    exact ⟨_, rfl, rfl, ar108, c109, by omega, by omega, by first | exact Or.inl rfl | exact Or.inr (by omega), k_L_put h130 h124' (by omega) (by omega) (by first | exact hg | exact hg2), h_F_w FF133 (fun _ _ z => z) (by omega) (by omega)⟩
theorem cj_add {l ar cap n : Nat} {g : Nat → Nat} (hL : k_L G σ l ar cap n g) {v ci : Nat} (ho : k_O ci) (hc9 : ci ≠ 9) (hv : k_E G σ ci v) (hel : ∀ i, i < n → k_E G σ ci (g i)) (hn : n ≤ 40000) : sx_Cp G 6 YJ2_add [.ref l, .ref v] σ (fun w τ => w = some (.int (nI 1)) ∧ ∃ ar2 cap2, cap ≤ cap2 ∧ (cap2 ≤ cap ∨ cap2 ≤ 2 * n + 2) ∧ (ar2 = ar ∨ sx_n σ ≤ ar2) ∧ k_L G τ l ar2 cap2 (n + 1) (va_up g n v) ∧ h_F (fun q => q = l ∨ q = ar) 1 (4 * (cap2 - cap)) σ τ) := by
  refine sx_body (by decide) (Nat.le_of_ble_eq_true rfl) ?_
  obtain ⟨mc, f, hl, ha, h1, h2, h3, hg⟩ := hL
  have FF0 : h_F (fun q => q = l ∨ q = ar) 0 0 σ σ := h_F_r
  refine sv_aload_n dJ2_add_0 rfl ?_
  refine sv_dup dJ2_add_1 rfl ?_
  refine sv_get fg_J2_63 dJ2_add_2 (sx_rd_c hl) rfl ?_
  refine sv_iconst (nI 1) dJ2_add_5 (by decide +kernel) ?_
  refine sv_iadd dJ2_add_6 ?_
  refine sv_put fp_J2_63 dJ2_add_7 hl rfl rfl (Nat.le_of_ble_eq_true rfl) ?_
  refine hs_up hl (fun τ134 F135 h136 N137 Z138 => ?_)
  have h136 : sx_c τ134 l = some (.inr (9, [.int _, .ref ar, .int (nI n)])) := h136
  have ha' := h_F_c F135 ha (e_kn ha hl rfl)
  have hv := k_E_fr F135 hv (k_E_l hv hl hc9)
  have hel := fun (i : Nat) (hi : _) => k_E_fr F135 (hel i hi) (k_E_l (hel i hi) hl hc9)
  have FF139 := h_F_u FF0 F135 (fun _ _ z => z) (by intro q hq hz; omega) (Nat.le_refl _) (Nat.le_refl _)
  refine sv_aload_n dJ2_add_10 rfl ?_
  refine sv_aload_n dJ2_add_11 rfl ?_
  refine sv_aload_n dJ2_add_12 rfl ?_
  refine sv_get fg_J2_9 dJ2_add_13 (sx_rd_c h136) rfl ?_
  refine sv_aload_n dJ2_add_16 rfl ?_
  refine sv_get fg_J2_48 dJ2_add_17 (sx_rd_c h136) rfl ?_
  refine sv_cvP _ (cj_add2 ⟨_, _, h136, ha', h1, h2, h3, hg⟩ ho hc9 hv hel hn) okJ2_add_2 kv_J2_131 (sx_rd_c h136) rfl dJ2_add_20 rfl rfl (by decide) (Nat.le_of_ble_eq_true rfl) ?_
  intro v149 τ147 hp148
  obtain ⟨rfl, ar141, c142, l1145, l2146, d143, h144, F140⟩ := hp148
  refine sv_iconst (nI 1) dJ2_add_23 (by decide +kernel) ?_
  refine sv_iret (by first | exact b_I_nar _ | rfl) rfl dJ2_add_24 ?_
  exact ⟨_, rfl, rfl, _, _, l1145, l2146, by omega, h144, h_F_u FF139 F140 (fun _ _ z => z) (fun _ _ z => z) (by omega) (by omega)⟩
theorem cj_add0_grow2 {l z : Nat} {mc : Int32} (hl : sx_c σ l = some (.inr (9, [.int mc, .ref z, .int (nI 0)]))) (hz : g_Z G z) : sx_Cp G 3 YJ2_grow_2 [.ref l, .int (nI 1)] σ (fun v τ => ∃ ar2, v = some (.ref ar2) ∧ sx_n σ ≤ ar2 ∧ (∃ f2, sx_c τ l = some (.inr (9, [.int mc, .ref ar2, .int (nI 0)])) ∧ sx_c τ ar2 = some (.inl (sg_a G 5, 10, .inr (.inr (.inr (.inr f2))))) ∧ h_F (fun q => q = l) 1 10 σ τ)) := by
  refine sx_body (by decide) (Nat.le_of_ble_eq_true rfl) ?_
  obtain ⟨hz1, f, hk⟩ := hz
  have FF0 : h_F (fun q => q = l) 0 0 σ σ := h_F_r
  refine sv_aload_n dJ2_grow_2_0 rfl ?_
  refine sv_get fg_J2_9 dJ2_grow_2_1 (sx_rd_c hl) rfl ?_
  refine sv_alen 5 rfl (nI 0) dJ2_grow_2_4 (Or.inr hk) rfl ?_
  refine sv_istore_n dJ2_grow_2_5 (by decide) ?_
  refine sv_iload_n dJ2_grow_2_6 rfl ?_
  refine sv_if_gtN (tgt := 20) dJ2_grow_2_7 (by decide) (by omega) (fun c7 => ?_) (fun c7 => ?_)
  · exact absurd c7 (by decide)
  · refine sv_aload_n dJ2_grow_2_10 rfl ?_
    refine sv_get fg_J2_9 dJ2_grow_2_11 (sx_rd_c hl) rfl ?_
    refine sv_gets 5 rfl q587 dJ2_grow_2_14 ?_
    refine sv_top hz1 ?_
    refine sv_acmp_eq (rx := (some z)) (ry := (some z)) (tgt := 45) dJ2_grow_2_17 (by decide) (fun c17 => ?_) (fun c17 => ?_)
    · refine sv_aload_n dJ2_grow_2_45 rfl ?_
      refine sv_bipush (nI 10) dJ2_grow_2_46 (by decide +kernel) ?_
      refine sv_iload_n dJ2_grow_2_48 rfl ?_
      refine sv_jmax q970 q320 q165 q321 dJ2_grow_2_49 (by decide) (Nat.le_of_ble_eq_true rfl) ?_
      refine sv_tI (y := nI 10) (by decide +kernel) ?_
      refine sv_anew 5 10 rfl q214 q215 dJ2_grow_2_52 (nI_pos (by omega)) (nI_clamp (by omega)) (by omega) ?_
      refine hs_al (fun a150 τ151 E156 F152 h153 N154 Z155 => ?_)
      have hl' := h_F_c F152 hl (fun z => z)
      have FF157 := h_F_u FF0 F152 (fun _ _ z => z) (fun _ _ z => z.elim) (Nat.le_refl _) (Nat.le_refl _)
      have h153 : sx_c τ151 a150 = some (.inl (sg_a G 5, 10, .inr (.inr (.inr (.inr ((fun _ => none))))))) := h153
      refine sv_dup_x1 dJ2_grow_2_55 rfl rfl ?_
      refine sv_put fp_J2_9 dJ2_grow_2_56 hl' rfl rfl (Nat.le_of_ble_eq_true rfl) ?_
      refine hs_up hl' (fun τ158 F159 h160 N161 Z162 => ?_)
      have h160 : sx_c τ158 l = some (.inr (9, [.int mc, .ref a150, .int (nI 0)])) := h160
      have h153' := h_F_c F159 h153 (e_kn h153 hl' rfl)
      have FF163 := h_F_u FF157 F159 (fun _ _ z => z) (by intro q hq hz; omega) (Nat.le_refl _) (Nat.le_refl _)
      refine sv_aret (Or.inr ⟨_, rfl⟩) (Or.inr ⟨_, rfl⟩) rfl dJ2_grow_2_59 ?_
      exact ⟨_, rfl, _, rfl, by omega, _, h160, h153', h_F_w FF163 (fun _ _ z => z) (by omega) (by omega)⟩
    · exact absurd rfl c17
theorem cj_add0_grow {l z : Nat} {mc : Int32} (hl : sx_c σ l = some (.inr (9, [.int mc, .ref z, .int (nI 0)]))) (hz : g_Z G z) : sx_Cp G 4 YJ2_grow [.ref l] σ (fun v τ => ∃ ar2, v = some (.ref ar2) ∧ sx_n σ ≤ ar2 ∧ (∃ f2, sx_c τ l = some (.inr (9, [.int mc, .ref ar2, .int (nI 0)])) ∧ sx_c τ ar2 = some (.inl (sg_a G 5, 10, .inr (.inr (.inr (.inr f2))))) ∧ h_F (fun q => q = l) 1 10 σ τ)) := by
  refine sx_body (by decide) (Nat.le_of_ble_eq_true rfl) ?_
  refine sv_aload_n dJ2_grow_0 rfl ?_
  refine sv_aload_n dJ2_grow_1 rfl ?_
  refine sv_get fg_J2_48 dJ2_grow_2 (sx_rd_c hl) rfl ?_
  refine sv_iconst (nI 1) dJ2_grow_5 (by decide +kernel) ?_
  refine sv_iaddN dJ2_grow_6 ?_
  refine sv_cvP _ (cj_add0_grow2 hl hz) okJ2_grow_2 kv_J2_69 (sx_rd_c hl) rfl dJ2_grow_7 rfl rfl (by decide) (Nat.le_of_ble_eq_true rfl) ?_
  intro v169 τ167 hp168
  obtain ⟨ar164, rfl, hn165, rest166⟩ := hp168
  refine sv_aret (Or.inr ⟨_, rfl⟩) (Or.inr ⟨_, rfl⟩) rfl dJ2_grow_10 ?_
  exact ⟨_, rfl, _, rfl, hn165, rest166⟩
theorem cj_add0_2 {l v ci z : Nat} {mc : Int32} (hl : sx_c σ l = some (.inr (9, [.int mc, .ref z, .int (nI 0)]))) (hz : g_Z G z) (ho : k_O ci) (hc9 : ci ≠ 9) (hv : k_E G σ ci v) : sx_Cp G 5 YJ2_add_2 [.ref l, .ref v, .ref z, .int (nI 0)] σ (fun w τ => w = none ∧ ∃ ar2, sx_n σ ≤ ar2 ∧ k_L G τ l ar2 10 1 (fun _ => v) ∧ h_F (fun q => q = l) 1 10 σ τ) := by
  refine sx_body (by decide) (Nat.le_of_ble_eq_true rfl) ?_
  have hz0 := hz
  obtain ⟨hz1, f, hk⟩ := hz
  have FF0 : h_F (fun q => q = l) 0 0 σ σ := h_F_r
  refine sv_iload_n dJ2_add_2_0 rfl ?_
  refine sv_aload_n dJ2_add_2_1 rfl ?_
  refine sv_alen 5 rfl (nI 0) dJ2_add_2_2 (Or.inr hk) rfl ?_
  refine sv_icmp_neN (tgt := 11) dJ2_add_2_3 (by decide) (by omega) (by omega) (fun c3 => ?_) (fun c3 => ?_)
  · exact absurd rfl c3
  · refine sv_aload_n dJ2_add_2_6 rfl ?_
    refine sv_cvP _ (cj_add0_grow hl hz0) okJ2_grow kv_J2_129 (sx_rd_c hl) rfl dJ2_add_2_7 rfl rfl (by decide) (Nat.le_of_ble_eq_true rfl) ?_
    intro v178 τ176 hp177
    obtain ⟨ar171, rfl, hn175, g172, h173, h2174, F170⟩ := hp177
    have N179 := (F170).1.1
    have hv := k_E_fr F170 hv (k_E_l hv hl hc9)
    have FF180 := h_F_u FF0 F170 (fun _ _ z => z) (by intro q hq hz; omega) (Nat.le_refl _) (Nat.le_refl _)
    refine sv_astore_n dJ2_add_2_10 (by decide) ?_
    refine sv_aload_n dJ2_add_2_11 rfl ?_
    refine sv_iload_n dJ2_add_2_12 rfl ?_
    refine sv_aload_n dJ2_add_2_13 rfl ?_
    obtain ⟨C0, T0, N0, o1, o2⟩ := ho
    have hvv := hv
    obtain ⟨vs, hvv⟩ := hvv
    refine sv_aast 5 rfl (sx_rd_c hvv) o1 (Or.inr o2) dJ2_add_2_14 h2174 (vp_in_nI (by omega) (by omega)) ?_
    rw [nI_clamp (show 0 < 2 ^ 31 by omega)]
    refine hs_up h2174 (fun τ181 F182 h183 N184 Z185 => ?_)
    have h183 : sx_c τ181 ar171 = some (.inl (sg_a G 5, 10, .inr (.inr (.inr (.inr ((va_up g172 0 (some v)))))))) := h183
    have h173' := h_F_c F182 h173 (e_kn h173 h2174 rfl)
    have hv := k_E_fr F182 hv (k_E_a hv h2174)
    have FF186 := h_F_u FF180 F182 (fun _ _ z => z) (by intro q hq hz; omega) (Nat.le_refl _) (Nat.le_refl _)
    refine sv_aload_n dJ2_add_2_15 rfl ?_
    refine sv_iload_n dJ2_add_2_16 rfl ?_
    refine sv_iconst (nI 1) dJ2_add_2_17 (by decide +kernel) ?_
    refine sv_iaddN dJ2_add_2_18 ?_
    refine sv_put fp_J2_48 dJ2_add_2_19 h173' rfl rfl (Nat.le_of_ble_eq_true rfl) ?_
    refine hs_up h173' (fun τ187 F188 h189 N190 Z191 => ?_)
    have h189 : sx_c τ187 l = some (.inr (9, [.int mc, .ref ar171, .int (nI (0 + 1))])) := h189
    have h183' := h_F_c F188 h183 (e_kn h183 h173' rfl)
    have hv := k_E_fr F188 hv (k_E_l hv h173' hc9)
    have FF192 := h_F_u FF186 F188 (fun _ _ z => z) (by intro q hq hz; omega) (Nat.le_refl _) (Nat.le_refl _)
    refine sv_vret rfl dJ2_add_2_22 ?_
    exact ⟨_, rfl, rfl, ar171, by omega, k_L_g (k_L_put (g := fun _ => v) (n := 0) h189 h183' (by omega) (by omega) (fun i hi => absurd hi (Nat.not_lt_zero i))) (fun i hi => by unfold va_up; split <;> rfl), h_F_w FF192 (fun _ _ z => z) (by omega) (by omega)⟩
theorem cj_add0 {l v ci : Nat} (hL : k_L0 G σ l) (ho : k_O ci) (hc9 : ci ≠ 9) (hv : k_E G σ ci v) : sx_Cp G 6 YJ2_add [.ref l, .ref v] σ (fun w τ => w = some (.int (nI 1)) ∧ ∃ ar2, sx_n σ ≤ ar2 ∧ k_L G τ l ar2 10 1 (fun _ => v) ∧ h_F (fun q => q = l) 1 10 σ τ) := by
  refine sx_body (by decide) (Nat.le_of_ble_eq_true rfl) ?_
  obtain ⟨mc, z, hl, hz⟩ := hL
  have FF0 : h_F (fun q => q = l) 0 0 σ σ := h_F_r
  refine sv_aload_n dJ2_add_0 rfl ?_
  refine sv_dup dJ2_add_1 rfl ?_
  refine sv_get fg_J2_63 dJ2_add_2 (sx_rd_c hl) rfl ?_
  refine sv_iconst (nI 1) dJ2_add_5 (by decide +kernel) ?_
  refine sv_iadd dJ2_add_6 ?_
  refine sv_put fp_J2_63 dJ2_add_7 hl rfl rfl (Nat.le_of_ble_eq_true rfl) ?_
  refine hs_up hl (fun τ193 F194 h195 N196 Z197 => ?_)
  have h195 : sx_c τ193 l = some (.inr (9, [.int _, .ref z, .int (nI 0)])) := h195
  have hv := k_E_fr F194 hv (k_E_l hv hl hc9)
  have FF198 := h_F_u FF0 F194 (fun _ _ z => z) (by intro q hq hz; omega) (Nat.le_refl _) (Nat.le_refl _)
  refine sv_aload_n dJ2_add_10 rfl ?_
  refine sv_aload_n dJ2_add_11 rfl ?_
  refine sv_aload_n dJ2_add_12 rfl ?_
  refine sv_get fg_J2_9 dJ2_add_13 (sx_rd_c h195) rfl ?_
  refine sv_aload_n dJ2_add_16 rfl ?_
  refine sv_get fg_J2_48 dJ2_add_17 (sx_rd_c h195) rfl ?_
  refine sv_cvP _ (cj_add0_2 h195 hz ho hc9 hv) okJ2_add_2 kv_J2_131 (sx_rd_c h195) rfl dJ2_add_20 rfl rfl (by decide) (Nat.le_of_ble_eq_true rfl) ?_
  intro v205 τ203 hp204
  obtain ⟨rfl, ar200, hn202, h201, F199⟩ := hp204
  refine sv_iconst (nI 1) dJ2_add_23 (by decide +kernel) ?_
  refine sv_iret (by first | exact b_I_nar _ | rfl) rfl dJ2_add_24 ?_
  exact ⟨_, rfl, rfl, _, by omega, h201, h_F_u FF198 F199 (fun _ _ z => z) (fun _ _ z => z) (by omega) (by omega)⟩
theorem k_L_rm {l ar cap n i : Nat} {g : Nat → Nat} {mc : Int32} {f : Nat → Option Nat} (hl : sx_c σ l = some (.inr (9, [.int mc, .ref ar, .int (nI (n - 1))]))) (ha : sx_c σ ar = some (.inl (sg_a G 5, cap, .inr (.inr (.inr (.inr (va_up (va_cpy f f (i + 1) i (n - 1 - i)) (n - 1) none))))))) (hi : i < n) (h1 : n ≤ cap) (h2 : 0 < cap) (h3 : cap ≤ 100000) (hg : ∀ i, i < n → f i = some (g i)) : k_L G σ l ar cap (n - 1) (fun j => if j < i then g j else g (j + 1)) := by
  refine ⟨mc, _, hl, ha, by omega, h2, h3, fun j hj => ?_⟩
  show _ = some (if j < i then g j else g (j + 1))
  unfold va_up va_cpy
  rw [if_neg (by omega)]
  by_cases hji : j < i
  · rw [if_neg (by omega), if_pos hji]
    exact hg j (by omega)
  · rw [if_pos ⟨by omega, by omega⟩, if_neg hji, show i + 1 + (j - i) = j + 1 by omega]
    exact hg (j + 1) (by omega)
theorem k_L_rm2 {l ar cap n i : Nat} {g : Nat → Nat} {mc : Int32} {f : Nat → Option Nat} (hl : sx_c σ l = some (.inr (9, [.int mc, .ref ar, .int (nI (n - 1))]))) (ha : sx_c σ ar = some (.inl (sg_a G 5, cap, .inr (.inr (.inr (.inr (va_up f (n - 1) none))))))) (hi : i < n) (hi2 : n - 1 ≤ i) (h1 : n ≤ cap) (h2 : 0 < cap) (h3 : cap ≤ 100000) (hg : ∀ i, i < n → f i = some (g i)) : k_L G σ l ar cap (n - 1) (fun j => if j < i then g j else g (j + 1)) := by
  refine ⟨mc, _, hl, ha, by omega, h2, h3, fun j hj => ?_⟩
  show _ = some (if j < i then g j else g (j + 1))
  unfold va_up
  rw [if_neg (by omega), if_pos (by omega)]
  exact hg j (by omega)
theorem cj_fastRemove {l ar cap n : Nat} {g : Nat → Nat} (hL : k_L G σ l ar cap n g) {i ci : Nat} (hi : i < n) (ho : k_O ci) (hc9 : ci ≠ 9) (hel : ∀ i, i < n → k_E G σ ci (g i)) : sx_Cp G 1 YJ2_fastRemove [.ref l, .ref ar, .int (nI i)] σ (fun w τ => w = none ∧ k_L G τ l ar cap (n - 1) (fun j => if j < i then g j else g (j + 1)) ∧ h_F (fun q => q = l ∨ q = ar) 0 0 σ τ) := by
  refine sx_body (by decide) (Nat.le_of_ble_eq_true rfl) ?_
  obtain ⟨mc, f, hl, ha, h1, h2, h3, hg⟩ := hL
  obtain ⟨C0, T0, N0, o1, o2⟩ := ho
  have FF0 : h_F (fun q => q = l ∨ q = ar) 0 0 σ σ := h_F_r
  refine sv_aload_n dJ2_fastRemove_0 rfl ?_
  refine sv_dup dJ2_fastRemove_1 rfl ?_
  refine sv_get fg_J2_63 dJ2_fastRemove_2 (sx_rd_c hl) rfl ?_
  refine sv_iconst (nI 1) dJ2_fastRemove_5 (by decide +kernel) ?_
  refine sv_iadd dJ2_fastRemove_6 ?_
  refine sv_put fp_J2_63 dJ2_fastRemove_7 hl rfl rfl (Nat.le_of_ble_eq_true rfl) ?_
  refine hs_up hl (fun τ206 F207 h208 N209 Z210 => ?_)
  have h208 : sx_c τ206 l = some (.inr (9, [.int _, .ref ar, .int (nI n)])) := h208
  have ha' := h_F_c F207 ha (e_kn ha hl rfl)
  have hel := fun (i : Nat) (hi : _) => k_E_fr F207 (hel i hi) (k_E_l (hel i hi) hl hc9)
  have FF211 := h_F_u FF0 F207 (fun _ _ z => z) (by intro q hq hz; omega) (Nat.le_refl _) (Nat.le_refl _)
  refine sv_aload_n dJ2_fastRemove_10 rfl ?_
  refine sv_get fg_J2_48 dJ2_fastRemove_11 (sx_rd_c h208) rfl ?_
  refine sv_iconst (nI 1) dJ2_fastRemove_14 (by decide +kernel) ?_
  refine sv_isubN dJ2_fastRemove_15 (by omega) ?_
  refine sv_dup dJ2_fastRemove_16 rfl ?_
  refine sv_istore_n dJ2_fastRemove_17 (by decide) ?_
  refine sv_iload_n dJ2_fastRemove_18 rfl ?_
  refine sv_icmp_leN (tgt := 34) dJ2_fastRemove_19 (by decide) (by omega) (by omega) (fun c19 => ?_) (fun c19 => ?_)
  · refine sv_aload_n dJ2_fastRemove_34 rfl ?_
    refine sv_aload_n dJ2_fastRemove_35 rfl ?_
    refine sv_iload_n dJ2_fastRemove_36 rfl ?_
    refine sv_dup_x1 dJ2_fastRemove_37 rfl rfl ?_
    refine sv_put fp_J2_48 dJ2_fastRemove_38 h208 rfl rfl (Nat.le_of_ble_eq_true rfl) ?_
    refine hs_up h208 (fun τ212 F213 h214 N215 Z216 => ?_)
    have h214 : sx_c τ212 l = some (.inr (9, [.int _, .ref ar, .int (nI (n - 1))])) := h214
    have ha'' := h_F_c F213 ha' (e_kn ha' h208 rfl)
    have hel := fun (i : Nat) (hi : _) => k_E_fr F213 (hel i hi) (k_E_l (hel i hi) h208 hc9)
    have FF217 := h_F_u FF211 F213 (fun _ _ z => z) (by intro q hq hz; omega) (Nat.le_refl _) (Nat.le_refl _)
    refine sv_null dJ2_fastRemove_41 ?_
    refine sv_aastN 5 rfl dJ2_fastRemove_42 ha'' (vp_in_nI (by omega) (by omega)) ?_
    rw [nI_clamp (show (n - 1) < 2 ^ 31 by omega)]
    refine hs_up ha'' (fun τ218 F219 h220 N221 Z222 => ?_)
    have h220 : sx_c τ218 ar = some (.inl (sg_a G 5, cap, .inr (.inr (.inr (.inr ((va_up f ((n - 1)) none))))))) := h220
    have h214' := h_F_c F219 h214 (e_kn h214 ha'' rfl)
    have hel := fun (i : Nat) (hi : _) => k_E_fr F219 (hel i hi) (k_E_a (hel i hi) ha'')
    have FF223 := h_F_u FF217 F219 (fun _ _ z => z) (by intro q hq hz; omega) (Nat.le_refl _) (Nat.le_refl _)
    refine sv_vret rfl dJ2_fastRemove_43 ?_
    exact ⟨_, rfl, rfl, by first | exact k_L_rm h214' h220 hi h1 h2 h3 hg | exact k_L_rm2 h214' h220 hi (by omega) h1 h2 h3 hg, FF223⟩
  · refine sv_aload_n dJ2_fastRemove_22 rfl ?_
    refine sv_iload_n dJ2_fastRemove_23 rfl ?_
    refine sv_iconst (nI 1) dJ2_fastRemove_24 (by decide +kernel) ?_
    refine sv_iaddN dJ2_fastRemove_25 ?_
    refine sv_aload_n dJ2_fastRemove_26 rfl ?_
    refine sv_iload_n dJ2_fastRemove_27 rfl ?_
    refine sv_iload_n dJ2_fastRemove_28 rfl ?_
    refine sv_iload_n dJ2_fastRemove_29 rfl ?_
    refine sv_isubN dJ2_fastRemove_30 (by omega) ?_
    refine sv_copyQ ci q1903 (sx_rd_c ha') ha' (nI_pos (by omega)) (nI_pos (by omega)) (nI_pos (by omega)) (by rw [(nI_clamp (show i + 1 < 2 ^ 31 by omega)), (nI_clamp (show n - 1 - i < 2 ^ 31 by omega))]; omega) (by rw [(nI_clamp (show i < 2 ^ 31 by omega)), (nI_clamp (show n - 1 - i < 2 ^ 31 by omega))]; omega) o1 o2 (by rw [(nI_clamp (show i + 1 < 2 ^ 31 by omega)), (nI_clamp (show n - 1 - i < 2 ^ 31 by omega))]; exact (fun k hk y hy => by rw [hg (i + 1 + k) (by omega)] at hy; cases hy; obtain ⟨vs, hv⟩ := hel (i + 1 + k) (by omega); exact ⟨vs, sx_rd_c hv⟩)) dJ2_fastRemove_31 (by decide) (Nat.le_of_ble_eq_true rfl) ?_
    rw [(nI_clamp (show i + 1 < 2 ^ 31 by omega)), (nI_clamp (show i < 2 ^ 31 by omega)), (nI_clamp (show n - 1 - i < 2 ^ 31 by omega))]
    refine hs_up ha' (fun τ224 F225 h226 N227 Z228 => ?_)
    have h226 : sx_c τ224 ar = some (.inl (sg_a G 5, cap, .inr (.inr (.inr (.inr ((va_cpy f f (i + 1) i (n - 1 - i)))))))) := h226
    have h208' := h_F_c F225 h208 (e_kn h208 ha' rfl)
    have hel := fun (i : Nat) (hi : _) => k_E_fr F225 (hel i hi) (k_E_a (hel i hi) ha')
    have FF229 := h_F_u FF211 F225 (fun _ _ z => z) (by intro q hq hz; omega) (Nat.le_refl _) (Nat.le_refl _)
    refine sv_aload_n dJ2_fastRemove_34 rfl ?_
    refine sv_aload_n dJ2_fastRemove_35 rfl ?_
    refine sv_iload_n dJ2_fastRemove_36 rfl ?_
    refine sv_dup_x1 dJ2_fastRemove_37 rfl rfl ?_
    refine sv_put fp_J2_48 dJ2_fastRemove_38 h208' rfl rfl (Nat.le_of_ble_eq_true rfl) ?_
    refine hs_up h208' (fun τ230 F231 h232 N233 Z234 => ?_)
    have h232 : sx_c τ230 l = some (.inr (9, [.int _, .ref ar, .int (nI (n - 1))])) := h232
    have h226' := h_F_c F231 h226 (e_kn h226 h208' rfl)
    have hel := fun (i : Nat) (hi : _) => k_E_fr F231 (hel i hi) (k_E_l (hel i hi) h208' hc9)
    have FF235 := h_F_u FF229 F231 (fun _ _ z => z) (by intro q hq hz; omega) (Nat.le_refl _) (Nat.le_refl _)
    refine sv_null dJ2_fastRemove_41 ?_
    refine sv_aastN 5 rfl dJ2_fastRemove_42 h226' (vp_in_nI (by omega) (by omega)) ?_
    rw [nI_clamp (show (n - 1) < 2 ^ 31 by omega)]
    refine hs_up h226' (fun τ236 F237 h238 N239 Z240 => ?_)
    have h238 : sx_c τ236 ar = some (.inl (sg_a G 5, cap, .inr (.inr (.inr (.inr ((va_up ((va_cpy f f (i + 1) i (n - 1 - i))) ((n - 1)) none))))))) := h238
    have h232' := h_F_c F237 h232 (e_kn h232 h226' rfl)
    have hel := fun (i : Nat) (hi : _) => k_E_fr F237 (hel i hi) (k_E_a (hel i hi) h226')
    have FF241 := h_F_u FF235 F237 (fun _ _ z => z) (by intro q hq hz; omega) (Nat.le_refl _) (Nat.le_refl _)
    refine sv_vret rfl dJ2_fastRemove_43 ?_
    exact ⟨_, rfl, rfl, by first | exact k_L_rm h232' h238 hi h1 h2 h3 hg | exact k_L_rm2 h232' h238 hi (by omega) h1 h2 h3 hg, FF241⟩
theorem cj_remove {l ar cap n : Nat} {g : Nat → Nat} (hL : k_L G σ l ar cap n g) {i ci : Nat} (hi : i < n) (ho : k_O ci) (hc9 : ci ≠ 9) (hel : ∀ i, i < n → k_E G σ ci (g i)) : sx_Cp G 2 YJ2_remove [.ref l, .int (nI i)] σ (fun w τ => w = some (.ref (g i)) ∧ k_L G τ l ar cap (n - 1) (fun j => if j < i then g j else g (j + 1)) ∧ h_F (fun q => q = l ∨ q = ar) 0 0 σ τ) := by
  refine sx_body (by decide) (Nat.le_of_ble_eq_true rfl) ?_
  have hL0 := hL
  obtain ⟨mc, f, hl, ha, h1, h2, h3, hg⟩ := hL
  refine sv_iload_n dJ2_remove_0 rfl ?_
  refine sv_aload_n dJ2_remove_1 rfl ?_
  refine sv_get fg_J2_48 dJ2_remove_2 (sx_rd_c hl) rfl ?_
  refine sv_csR _ (cj_J19 hi (by omega)) okJ19_checkIndex ks_J2_118 dJ2_remove_5 rfl rfl (by decide) (Nat.le_of_ble_eq_true rfl) ?_
  refine sv_pop dJ2_remove_8 rfl ?_
  refine sv_aload_n dJ2_remove_9 rfl ?_
  refine sv_get fg_J2_9 dJ2_remove_10 (sx_rd_c hl) rfl ?_
  refine sv_astore_n dJ2_remove_13 (by decide) ?_
  refine sv_aload_n dJ2_remove_14 rfl ?_
  refine sv_iload_n dJ2_remove_15 rfl ?_
  refine sv_aald 5 rfl dJ2_remove_16 (sx_rd_c ha) (vp_in_nI (by omega) (by omega)) ?_
  rw [nI_clamp (show i < 2 ^ 31 by omega)]
  refine sv_topR (a := (g i)) (hg i hi) ?_
  refine sv_astore_n dJ2_remove_17 (by decide) ?_
  refine sv_aload_n dJ2_remove_18 rfl ?_
  refine sv_aload_n dJ2_remove_19 rfl ?_
  refine sv_iload_n dJ2_remove_20 rfl ?_
  refine sv_cvP _ (cj_fastRemove hL0 hi ho hc9 hel) okJ2_fastRemove kv_J2_144 (sx_rd_c hl) rfl dJ2_remove_21 rfl rfl (by decide) (Nat.le_of_ble_eq_true rfl) ?_
  intro v246 τ244 hp245
  obtain ⟨rfl, h243, F242⟩ := hp245
  refine sv_aload_n dJ2_remove_24 rfl ?_
  refine sv_aret (Or.inr ⟨_, rfl⟩) (Or.inl ⟨_, rfl⟩) rfl dJ2_remove_25 ?_
  exact ⟨_, rfl, rfl, h243, F242⟩
end JLA
