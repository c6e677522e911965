set_option maxRecDepth 100000
section CM7
variable {G : sx_G} {σ τ : sx_St} {mu : Nat → Nat} {oc lo sv nl cap : Nat} {ow : Nat → Nat} {Λ : Nat → Nat → Nat → Nat} {A : a_A} {V : a_V} {W : Nat → Prop} {c sl : Nat} {N : List a_N}
theorem cm_ch0 (hG : g_L G) {fl : Int32} : sx_Cp G 80 YX1_changed [.int (nI 0), .int fl] σ (fun v τ => ∃ te, v = some (.ref te) ∧ sx_n σ ≤ te ∧ k_C G τ te (fun h => a_fb h (nI 0) fl) ∧ h_F (fun q => False) 4 6 σ τ) := by
  refine sx_body (by decide) (Nat.le_of_ble_eq_true rfl) ?_
  have FF0 : h_F (fun q => sx_n σ ≤ q) 0 0 σ σ := h_F_r
  refine sv_iconst (nI 3) dX1_changed_0 (by decide +kernel) ?_
  refine sv_anew 7 3 rfl q1856 q1857 dX1_changed_1 (nI_pos (by omega)) (nI_clamp (by omega)) (by omega) ?_
  refine hs_al (fun a4 τ5 E10 F6 h7 N8 Z9 => ?_)
  have FF11 := h_F_u FF0 F6 (fun _ _ z => z) (fun _ _ z => z.elim) (Nat.le_refl _) (Nat.le_refl _)
  have h7 : sx_c τ5 a4 = some (.inl (sg_a G 7, 3, .inr (.inr (.inr (.inr ((fun _ => none))))))) := h7
  refine sv_dup dX1_changed_4 rfl ?_
  refine sv_iconst (nI 0) dX1_changed_5 (by decide +kernel) ?_
  refine sv_iload_n dX1_changed_6 rfl ?_
  refine sv_lamM (i := 12) (f := sh_12) (code := sh_12_c) (ix := [15]) (im := 23) [.int fl] _ hG rfl sh_12_k rfl rfl rfl (by
    intro j ty v h1 h2
    match j, h1, h2 with
    | 0, h1, h2 => cases h1; cases h2; exact ⟨rfl, rfl⟩
    | j + 1, h1, h2 => cases h1) dX1_changed_7 rfl (by omega) (Nat.le_of_ble_eq_true rfl) ?_
  refine hs_al (fun l0 τ12 E17 F13 h14 N15 Z16 => ?_)
  have h7' := h_F_c F13 h7 (fun z => z)
  have FF18 := h_F_u FF11 F13 (fun _ _ z => z) (fun _ _ z => z.elim) (Nat.le_refl _) (Nat.le_refl _)
  have h14 : sx_c τ12 l0 = some (.inr (29, [.int fl])) := h14
  refine sv_aastL (i0 := 12) (sh := sh_12) 7 rfl rfl (sx_rd_c h14) dX1_changed_12 h7' (vp_in_nI (by omega) (by omega)) ?_
  rw [nI_clamp (show 0 < 2 ^ 31 by omega)]
  refine hs_up h7' (fun τ19 F20 h21 N22 Z23 => ?_)
  have h21 : sx_c τ19 a4 = some (.inl (sg_a G 7, 3, .inr (.inr (.inr (.inr ((va_up ((fun _ => none)) 0 (some l0)))))))) := h21
  have h14' := h_F_c F20 h14 (e_kn h14 h7' rfl)
  have FF24 := h_F_u FF18 F20 (fun _ _ z => z) (by intro q hq hz; omega) (Nat.le_refl _) (Nat.le_refl _)
  refine sv_dup dX1_changed_13 rfl ?_
  refine sv_iconst (nI 1) dX1_changed_14 (by decide +kernel) ?_
  refine sv_iload_n dX1_changed_15 rfl ?_
  refine sv_lamM (i := 13) (f := sh_13) (code := sh_13_c) (ix := [15]) (im := 23) [.int fl] _ hG rfl sh_13_k rfl rfl rfl (by
    intro j ty v h1 h2
    match j, h1, h2 with
    | 0, h1, h2 => cases h1; cases h2; exact ⟨rfl, rfl⟩
    | j + 1, h1, h2 => cases h1) dX1_changed_16 rfl (by omega) (Nat.le_of_ble_eq_true rfl) ?_
  refine hs_al (fun l1 τ25 E30 F26 h27 N28 Z29 => ?_)
  have h14'' := h_F_c F26 h14' (fun z => z)
  have h21' := h_F_c F26 h21 (fun z => z)
  have FF31 := h_F_u FF24 F26 (fun _ _ z => z) (fun _ _ z => z.elim) (Nat.le_refl _) (Nat.le_refl _)
  have h27 : sx_c τ25 l1 = some (.inr (30, [.int fl])) := h27
  refine sv_aastL (i0 := 13) (sh := sh_13) 7 rfl rfl (sx_rd_c h27) dX1_changed_21 h21' (vp_in_nI (by omega) (by omega)) ?_
  rw [nI_clamp (show 1 < 2 ^ 31 by omega)]
  refine hs_up h21' (fun τ32 F33 h34 N35 Z36 => ?_)
  have h34 : sx_c τ32 a4 = some (.inl (sg_a G 7, 3, .inr (.inr (.inr (.inr ((va_up ((va_up ((fun _ => none)) 0 (some l0))) 1 (some l1)))))))) := h34
  have h14''' := h_F_c F33 h14'' (e_kn h14'' h21' rfl)
  have h27' := h_F_c F33 h27 (e_kn h27 h21' rfl)
  have FF37 := h_F_u FF31 F33 (fun _ _ z => z) (by intro q hq hz; omega) (Nat.le_refl _) (Nat.le_refl _)
  refine sv_dup dX1_changed_22 rfl ?_
  refine sv_iconst (nI 2) dX1_changed_23 (by decide +kernel) ?_
  refine sv_iload_n dX1_changed_24 rfl ?_
  refine sv_lamM (i := 14) (f := sh_14) (code := sh_14_c) (ix := [15]) (im := 23) [.int fl] _ hG rfl sh_14_k rfl rfl rfl (by
    intro j ty v h1 h2
    match j, h1, h2 with
    | 0, h1, h2 => cases h1; cases h2; exact ⟨rfl, rfl⟩
    | j + 1, h1, h2 => cases h1) dX1_changed_25 rfl (by omega) (Nat.le_of_ble_eq_true rfl) ?_
  refine hs_al (fun l2 τ38 E43 F39 h40 N41 Z42 => ?_)
  have h14'''' := h_F_c F39 h14''' (fun z => z)
  have h27'' := h_F_c F39 h27' (fun z => z)
  have h34' := h_F_c F39 h34 (fun z => z)
  have FF44 := h_F_u FF37 F39 (fun _ _ z => z) (fun _ _ z => z.elim) (Nat.le_refl _) (Nat.le_refl _)
  have h40 : sx_c τ38 l2 = some (.inr (31, [.int fl])) := h40
  refine sv_aastL (i0 := 14) (sh := sh_14) 7 rfl rfl (sx_rd_c h40) dX1_changed_30 h34' (vp_in_nI (by omega) (by omega)) ?_
  rw [nI_clamp (show 2 < 2 ^ 31 by omega)]
  refine hs_up h34' (fun τ45 F46 h47 N48 Z49 => ?_)
  have h47 : sx_c τ45 a4 = some (.inl (sg_a G 7, 3, .inr (.inr (.inr (.inr ((va_up ((va_up ((va_up ((fun _ => none)) 0 (some l0))) 1 (some l1))) 2 (some l2)))))))) := h47
  have h14''''' := h_F_c F46 h14'''' (e_kn h14'''' h34' rfl)
  have h27''' := h_F_c F46 h27'' (e_kn h27'' h34' rfl)
  have h40' := h_F_c F46 h40 (e_kn h40 h34' rfl)
  have FF50 := h_F_u FF44 F46 (fun _ _ z => z) (by intro q hq hz; omega) (Nat.le_refl _) (Nat.le_refl _)
  refine sv_astore_n dX1_changed_31 (by decide) ?_
  refine sv_aload_n dX1_changed_32 rfl ?_
  refine sv_iload_n dX1_changed_33 rfl ?_
  refine sv_aald 7 rfl dX1_changed_34 (sx_rd_c h47) (vp_in_nI (by omega) (by omega)) ?_
  rw [nI_clamp (show 0 < 2 ^ 31 by omega)]
  refine sv_topR (a := l0) rfl ?_
  refine sv_aret (Or.inr ⟨_, rfl⟩) (Or.inl ⟨_, rfl⟩) rfl dX1_changed_35 ?_
  exact ⟨_, rfl, l0, rfl, by omega, Or.inr (Or.inl ⟨_, sx_rd_c h14''''', fun h => rfl⟩), h_F_w FF50 (fun q hq z => by omega) (Nat.le_of_ble_eq_true rfl) (Nat.le_of_ble_eq_true rfl)⟩
theorem cm_ch1 (hG : g_L G) {fl : Int32} : sx_Cp G 80 YX1_changed [.int (nI 1), .int fl] σ (fun v τ => ∃ te, v = some (.ref te) ∧ sx_n σ ≤ te ∧ k_C G τ te (fun h => a_fb h (nI 1) fl) ∧ h_F (fun q => False) 4 6 σ τ) := by
  refine sx_body (by decide) (Nat.le_of_ble_eq_true rfl) ?_
  have FF0 : h_F (fun q => sx_n σ ≤ q) 0 0 σ σ := h_F_r
  refine sv_iconst (nI 3) dX1_changed_0 (by decide +kernel) ?_
  refine sv_anew 7 3 rfl q1856 q1857 dX1_changed_1 (nI_pos (by omega)) (nI_clamp (by omega)) (by omega) ?_
  refine hs_al (fun a51 τ52 E57 F53 h54 N55 Z56 => ?_)
  have FF58 := h_F_u FF0 F53 (fun _ _ z => z) (fun _ _ z => z.elim) (Nat.le_refl _) (Nat.le_refl _)
  have h54 : sx_c τ52 a51 = some (.inl (sg_a G 7, 3, .inr (.inr (.inr (.inr ((fun _ => none))))))) := h54
  refine sv_dup dX1_changed_4 rfl ?_
  refine sv_iconst (nI 0) dX1_changed_5 (by decide +kernel) ?_
  refine sv_iload_n dX1_changed_6 rfl ?_
  refine sv_lamM (i := 12) (f := sh_12) (code := sh_12_c) (ix := [15]) (im := 23) [.int fl] _ hG rfl sh_12_k rfl rfl rfl (by
    intro j ty v h1 h2
    match j, h1, h2 with
    | 0, h1, h2 => cases h1; cases h2; exact ⟨rfl, rfl⟩
    | j + 1, h1, h2 => cases h1) dX1_changed_7 rfl (by omega) (Nat.le_of_ble_eq_true rfl) ?_
  refine hs_al (fun l0 τ59 E64 F60 h61 N62 Z63 => ?_)
  have h54' := h_F_c F60 h54 (fun z => z)
  have FF65 := h_F_u FF58 F60 (fun _ _ z => z) (fun _ _ z => z.elim) (Nat.le_refl _) (Nat.le_refl _)
  have h61 : sx_c τ59 l0 = some (.inr (29, [.int fl])) := h61
  refine sv_aastL (i0 := 12) (sh := sh_12) 7 rfl rfl (sx_rd_c h61) dX1_changed_12 h54' (vp_in_nI (by omega) (by omega)) ?_
  rw [nI_clamp (show 0 < 2 ^ 31 by omega)]
  refine hs_up h54' (fun τ66 F67 h68 N69 Z70 => ?_)
  have h68 : sx_c τ66 a51 = some (.inl (sg_a G 7, 3, .inr (.inr (.inr (.inr ((va_up ((fun _ => none)) 0 (some l0)))))))) := h68
  have h61' := h_F_c F67 h61 (e_kn h61 h54' rfl)
  have FF71 := h_F_u FF65 F67 (fun _ _ z => z) (by intro q hq hz; omega) (Nat.le_refl _) (Nat.le_refl _)
  refine sv_dup dX1_changed_13 rfl ?_
  refine sv_iconst (nI 1) dX1_changed_14 (by decide +kernel) ?_
  refine sv_iload_n dX1_changed_15 rfl ?_
  refine sv_lamM (i := 13) (f := sh_13) (code := sh_13_c) (ix := [15]) (im := 23) [.int fl] _ hG rfl sh_13_k rfl rfl rfl (by
    intro j ty v h1 h2
    match j, h1, h2 with
    | 0, h1, h2 => cases h1; cases h2; exact ⟨rfl, rfl⟩
    | j + 1, h1, h2 => cases h1) dX1_changed_16 rfl (by omega) (Nat.le_of_ble_eq_true rfl) ?_
  refine hs_al (fun l1 τ72 E77 F73 h74 N75 Z76 => ?_)
  have h61'' := h_F_c F73 h61' (fun z => z)
  have h68' := h_F_c F73 h68 (fun z => z)
  have FF78 := h_F_u FF71 F73 (fun _ _ z => z) (fun _ _ z => z.elim) (Nat.le_refl _) (Nat.le_refl _)
  have h74 : sx_c τ72 l1 = some (.inr (30, [.int fl])) := h74
  refine sv_aastL (i0 := 13) (sh := sh_13) 7 rfl rfl (sx_rd_c h74) dX1_changed_21 h68' (vp_in_nI (by omega) (by omega)) ?_
  rw [nI_clamp (show 1 < 2 ^ 31 by omega)]
  refine hs_up h68' (fun τ79 F80 h81 N82 Z83 => ?_)
  have h81 : sx_c τ79 a51 = some (.inl (sg_a G 7, 3, .inr (.inr (.inr (.inr ((va_up ((va_up ((fun _ => none)) 0 (some l0))) 1 (some l1)))))))) := h81
  have h61''' := h_F_c F80 h61'' (e_kn h61'' h68' rfl)
  have h74' := h_F_c F80 h74 (e_kn h74 h68' rfl)
  have FF84 := h_F_u FF78 F80 (fun _ _ z => z) (by intro q hq hz; omega) (Nat.le_refl _) (Nat.le_refl _)
  refine sv_dup dX1_changed_22 rfl ?_
  refine sv_iconst (nI 2) dX1_changed_23 (by decide +kernel) ?_
  refine sv_iload_n dX1_changed_24 rfl ?_
  refine sv_lamM (i := 14) (f := sh_14) (code := sh_14_c) (ix := [15]) (im := 23) [.int fl] _ hG rfl sh_14_k rfl rfl rfl (by
    intro j ty v h1 h2
    match j, h1, h2 with
    | 0, h1, h2 => cases h1; cases h2; exact ⟨rfl, rfl⟩
    | j + 1, h1, h2 => cases h1) dX1_changed_25 rfl (by omega) (Nat.le_of_ble_eq_true rfl) ?_
  refine hs_al (fun l2 τ85 E90 F86 h87 N88 Z89 => ?_)
  have h61'''' := h_F_c F86 h61''' (fun z => z)
  have h74'' := h_F_c F86 h74' (fun z => z)
  have h81' := h_F_c F86 h81 (fun z => z)
  have FF91 := h_F_u FF84 F86 (fun _ _ z => z) (fun _ _ z => z.elim) (Nat.le_refl _) (Nat.le_refl _)
  have h87 : sx_c τ85 l2 = some (.inr (31, [.int fl])) := h87
  refine sv_aastL (i0 := 14) (sh := sh_14) 7 rfl rfl (sx_rd_c h87) dX1_changed_30 h81' (vp_in_nI (by omega) (by omega)) ?_
  rw [nI_clamp (show 2 < 2 ^ 31 by omega)]
  refine hs_up h81' (fun τ92 F93 h94 N95 Z96 => ?_)
  have h94 : sx_c τ92 a51 = some (.inl (sg_a G 7, 3, .inr (.inr (.inr (.inr ((va_up ((va_up ((va_up ((fun _ => none)) 0 (some l0))) 1 (some l1))) 2 (some l2)))))))) := h94
  have h61''''' := h_F_c F93 h61'''' (e_kn h61'''' h81' rfl)
  have h74''' := h_F_c F93 h74'' (e_kn h74'' h81' rfl)
  have h87' := h_F_c F93 h87 (e_kn h87 h81' rfl)
  have FF97 := h_F_u FF91 F93 (fun _ _ z => z) (by intro q hq hz; omega) (Nat.le_refl _) (Nat.le_refl _)
  refine sv_astore_n dX1_changed_31 (by decide) ?_
  refine sv_aload_n dX1_changed_32 rfl ?_
  refine sv_iload_n dX1_changed_33 rfl ?_
  refine sv_aald 7 rfl dX1_changed_34 (sx_rd_c h94) (vp_in_nI (by omega) (by omega)) ?_
  rw [nI_clamp (show 1 < 2 ^ 31 by omega)]
  refine sv_topR (a := l1) rfl ?_
  refine sv_aret (Or.inr ⟨_, rfl⟩) (Or.inl ⟨_, rfl⟩) rfl dX1_changed_35 ?_
  exact ⟨_, rfl, l1, rfl, by omega, Or.inr (Or.inr (Or.inl ⟨_, sx_rd_c h74''', fun h => rfl⟩)), h_F_w FF97 (fun q hq z => by omega) (Nat.le_of_ble_eq_true rfl) (Nat.le_of_ble_eq_true rfl)⟩
theorem cm_ch2 (hG : g_L G) {fl : Int32} : sx_Cp G 80 YX1_changed [.int (nI 2), .int fl] σ (fun v τ => ∃ te, v = some (.ref te) ∧ sx_n σ ≤ te ∧ k_C G τ te (fun h => a_fb h (nI 2) fl) ∧ h_F (fun q => False) 4 6 σ τ) := by
  refine sx_body (by decide) (Nat.le_of_ble_eq_true rfl) ?_
  have FF0 : h_F (fun q => sx_n σ ≤ q) 0 0 σ σ := h_F_r
  refine sv_iconst (nI 3) dX1_changed_0 (by decide +kernel) ?_
  refine sv_anew 7 3 rfl q1856 q1857 dX1_changed_1 (nI_pos (by omega)) (nI_clamp (by omega)) (by omega) ?_
  refine hs_al (fun a98 τ99 E104 F100 h101 N102 Z103 => ?_)
  have FF105 := h_F_u FF0 F100 (fun _ _ z => z) (fun _ _ z => z.elim) (Nat.le_refl _) (Nat.le_refl _)
  have h101 : sx_c τ99 a98 = some (.inl (sg_a G 7, 3, .inr (.inr (.inr (.inr ((fun _ => none))))))) := h101
  refine sv_dup dX1_changed_4 rfl ?_
  refine sv_iconst (nI 0) dX1_changed_5 (by decide +kernel) ?_
  refine sv_iload_n dX1_changed_6 rfl ?_
  refine sv_lamM (i := 12) (f := sh_12) (code := sh_12_c) (ix := [15]) (im := 23) [.int fl] _ hG rfl sh_12_k rfl rfl rfl (by
    intro j ty v h1 h2
    match j, h1, h2 with
    | 0, h1, h2 => cases h1; cases h2; exact ⟨rfl, rfl⟩
    | j + 1, h1, h2 => cases h1) dX1_changed_7 rfl (by omega) (Nat.le_of_ble_eq_true rfl) ?_
  refine hs_al (fun l0 τ106 E111 F107 h108 N109 Z110 => ?_)
  have h101' := h_F_c F107 h101 (fun z => z)
  have FF112 := h_F_u FF105 F107 (fun _ _ z => z) (fun _ _ z => z.elim) (Nat.le_refl _) (Nat.le_refl _)
  have h108 : sx_c τ106 l0 = some (.inr (29, [.int fl])) := h108
  refine sv_aastL (i0 := 12) (sh := sh_12) 7 rfl rfl (sx_rd_c h108) dX1_changed_12 h101' (vp_in_nI (by omega) (by omega)) ?_
  rw [nI_clamp (show 0 < 2 ^ 31 by omega)]
  refine hs_up h101' (fun τ113 F114 h115 N116 Z117 => ?_)
  have h115 : sx_c τ113 a98 = some (.inl (sg_a G 7, 3, .inr (.inr (.inr (.inr ((va_up ((fun _ => none)) 0 (some l0)))))))) := h115
  have h108' := h_F_c F114 h108 (e_kn h108 h101' rfl)
  have FF118 := h_F_u FF112 F114 (fun _ _ z => z) (by intro q hq hz; omega) (Nat.le_refl _) (Nat.le_refl _)
  refine sv_dup dX1_changed_13 rfl ?_
  refine sv_iconst (nI 1) dX1_changed_14 (by decide +kernel) ?_
  refine sv_iload_n dX1_changed_15 rfl ?_
  refine sv_lamM (i := 13) (f := sh_13) (code := sh_13_c) (ix := [15]) (im := 23) [.int fl] _ hG rfl sh_13_k rfl rfl rfl (by
    intro j ty v h1 h2
    match j, h1, h2 with
    | 0, h1, h2 => cases h1; cases h2; exact ⟨rfl, rfl⟩
    | j + 1, h1, h2 => cases h1) dX1_changed_16 rfl (by omega) (Nat.le_of_ble_eq_true rfl) ?_
  refine hs_al (fun l1 τ119 E124 F120 h121 N122 Z123 => ?_)
  have h108'' := h_F_c F120 h108' (fun z => z)
  have h115' := h_F_c F120 h115 (fun z => z)
  have FF125 := h_F_u FF118 F120 (fun _ _ z => z) (fun _ _ z => z.elim) (Nat.le_refl _) (Nat.le_refl _)
  have h121 : sx_c τ119 l1 = some (.inr (30, [.int fl])) := h121
  refine sv_aastL (i0 := 13) (sh := sh_13) 7 rfl rfl (sx_rd_c h121) dX1_changed_21 h115' (vp_in_nI (by omega) (by omega)) ?_
  rw [nI_clamp (show 1 < 2 ^ 31 by omega)]
  refine hs_up h115' (fun τ126 F127 h128 N129 Z130 => ?_)
  have h128 : sx_c τ126 a98 = some (.inl (sg_a G 7, 3, .inr (.inr (.inr (.inr ((va_up ((va_up ((fun _ => none)) 0 (some l0))) 1 (some l1)))))))) := h128
  have h108''' := h_F_c F127 h108'' (e_kn h108'' h115' rfl)
  have h121' := h_F_c F127 h121 (e_kn h121 h115' rfl)
  have FF131 := h_F_u FF125 F127 (fun _ _ z => z) (by intro q hq hz; omega) (Nat.le_refl _) (Nat.le_refl _)
  refine sv_dup dX1_changed_22 rfl ?_
  refine sv_iconst (nI 2) dX1_changed_23 (by decide +kernel) ?_
  refine sv_iload_n dX1_changed_24 rfl ?_
  refine sv_lamM (i := 14) (f := sh_14) (code := sh_14_c) (ix := [15]) (im := 23) [.int fl] _ hG rfl sh_14_k rfl rfl rfl (by
    intro j ty v h1 h2
    match j, h1, h2 with
    | 0, h1, h2 => cases h1; cases h2; exact ⟨rfl, rfl⟩
    | j + 1, h1, h2 => cases h1) dX1_changed_25 rfl (by omega) (Nat.le_of_ble_eq_true rfl) ?_
  refine hs_al (fun l2 τ132 E137 F133 h134 N135 Z136 => ?_)
  have h108'''' := h_F_c F133 h108''' (fun z => z)
  have h121'' := h_F_c F133 h121' (fun z => z)
  have h128' := h_F_c F133 h128 (fun z => z)
  have FF138 := h_F_u FF131 F133 (fun _ _ z => z) (fun _ _ z => z.elim) (Nat.le_refl _) (Nat.le_refl _)
  have h134 : sx_c τ132 l2 = some (.inr (31, [.int fl])) := h134
  refine sv_aastL (i0 := 14) (sh := sh_14) 7 rfl rfl (sx_rd_c h134) dX1_changed_30 h128' (vp_in_nI (by omega) (by omega)) ?_
  rw [nI_clamp (show 2 < 2 ^ 31 by omega)]
  refine hs_up h128' (fun τ139 F140 h141 N142 Z143 => ?_)
  have h141 : sx_c τ139 a98 = some (.inl (sg_a G 7, 3, .inr (.inr (.inr (.inr ((va_up ((va_up ((va_up ((fun _ => none)) 0 (some l0))) 1 (some l1))) 2 (some l2)))))))) := h141
  have h108''''' := h_F_c F140 h108'''' (e_kn h108'''' h128' rfl)
  have h121''' := h_F_c F140 h121'' (e_kn h121'' h128' rfl)
  have h134' := h_F_c F140 h134 (e_kn h134 h128' rfl)
  have FF144 := h_F_u FF138 F140 (fun _ _ z => z) (by intro q hq hz; omega) (Nat.le_refl _) (Nat.le_refl _)
  refine sv_astore_n dX1_changed_31 (by decide) ?_
  refine sv_aload_n dX1_changed_32 rfl ?_
  refine sv_iload_n dX1_changed_33 rfl ?_
  refine sv_aald 7 rfl dX1_changed_34 (sx_rd_c h141) (vp_in_nI (by omega) (by omega)) ?_
  rw [nI_clamp (show 2 < 2 ^ 31 by omega)]
  refine sv_topR (a := l2) rfl ?_
  refine sv_aret (Or.inr ⟨_, rfl⟩) (Or.inl ⟨_, rfl⟩) rfl dX1_changed_35 ?_
  exact ⟨_, rfl, l2, rfl, by omega, Or.inr (Or.inr (Or.inr ⟨_, sx_rd_c h134', fun h => rfl⟩)), h_F_w FF144 (fun q hq z => by omega) (Nat.le_of_ble_eq_true rfl) (Nat.le_of_ble_eq_true rfl)⟩
theorem in_02 {x : Int32} (h : a_in x 0 2 = true) : x = nI 0 ∨ x = nI 1 ∨ x = nI 2 := by
  have h := of_decide_eq_true h
  rw [Int64.le_iff_toInt_le, Int64.le_iff_toInt_le, Int32.toInt_toInt64, Int32.toInt_toInt64, Int32.toInt_toInt64] at h
  have h1 : (0 : Int) ≤ x.toInt := h.1
  have h2 : x.toInt ≤ 2 := h.2
  by_cases hx : x.toInt = 0
  · exact Or.inl (Int32.toInt_inj.mp (by rw [hx]; rfl))
  · by_cases hy : x.toInt = 1
    · exact Or.inr (Or.inl (Int32.toInt_inj.mp (by rw [hy]; rfl)))
    · exact Or.inr (Or.inr (Int32.toInt_inj.mp (by rw [show x.toInt = 2 by omega]; rfl)))
theorem cm_changed (hG : g_L G) {md fl : Int32} (h : a_in md 0 2 = true) : sx_Cp G 80 YX1_changed [.int md, .int fl] σ (fun v τ => ∃ te, v = some (.ref te) ∧ sx_n σ ≤ te ∧ k_C G τ te (fun h => a_fb h md fl) ∧ h_F (fun q => False) 4 6 σ τ) := by
  rcases in_02 h with rfl | rfl | rfl
  · exact cm_ch0 hG
  · exact cm_ch1 hG
  · exact cm_ch2 hG
end CM7
