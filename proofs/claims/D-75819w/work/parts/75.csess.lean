set_option maxRecDepth 100000
section CSA
variable {G : sx_G} {σ : sx_St}
theorem cc_minit {a : Nat} {u z f : Int32} {x0 x1 x2 : Value} (ha : sx_c σ a = some (.inr (6, [x0, x1, x2]))) : sx_Cp G 1 YX7_init [.ref a, .int u, .int z, .int f] σ (fun v τ => v = none ∧ k_M τ a (u, z, f) ∧ h_F (fun q => q = a) 0 0 σ τ) := by
  refine sx_body (by decide) (Nat.le_of_ble_eq_true rfl) ?_
  have FF0 : h_F (fun q => q = a) 0 0 σ σ := h_F_r
  refine sv_aload_n dX7_init_0 rfl ?_
  refine sv_oi q1004 q194 q195 dX7_init_1 (by decide) (Nat.le_of_ble_eq_true rfl) ?_
  refine sv_aload_n dX7_init_4 rfl ?_
  refine sv_iload_n dX7_init_5 rfl ?_
  refine sv_put fp_X7_7 dX7_init_6 ha rfl rfl (Nat.le_of_ble_eq_true rfl) ?_
  refine hs_up ha (fun τ1 F2 h3 N4 Z5 => ?_)
  have h3 : sx_c τ1 a = some (.inr (6, [.int u, x1, x2])) := h3
  have FF6 := h_F_u FF0 F2 (fun _ _ z => z) (by intro q hq hz; omega) (Nat.le_refl _) (Nat.le_refl _)
  refine sv_aload_n dX7_init_9 rfl ?_
  refine sv_iload_n dX7_init_10 rfl ?_
  refine sv_put fp_X7_13 dX7_init_11 h3 rfl rfl (Nat.le_of_ble_eq_true rfl) ?_
  refine hs_up h3 (fun τ7 F8 h9 N10 Z11 => ?_)
  have h9 : sx_c τ7 a = some (.inr (6, [.int u, .int z, x2])) := h9
  have FF12 := h_F_u FF6 F8 (fun _ _ z => z) (by intro q hq hz; omega) (Nat.le_refl _) (Nat.le_refl _)
  refine sv_aload_n dX7_init_14 rfl ?_
  refine sv_iload_n dX7_init_15 rfl ?_
  refine sv_put fp_X7_16 dX7_init_16 h9 rfl rfl (Nat.le_of_ble_eq_true rfl) ?_
  refine hs_up h9 (fun τ13 F14 h15 N16 Z17 => ?_)
  have h15 : sx_c τ13 a = some (.inr (6, [.int u, .int z, .int f])) := h15
  have FF18 := h_F_u FF12 F14 (fun _ _ z => z) (by intro q hq hz; omega) (Nat.le_refl _) (Nat.le_refl _)
  refine sv_vret rfl dX7_init_19 ?_
  exact ⟨_, rfl, rfl, h15, FF18⟩
theorem cc_with {a : Nat} {m : a_M} {f : Int32} (ha : k_M σ a m) : sx_Cp G 2 YX7_with [.ref a, .int f] σ (fun v τ => ∃ b, v = some (.ref b) ∧ sx_n σ ≤ b ∧ k_M τ b (m.1, m.2.1, f) ∧ h_F (fun q => False) 1 3 σ τ) := by
  refine sx_body (by decide) (Nat.le_of_ble_eq_true rfl) ?_
  have FF0 : h_F (fun q => False) 0 0 σ σ := h_F_r
  refine sv_new fn_X7_8 dX7_with_0 ?_
  refine hs_al (fun a19 τ20 E25 F21 h22 N23 Z24 => ?_)
  have e26 : a ≠ a19 := by have := sx_lt ha; omega
  have ha' := h_F_c F21 ha (fun z => z)
  have FF27 := h_F_u FF0 F21 (fun _ _ z => z) (fun _ _ z => z.elim) (Nat.le_refl _) (Nat.le_refl _)
  have h22 : sx_c τ20 a19 = some (.inr (6, [.int (nI 0), .int (nI 0), .int (nI 0)])) := by rw [nI_0]; exact h22
  refine sv_dup dX7_with_3 rfl ?_
  refine sv_aload_n dX7_with_4 rfl ?_
  refine sv_get fg_X7_7 dX7_with_5 (sx_rd_c ha') rfl ?_
  refine sv_aload_n dX7_with_8 rfl ?_
  refine sv_get fg_X7_13 dX7_with_9 (sx_rd_c ha') rfl ?_
  refine sv_iload_n dX7_with_12 rfl ?_
  refine sv_ciP _ (cc_minit h22) okX7_init ki_X7_19 dX7_with_13 rfl rfl (by decide) (Nat.le_of_ble_eq_true rfl) ?_
  intro v32 τ30 hp31
  obtain ⟨rfl, h29, F28⟩ := hp31
  have N33 := (F28).1.1
  have ha'' := h_F_c F28 ha' e26
  have FF34 := h_F_u FF27 F28 (fun _ _ z => z) (by intro q hq hz; omega) (Nat.le_refl _) (Nat.le_refl _)
  refine sv_aret (Or.inr ⟨_, rfl⟩) (Or.inl ⟨_, rfl⟩) rfl dX7_with_16 ?_
  exact ⟨_, rfl, _, rfl, by omega, h29, h_F_w FF34 (fun _ _ z => z) (by omega) (by omega)⟩
theorem cc_ninit {a : Nat} {s k n f : Int32} {x0 x1 x2 x3 : Value} (ha : sx_c σ a = some (.inr (8, [x0, x1, x2, x3]))) : sx_Cp G 1 YX9_init [.ref a, .int s, .int k, .int n, .int f] σ (fun v τ => v = none ∧ k_Nt τ a (s, k, n, f) ∧ h_F (fun q => q = a) 0 0 σ τ) := by
  refine sx_body (by decide) (Nat.le_of_ble_eq_true rfl) ?_
  have FF0 : h_F (fun q => q = a) 0 0 σ σ := h_F_r
  refine sv_aload_n dX9_init_0 rfl ?_
  refine sv_oi q1745 q194 q195 dX9_init_1 (by decide) (Nat.le_of_ble_eq_true rfl) ?_
  refine sv_aload_n dX9_init_4 rfl ?_
  refine sv_iload_n dX9_init_5 rfl ?_
  refine sv_put fp_X9_7 dX9_init_6 ha rfl rfl (Nat.le_of_ble_eq_true rfl) ?_
  refine hs_up ha (fun τ35 F36 h37 N38 Z39 => ?_)
  have h37 : sx_c τ35 a = some (.inr (8, [.int s, x1, x2, x3])) := h37
  have FF40 := h_F_u FF0 F36 (fun _ _ z => z) (by intro q hq hz; omega) (Nat.le_refl _) (Nat.le_refl _)
  refine sv_aload_n dX9_init_9 rfl ?_
  refine sv_iload_n dX9_init_10 rfl ?_
  refine sv_put fp_X9_13 dX9_init_11 h37 rfl rfl (Nat.le_of_ble_eq_true rfl) ?_
  refine hs_up h37 (fun τ41 F42 h43 N44 Z45 => ?_)
  have h43 : sx_c τ41 a = some (.inr (8, [.int s, .int k, x2, x3])) := h43
  have FF46 := h_F_u FF40 F42 (fun _ _ z => z) (by intro q hq hz; omega) (Nat.le_refl _) (Nat.le_refl _)
  refine sv_aload_n dX9_init_14 rfl ?_
  refine sv_iload_n dX9_init_15 rfl ?_
  refine sv_put fp_X9_16 dX9_init_16 h43 rfl rfl (Nat.le_of_ble_eq_true rfl) ?_
  refine hs_up h43 (fun τ47 F48 h49 N50 Z51 => ?_)
  have h49 : sx_c τ47 a = some (.inr (8, [.int s, .int k, .int n, x3])) := h49
  have FF52 := h_F_u FF46 F48 (fun _ _ z => z) (by intro q hq hz; omega) (Nat.le_refl _) (Nat.le_refl _)
  refine sv_aload_n dX9_init_19 rfl ?_
  refine sv_iload dX9_init_20 rfl ?_
  refine sv_put fp_X9_19 dX9_init_22 h49 rfl rfl (Nat.le_of_ble_eq_true rfl) ?_
  refine hs_up h49 (fun τ53 F54 h55 N56 Z57 => ?_)
  have h55 : sx_c τ53 a = some (.inr (8, [.int s, .int k, .int n, .int f])) := h55
  have FF58 := h_F_u FF52 F54 (fun _ _ z => z) (by intro q hq hz; omega) (Nat.le_refl _) (Nat.le_refl _)
  refine sv_vret rfl dX9_init_25 ?_
  exact ⟨_, rfl, rfl, h55, FF58⟩
theorem cc_part {a w : Nat} {n : a_N} (ha : k_Nt σ a n) (hw : w < 4) : sx_Cr G 0 YX9_part [.ref a, .int (nI w)] σ (some (.int (nx_n n w))) σ := by
  refine sx_body (by decide) (Nat.le_of_ble_eq_true rfl) ?_
  refine sv_iload_n dX9_part_0 rfl ?_
  refine sv_if_neN (tgt := 11) dX9_part_1 (by decide) (by omega) (fun c1 => ?_) (fun c1 => ?_)
  · refine sv_iload_n dX9_part_11 rfl ?_
    refine sv_iconst (nI 1) dX9_part_12 (by decide +kernel) ?_
    refine sv_icmp_neN (tgt := 23) dX9_part_13 (by decide) (by omega) (by omega) (fun c13 => ?_) (fun c13 => ?_)
    · refine sv_iload_n dX9_part_23 rfl ?_
      refine sv_iconst (nI 2) dX9_part_24 (by decide +kernel) ?_
      refine sv_icmp_neN (tgt := 35) dX9_part_25 (by decide) (by omega) (by omega) (fun c25 => ?_) (fun c25 => ?_)
      · obtain rfl : w = 3 := by omega
        refine sv_aload_n dX9_part_35 rfl ?_
        refine sv_get fg_X9_19 dX9_part_36 (sx_rd_c ha) rfl ?_
        refine sv_iret rfl rfl dX9_part_39 ?_
        exact ⟨_, rfl, rfl, rfl⟩
      · subst c25
        refine sv_aload_n dX9_part_28 rfl ?_
        refine sv_get fg_X9_16 dX9_part_29 (sx_rd_c ha) rfl ?_
        refine sv_goto (tgt := 39) dX9_part_32 (by decide) ?_
        refine sv_iret rfl rfl dX9_part_39 ?_
        exact ⟨_, rfl, rfl, rfl⟩
    · subst c13
      refine sv_aload_n dX9_part_16 rfl ?_
      refine sv_get fg_X9_13 dX9_part_17 (sx_rd_c ha) rfl ?_
      refine sv_goto (tgt := 39) dX9_part_20 (by decide) ?_
      refine sv_iret rfl rfl dX9_part_39 ?_
      exact ⟨_, rfl, rfl, rfl⟩
  · subst c1
    refine sv_aload_n dX9_part_4 rfl ?_
    refine sv_get fg_X9_7 dX9_part_5 (sx_rd_c ha) rfl ?_
    refine sv_goto (tgt := 39) dX9_part_8 (by decide) ?_
    refine sv_iret rfl rfl dX9_part_39 ?_
    exact ⟨_, rfl, rfl, rfl⟩
theorem cc_sinit {so nm : Nat} (hs : sx_c σ so = some (.inr (7, [.null, .int (nI 0), .int (nI 0), .int (nI 0), .int (b_I false), .int (b_I false), .null, .null, .null]))) {l : List Nat} : sx_Cp G 1 YX8_init [.ref so, .ref nm] σ (fun v τ => v = none ∧ ∃ u t ac, sx_n σ ≤ u ∧ sx_n σ ≤ t ∧ sx_n σ ≤ ac ∧ k_S G τ so u t ac nm (l, none, false, false, 0, fun _ => 0, []) ∧ h_F (fun q => q = so) 3 125 σ τ) := by
  refine sx_body (by decide) (Nat.le_of_ble_eq_true rfl) ?_
  have FF0 : h_F (fun q => q = so) 0 0 σ σ := h_F_r
  refine sv_aload_n dX8_init_0 rfl ?_
  refine sv_oi q1043 q194 q195 dX8_init_1 (by decide) (Nat.le_of_ble_eq_true rfl) ?_
  refine sv_aload_n dX8_init_4 rfl ?_
  refine sv_iconst (-1) dX8_init_5 (by decide +kernel) ?_
  refine sv_put fp_X8_9 dX8_init_6 hs rfl rfl (Nat.le_of_ble_eq_true rfl) ?_
  refine hs_up hs (fun τ59 F60 h61 N62 Z63 => ?_)
  have h61 : sx_c τ59 so = some (.inr (7, [.null, .int (-1), .int (nI 0), .int (nI 0), .int (b_I false), .int (b_I false), .null, .null, .null])) := h61
  have FF64 := h_F_u FF0 F60 (fun _ _ z => z) (by intro q hq hz; omega) (Nat.le_refl _) (Nat.le_refl _)
  refine sv_aload_n dX8_init_9 rfl ?_
  refine sv_bipush (nI 60) dX8_init_10 (by decide +kernel) ?_
  refine sv_newa_int 60 q719 dX8_init_12 (nI_pos (by omega)) (nI_clamp (by omega)) (by omega) ?_
  refine hs_al (fun a65 τ66 E71 F67 h68 N69 Z70 => ?_)
  have h61' := h_F_c F67 h61 (fun z => z)
  have FF72 := h_F_u FF64 F67 (fun _ _ z => z) (fun _ _ z => z.elim) (Nat.le_refl _) (Nat.le_refl _)
  have h68 : sx_c τ66 a65 = some (.inl (sg_a G 0, 60, .inl ((fun _ => 0)))) := h68
  refine sv_put fp_X8_15 dX8_init_14 h61' rfl rfl (Nat.le_of_ble_eq_true rfl) ?_
  refine hs_up h61' (fun τ73 F74 h75 N76 Z77 => ?_)
  have h75 : sx_c τ73 so = some (.inr (7, [.null, .int (-1), .int (nI 0), .int (nI 0), .int (b_I false), .int (b_I false), .ref a65, .null, .null])) := h75
  have h68' := h_F_c F74 h68 (e_kn h68 h61' rfl)
  have FF78 := h_F_u FF72 F74 (fun _ _ z => z) (by intro q hq hz; omega) (Nat.le_refl _) (Nat.le_refl _)
  refine sv_aload_n dX8_init_17 rfl ?_
  refine sv_bipush (nI 60) dX8_init_18 (by decide +kernel) ?_
  refine sv_newa_int 60 q719 dX8_init_20 (nI_pos (by omega)) (nI_clamp (by omega)) (by omega) ?_
  refine hs_al (fun a79 τ80 E85 F81 h82 N83 Z84 => ?_)
  have e86 : a65 ≠ a79 := by have := sx_lt h68'; omega
  have h68'' := h_F_c F81 h68' (fun z => z)
  have h75' := h_F_c F81 h75 (fun z => z)
  have FF87 := h_F_u FF78 F81 (fun _ _ z => z) (fun _ _ z => z.elim) (Nat.le_refl _) (Nat.le_refl _)
  have h82 : sx_c τ80 a79 = some (.inl (sg_a G 0, 60, .inl ((fun _ => 0)))) := h82
  refine sv_put fp_X8_19 dX8_init_22 h75' rfl rfl (Nat.le_of_ble_eq_true rfl) ?_
  refine hs_up h75' (fun τ88 F89 h90 N91 Z92 => ?_)
  have h90 : sx_c τ88 so = some (.inr (7, [.null, .int (-1), .int (nI 0), .int (nI 0), .int (b_I false), .int (b_I false), .ref a65, .ref a79, .null])) := h90
  have h68''' := h_F_c F89 h68'' (e_kn h68'' h75' rfl)
  have h82' := h_F_c F89 h82 (e_kn h82 h75' rfl)
  have FF93 := h_F_u FF87 F89 (fun _ _ z => z) (by intro q hq hz; omega) (Nat.le_refl _) (Nat.le_refl _)
  refine sv_aload_n dX8_init_25 rfl ?_
  refine sv_iconst (nI 5) dX8_init_26 (by decide +kernel) ?_
  refine sv_newa_int 5 q719 dX8_init_27 (nI_pos (by omega)) (nI_clamp (by omega)) (by omega) ?_
  refine hs_al (fun a94 τ95 E100 F96 h97 N98 Z99 => ?_)
  have e101 : a65 ≠ a94 := by have := sx_lt h68'''; omega
  have e102 : a79 ≠ a94 := by have := sx_lt h82'; omega
  have h68'''' := h_F_c F96 h68''' (fun z => z)
  have h82'' := h_F_c F96 h82' (fun z => z)
  have h90' := h_F_c F96 h90 (fun z => z)
  have FF103 := h_F_u FF93 F96 (fun _ _ z => z) (fun _ _ z => z.elim) (Nat.le_refl _) (Nat.le_refl _)
  have h97 : sx_c τ95 a94 = some (.inl (sg_a G 0, 5, .inl ((fun _ => 0)))) := h97
  refine sv_put fp_X8_22 dX8_init_29 h90' rfl rfl (Nat.le_of_ble_eq_true rfl) ?_
  refine hs_up h90' (fun τ104 F105 h106 N107 Z108 => ?_)
  have h106 : sx_c τ104 so = some (.inr (7, [.null, .int (-1), .int (nI 0), .int (nI 0), .int (b_I false), .int (b_I false), .ref a65, .ref a79, .ref a94])) := h106
  have h68''''' := h_F_c F105 h68'''' (e_kn h68'''' h90' rfl)
  have h82''' := h_F_c F105 h82'' (e_kn h82'' h90' rfl)
  have h97' := h_F_c F105 h97 (e_kn h97 h90' rfl)
  have FF109 := h_F_u FF103 F105 (fun _ _ z => z) (by intro q hq hz; omega) (Nat.le_refl _) (Nat.le_refl _)
  refine sv_aload_n dX8_init_32 rfl ?_
  refine sv_aload_n dX8_init_33 rfl ?_
  refine sv_put fp_X8_25 dX8_init_34 h106 rfl rfl (Nat.le_of_ble_eq_true rfl) ?_
  refine hs_up h106 (fun τ110 F111 h112 N113 Z114 => ?_)
  have h112 : sx_c τ110 so = some (.inr (7, [.ref nm, .int (-1), .int (nI 0), .int (nI 0), .int (b_I false), .int (b_I false), .ref a65, .ref a79, .ref a94])) := h112
  have h68'''''' := h_F_c F111 h68''''' (e_kn h68''''' h106 rfl)
  have h82'''' := h_F_c F111 h82''' (e_kn h82''' h106 rfl)
  have h97'' := h_F_c F111 h97' (e_kn h97' h106 rfl)
  have FF115 := h_F_u FF109 F111 (fun _ _ z => z) (by intro q hq hz; omega) (Nat.le_refl _) (Nat.le_refl _)
  refine sv_vret rfl dX8_init_37 ?_
  have hs9 := h112
  
  exact ⟨_, rfl, rfl, _, _, _, by omega, by omega, by omega, ⟨_, _, _, by first | exact h112 | (rw [← nI_0]; exact h112), h68'''''', h82'''', h97'', ⟨by omega, by omega, by omega⟩, Nat.zero_le 60, fun i hi => absurd hi (Nat.not_lt_zero i), fun i hi => absurd hi (Nat.not_lt_zero i), fun i hi => rfl⟩, h_F_w FF115 (fun _ _ z => z) (by omega) (by omega)⟩
theorem cc_leave {so u t ac nm : Nat} {S : a_S} (hS : k_S G σ so u t ac nm S) : sx_Cp G 0 YX8_leave [.ref so] σ (fun v τ => v = none ∧ k_S G τ so u t ac nm (S_es (S_bx S none) []) ∧ h_F (fun q => q = so) 0 0 σ τ) := by
  refine sx_body (by decide) (Nat.le_of_ble_eq_true rfl) ?_
  obtain ⟨fu, ft, fa, hs, hu, ht, hac, ⟨n1, n2, n3⟩, hl, eu, et, ea⟩ := hS
  have FF0 : h_F (fun q => q = so) 0 0 σ σ := h_F_r
  refine sv_aload_n dX8_leave_0 rfl ?_
  refine sv_iconst (-1) dX8_leave_1 (by decide +kernel) ?_
  refine sv_put fp_X8_9 dX8_leave_2 hs rfl rfl (Nat.le_of_ble_eq_true rfl) ?_
  refine hs_up hs (fun τ116 F117 h118 N119 Z120 => ?_)
  have h118 : sx_c τ116 so = some (.inr (7, [.ref nm, .int (-1), .int (nI S.2.2.2.2.2.2.length), .int S.2.2.2.2.1, .int (b_I S.2.2.1), .int (b_I S.2.2.2.1), .ref u, .ref t, .ref ac])) := h118
  have hu' := h_F_c F117 hu (e_kn hu hs rfl)
  have ht' := h_F_c F117 ht (e_kn ht hs rfl)
  have hac' := h_F_c F117 hac (e_kn hac hs rfl)
  have FF121 := h_F_u FF0 F117 (fun _ _ z => z) (by intro q hq hz; omega) (Nat.le_refl _) (Nat.le_refl _)
  refine sv_aload_n dX8_leave_5 rfl ?_
  refine sv_iconst (nI 0) dX8_leave_6 (by decide +kernel) ?_
  refine sv_put fp_X8_32 dX8_leave_7 h118 rfl rfl (Nat.le_of_ble_eq_true rfl) ?_
  refine hs_up h118 (fun τ122 F123 h124 N125 Z126 => ?_)
  have h124 : sx_c τ122 so = some (.inr (7, [.ref nm, .int (-1), .int (nI 0), .int S.2.2.2.2.1, .int (b_I S.2.2.1), .int (b_I S.2.2.2.1), .ref u, .ref t, .ref ac])) := h124
  have hu'' := h_F_c F123 hu' (e_kn hu' h118 rfl)
  have ht'' := h_F_c F123 ht' (e_kn ht' h118 rfl)
  have hac'' := h_F_c F123 hac' (e_kn hac' h118 rfl)
  have FF127 := h_F_u FF121 F123 (fun _ _ z => z) (by intro q hq hz; omega) (Nat.le_refl _) (Nat.le_refl _)
  refine sv_vret rfl dX8_leave_10 ?_
  exact ⟨_, rfl, rfl, ⟨_, _, _, h124, hu'', ht'', hac'', ⟨n1, n2, n3⟩, Nat.zero_le 60, fun i hi => absurd hi (Nat.not_lt_zero i), fun i hi => absurd hi (Nat.not_lt_zero i), ea⟩, FF127⟩
theorem cc_sadd {so u t ac nm : Nat} {S : a_S} (hS : k_S G σ so u t ac nm S) {a : Nat} {m : a_M} (ha : k_M σ a m) (hlt : S.2.2.2.2.2.2.length < 60) : sx_Cp G 0 YX8_add [.ref so, .ref a] σ (fun v τ => v = none ∧ k_S G τ so u t ac nm (S_ls (S_es S (S.2.2.2.2.2.2 ++ [(m.1, m.2.2)])) m.1) ∧ h_F (fun q => q = so ∨ q = u ∨ q = t) 0 0 σ τ) := by
  refine sx_body (by decide) (Nat.le_of_ble_eq_true rfl) ?_
  obtain ⟨fu, ft, fa, hs, hu, ht, hac, ⟨n1, n2, n3⟩, hl, eu, et, ea⟩ := hS
  have FF0 : h_F (fun q => q = so ∨ q = u ∨ q = t) 0 0 σ σ := h_F_r
  refine sv_aload_n dX8_add_0 rfl ?_
  refine sv_get fg_X8_15 dX8_add_1 (sx_rd_c hs) rfl ?_
  refine sv_aload_n dX8_add_4 rfl ?_
  refine sv_get fg_X8_32 dX8_add_5 (sx_rd_c hs) rfl ?_
  refine sv_aload_n dX8_add_8 rfl ?_
  refine sv_get fg_X8_50 dX8_add_9 (sx_rd_c ha) rfl ?_
  refine sv_iast dX8_add_12 hu (vp_in_nI (by omega) (by omega)) ?_
  rw [nI_clamp (show S.2.2.2.2.2.2.length < 2 ^ 31 by omega)]
  refine hs_up hu (fun τ128 F129 h130 N131 Z132 => ?_)
  have h130 : sx_c τ128 u = some (.inl (sg_a G 0, 60, .inl ((upd fu S.2.2.2.2.2.2.length m.1)))) := h130
  have hs' := h_F_c F129 hs (e_kn hs hu rfl)
  have ht' := h_F_c F129 ht (Ne.symm n1)
  have hac' := h_F_c F129 hac (Ne.symm n2)
  have ha' := h_F_c F129 ha (e_kn ha hu rfl)
  have FF133 := h_F_u FF0 F129 (fun _ _ z => z) (by intro q hq hz; omega) (Nat.le_refl _) (Nat.le_refl _)
  refine sv_aload_n dX8_add_13 rfl ?_
  refine sv_get fg_X8_19 dX8_add_14 (sx_rd_c hs') rfl ?_
  refine sv_aload_n dX8_add_17 rfl ?_
  refine sv_get fg_X8_32 dX8_add_18 (sx_rd_c hs') rfl ?_
  refine sv_aload_n dX8_add_21 rfl ?_
  refine sv_get fg_X8_55 dX8_add_22 (sx_rd_c ha') rfl ?_
  refine sv_iast dX8_add_25 ht' (vp_in_nI (by omega) (by omega)) ?_
  rw [nI_clamp (show S.2.2.2.2.2.2.length < 2 ^ 31 by omega)]
  refine hs_up ht' (fun τ134 F135 h136 N137 Z138 => ?_)
  have h136 : sx_c τ134 t = some (.inl (sg_a G 0, 60, .inl ((upd ft S.2.2.2.2.2.2.length m.2.2)))) := h136
  have hs'' := h_F_c F135 hs' (e_kn hs' ht' rfl)
  have hac'' := h_F_c F135 hac' (Ne.symm n3)
  have ha'' := h_F_c F135 ha' (e_kn ha' ht' rfl)
  have h130' := h_F_c F135 h130 n1
  have FF139 := h_F_u FF133 F135 (fun _ _ z => z) (by intro q hq hz; omega) (Nat.le_refl _) (Nat.le_refl _)
  refine sv_aload_n dX8_add_26 rfl ?_
  refine sv_aload_n dX8_add_27 rfl ?_
  refine sv_get fg_X8_50 dX8_add_28 (sx_rd_c ha'') rfl ?_
  refine sv_put fp_X8_35 dX8_add_31 hs'' rfl rfl (Nat.le_of_ble_eq_true rfl) ?_
  refine hs_up hs'' (fun τ140 F141 h142 N143 Z144 => ?_)
  have h142 : sx_c τ140 so = some (.inr (7, [.ref nm, .int (o_I S.2.1), .int (nI S.2.2.2.2.2.2.length), .int m.1, .int (b_I S.2.2.1), .int (b_I S.2.2.2.1), .ref u, .ref t, .ref ac])) := h142
  have hac''' := h_F_c F141 hac'' (e_kn hac'' hs'' rfl)
  have ha''' := h_F_c F141 ha'' (e_kn ha'' hs'' rfl)
  have h130'' := h_F_c F141 h130' (e_kn h130' hs'' rfl)
  have h136' := h_F_c F141 h136 (e_kn h136 hs'' rfl)
  have FF145 := h_F_u FF139 F141 (fun _ _ z => z) (by intro q hq hz; omega) (Nat.le_refl _) (Nat.le_refl _)
  refine sv_aload_n dX8_add_34 rfl ?_
  refine sv_dup dX8_add_35 rfl ?_
  refine sv_get fg_X8_32 dX8_add_36 (sx_rd_c h142) rfl ?_
  refine sv_iconst (nI 1) dX8_add_39 (by decide +kernel) ?_
  refine sv_iaddN dX8_add_40 ?_
  refine sv_put fp_X8_32 dX8_add_41 h142 rfl rfl (Nat.le_of_ble_eq_true rfl) ?_
  refine hs_up h142 (fun τ146 F147 h148 N149 Z150 => ?_)
  have h148 : sx_c τ146 so = some (.inr (7, [.ref nm, .int (o_I S.2.1), .int (nI (S.2.2.2.2.2.2.length + 1)), .int m.1, .int (b_I S.2.2.1), .int (b_I S.2.2.2.1), .ref u, .ref t, .ref ac])) := h148
  have hac'''' := h_F_c F147 hac''' (e_kn hac''' h142 rfl)
  have ha'''' := h_F_c F147 ha''' (e_kn ha''' h142 rfl)
  have h130''' := h_F_c F147 h130'' (e_kn h130'' h142 rfl)
  have h136'' := h_F_c F147 h136' (e_kn h136' h142 rfl)
  have FF151 := h_F_u FF145 F147 (fun _ _ z => z) (by intro q hq hz; omega) (Nat.le_refl _) (Nat.le_refl _)
  refine sv_vret rfl dX8_add_44 ?_
  have hs9 := h148
  refine ⟨_, rfl, rfl, ⟨_, _, _, ?_, h130''', h136'', hac'''', ⟨n1, n2, n3⟩, ?_, fun i hi => ?_, fun i hi => ?_, ea⟩, FF151⟩
  · show sx_c _ _ = some (Sum.inr (7, [_, _, Value.int (nI (S.2.2.2.2.2.2 ++ [(m.1, m.2.2)]).length), _, _, _, _, _, _]) : va_E)
    rw [List.length_append]
    exact hs9
  · show (S.2.2.2.2.2.2 ++ [(m.1, m.2.2)]).length ≤ 60
    rw [List.length_append]
    show _ + 1 ≤ 60
    omega
  · have hi : i < (S.2.2.2.2.2.2 ++ [(m.1, m.2.2)]).length := hi
    rw [List.length_append] at hi
    have hi : i < S.2.2.2.2.2.2.length + 1 := hi
    show _ = ((S.2.2.2.2.2.2 ++ [(m.1, m.2.2)]).getD i (0, 0)).1
    rw [gd_ap]
    by_cases hx : i = S.2.2.2.2.2.2.length
    · rw [if_neg (by omega), if_pos hx, hx, pk_us]
    · rw [if_pos (by omega), pk_un hx]; exact eu i (by omega)
  · have hi : i < (S.2.2.2.2.2.2 ++ [(m.1, m.2.2)]).length := hi
    rw [List.length_append] at hi
    have hi : i < S.2.2.2.2.2.2.length + 1 := hi
    show _ = ((S.2.2.2.2.2.2 ++ [(m.1, m.2.2)]).getD i (0, 0)).2
    rw [gd_ap]
    by_cases hx : i = S.2.2.2.2.2.2.length
    · rw [if_neg (by omega), if_pos hx, hx, pk_us]
    · rw [if_pos (by omega), pk_un hx]; exact et i (by omega)
theorem cc_srem {so u t ac nm : Nat} {S : a_S} (hS : k_S G σ so u t ac nm S) {k : Nat} (hk : k < S.2.2.2.2.2.2.length) : sx_Cp G 1 YX8_remove [.ref so, .int (nI k)] σ (fun v τ => v = none ∧ k_S G τ so u t ac nm (S_es S (S.2.2.2.2.2.2.eraseIdx k)) ∧ h_F (fun q => q = so ∨ q = u ∨ q = t) 0 0 σ τ) := by
  refine sx_body (by decide) (Nat.le_of_ble_eq_true rfl) ?_
  obtain ⟨fu, ft, fa, hs, hu, ht, hac, ⟨n1, n2, n3⟩, hl, eu, et, ea⟩ := hS
  have FF0 : h_F (fun q => q = so ∨ q = u ∨ q = t) 0 0 σ σ := h_F_r
  refine sv_aload_n dX8_remove_0 rfl ?_
  refine sv_dup dX8_remove_1 rfl ?_
  refine sv_get fg_X8_32 dX8_remove_2 (sx_rd_c hs) rfl ?_
  refine sv_iconst (nI 1) dX8_remove_5 (by decide +kernel) ?_
  refine sv_isubN dX8_remove_6 (by omega) ?_
  refine sv_put fp_X8_32 dX8_remove_7 hs rfl rfl (Nat.le_of_ble_eq_true rfl) ?_
  refine hs_up hs (fun τ152 F153 h154 N155 Z156 => ?_)
  have h154 : sx_c τ152 so = some (.inr (7, [.ref nm, .int (o_I S.2.1), .int (nI (S.2.2.2.2.2.2.length - 1)), .int S.2.2.2.2.1, .int (b_I S.2.2.1), .int (b_I S.2.2.2.1), .ref u, .ref t, .ref ac])) := h154
  have hu' := h_F_c F153 hu (e_kn hu hs rfl)
  have ht' := h_F_c F153 ht (e_kn ht hs rfl)
  have hac' := h_F_c F153 hac (e_kn hac hs rfl)
  have FF157 := h_F_u FF0 F153 (fun _ _ z => z) (by intro q hq hz; omega) (Nat.le_refl _) (Nat.le_refl _)
  refine sv_aload_n dX8_remove_10 rfl ?_
  refine sv_get fg_X8_15 dX8_remove_11 (sx_rd_c h154) rfl ?_
  refine sv_iload_n dX8_remove_14 rfl ?_
  refine sv_iconst (nI 1) dX8_remove_15 (by decide +kernel) ?_
  refine sv_iaddN dX8_remove_16 ?_
  refine sv_aload_n dX8_remove_17 rfl ?_
  refine sv_get fg_X8_15 dX8_remove_18 (sx_rd_c h154) rfl ?_
  refine sv_iload_n dX8_remove_21 rfl ?_
  refine sv_aload_n dX8_remove_22 rfl ?_
  refine sv_get fg_X8_32 dX8_remove_23 (sx_rd_c h154) rfl ?_
  refine sv_iload_n dX8_remove_26 rfl ?_
  refine sv_isubN dX8_remove_27 (by omega) ?_
  refine sv_copyI 0 q1735 rfl rfl (sx_rd_c hu') hu' (nI_pos (by omega)) (nI_pos (by omega)) (nI_pos (by omega)) (by rw [(nI_clamp (show k + 1 < 2 ^ 31 by omega)), (nI_clamp (show S.2.2.2.2.2.2.length - 1 - k < 2 ^ 31 by omega))]; omega) (by rw [(nI_clamp (show k < 2 ^ 31 by omega)), (nI_clamp (show S.2.2.2.2.2.2.length - 1 - k < 2 ^ 31 by omega))]; omega) (fun _ _ => rfl) dX8_remove_28 (by decide) (Nat.le_of_ble_eq_true rfl) ?_
  rw [(nI_clamp (show k + 1 < 2 ^ 31 by omega)), (nI_clamp (show k < 2 ^ 31 by omega)), (nI_clamp (show S.2.2.2.2.2.2.length - 1 - k < 2 ^ 31 by omega))]
  refine hs_up hu' (fun τ158 F159 h160 N161 Z162 => ?_)
  have h160 : sx_c τ158 u = some (.inl (sg_a G 0, 60, .inl ((va_cpy fu fu (k + 1) k (S.2.2.2.2.2.2.length - 1 - k))))) := h160
  have ht'' := h_F_c F159 ht' (Ne.symm n1)
  have hac'' := h_F_c F159 hac' (Ne.symm n2)
  have h154' := h_F_c F159 h154 (e_kn h154 hu' rfl)
  have FF163 := h_F_u FF157 F159 (fun _ _ z => z) (by intro q hq hz; omega) (Nat.le_refl _) (Nat.le_refl _)
  refine sv_aload_n dX8_remove_31 rfl ?_
  refine sv_get fg_X8_19 dX8_remove_32 (sx_rd_c h154') rfl ?_
  refine sv_iload_n dX8_remove_35 rfl ?_
  refine sv_iconst (nI 1) dX8_remove_36 (by decide +kernel) ?_
  refine sv_iaddN dX8_remove_37 ?_
  refine sv_aload_n dX8_remove_38 rfl ?_
  refine sv_get fg_X8_19 dX8_remove_39 (sx_rd_c h154') rfl ?_
  refine sv_iload_n dX8_remove_42 rfl ?_
  refine sv_aload_n dX8_remove_43 rfl ?_
  refine sv_get fg_X8_32 dX8_remove_44 (sx_rd_c h154') rfl ?_
  refine sv_iload_n dX8_remove_47 rfl ?_
  refine sv_isubN dX8_remove_48 (by omega) ?_
  refine sv_copyI 0 q1735 rfl rfl (sx_rd_c ht'') ht'' (nI_pos (by omega)) (nI_pos (by omega)) (nI_pos (by omega)) (by rw [(nI_clamp (show k + 1 < 2 ^ 31 by omega)), (nI_clamp (show S.2.2.2.2.2.2.length - 1 - k < 2 ^ 31 by omega))]; omega) (by rw [(nI_clamp (show k < 2 ^ 31 by omega)), (nI_clamp (show S.2.2.2.2.2.2.length - 1 - k < 2 ^ 31 by omega))]; omega) (fun _ _ => rfl) dX8_remove_49 (by decide) (Nat.le_of_ble_eq_true rfl) ?_
  rw [(nI_clamp (show k + 1 < 2 ^ 31 by omega)), (nI_clamp (show k < 2 ^ 31 by omega)), (nI_clamp (show S.2.2.2.2.2.2.length - 1 - k < 2 ^ 31 by omega))]
  refine hs_up ht'' (fun τ164 F165 h166 N167 Z168 => ?_)
  have h166 : sx_c τ164 t = some (.inl (sg_a G 0, 60, .inl ((va_cpy ft ft (k + 1) k (S.2.2.2.2.2.2.length - 1 - k))))) := h166
  have hac''' := h_F_c F165 hac'' (Ne.symm n3)
  have h154'' := h_F_c F165 h154' (e_kn h154' ht'' rfl)
  have h160' := h_F_c F165 h160 n1
  have FF169 := h_F_u FF163 F165 (fun _ _ z => z) (by intro q hq hz; omega) (Nat.le_refl _) (Nat.le_refl _)
  refine sv_vret rfl dX8_remove_52 ?_
  have hs9 := h154''
  have hle : (S.2.2.2.2.2.2.eraseIdx k).length = S.2.2.2.2.2.2.length - 1 := by rw [List.length_eraseIdx, if_pos hk]
  refine ⟨_, rfl, rfl, ⟨_, _, _, ?_, h160', h166, hac''', ⟨n1, n2, n3⟩, ?_, fun i hi => ?_, fun i hi => ?_, ea⟩, FF169⟩
  · show sx_c _ _ = some (Sum.inr (7, [_, _, Value.int (nI (S.2.2.2.2.2.2.eraseIdx k).length), _, _, _, _, _, _]) : va_E)
    rw [hle]
    exact hs9
  · show (S.2.2.2.2.2.2.eraseIdx k).length ≤ 60
    omega
  · have hi : i < (S.2.2.2.2.2.2.eraseIdx k).length := hi
    show _ = ((S.2.2.2.2.2.2.eraseIdx k).getD i (0, 0)).1
    rw [gd_er]
    unfold va_cpy
    by_cases hx : i < k
    · rw [if_neg (by omega), if_pos hx]; exact eu i (by omega)
    · rw [if_pos ⟨by omega, by omega⟩, if_neg hx, show k + 1 + (i - k) = i + 1 by omega]; exact eu (i + 1) (by omega)
  · have hi : i < (S.2.2.2.2.2.2.eraseIdx k).length := hi
    show _ = ((S.2.2.2.2.2.2.eraseIdx k).getD i (0, 0)).2
    rw [gd_er]
    unfold va_cpy
    by_cases hx : i < k
    · rw [if_neg (by omega), if_pos hx]; exact et i (by omega)
    · rw [if_pos ⟨by omega, by omega⟩, if_neg hx, show k + 1 + (i - k) = i + 1 by omega]; exact et (i + 1) (by omega)
theorem cc_sfind {so u t ac nm : Nat} {S : a_S} (hS : k_S G σ so u t ac nm S) {x : Int32} : sx_Cr G 0 YX8_find [.ref so, .int x] σ (some (.int (o_I (S.2.2.2.2.2.2.findIdx? (fun e => e.1 == x))))) σ := by
  have loop : ∀ r k, k ≤ S.2.2.2.2.2.2.length → S.2.2.2.2.2.2.length + 1 ≤ k + r → (∀ j, j < k → (S.2.2.2.2.2.2.getD j (0, 0)).1 ≠ x) → sx_V G 0 YX8_find 2 [some (.ref so), some (.int x), some (.int (nI k))] [] σ (fun o τ => ∃ v, o = .inl v ∧ v = some (.int (o_I (S.2.2.2.2.2.2.findIdx? (fun e => e.1 == x)))) ∧ τ = σ) := by
    obtain ⟨fu, ft, fa, hs, hu, ht, hac, ⟨n1, n2, n3⟩, hl, eu, et, ea⟩ := hS
    intro r
    induction r with
    | zero => intro k h1 h2; omega
    | succ r ih =>
    intro k hk1 hk2 hno
    refine sv_iload_n dX8_find_2 rfl ?_
    refine sv_aload_n dX8_find_3 rfl ?_
    refine sv_get fg_X8_32 dX8_find_4 (sx_rd_c hs) rfl ?_
    refine sv_icmp_geN (tgt := 28) dX8_find_7 (by decide) (by omega) (by omega) (fun c7 => ?_) (fun c7 => ?_)
    · refine sv_iconst (-1) dX8_find_28 (by decide +kernel) ?_
      refine sv_iret rfl rfl dX8_find_29 ?_
      exact ⟨_, rfl, r_I (by rw [fi_n (p := fun e => e.1 == x) (0, 0) (fun j hj => beq_false_of_ne (hno j (by omega)))]; rfl), rfl⟩
    · refine sv_aload_n dX8_find_10 rfl ?_
      refine sv_get fg_X8_15 dX8_find_11 (sx_rd_c hs) rfl ?_
      refine sv_iload_n dX8_find_14 rfl ?_
      refine sv_iald dX8_find_15 (sx_rd_c hu) (vp_in_nI (by omega) (by omega)) ?_
      rw [nI_clamp (show k < 2 ^ 31 by omega)]
      refine sv_iload_n dX8_find_16 rfl ?_
      refine sv_icmp_ne (tgt := 22) dX8_find_17 (by decide) (fun c17 => ?_) (fun c17 => ?_)
      · refine sv_iincN dX8_find_22 rfl (by decide) ?_
        refine sv_goto (tgt := 2) dX8_find_25 (by decide) ?_
        exact ih (k + 1) (by omega) (by omega) (fun j hj => by
          by_cases hjk : j = k
          · rw [hjk, ← eu k (by omega)]; exact c17
          · exact hno j (by omega))
      · refine sv_iload_n dX8_find_20 rfl ?_
        refine sv_iret rfl rfl dX8_find_21 ?_
        exact ⟨_, rfl, r_I (by rw [fi_s (p := fun e => e.1 == x) (0, 0) (k := k) (by omega) (fun j hj => beq_false_of_ne (hno j hj)) (by rw [← eu k (by omega)]; exact beq_iff_eq.mpr c17)]; rfl), rfl⟩
  refine sx_body (by decide) (Nat.le_of_ble_eq_true rfl) ?_
  have hl9 : S.2.2.2.2.2.2.length ≤ 60 := by obtain ⟨_, _, _, _, _, _, _, _, h, _⟩ := hS; exact h
  refine sv_iconst (nI 0) dX8_find_0 (by decide +kernel) ?_
  refine sv_istore_n dX8_find_1 (by decide) ?_
  exact loop 61 0 (by omega) (by omega) (fun j hj => absurd hj (Nat.not_lt_zero j))
theorem cc_sinit2 {so ot u t ac nm : Nat} {S : a_S} (hS : k_S G σ ot u t ac nm S) (hne : so ≠ ot) (hs0 : sx_c σ so = some (.inr (7, [.null, .int (nI 0), .int (nI 0), .int (nI 0), .int (b_I false), .int (b_I false), .null, .null, .null]))) : sx_Cp G 2 YX8_init_2 [.ref so, .ref ot] σ (fun v τ => v = none ∧ ∃ u2 t2 ac2, sx_n σ ≤ u2 ∧ sx_n σ ≤ t2 ∧ sx_n σ ≤ ac2 ∧ k_S G τ so u2 t2 ac2 nm S ∧ h_F (fun q => q = so) 6 250 σ τ) := by
  refine sx_body (by decide) (Nat.le_of_ble_eq_true rfl) ?_
  obtain ⟨fu, ft, fa, hs, hu, ht, hac, ⟨n1, n2, n3⟩, hl, eu, et, ea⟩ := hS
  have FF0 : h_F (fun q => q = so) 0 0 σ σ := h_F_r
  refine sv_aload_n dX8_init_2_0 rfl ?_
  refine sv_aload_n dX8_init_2_1 rfl ?_
  refine sv_get fg_X8_25 dX8_init_2_2 (sx_rd_c hs) rfl ?_
  refine sv_ciP _ (cc_sinit (l := []) hs0) okX8_init ki_X8_29 dX8_init_2_5 rfl rfl (by decide) (Nat.le_of_ble_eq_true rfl) ?_
  intro v187 τ185 hp186
  obtain ⟨rfl, u184, t183, a171, n1179, n2180, n3181, ⟨fu174, ft173, fa172, hs176, hu178, ht177, hac175, rest182⟩, F170⟩ := hp186
  have N188 := (F170).1.1
  have hs' := h_F_c F170 hs (Ne.symm hne)
  have hu' := h_F_c F170 hu (e_kn hu hs0 rfl)
  have ht' := h_F_c F170 ht (e_kn ht hs0 rfl)
  have hac' := h_F_c F170 hac (e_kn hac hs0 rfl)
  have FF189 := h_F_u FF0 F170 (fun _ _ z => z) (by intro q hq hz; omega) (Nat.le_refl _) (Nat.le_refl _)
  refine sv_aload_n dX8_init_2_8 rfl ?_
  refine sv_aload_n dX8_init_2_9 rfl ?_
  refine sv_get fg_X8_9 dX8_init_2_10 (sx_rd_c hs') rfl ?_
  refine sv_put fp_X8_9 dX8_init_2_13 hs176 rfl rfl (Nat.le_of_ble_eq_true rfl) ?_
  refine hs_up hs176 (fun τ190 F191 h192 N193 Z194 => ?_)
  have h192 : sx_c τ190 so = some (.inr (7, [.ref nm, .int (o_I S.2.1), .int (nI 0), .int 0, .int (b_I false), .int (b_I false), .ref u184, .ref t183, .ref a171])) := h192
  have hs'' := h_F_c F191 hs' (Ne.symm hne)
  have hu'' := h_F_c F191 hu' (e_kn hu' hs176 rfl)
  have ht'' := h_F_c F191 ht' (e_kn ht' hs176 rfl)
  have hac'' := h_F_c F191 hac' (e_kn hac' hs176 rfl)
  have FF195 := h_F_u FF189 F191 (fun _ _ z => z) (by intro q hq hz; omega) (Nat.le_refl _) (Nat.le_refl _)
  refine sv_aload_n dX8_init_2_16 rfl ?_
  refine sv_aload_n dX8_init_2_17 rfl ?_
  refine sv_get fg_X8_32 dX8_init_2_18 (sx_rd_c hs'') rfl ?_
  refine sv_put fp_X8_32 dX8_init_2_21 h192 rfl rfl (Nat.le_of_ble_eq_true rfl) ?_
  refine hs_up h192 (fun τ196 F197 h198 N199 Z200 => ?_)
  have h198 : sx_c τ196 so = some (.inr (7, [.ref nm, .int (o_I S.2.1), .int (nI S.2.2.2.2.2.2.length), .int 0, .int (b_I false), .int (b_I false), .ref u184, .ref t183, .ref a171])) := h198
  have hs''' := h_F_c F197 hs'' (Ne.symm hne)
  have hu''' := h_F_c F197 hu'' (e_kn hu'' h192 rfl)
  have ht''' := h_F_c F197 ht'' (e_kn ht'' h192 rfl)
  have hac''' := h_F_c F197 hac'' (e_kn hac'' h192 rfl)
  have FF201 := h_F_u FF195 F197 (fun _ _ z => z) (by intro q hq hz; omega) (Nat.le_refl _) (Nat.le_refl _)
  refine sv_aload_n dX8_init_2_24 rfl ?_
  refine sv_aload_n dX8_init_2_25 rfl ?_
  refine sv_get fg_X8_35 dX8_init_2_26 (sx_rd_c hs''') rfl ?_
  refine sv_put fp_X8_35 dX8_init_2_29 h198 rfl rfl (Nat.le_of_ble_eq_true rfl) ?_
  refine hs_up h198 (fun τ202 F203 h204 N205 Z206 => ?_)
  have h204 : sx_c τ202 so = some (.inr (7, [.ref nm, .int (o_I S.2.1), .int (nI S.2.2.2.2.2.2.length), .int S.2.2.2.2.1, .int (b_I false), .int (b_I false), .ref u184, .ref t183, .ref a171])) := h204
  have hs'''' := h_F_c F203 hs''' (Ne.symm hne)
  have hu'''' := h_F_c F203 hu''' (e_kn hu''' h198 rfl)
  have ht'''' := h_F_c F203 ht''' (e_kn ht''' h198 rfl)
  have hac'''' := h_F_c F203 hac''' (e_kn hac''' h198 rfl)
  have FF207 := h_F_u FF201 F203 (fun _ _ z => z) (by intro q hq hz; omega) (Nat.le_refl _) (Nat.le_refl _)
  refine sv_aload_n dX8_init_2_32 rfl ?_
  refine sv_aload_n dX8_init_2_33 rfl ?_
  refine sv_get fg_X8_38 dX8_init_2_34 (sx_rd_c hs'''') rfl ?_
  refine sv_put fp_X8_38 dX8_init_2_37 h204 (b_I_nar _) (b_I_fit _) (Nat.le_of_ble_eq_true rfl) ?_
  refine hs_up h204 (fun τ208 F209 h210 N211 Z212 => ?_)
  have h210 : sx_c τ208 so = some (.inr (7, [.ref nm, .int (o_I S.2.1), .int (nI S.2.2.2.2.2.2.length), .int S.2.2.2.2.1, .int (b_I S.2.2.1), .int (b_I false), .ref u184, .ref t183, .ref a171])) := h210
  have hs''''' := h_F_c F209 hs'''' (Ne.symm hne)
  have hu''''' := h_F_c F209 hu'''' (e_kn hu'''' h204 rfl)
  have ht''''' := h_F_c F209 ht'''' (e_kn ht'''' h204 rfl)
  have hac''''' := h_F_c F209 hac'''' (e_kn hac'''' h204 rfl)
  have FF213 := h_F_u FF207 F209 (fun _ _ z => z) (by intro q hq hz; omega) (Nat.le_refl _) (Nat.le_refl _)
  refine sv_aload_n dX8_init_2_40 rfl ?_
  refine sv_aload_n dX8_init_2_41 rfl ?_
  refine sv_get fg_X8_42 dX8_init_2_42 (sx_rd_c hs''''') rfl ?_
  refine sv_put fp_X8_42 dX8_init_2_45 h210 (b_I_nar _) (b_I_fit _) (Nat.le_of_ble_eq_true rfl) ?_
  refine hs_up h210 (fun τ214 F215 h216 N217 Z218 => ?_)
  have h216 : sx_c τ214 so = some (.inr (7, [.ref nm, .int (o_I S.2.1), .int (nI S.2.2.2.2.2.2.length), .int S.2.2.2.2.1, .int (b_I S.2.2.1), .int (b_I S.2.2.2.1), .ref u184, .ref t183, .ref a171])) := h216
  have hs'''''' := h_F_c F215 hs''''' (Ne.symm hne)
  have hu'''''' := h_F_c F215 hu''''' (e_kn hu''''' h210 rfl)
  have ht'''''' := h_F_c F215 ht''''' (e_kn ht''''' h210 rfl)
  have hac'''''' := h_F_c F215 hac''''' (e_kn hac''''' h210 rfl)
  have FF219 := h_F_u FF213 F215 (fun _ _ z => z) (by intro q hq hz; omega) (Nat.le_refl _) (Nat.le_refl _)
  refine sv_aload_n dX8_init_2_48 rfl ?_
  refine sv_aload_n dX8_init_2_49 rfl ?_
  refine sv_get fg_X8_15 dX8_init_2_50 (sx_rd_c hs'''''') rfl ?_
  refine sv_clone 0 rfl (sx_rd_c hu'''''') rfl (by decide) (fun _ _ => rfl) q1713 q1714 q332 q333 q1715 q1716 dX8_init_2_53 (by decide) (Nat.le_of_ble_eq_true rfl) ?_
  refine hs_al (fun a220 τ221 E226 F222 h223 N224 Z225 => ?_)
  have e227 : u ≠ a220 := by have := sx_lt hu''''''; omega
  have e228 : t ≠ a220 := by have := sx_lt ht''''''; omega
  have e229 : ac ≠ a220 := by have := sx_lt hac''''''; omega
  have hs''''''' := h_F_c F222 hs'''''' (fun z => z)
  have hu''''''' := h_F_c F222 hu'''''' (fun z => z)
  have ht''''''' := h_F_c F222 ht'''''' (fun z => z)
  have hac''''''' := h_F_c F222 hac'''''' (fun z => z)
  have h216' := h_F_c F222 h216 (fun z => z)
  have FF230 := h_F_u FF219 F222 (fun _ _ z => z) (fun _ _ z => z.elim) (Nat.le_refl _) (Nat.le_refl _)
  have h223 : sx_c τ221 a220 = some (.inl (sg_a G 0, 60, .inl fu)) := h223
  refine sv_castA 0 rfl (by decide) (sx_rd_c h223) q1717 dX8_init_2_56 ?_
  refine sv_put fp_X8_15 dX8_init_2_59 h216' rfl rfl (Nat.le_of_ble_eq_true rfl) ?_
  refine hs_up h216' (fun τ231 F232 h233 N234 Z235 => ?_)
  have h233 : sx_c τ231 so = some (.inr (7, [.ref nm, .int (o_I S.2.1), .int (nI S.2.2.2.2.2.2.length), .int S.2.2.2.2.1, .int (b_I S.2.2.1), .int (b_I S.2.2.2.1), .ref a220, .ref t183, .ref a171])) := h233
  have hs'''''''' := h_F_c F232 hs''''''' (Ne.symm hne)
  have hu'''''''' := h_F_c F232 hu''''''' (e_kn hu''''''' h216' rfl)
  have ht'''''''' := h_F_c F232 ht''''''' (e_kn ht''''''' h216' rfl)
  have hac'''''''' := h_F_c F232 hac''''''' (e_kn hac''''''' h216' rfl)
  have h223' := h_F_c F232 h223 (e_kn h223 h216' rfl)
  have FF236 := h_F_u FF230 F232 (fun _ _ z => z) (by intro q hq hz; omega) (Nat.le_refl _) (Nat.le_refl _)
  refine sv_aload_n dX8_init_2_62 rfl ?_
  refine sv_aload_n dX8_init_2_63 rfl ?_
  refine sv_get fg_X8_19 dX8_init_2_64 (sx_rd_c hs'''''''') rfl ?_
  refine sv_clone 0 rfl (sx_rd_c ht'''''''') rfl (by decide) (fun _ _ => rfl) q1713 q1714 q332 q333 q1715 q1716 dX8_init_2_67 (by decide) (Nat.le_of_ble_eq_true rfl) ?_
  refine hs_al (fun a237 τ238 E243 F239 h240 N241 Z242 => ?_)
  have e244 : u ≠ a237 := by have := sx_lt hu''''''''; omega
  have e245 : t ≠ a237 := by have := sx_lt ht''''''''; omega
  have e246 : ac ≠ a237 := by have := sx_lt hac''''''''; omega
  have e247 : a220 ≠ a237 := by have := sx_lt h223'; omega
  have hs''''''''' := h_F_c F239 hs'''''''' (fun z => z)
  have hu''''''''' := h_F_c F239 hu'''''''' (fun z => z)
  have ht''''''''' := h_F_c F239 ht'''''''' (fun z => z)
  have hac''''''''' := h_F_c F239 hac'''''''' (fun z => z)
  have h223'' := h_F_c F239 h223' (fun z => z)
  have h233' := h_F_c F239 h233 (fun z => z)
  have FF248 := h_F_u FF236 F239 (fun _ _ z => z) (fun _ _ z => z.elim) (Nat.le_refl _) (Nat.le_refl _)
  have h240 : sx_c τ238 a237 = some (.inl (sg_a G 0, 60, .inl ft)) := h240
  refine sv_castA 0 rfl (by decide) (sx_rd_c h240) q1717 dX8_init_2_70 ?_
  refine sv_put fp_X8_19 dX8_init_2_73 h233' rfl rfl (Nat.le_of_ble_eq_true rfl) ?_
  refine hs_up h233' (fun τ249 F250 h251 N252 Z253 => ?_)
  have h251 : sx_c τ249 so = some (.inr (7, [.ref nm, .int (o_I S.2.1), .int (nI S.2.2.2.2.2.2.length), .int S.2.2.2.2.1, .int (b_I S.2.2.1), .int (b_I S.2.2.2.1), .ref a220, .ref a237, .ref a171])) := h251
  have hs'''''''''' := h_F_c F250 hs''''''''' (Ne.symm hne)
  have hu'''''''''' := h_F_c F250 hu''''''''' (e_kn hu''''''''' h233' rfl)
  have ht'''''''''' := h_F_c F250 ht''''''''' (e_kn ht''''''''' h233' rfl)
  have hac'''''''''' := h_F_c F250 hac''''''''' (e_kn hac''''''''' h233' rfl)
  have h223''' := h_F_c F250 h223'' (e_kn h223'' h233' rfl)
  have h240' := h_F_c F250 h240 (e_kn h240 h233' rfl)
  have FF254 := h_F_u FF248 F250 (fun _ _ z => z) (by intro q hq hz; omega) (Nat.le_refl _) (Nat.le_refl _)
  refine sv_aload_n dX8_init_2_76 rfl ?_
  refine sv_aload_n dX8_init_2_77 rfl ?_
  refine sv_get fg_X8_22 dX8_init_2_78 (sx_rd_c hs'''''''''') rfl ?_
  refine sv_clone 0 rfl (sx_rd_c hac'''''''''') rfl (by decide) (fun _ _ => rfl) q1713 q1714 q332 q333 q1715 q1716 dX8_init_2_81 (by decide) (Nat.le_of_ble_eq_true rfl) ?_
  refine hs_al (fun a255 τ256 E261 F257 h258 N259 Z260 => ?_)
  have e262 : u ≠ a255 := by have := sx_lt hu''''''''''; omega
  have e263 : t ≠ a255 := by have := sx_lt ht''''''''''; omega
  have e264 : ac ≠ a255 := by have := sx_lt hac''''''''''; omega
  have e265 : a220 ≠ a255 := by have := sx_lt h223'''; omega
  have e266 : a237 ≠ a255 := by have := sx_lt h240'; omega
  have hs''''''''''' := h_F_c F257 hs'''''''''' (fun z => z)
  have hu''''''''''' := h_F_c F257 hu'''''''''' (fun z => z)
  have ht''''''''''' := h_F_c F257 ht'''''''''' (fun z => z)
  have hac''''''''''' := h_F_c F257 hac'''''''''' (fun z => z)
  have h223'''' := h_F_c F257 h223''' (fun z => z)
  have h240'' := h_F_c F257 h240' (fun z => z)
  have h251' := h_F_c F257 h251 (fun z => z)
  have FF267 := h_F_u FF254 F257 (fun _ _ z => z) (fun _ _ z => z.elim) (Nat.le_refl _) (Nat.le_refl _)
  have h258 : sx_c τ256 a255 = some (.inl (sg_a G 0, 5, .inl fa)) := h258
  refine sv_castA 0 rfl (by decide) (sx_rd_c h258) q1717 dX8_init_2_84 ?_
  refine sv_put fp_X8_22 dX8_init_2_87 h251' rfl rfl (Nat.le_of_ble_eq_true rfl) ?_
  refine hs_up h251' (fun τ268 F269 h270 N271 Z272 => ?_)
  have h270 : sx_c τ268 so = some (.inr (7, [.ref nm, .int (o_I S.2.1), .int (nI S.2.2.2.2.2.2.length), .int S.2.2.2.2.1, .int (b_I S.2.2.1), .int (b_I S.2.2.2.1), .ref a220, .ref a237, .ref a255])) := h270
  have hs'''''''''''' := h_F_c F269 hs''''''''''' (Ne.symm hne)
  have hu'''''''''''' := h_F_c F269 hu''''''''''' (e_kn hu''''''''''' h251' rfl)
  have ht'''''''''''' := h_F_c F269 ht''''''''''' (e_kn ht''''''''''' h251' rfl)
  have hac'''''''''''' := h_F_c F269 hac''''''''''' (e_kn hac''''''''''' h251' rfl)
  have h223''''' := h_F_c F269 h223'''' (e_kn h223'''' h251' rfl)
  have h240''' := h_F_c F269 h240'' (e_kn h240'' h251' rfl)
  have h258' := h_F_c F269 h258 (e_kn h258 h251' rfl)
  have FF273 := h_F_u FF267 F269 (fun _ _ z => z) (by intro q hq hz; omega) (Nat.le_refl _) (Nat.le_refl _)
  refine sv_vret rfl dX8_init_2_90 ?_
  exact ⟨_, rfl, rfl, a220, a237, a255, by omega, by omega, by omega, ⟨_, _, _, h270, h223''''', h240''', h258', ⟨by omega, by omega, by omega⟩, hl, eu, et, ea⟩, h_F_w FF273 (fun _ _ z => z) (by omega) (by omega)⟩
end CSA
