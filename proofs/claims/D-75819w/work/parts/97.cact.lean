set_option maxRecDepth 100000
section CXB
variable {G : sx_G} {σ τ : sx_St} {mu : Nat → Nat} {n oc lo sv nl cap : Nat} {ow : Nat → Nat} {Λ : Nat → Nat → Nat → Nat} {A : a_A}
/-- how much is made -/
def c_B (c s : Nat) (σ τ : sx_St) : Prop := sx_n σ ≤ sx_n τ ∧ sx_n τ ≤ sx_n σ + c ∧ sx_s τ ≤ sx_s σ + s
theorem c_B_F {W : Nat → Prop} {c s : Nat} (F : h_F W c s σ τ) : c_B c s σ τ := ⟨F.1.1, F.1.2, F.2.1⟩
theorem c_B_t {c s c' s' c2 s2 : Nat} {ρ : sx_St} (h : c_B c s σ τ) (h' : c_B c' s' τ ρ) (hc : c + c' ≤ c2) (hs : s + s' ≤ s2) : c_B c2 s2 σ ρ := by
  obtain ⟨a1, a2, a3⟩ := h
  obtain ⟨b1, b2, b3⟩ := h'
  exact ⟨by omega, by omega, by omega⟩
theorem c_X_kp {B : a_A} {k : Nat} (h : c_X G mu n oc σ sv nl A) (hk : s_kp A B k) : c_X G mu n oc σ sv nl B := by
  obtain ⟨h1, h2, h3, h4, h5, h6⟩ := h
  obtain ⟨-, -, -, -, -, -, e1, e2, e3, e4, e5, e6, -⟩ := hk
  refine ⟨?_, ?_, ?_, ?_, ?_, h6⟩
  · rw [e3, e4, e5]; exact h1
  · rw [e1]; exact h2
  · rw [e2]; exact h3
  · rw [e3]; exact h4
  · rw [e6]; exact h5
theorem c_F_E {a : Nat} {V : a_V} (h : c_F G mu n σ a V) : k_E G σ 1 a := by
  obtain ⟨Λ, h1, -⟩ := h
  exact ⟨_, h1.1⟩
theorem rm_h : A_h (s_rm A) = (if (A_h A).length = 6 then (A_h A).drop 1 else A_h A) ++ [A_v A] := rfl
theorem cc_become (hX : c_X G mu n oc σ sv nl A) (hF : c_F G mu n σ sv (A_v A)) {z a : Nat} (hz : g_Z G z) : sx_Cp G 5 YX1_become [.ref (mu 0), .ref a] σ (fun v τ => v = none ∧ ∃ nl2, sx_n σ ≤ nl2 ∧ k_L0 G τ nl2 ∧ c_X G mu n oc τ a nl2 (s_rm A) ∧ h_F (fun q => q = mu 0 ∨ q = mu 1 ∨ q = mu 2) 1 3 σ τ) := by
  refine sx_body (by decide) (Nat.le_of_ble_eq_true rfl) ?_
  obtain ⟨hx, ⟨h0, gd, hD, hl6, hfz⟩, hX3, hX4, hX5, hX6⟩ := hX
  have hE := c_F_E hF
  obtain ⟨fd, hq, hda, -⟩ := id hD
  have FF0 : h_F (fun q => q = mu 0 ∨ q = mu 1 ∨ q = mu 2) 0 0 σ σ := h_F_r
  refine sv_aload_n dX1_become_0 rfl ?_
  refine sv_get fg_X1_53 dX1_become_1 (sx_rd_c hx) rfl ?_
  refine sv_cvR _ (cj_dsize hD) okJ17_size kv_X1_101 (sx_rd_c hq) rfl dX1_become_4 rfl rfl (by omega) (Nat.le_of_ble_eq_true rfl) ?_
  refine sv_bipush (nI 6) dX1_become_7 (by decide +kernel) ?_
  refine sv_icmp_neN (tgt := 20) dX1_become_9 (by decide) (by omega) (by omega) (fun c9 => ?_) (fun c9 => ?_)
  · refine sv_aload_n dX1_become_20 rfl ?_
    refine sv_get fg_X1_53 dX1_become_21 (sx_rd_c hx) rfl ?_
    refine sv_aload_n dX1_become_24 rfl ?_
    refine sv_get fg_X1_44 dX1_become_25 (sx_rd_c hx) rfl ?_
    refine sv_cvP _ (cj_addLast hD k_O_1 (by decide) hE (by omega)) okJ17_addLast kv_X1_109 (sx_rd_c hq) rfl dX1_become_28 rfl rfl (by omega) (Nat.le_of_ble_eq_true rfl) ?_
    intro v7 τ5 hp6
    obtain ⟨rfl, hD3, F4⟩ := hp6
    have N8 := (F4).1.1
    have hx' := h_F_c F4 hx (fun z => z.elim (e_kn hx hq rfl) (e_kn hx hda rfl))
    have hE := k_E_fr F4 hE (fun z => z.elim (k_E_q hE hq (by decide)) (k_E_a hE hda))
    have FF9 := h_F_u FF0 F4 (fun _ _ z => z) (by intro q hq hz; omega) (Nat.le_refl _) (Nat.le_refl _)
    obtain ⟨fd2, hq2, hda2, -⟩ := id hD3
    refine sv_aload_n dX1_become_31 rfl ?_
    refine sv_aload_n dX1_become_32 rfl ?_
    refine sv_put fp_X1_44 dX1_become_33 hx' rfl rfl (Nat.le_of_ble_eq_true rfl) ?_
    refine hs_up hx' (fun τ10 F11 h12 N13 Z14 => ?_)
    have h12 : sx_c τ10 ((mu 0)) = some (.inr (0, [.ref a, .ref (mu 1), .ref (mu 3), .ref nl, .ref (mu 4), .int (nI (A_i A).length), .int (A_c A), .int (A_p A), .ref (mu 5)])) := h12
    have hq2' := h_F_c F11 hq2 (e_kn hq2 hx' rfl)
    have hda2' := h_F_c F11 hda2 (e_kn hda2 hx' rfl)
    have hE := k_E_fr F11 hE (k_E_q hE hx' (by decide))
    have hD3 := k_D_fr F11 hD3 (e_kn hq2 hx' rfl) (e_kn hda2 hx' rfl)
    have FF15 := h_F_u FF9 F11 (fun _ _ z => z) (by intro q hq hz; omega) (Nat.le_refl _) (Nat.le_refl _)
    refine sv_aload_n dX1_become_36 rfl ?_
    refine sv_new fn_X1_61 dX1_become_37 ?_
    refine hs_al (fun nl2 τ16 E21 F17 h18 N19 Z20 => ?_)
    have hq2'' := h_F_c F17 hq2' (fun z => z)
    have hda2'' := h_F_c F17 hda2' (fun z => z)
    have h12' := h_F_c F17 h12 (fun z => z)
    have hE := k_E_fr F17 hE (fun z => z)
    have hD3 := k_D_fr F17 hD3 (fun z => z) (fun z => z)
    have FF22 := h_F_u FF15 F17 (fun _ _ z => z) (fun _ _ z => z.elim) (Nat.le_refl _) (Nat.le_refl _)
    have h18 : sx_c τ16 nl2 = some (.inr (9, [.int (nI 0), .null, .int (nI 0)])) := by rw [nI_0]; exact h18
    refine sv_dup dX1_become_40 rfl ?_
    refine sv_ciP _ (cj_init0 hz h18) okJ2_init_2 ki_X1_63 dX1_become_41 rfl rfl (by omega) (Nat.le_of_ble_eq_true rfl) ?_
    intro v26 τ24 hp25
    obtain ⟨rfl, hL0, F23⟩ := hp25
    have N27 := (F23).1.1
    have hq2''' := h_F_c F23 hq2'' (e_kn hq2'' h18 rfl)
    have hda2''' := h_F_c F23 hda2'' (e_kn hda2'' h18 rfl)
    have h12'' := h_F_c F23 h12' (e_kn h12' h18 rfl)
    have hE := k_E_fr F23 hE (k_E_q hE h18 (by decide))
    have hD3 := k_D_fr F23 hD3 (e_kn hq2'' h18 rfl) (e_kn hda2'' h18 rfl)
    have FF28 := h_F_u FF22 F23 (fun _ _ z => z) (by intro q hq hz; omega) (Nat.le_refl _) (Nat.le_refl _)
    refine sv_put fp_X1_64 dX1_become_44 h12'' rfl rfl (Nat.le_of_ble_eq_true rfl) ?_
    refine hs_up h12'' (fun τ29 F30 h31 N32 Z33 => ?_)
    have h31 : sx_c τ29 ((mu 0)) = some (.inr (0, [.ref a, .ref (mu 1), .ref (mu 3), .ref nl2, .ref (mu 4), .int (nI (A_i A).length), .int (A_c A), .int (A_p A), .ref (mu 5)])) := h31
    have hq2'''' := h_F_c F30 hq2''' (e_kn hq2''' h12'' rfl)
    have hda2'''' := h_F_c F30 hda2''' (e_kn hda2''' h12'' rfl)
    have hE := k_E_fr F30 hE (k_E_q hE h12'' (by decide))
    have hD3 := k_D_fr F30 hD3 (e_kn hq2''' h12'' rfl) (e_kn hda2''' h12'' rfl)
    have hL0 := k_L0_fr F30 hL0 (by obtain ⟨_, _, z, _⟩ := id hL0; exact e_kn z h12'' rfl)
    have FF34 := h_F_u FF28 F30 (fun _ _ z => z) (by intro q hq hz; omega) (Nat.le_refl _) (Nat.le_refl _)
    refine sv_vret rfl dX1_become_47 ?_
    have FFb := h_F_w FF34 (fun _ _ z => z) (show _ ≤ 1 by omega) (show _ ≤ 3 by omega)
    have zW : ∀ q, c_Zm mu n q → ¬ (q = mu 0 ∨ q = mu 1 ∨ q = mu 2) := fun q zq w => by rcases w with w | w | w; exact zq.2 0 (by decide) w; exact zq.2 1 (by decide) w; exact zq.2 2 (by decide) w
    have k1 := sx_lt hx
    have n9 := FFb.1.1
    have m3 : ¬ (mu 3 = mu 0 ∨ mu 3 = mu 1 ∨ mu 3 = mu 2) := fun w => by obtain ⟨fs, z, -⟩ := id hX3; rcases w with w | w | w; exact e_kn z hx rfl w; exact e_kn z hq rfl w; exact hX6.1.2 w.symm
    have m4 : ¬ (mu 4 = mu 0 ∨ mu 4 = mu 1 ∨ mu 4 = mu 2) := fun w => by obtain ⟨fs, z, -⟩ := id hX4; rcases w with w | w | w; exact e_kn z hx rfl w; exact e_kn z hq rfl w; exact e_kn z hda rfl w
    have m5 : ¬ (mu 5 = mu 0 ∨ mu 5 = mu 1 ∨ mu 5 = mu 2) := fun w => by obtain ⟨fs, y, z, -⟩ := id hX5; rcases w with w | w | w; exact e_kn z hx rfl w; exact e_kn z hq rfl w; exact e_kn z hda rfl w
    have m6 : ¬ (mu 6 = mu 0 ∨ mu 6 = mu 1 ∨ mu 6 = mu 2) := fun w => by obtain ⟨fs, y, -, z, -⟩ := id hX5; rcases w with w | w | w; exact e_kn z hx rfl w; exact e_kn z hq rfl w; exact e_kn z hda rfl w
    refine ⟨_, rfl, rfl, _, by omega, hL0, ⟨h31, ?_, c_Xk_fr hX3 FFb zW m3 (Nat.le_refl _), c_Xi_fr hX4 FFb m4, c_Xo_fr hX5 FFb m5 m6, hX6.1, by have := hX6.2; omega⟩, FFb⟩
    rw [rm_h]
    rw [if_neg c9]
    refine ⟨h0, va_up gd (A_h A).length sv, by rw [List.length_append]; exact hD3, by rw [List.length_append]; show _ + 1 ≤ 6; omega, fun i hi => ?_⟩
    rw [List.length_append] at hi
    have hi : i < (A_h A).length + 1 := hi
    unfold va_up
    by_cases hz9 : i = (A_h A).length
    · rw [if_pos hz9, hz9, List.getD_eq_getElem?_getD, List.getElem?_append_right (Nat.le_refl _), Nat.sub_self]; exact c_F_fr hF FFb zW (Nat.le_refl _)
    · rw [if_neg hz9, List.getD_eq_getElem?_getD, List.getElem?_append_left (by omega), ← List.getD_eq_getElem?_getD]; exact c_F_fr (hfz i (by omega)) FFb zW (Nat.le_refl _)
  · refine sv_aload_n dX1_become_12 rfl ?_
    refine sv_get fg_X1_53 dX1_become_13 (sx_rd_c hx) rfl ?_
    refine sv_cvP _ (cj_removeFirst hD (by omega)) okJ17_removeFirst kv_X1_105 (sx_rd_c hq) rfl dX1_become_16 rfl rfl (by omega) (Nat.le_of_ble_eq_true rfl) ?_
    intro v38 τ36 hp37
    obtain ⟨rfl, hD2, F35⟩ := hp37
    have N39 := (F35).1.1
    have hx' := h_F_c F35 hx (fun z => z.elim (e_kn hx hq rfl) (e_kn hx hda rfl))
    have hE := k_E_fr F35 hE (fun z => z.elim (k_E_q hE hq (by decide)) (k_E_a hE hda))
    have FF40 := h_F_u FF0 F35 (fun _ _ z => z) (by intro q hq hz; omega) (Nat.le_refl _) (Nat.le_refl _)
    obtain ⟨fd1, hq1, hda1, -⟩ := id hD2
    refine sv_pop dX1_become_19 rfl ?_
    refine sv_aload_n dX1_become_20 rfl ?_
    refine sv_get fg_X1_53 dX1_become_21 (sx_rd_c hx') rfl ?_
    refine sv_aload_n dX1_become_24 rfl ?_
    refine sv_get fg_X1_44 dX1_become_25 (sx_rd_c hx') rfl ?_
    refine sv_cvP _ (cj_addLast hD2 k_O_1 (by decide) hE (by omega)) okJ17_addLast kv_X1_109 (sx_rd_c hq1) rfl dX1_become_28 rfl rfl (by omega) (Nat.le_of_ble_eq_true rfl) ?_
    intro v44 τ42 hp43
    obtain ⟨rfl, hD4, F41⟩ := hp43
    have N45 := (F41).1.1
    have hx'' := h_F_c F41 hx' (fun z => z.elim (e_kn hx' hq1 rfl) (e_kn hx' hda1 rfl))
    have hE := k_E_fr F41 hE (fun z => z.elim (k_E_q hE hq1 (by decide)) (k_E_a hE hda1))
    have FF46 := h_F_u FF40 F41 (fun _ _ z => z) (by intro q hq hz; omega) (Nat.le_refl _) (Nat.le_refl _)
    obtain ⟨fd2, hq2, hda2, -⟩ := id hD4
    refine sv_aload_n dX1_become_31 rfl ?_
    refine sv_aload_n dX1_become_32 rfl ?_
    refine sv_put fp_X1_44 dX1_become_33 hx'' rfl rfl (Nat.le_of_ble_eq_true rfl) ?_
    refine hs_up hx'' (fun τ47 F48 h49 N50 Z51 => ?_)
    have h49 : sx_c τ47 ((mu 0)) = some (.inr (0, [.ref a, .ref (mu 1), .ref (mu 3), .ref nl, .ref (mu 4), .int (nI (A_i A).length), .int (A_c A), .int (A_p A), .ref (mu 5)])) := h49
    have hq2' := h_F_c F48 hq2 (e_kn hq2 hx'' rfl)
    have hda2' := h_F_c F48 hda2 (e_kn hda2 hx'' rfl)
    have hE := k_E_fr F48 hE (k_E_q hE hx'' (by decide))
    have hD4 := k_D_fr F48 hD4 (e_kn hq2 hx'' rfl) (e_kn hda2 hx'' rfl)
    have FF52 := h_F_u FF46 F48 (fun _ _ z => z) (by intro q hq hz; omega) (Nat.le_refl _) (Nat.le_refl _)
    refine sv_aload_n dX1_become_36 rfl ?_
    refine sv_new fn_X1_61 dX1_become_37 ?_
    refine hs_al (fun nl2 τ53 E58 F54 h55 N56 Z57 => ?_)
    have hq2'' := h_F_c F54 hq2' (fun z => z)
    have hda2'' := h_F_c F54 hda2' (fun z => z)
    have h49' := h_F_c F54 h49 (fun z => z)
    have hE := k_E_fr F54 hE (fun z => z)
    have hD4 := k_D_fr F54 hD4 (fun z => z) (fun z => z)
    have FF59 := h_F_u FF52 F54 (fun _ _ z => z) (fun _ _ z => z.elim) (Nat.le_refl _) (Nat.le_refl _)
    have h55 : sx_c τ53 nl2 = some (.inr (9, [.int (nI 0), .null, .int (nI 0)])) := by rw [nI_0]; exact h55
    refine sv_dup dX1_become_40 rfl ?_
    refine sv_ciP _ (cj_init0 hz h55) okJ2_init_2 ki_X1_63 dX1_become_41 rfl rfl (by omega) (Nat.le_of_ble_eq_true rfl) ?_
    intro v63 τ61 hp62
    obtain ⟨rfl, hL0, F60⟩ := hp62
    have N64 := (F60).1.1
    have hq2''' := h_F_c F60 hq2'' (e_kn hq2'' h55 rfl)
    have hda2''' := h_F_c F60 hda2'' (e_kn hda2'' h55 rfl)
    have h49'' := h_F_c F60 h49' (e_kn h49' h55 rfl)
    have hE := k_E_fr F60 hE (k_E_q hE h55 (by decide))
    have hD4 := k_D_fr F60 hD4 (e_kn hq2'' h55 rfl) (e_kn hda2'' h55 rfl)
    have FF65 := h_F_u FF59 F60 (fun _ _ z => z) (by intro q hq hz; omega) (Nat.le_refl _) (Nat.le_refl _)
    refine sv_put fp_X1_64 dX1_become_44 h49'' rfl rfl (Nat.le_of_ble_eq_true rfl) ?_
    refine hs_up h49'' (fun τ66 F67 h68 N69 Z70 => ?_)
    have h68 : sx_c τ66 ((mu 0)) = some (.inr (0, [.ref a, .ref (mu 1), .ref (mu 3), .ref nl2, .ref (mu 4), .int (nI (A_i A).length), .int (A_c A), .int (A_p A), .ref (mu 5)])) := h68
    have hq2'''' := h_F_c F67 hq2''' (e_kn hq2''' h49'' rfl)
    have hda2'''' := h_F_c F67 hda2''' (e_kn hda2''' h49'' rfl)
    have hE := k_E_fr F67 hE (k_E_q hE h49'' (by decide))
    have hD4 := k_D_fr F67 hD4 (e_kn hq2''' h49'' rfl) (e_kn hda2''' h49'' rfl)
    have hL0 := k_L0_fr F67 hL0 (by obtain ⟨_, _, z, _⟩ := id hL0; exact e_kn z h49'' rfl)
    have FF71 := h_F_u FF65 F67 (fun _ _ z => z) (by intro q hq hz; omega) (Nat.le_refl _) (Nat.le_refl _)
    refine sv_vret rfl dX1_become_47 ?_
    have FFb := h_F_w FF71 (fun _ _ z => z) (show _ ≤ 1 by omega) (show _ ≤ 3 by omega)
    have zW : ∀ q, c_Zm mu n q → ¬ (q = mu 0 ∨ q = mu 1 ∨ q = mu 2) := fun q zq w => by rcases w with w | w | w; exact zq.2 0 (by decide) w; exact zq.2 1 (by decide) w; exact zq.2 2 (by decide) w
    have k1 := sx_lt hx
    have n9 := FFb.1.1
    have m3 : ¬ (mu 3 = mu 0 ∨ mu 3 = mu 1 ∨ mu 3 = mu 2) := fun w => by obtain ⟨fs, z, -⟩ := id hX3; rcases w with w | w | w; exact e_kn z hx rfl w; exact e_kn z hq rfl w; exact hX6.1.2 w.symm
    have m4 : ¬ (mu 4 = mu 0 ∨ mu 4 = mu 1 ∨ mu 4 = mu 2) := fun w => by obtain ⟨fs, z, -⟩ := id hX4; rcases w with w | w | w; exact e_kn z hx rfl w; exact e_kn z hq rfl w; exact e_kn z hda rfl w
    have m5 : ¬ (mu 5 = mu 0 ∨ mu 5 = mu 1 ∨ mu 5 = mu 2) := fun w => by obtain ⟨fs, y, z, -⟩ := id hX5; rcases w with w | w | w; exact e_kn z hx rfl w; exact e_kn z hq rfl w; exact e_kn z hda rfl w
    have m6 : ¬ (mu 6 = mu 0 ∨ mu 6 = mu 1 ∨ mu 6 = mu 2) := fun w => by obtain ⟨fs, y, -, z, -⟩ := id hX5; rcases w with w | w | w; exact e_kn z hx rfl w; exact e_kn z hq rfl w; exact e_kn z hda rfl w
    refine ⟨_, rfl, rfl, _, by omega, hL0, ⟨h68, ?_, c_Xk_fr hX3 FFb zW m3 (Nat.le_refl _), c_Xi_fr hX4 FFb m4, c_Xo_fr hX5 FFb m5 m6, hX6.1, by have := hX6.2; omega⟩, FFb⟩
    rw [rm_h]
    rw [if_pos c9]
    have hl5 : ((A_h A).drop 1).length = (A_h A).length - 1 := List.length_drop
    refine ⟨(h0 + 1) % 17, va_up (fun j => gd (j + 1)) ((A_h A).length - 1) sv, by rw [List.length_append, hl5]; exact hD4, by rw [List.length_append, hl5]; show _ - 1 + 1 ≤ 6; omega, fun i hi => ?_⟩
    rw [List.length_append, hl5] at hi
    have hi : i < (A_h A).length - 1 + 1 := hi
    unfold va_up
    by_cases hz9 : i = (A_h A).length - 1
    · rw [if_pos hz9, hz9, List.getD_eq_getElem?_getD, List.getElem?_append_right (by omega), hl5, Nat.sub_self]; exact c_F_fr hF FFb zW (Nat.le_refl _)
    · rw [if_neg hz9, List.getD_eq_getElem?_getD, List.getElem?_append_left (by omega), List.getElem?_drop, Nat.add_comm 1 i, ← List.getD_eq_getElem?_getD]; exact c_F_fr (hfz (i + 1) (by omega)) FFb zW (Nat.le_refl _)
end CXB
