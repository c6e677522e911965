set_option maxRecDepth 100000
section CNW
variable {G : sx_G} {σ τ : sx_St} {a : Nat}
theorem n30 : (nI 30 : Int32) = 30 := by decide +kernel
theorem k_L_lt {l ar cap n : Nat} {g : Nat → Nat} (h : k_L G σ l ar cap n g) : l < sx_n σ ∧ ar < sx_n σ := by
  obtain ⟨_, _, a1, a2, _⟩ := h
  exact ⟨sx_lt a1, sx_lt a2⟩
theorem cc_vinit (ha : sx_c σ a = some (.inr (1, [.null, .null, .int (nI 0)]))) : sx_Cp G 5 YX2_init [.ref a] σ (fun v τ => v = none ∧ ∃ ow Λ, c_I G a τ ow a Λ (30, [], []) ∧ h_F (fun q => q = a) 4 10 σ τ) := by
  refine sx_body (by decide) (Nat.le_of_ble_eq_true rfl) ?_
  have ha9 := sx_lt ha
  have FF0 : h_F (fun q => q = a) 0 0 σ σ := h_F_r
  refine sv_aload_n dX2_init_0 rfl ?_
  refine sv_oi q201 q194 q195 dX2_init_1 (by decide) (Nat.le_of_ble_eq_true rfl) ?_
  refine sv_aload_n dX2_init_4 rfl ?_
  refine sv_new fn_X2_9 dX2_init_5 ?_
  refine hs_al (fun bl τ4 E9 F5 h6 N7 Z8 => ?_)
  have ha' := h_F_c F5 ha (fun z => z)
  have FF10 := h_F_u FF0 F5 (fun _ _ z => z) (fun _ _ z => z.elim) (Nat.le_refl _) (Nat.le_refl _)
  have h6 : sx_c τ4 bl = some (.inr (9, [.int (nI 0), .null, .int (nI 0)])) := by rw [nI_0]; exact h6
  refine sv_dup dX2_init_8 rfl ?_
  refine sv_iconst (nI 2) dX2_init_9 (by decide +kernel) ?_
  refine sv_ciP _ (cj_init (c := 2) (by decide) (by decide) h6) okJ2_init ki_X2_11 dX2_init_10 rfl rfl (by omega) (Nat.le_of_ble_eq_true rfl) ?_
  intro v14 τ12 hp13
  obtain ⟨rfl, ba, bn, hBl, F11⟩ := hp13
  have N15 := (F11).1.1
  have ha'' := h_F_c F11 ha' (e_kn ha' h6 rfl)
  have FF16 := h_F_u FF10 F11 (fun _ _ z => z) (by intro q hq hz; omega) (Nat.le_refl _) (Nat.le_refl _)
  have lt_b := k_L_lt (hBl (fun _ => 0))
  refine sv_put fp_X2_14 dX2_init_13 ha'' rfl rfl (Nat.le_of_ble_eq_true rfl) ?_
  refine hs_up ha'' (fun τ17 F18 h19 N20 Z21 => ?_)
  have h19 : sx_c τ17 a = some (.inr (1, [.ref bl, .null, .int (nI 0)])) := h19
  have hBl := fun g => k_L_fr F18 (hBl g) (k_L_l (hBl g) ha'' (by decide)) (k_L_a (hBl g) ha'')
  have FF22 := h_F_u FF16 F18 (fun _ _ z => z) (by intro q hq hz; omega) (Nat.le_refl _) (Nat.le_refl _)
  refine sv_aload_n dX2_init_16 rfl ?_
  refine sv_new fn_X2_9 dX2_init_17 ?_
  refine hs_al (fun sl2 τ23 E28 F24 h25 N26 Z27 => ?_)
  have h19' := h_F_c F24 h19 (fun z => z)
  have hBl := fun g => k_L_fr F24 (hBl g) (fun z => z) (fun z => z)
  have FF29 := h_F_u FF22 F24 (fun _ _ z => z) (fun _ _ z => z.elim) (Nat.le_refl _) (Nat.le_refl _)
  have h25 : sx_c τ23 sl2 = some (.inr (9, [.int (nI 0), .null, .int (nI 0)])) := by rw [nI_0]; exact h25
  refine sv_dup dX2_init_20 rfl ?_
  refine sv_iconst (nI 2) dX2_init_21 (by decide +kernel) ?_
  refine sv_ciP _ (cj_init (c := 2) (by decide) (by decide) h25) okJ2_init ki_X2_11 dX2_init_22 rfl rfl (by omega) (Nat.le_of_ble_eq_true rfl) ?_
  intro v33 τ31 hp32
  obtain ⟨rfl, sa, sn, hSl, F30⟩ := hp32
  have N34 := (F30).1.1
  have h19'' := h_F_c F30 h19' (e_kn h19' h25 rfl)
  have hBl := fun g => k_L_fr F30 (hBl g) (by omega) (by omega)
  have FF35 := h_F_u FF29 F30 (fun _ _ z => z) (by intro q hq hz; omega) (Nat.le_refl _) (Nat.le_refl _)
  have lt_s := k_L_lt (hSl (fun _ => 0))
  refine sv_put fp_X2_20 dX2_init_25 h19'' rfl rfl (Nat.le_of_ble_eq_true rfl) ?_
  refine hs_up h19'' (fun τ36 F37 h38 N39 Z40 => ?_)
  have h38 : sx_c τ36 a = some (.inr (1, [.ref bl, .ref sl2, .int (nI 0)])) := h38
  have hBl := fun g => k_L_fr F37 (hBl g) (k_L_l (hBl g) h19'' (by decide)) (k_L_a (hBl g) h19'')
  have hSl := fun g => k_L_fr F37 (hSl g) (k_L_l (hSl g) h19'' (by decide)) (k_L_a (hSl g) h19'')
  have FF41 := h_F_u FF35 F37 (fun _ _ z => z) (by intro q hq hz; omega) (Nat.le_refl _) (Nat.le_refl _)
  refine sv_aload_n dX2_init_28 rfl ?_
  refine sv_bipush (nI 30) dX2_init_29 (by decide +kernel) ?_
  refine sv_put fp_X2_23 dX2_init_31 h38 rfl rfl (Nat.le_of_ble_eq_true rfl) ?_
  refine hs_up h38 (fun τ42 F43 h44 N45 Z46 => ?_)
  have h44 : sx_c τ42 a = some (.inr (1, [.ref bl, .ref sl2, .int (nI 30)])) := h44
  have hBl := fun g => k_L_fr F43 (hBl g) (k_L_l (hBl g) h38 (by decide)) (k_L_a (hBl g) h38)
  have hSl := fun g => k_L_fr F43 (hSl g) (k_L_l (hSl g) h38 (by decide)) (k_L_a (hSl g) h38)
  have FF47 := h_F_u FF41 F43 (fun _ _ z => z) (by intro q hq hz; omega) (Nat.le_refl _) (Nat.le_refl _)
  refine sv_vret rfl dX2_init_34 ?_
  have h9 := k_L_lt (hBl (fun _ => 0))
  have h8 := k_L_lt (hSl (fun _ => 0))
  have hI := c_I_new h44 (hBl (fun _ => 0)) (hSl (fun _ => 0)) (by omega) (by omega) (by omega) (by omega) (by omega) (by omega)
  rw [n30] at hI
  exact ⟨_, rfl, rfl, _, _, hI, h_F_w FF47 (fun _ _ z => z) (by omega) (by omega)⟩
end CNW
