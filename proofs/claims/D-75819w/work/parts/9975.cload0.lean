set_option maxRecDepth 100000
section CLD
variable {G : sx_G} {σ τ : sx_St} {mu : Nat → Nat} {oc n sv nl : Nat} {A : a_A} {t : List Int32} {k : k_T} {S : p_S}
theorem p_all_ok (hb : b_B t) : ∀ f S k S2, p_ok S → k_ok t k → p_all t f S k = .inr S2 → p_ok S2 := by
  intro f
  induction f with
  | zero => intro S k S2 hS hk h; cases h; exact hS
  | succ f ih =>
    intro S k S2 hS hk h
    obtain ⟨x, hx, h⟩ := p_bind_r (show p_bind (p_st t S k) _ = .inr S2 from h)
    have h9 := p_st_ok hb hS hk hx
    split at h
    · split at h
      · cases h; exact h9.1
      · exact ih _ _ _ h9.1 (k_n_p h9.2.1.2.1).2 h
    · cases h
theorem p_tx_w (hb : b_B t) {V : a_V} (h : p_tx t = .inr V) : w_V V ∧ o_V 0 V := by
  obtain ⟨S, hS, h⟩ := p_bind_r (show p_bind (p_all t 701 ((30, [], []), false, []) (k_n t 0)) _ = .inr V from h)
  cases h
  have h9 := p_all_ok hb 701 _ _ _ p_ok_0 (k_n_p (Nat.zero_le _)).2 hS
  exact p_se_o h9.1 h9.2.2 (Nat.le_refl _)
/-- x's own cell changes: input's length, error -/
theorem c_X_w0 {I : List Int32} {c p : Int32} (hX : c_X G mu n oc σ sv nl A) (F : h_F (fun q => q = mu 0) 0 0 σ τ) (h : sx_c τ (mu 0) = some (.inr (0, [.ref sv, .ref (mu 1), .ref (mu 3), .ref nl, .ref (mu 4), .int (nI I.length), .int c, .int p, .ref (mu 5)]))) (hI : I = A_i A ∨ I = []) : c_X G mu n oc τ sv nl (A_sp (A_sc (A_si A I) c) p) := by
  have hm := c_X_m hX
  obtain ⟨x1, xh, xk, xi, xo, xm, xn⟩ := hX
  obtain ⟨x, g, hD, -⟩ := id xh
  obtain ⟨fd, d1, d2, -⟩ := id hD
  have h3 : mu 3 ≠ mu 0 := fun z => hm 3 (by decide) (by decide) (Or.inl z)
  have h4 : mu 4 ≠ mu 0 := fun z => hm 4 (by decide) (by decide) (Or.inl z)
  have h5 : mu 5 ≠ mu 0 := fun z => hm 5 (by decide) (by decide) (Or.inl z)
  have h6 : mu 6 ≠ mu 0 := fun z => hm 6 (by decide) (by decide) (Or.inl z)
  have h12 : mu 1 ≠ mu 0 ∧ mu 2 ≠ mu 0 := ⟨e_kn d1 x1 rfl, e_kn d2 x1 rfl⟩
  have hW : ∀ q, c_Zm mu n q → ¬ q = mu 0 := fun q z => z.2 0 (by decide)
  refine ⟨h, c_Xh_fr xh F hW h12.1 h12.2 (Nat.le_refl _), c_Xk_fr xk F hW h3 (Nat.le_refl _), ?_, c_Xo_fr xo F h5 h6, xm, Nat.le_trans xn F.1.1⟩
  have h9 := c_Xi_fr xi F h4
  rcases hI with e | e
  · show c_Xi G mu τ I
    rw [e]; exact h9
  · show c_Xi G mu τ I
    rw [e]
    obtain ⟨fi, g1, -, -⟩ := h9
    exact ⟨fi, g1, Nat.zero_le _, fun i hi => absurd hi (Nat.not_lt_zero i)⟩
theorem cc_noErr (hX : c_X G mu n oc σ sv nl A) : sx_Cp G 1 YX1_noError [.ref (mu 0)] σ (fun v τ => v = none ∧ c_X G mu n oc τ sv nl (A_sp (A_sc (A_si A (A_i A)) 0) (-1)) ∧ h_F (fun q => q = mu 0) 0 0 σ τ) := by
  refine sx_body (by decide) (Nat.le_of_ble_eq_true rfl) ?_
  have hx := hX.1
  have FF0 : h_F (fun q => q = mu 0) 0 0 σ σ := h_F_r
  refine sv_aload_n dX1_noError_0 rfl ?_
  refine sv_iconst (nI 0) dX1_noError_1 (by decide +kernel) ?_
  refine sv_tI (y := 0) rfl ?_
  refine sv_put fp_X1_119 dX1_noError_2 hx rfl rfl (Nat.le_of_ble_eq_true rfl) ?_
  refine hs_up hx (fun τ1 F2 h3 N4 Z5 => ?_)
  have h3 : sx_c τ1 ((mu 0)) = some (.inr (0, [.ref sv, .ref (mu 1), .ref (mu 3), .ref nl, .ref (mu 4), .int (nI (A_i A).length), .int (0), .int (A_p A), .ref (mu 5)])) := h3
  have FF6 := h_F_u FF0 F2 (fun _ _ z => z) (by intro q hq hz; omega) (Nat.le_refl _) (Nat.le_refl _)
  refine sv_aload_n dX1_noError_5 rfl ?_
  refine sv_iconst (-1) dX1_noError_6 (by decide +kernel) ?_
  refine sv_put fp_X1_72 dX1_noError_7 h3 rfl rfl (Nat.le_of_ble_eq_true rfl) ?_
  refine hs_up h3 (fun τ7 F8 h9 N10 Z11 => ?_)
  have h9 : sx_c τ7 ((mu 0)) = some (.inr (0, [.ref sv, .ref (mu 1), .ref (mu 3), .ref nl, .ref (mu 4), .int (nI (A_i A).length), .int (0), .int (-1), .ref (mu 5)])) := h9
  have FF12 := h_F_u FF6 F8 (fun _ _ z => z) (by intro q hq hz; omega) (Nat.le_refl _) (Nat.le_refl _)
  refine sv_vret rfl dX1_noError_10 ?_
  have FF9 : h_F (fun q => q = mu 0) 0 0 σ _ := FF12
  exact ⟨_, rfl, rfl, c_X_w0 hX FF9 h9 (Or.inl rfl), FF9⟩
theorem cc_err (hX : c_X G mu n oc σ sv nl A) {q c s : Nat} (hq : y_E σ q c s) : sx_Cp G 1 YX1_error [.ref (mu 0), .ref q] σ (fun v τ => v = none ∧ c_X G mu n oc τ sv nl (A_sp (A_sc (A_si A (A_i A)) (nI c)) (nI s)) ∧ h_F (fun q => q = mu 0) 0 0 σ τ) := by
  refine sx_body (by decide) (Nat.le_of_ble_eq_true rfl) ?_
  have hx := hX.1
  have hqc := hq
  have FF0 : h_F (fun q => q = mu 0) 0 0 σ σ := h_F_r
  refine sv_aload_n dX1_error_0 rfl ?_
  refine sv_aload_n dX1_error_1 rfl ?_
  refine sv_get fg_X1_122 dX1_error_2 (sx_rd_c hqc) rfl ?_
  refine sv_put fp_X1_119 dX1_error_5 hx rfl rfl (Nat.le_of_ble_eq_true rfl) ?_
  refine hs_up hx (fun τ13 F14 h15 N16 Z17 => ?_)
  have h15 : sx_c τ13 ((mu 0)) = some (.inr (0, [.ref sv, .ref (mu 1), .ref (mu 3), .ref nl, .ref (mu 4), .int (nI (A_i A).length), .int (nI c), .int (A_p A), .ref (mu 5)])) := h15
  have hqc' := h_F_c F14 hqc (e_kn hqc hx rfl)
  have FF18 := h_F_u FF0 F14 (fun _ _ z => z) (by intro q hq hz; omega) (Nat.le_refl _) (Nat.le_refl _)
  refine sv_aload_n dX1_error_8 rfl ?_
  refine sv_aload_n dX1_error_9 rfl ?_
  refine sv_get fg_X1_127 dX1_error_10 (sx_rd_c hqc') rfl ?_
  refine sv_put fp_X1_72 dX1_error_13 h15 rfl rfl (Nat.le_of_ble_eq_true rfl) ?_
  refine hs_up h15 (fun τ19 F20 h21 N22 Z23 => ?_)
  have h21 : sx_c τ19 ((mu 0)) = some (.inr (0, [.ref sv, .ref (mu 1), .ref (mu 3), .ref nl, .ref (mu 4), .int (nI (A_i A).length), .int (nI c), .int (nI s), .ref (mu 5)])) := h21
  have hqc'' := h_F_c F20 hqc' (e_kn hqc' h15 rfl)
  have FF24 := h_F_u FF18 F20 (fun _ _ z => z) (by intro q hq hz; omega) (Nat.le_refl _) (Nat.le_refl _)
  refine sv_vret rfl dX1_error_16 ?_
  have FF9 : h_F (fun q => q = mu 0) 0 0 σ _ := FF24
  exact ⟨_, rfl, rfl, c_X_w0 hX FF9 h21 (Or.inl rfl), FF9⟩
end CLD
