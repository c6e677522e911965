set_option maxRecDepth 100000
section CI1
variable {ρ : sx_St} {sa cap : Nat} {O : List Int32} {G : sx_G} {σ τ : sx_St} {mu : Nat → Nat} {oc lo sv nl cap : Nat} {ow : Nat → Nat} {Λ : Nat → Nat → Nat → Nat} {A : a_A} {V : a_V} {W : Nat → Prop} {c sl : Nat} {N : List a_N}
/-- x's input -/
def k_I (G : sx_G) (σ : sx_St) (x0 inp : Nat) (v0 v1 v2 v3 v6 v7 v8 : Value) (I : List Int32) : Prop := sx_c σ x0 = some (.inr (0, [v0, v1, v2, v3, .ref inp, .int (nI I.length), v6, v7, v8])) ∧ ∃ f, sx_c σ inp = some (.inl (sg_a G 2, 700, .inl f)) ∧ I.length ≤ 700 ∧ ∀ i, i < I.length → f i = I.getD i 0
/-- x's cell and its input change -/
theorem c_K_x {sv nl c s : Nat} {I : List Int32} {ec ep : Int32} (hX : c_X G mu (sx_n σ) oc σ sv nl A) (hF : c_F G mu (sx_n σ) σ sv (A_v A)) (hN : c_Fn G mu (sx_n σ) σ nl (A_n A)) (F : h_F (fun q => q = mu 0 ∨ q = mu 4) c s σ τ) (hI : k_I G τ (mu 0) (mu 4) (.ref sv) (.ref (mu 1)) (.ref (mu 3)) (.ref nl) (.int ec) (.int ep) (.ref (mu 5)) I) : c_K G mu oc τ (A_sp (A_sc (A_si A I) ec) ep) := by
  have zW : ∀ q, c_Zm mu (sx_n σ) q → ¬ (q = mu 0 ∨ q = mu 4) := fun q z w => w.elim (z.2 0 (by decide)) (z.2 4 (by decide))
  obtain ⟨h1, h2, h3, h4, h5, h6, h7⟩ := hX
  obtain ⟨_, _, ⟨_, d1, d2, _⟩, _⟩ := id h2
  obtain ⟨_, k1, _⟩ := id h3
  obtain ⟨_, i1, _⟩ := id h4
  obtain ⟨_, _, o1, o2, _⟩ := id h5
  obtain ⟨g1, g2⟩ := hI
  exact ⟨sv, nl, ⟨g1, c_Xh_fr h2 F zW (fun w => w.elim (e_kn d1 h1 rfl) (e_kn d1 i1 rfl)) (fun w => w.elim (e_kn d2 h1 rfl) (e_kn d2 i1 rfl)) F.1.1, c_Xk_fr h3 F zW (fun w => w.elim (e_kn k1 h1 rfl) (e_kn k1 i1 rfl)) F.1.1, g2, c_Xo_fr h5 F (fun w => w.elim (e_kn o1 h1 rfl) (e_kn o1 i1 rfl)) (fun w => w.elim (e_kn o2 h1 rfl) (fun z => h6.1 z.symm)), h6, Nat.le_refl _⟩, c_F_fr hF F zW F.1.1, c_Fn_fr hN F zW F.1.1⟩
theorem c_X_I {sv nl : Nat} (hX : c_X G mu (sx_n σ) oc σ sv nl A) : k_I G σ (mu 0) (mu 4) (.ref sv) (.ref (mu 1)) (.ref (mu 3)) (.ref nl) (.int (A_c A)) (.int (A_p A)) (.ref (mu 5)) (A_i A) := ⟨hX.1, hX.2.2.2.1⟩
theorem cc_apw {x0 inp : Nat} {v0 v1 v2 v3 v6 v7 v8 : Value} {I : List Int32} (hI : k_I G σ x0 inp v0 v1 v2 v3 v6 v7 v8 I) {w : Int32} (hl : I.length + 4 ≤ 700) : sx_Cp G 0 YX1_appendWord [.ref x0, .int w] σ (fun v τ => v = none ∧ k_I G τ x0 inp v0 v1 v2 v3 v6 v7 v8 (I ++ b_4 w) ∧ h_F (fun q => q = x0 ∨ q = inp) 0 0 σ τ) := by
  have t4 : ∀ (ρ : sx_St) (I : List Int32), k_I G ρ x0 inp v0 v1 v2 v3 v6 v7 v8 I → I.length + 0 ≤ 700 → sx_V G 0 YX1_appendWord 3 [some (.ref x0), some (.int w), some (.int (-8))] [] ρ (fun o τ => ∃ v, o = .inl v ∧ v = none ∧ k_I G τ x0 inp v0 v1 v2 v3 v6 v7 v8 I ∧ h_F (fun q => q = x0 ∨ q = inp) 0 0 ρ τ) := by
    intro ρ I hI hl
    obtain ⟨hx, f, hi, hle, hf⟩ := id hI
    have FFa : h_F (fun q => q = x0 ∨ q = inp) 0 0 ρ ρ := h_F_r
    refine sv_iload_n dX1_appendWord_3 rfl ?_
    refine sv_if_lt (tgt := 36) dX1_appendWord_4 (by decide) (fun c4 => ?_) (fun c4 => ?_)
    · refine sv_vret rfl dX1_appendWord_36 ?_
      exact ⟨_, rfl, rfl, hI, FFa⟩
    · exact absurd c4 (by decide)
  have t3 : ∀ (ρ : sx_St) (I : List Int32), k_I G ρ x0 inp v0 v1 v2 v3 v6 v7 v8 I → I.length + 1 ≤ 700 → sx_V G 0 YX1_appendWord 3 [some (.ref x0), some (.int w), some (.int 0)] [] ρ (fun o τ => ∃ v, o = .inl v ∧ v = none ∧ k_I G τ x0 inp v0 v1 v2 v3 v6 v7 v8 (I ++ [b_t w 0]) ∧ h_F (fun q => q = x0 ∨ q = inp) 0 0 ρ τ) := by
    intro ρ I hI hl
    obtain ⟨hx, f, hi, hle, hf⟩ := id hI
    have FFa : h_F (fun q => q = x0 ∨ q = inp) 0 0 ρ ρ := h_F_r
    refine sv_iload_n dX1_appendWord_3 rfl ?_
    refine sv_if_lt (tgt := 36) dX1_appendWord_4 (by decide) (fun c4 => ?_) (fun c4 => ?_)
    · exact absurd c4 (by decide)
    · refine sv_aload_n dX1_appendWord_7 rfl ?_
      refine sv_get fg_X1_68 dX1_appendWord_8 (sx_rd_c hx) rfl ?_
      refine sv_aload_n dX1_appendWord_11 rfl ?_
      refine sv_get fg_X1_83 dX1_appendWord_12 (sx_rd_c hx) rfl ?_
      refine sv_iload_n dX1_appendWord_15 rfl ?_
      refine sv_iload_n dX1_appendWord_16 rfl ?_
      refine sv_ishr dX1_appendWord_17 ?_
      refine sv_i2b dX1_appendWord_18 ?_
      refine sv_bast dX1_appendWord_19 hi (vp_in_nI (by omega) (by omega)) ?_
      rw [nI_clamp (show I.length < 2 ^ 31 by omega)]
      refine hs_up hi (fun τ4 F5 h6 N7 Z8 => ?_)
      have h6 : sx_c τ4 inp = some (.inl (sg_a G 2, 700, .inl ((upd f I.length (vp_nar .byte _))))) := h6
      have hx' := h_F_c F5 hx (e_kn hx hi rfl)
      have FF9 := h_F_u FFa F5 (fun _ _ z => z) (by intro q hq hz; omega) (Nat.le_refl _) (Nat.le_refl _)
      refine sv_aload_n dX1_appendWord_20 rfl ?_
      refine sv_dup dX1_appendWord_21 rfl ?_
      refine sv_get fg_X1_83 dX1_appendWord_22 (sx_rd_c hx') rfl ?_
      refine sv_iconst (nI 1) dX1_appendWord_25 (by decide +kernel) ?_
      refine sv_iaddN dX1_appendWord_26 ?_
      refine sv_put fp_X1_83 dX1_appendWord_27 hx' rfl rfl (Nat.le_of_ble_eq_true rfl) ?_
      refine hs_up hx' (fun τ10 F11 h12 N13 Z14 => ?_)
      have h12 : sx_c τ10 x0 = some (.inr (0, [v0, v1, v2, v3, .ref inp, .int (nI (I.length + 1)), v6, v7, v8])) := h12
      have h6' := h_F_c F11 h6 (e_kn h6 hx' rfl)
      have FF15 := h_F_u FF9 F11 (fun _ _ z => z) (by intro q hq hz; omega) (Nat.le_refl _) (Nat.le_refl _)
      refine sv_iinc ((-8)) dX1_appendWord_30 rfl (by decide +kernel) (by decide) ?_
      refine sv_goto (tgt := 3) dX1_appendWord_33 (by decide) ?_
      have hI1 : k_I G τ10 x0 inp v0 v1 v2 v3 v6 v7 v8 (I ++ [b_t w 0]) := by
        refine ⟨by rw [List.length_append]; exact h12, _, h6', by rw [List.length_append]; show _ + 1 ≤ _; omega, fun i hi => ?_⟩
        rw [List.length_append, List.length_singleton] at hi
        rw [List.getD_eq_getElem?_getD]
        by_cases hx : i = I.length
        · rw [hx, pk_us, List.getElem?_append_right (Nat.le_refl _), Nat.sub_self]; rfl
        · rw [pk_un hx, List.getElem?_append_left (by omega), hf i (by omega), List.getD_eq_getElem?_getD]
      refine sx_V_Q (t4 _ _ hI1 (by rw [List.length_append]; show _ + 1 + _ ≤ _; omega)) ?_
      rintro o τ ⟨v, e1, e2, h1, F9⟩
      refine ⟨v, e1, e2, ?_, h_F_w (h_F_t FF15 F9 (fun q _ z => z)) (fun _ _ z => z) (by omega) (by omega)⟩
      exact h1
  have t2 : ∀ (ρ : sx_St) (I : List Int32), k_I G ρ x0 inp v0 v1 v2 v3 v6 v7 v8 I → I.length + 2 ≤ 700 → sx_V G 0 YX1_appendWord 3 [some (.ref x0), some (.int w), some (.int 8)] [] ρ (fun o τ => ∃ v, o = .inl v ∧ v = none ∧ k_I G τ x0 inp v0 v1 v2 v3 v6 v7 v8 (I ++ [b_t w 8, b_t w 0]) ∧ h_F (fun q => q = x0 ∨ q = inp) 0 0 ρ τ) := by
    intro ρ I hI hl
    obtain ⟨hx, f, hi, hle, hf⟩ := id hI
    have FFa : h_F (fun q => q = x0 ∨ q = inp) 0 0 ρ ρ := h_F_r
    refine sv_iload_n dX1_appendWord_3 rfl ?_
    refine sv_if_lt (tgt := 36) dX1_appendWord_4 (by decide) (fun c4 => ?_) (fun c4 => ?_)
    · exact absurd c4 (by decide)
    · refine sv_aload_n dX1_appendWord_7 rfl ?_
      refine sv_get fg_X1_68 dX1_appendWord_8 (sx_rd_c hx) rfl ?_
      refine sv_aload_n dX1_appendWord_11 rfl ?_
      refine sv_get fg_X1_83 dX1_appendWord_12 (sx_rd_c hx) rfl ?_
      refine sv_iload_n dX1_appendWord_15 rfl ?_
      refine sv_iload_n dX1_appendWord_16 rfl ?_
      refine sv_ishr dX1_appendWord_17 ?_
      refine sv_i2b dX1_appendWord_18 ?_
      refine sv_bast dX1_appendWord_19 hi (vp_in_nI (by omega) (by omega)) ?_
      rw [nI_clamp (show I.length < 2 ^ 31 by omega)]
      refine hs_up hi (fun τ16 F17 h18 N19 Z20 => ?_)
      have h18 : sx_c τ16 inp = some (.inl (sg_a G 2, 700, .inl ((upd f I.length (vp_nar .byte _))))) := h18
      have hx' := h_F_c F17 hx (e_kn hx hi rfl)
      have FF21 := h_F_u FFa F17 (fun _ _ z => z) (by intro q hq hz; omega) (Nat.le_refl _) (Nat.le_refl _)
      refine sv_aload_n dX1_appendWord_20 rfl ?_
      refine sv_dup dX1_appendWord_21 rfl ?_
      refine sv_get fg_X1_83 dX1_appendWord_22 (sx_rd_c hx') rfl ?_
      refine sv_iconst (nI 1) dX1_appendWord_25 (by decide +kernel) ?_
      refine sv_iaddN dX1_appendWord_26 ?_
      refine sv_put fp_X1_83 dX1_appendWord_27 hx' rfl rfl (Nat.le_of_ble_eq_true rfl) ?_
      refine hs_up hx' (fun τ22 F23 h24 N25 Z26 => ?_)
      have h24 : sx_c τ22 x0 = some (.inr (0, [v0, v1, v2, v3, .ref inp, .int (nI (I.length + 1)), v6, v7, v8])) := h24
      have h18' := h_F_c F23 h18 (e_kn h18 hx' rfl)
      have FF27 := h_F_u FF21 F23 (fun _ _ z => z) (by intro q hq hz; omega) (Nat.le_refl _) (Nat.le_refl _)
      refine sv_iinc (0) dX1_appendWord_30 rfl (by decide +kernel) (by decide) ?_
      refine sv_goto (tgt := 3) dX1_appendWord_33 (by decide) ?_
      have hI1 : k_I G τ22 x0 inp v0 v1 v2 v3 v6 v7 v8 (I ++ [b_t w 8]) := by
        refine ⟨by rw [List.length_append]; exact h24, _, h18', by rw [List.length_append]; show _ + 1 ≤ _; omega, fun i hi => ?_⟩
        rw [List.length_append, List.length_singleton] at hi
        rw [List.getD_eq_getElem?_getD]
        by_cases hx : i = I.length
        · rw [hx, pk_us, List.getElem?_append_right (Nat.le_refl _), Nat.sub_self]; rfl
        · rw [pk_un hx, List.getElem?_append_left (by omega), hf i (by omega), List.getD_eq_getElem?_getD]
      refine sx_V_Q (t3 _ _ hI1 (by rw [List.length_append]; show _ + 1 + _ ≤ _; omega)) ?_
      rintro o τ ⟨v, e1, e2, h1, F9⟩
      refine ⟨v, e1, e2, ?_, h_F_w (h_F_t FF27 F9 (fun q _ z => z)) (fun _ _ z => z) (by omega) (by omega)⟩
      rw [List.append_assoc] at h1
      exact h1
  have t1 : ∀ (ρ : sx_St) (I : List Int32), k_I G ρ x0 inp v0 v1 v2 v3 v6 v7 v8 I → I.length + 3 ≤ 700 → sx_V G 0 YX1_appendWord 3 [some (.ref x0), some (.int w), some (.int 16)] [] ρ (fun o τ => ∃ v, o = .inl v ∧ v = none ∧ k_I G τ x0 inp v0 v1 v2 v3 v6 v7 v8 (I ++ [b_t w 16, b_t w 8, b_t w 0]) ∧ h_F (fun q => q = x0 ∨ q = inp) 0 0 ρ τ) := by
    intro ρ I hI hl
    obtain ⟨hx, f, hi, hle, hf⟩ := id hI
    have FFa : h_F (fun q => q = x0 ∨ q = inp) 0 0 ρ ρ := h_F_r
    refine sv_iload_n dX1_appendWord_3 rfl ?_
    refine sv_if_lt (tgt := 36) dX1_appendWord_4 (by decide) (fun c4 => ?_) (fun c4 => ?_)
    · exact absurd c4 (by decide)
    · refine sv_aload_n dX1_appendWord_7 rfl ?_
      refine sv_get fg_X1_68 dX1_appendWord_8 (sx_rd_c hx) rfl ?_
      refine sv_aload_n dX1_appendWord_11 rfl ?_
      refine sv_get fg_X1_83 dX1_appendWord_12 (sx_rd_c hx) rfl ?_
      refine sv_iload_n dX1_appendWord_15 rfl ?_
      refine sv_iload_n dX1_appendWord_16 rfl ?_
      refine sv_ishr dX1_appendWord_17 ?_
      refine sv_i2b dX1_appendWord_18 ?_
      refine sv_bast dX1_appendWord_19 hi (vp_in_nI (by omega) (by omega)) ?_
      rw [nI_clamp (show I.length < 2 ^ 31 by omega)]
      refine hs_up hi (fun τ28 F29 h30 N31 Z32 => ?_)
      have h30 : sx_c τ28 inp = some (.inl (sg_a G 2, 700, .inl ((upd f I.length (vp_nar .byte _))))) := h30
      have hx' := h_F_c F29 hx (e_kn hx hi rfl)
      have FF33 := h_F_u FFa F29 (fun _ _ z => z) (by intro q hq hz; omega) (Nat.le_refl _) (Nat.le_refl _)
      refine sv_aload_n dX1_appendWord_20 rfl ?_
      refine sv_dup dX1_appendWord_21 rfl ?_
      refine sv_get fg_X1_83 dX1_appendWord_22 (sx_rd_c hx') rfl ?_
      refine sv_iconst (nI 1) dX1_appendWord_25 (by decide +kernel) ?_
      refine sv_iaddN dX1_appendWord_26 ?_
      refine sv_put fp_X1_83 dX1_appendWord_27 hx' rfl rfl (Nat.le_of_ble_eq_true rfl) ?_
      refine hs_up hx' (fun τ34 F35 h36 N37 Z38 => ?_)
      have h36 : sx_c τ34 x0 = some (.inr (0, [v0, v1, v2, v3, .ref inp, .int (nI (I.length + 1)), v6, v7, v8])) := h36
      have h30' := h_F_c F35 h30 (e_kn h30 hx' rfl)
      have FF39 := h_F_u FF33 F35 (fun _ _ z => z) (by intro q hq hz; omega) (Nat.le_refl _) (Nat.le_refl _)
      refine sv_iinc (8) dX1_appendWord_30 rfl (by decide +kernel) (by decide) ?_
      refine sv_goto (tgt := 3) dX1_appendWord_33 (by decide) ?_
      have hI1 : k_I G τ34 x0 inp v0 v1 v2 v3 v6 v7 v8 (I ++ [b_t w 16]) := by
        refine ⟨by rw [List.length_append]; exact h36, _, h30', by rw [List.length_append]; show _ + 1 ≤ _; omega, fun i hi => ?_⟩
        rw [List.length_append, List.length_singleton] at hi
        rw [List.getD_eq_getElem?_getD]
        by_cases hx : i = I.length
        · rw [hx, pk_us, List.getElem?_append_right (Nat.le_refl _), Nat.sub_self]; rfl
        · rw [pk_un hx, List.getElem?_append_left (by omega), hf i (by omega), List.getD_eq_getElem?_getD]
      refine sx_V_Q (t2 _ _ hI1 (by rw [List.length_append]; show _ + 1 + _ ≤ _; omega)) ?_
      rintro o τ ⟨v, e1, e2, h1, F9⟩
      refine ⟨v, e1, e2, ?_, h_F_w (h_F_t FF39 F9 (fun q _ z => z)) (fun _ _ z => z) (by omega) (by omega)⟩
      rw [List.append_assoc] at h1
      exact h1
  have t0 : ∀ (ρ : sx_St) (I : List Int32), k_I G ρ x0 inp v0 v1 v2 v3 v6 v7 v8 I → I.length + 4 ≤ 700 → sx_V G 0 YX1_appendWord 3 [some (.ref x0), some (.int w), some (.int 24)] [] ρ (fun o τ => ∃ v, o = .inl v ∧ v = none ∧ k_I G τ x0 inp v0 v1 v2 v3 v6 v7 v8 (I ++ [b_t w 24, b_t w 16, b_t w 8, b_t w 0]) ∧ h_F (fun q => q = x0 ∨ q = inp) 0 0 ρ τ) := by
    intro ρ I hI hl
    obtain ⟨hx, f, hi, hle, hf⟩ := id hI
    have FFa : h_F (fun q => q = x0 ∨ q = inp) 0 0 ρ ρ := h_F_r
    refine sv_iload_n dX1_appendWord_3 rfl ?_
    refine sv_if_lt (tgt := 36) dX1_appendWord_4 (by decide) (fun c4 => ?_) (fun c4 => ?_)
    · exact absurd c4 (by decide)
    · refine sv_aload_n dX1_appendWord_7 rfl ?_
      refine sv_get fg_X1_68 dX1_appendWord_8 (sx_rd_c hx) rfl ?_
      refine sv_aload_n dX1_appendWord_11 rfl ?_
      refine sv_get fg_X1_83 dX1_appendWord_12 (sx_rd_c hx) rfl ?_
      refine sv_iload_n dX1_appendWord_15 rfl ?_
      refine sv_iload_n dX1_appendWord_16 rfl ?_
      refine sv_ishr dX1_appendWord_17 ?_
      refine sv_i2b dX1_appendWord_18 ?_
      refine sv_bast dX1_appendWord_19 hi (vp_in_nI (by omega) (by omega)) ?_
      rw [nI_clamp (show I.length < 2 ^ 31 by omega)]
      refine hs_up hi (fun τ40 F41 h42 N43 Z44 => ?_)
      have h42 : sx_c τ40 inp = some (.inl (sg_a G 2, 700, .inl ((upd f I.length (vp_nar .byte _))))) := h42
      have hx' := h_F_c F41 hx (e_kn hx hi rfl)
      have FF45 := h_F_u FFa F41 (fun _ _ z => z) (by intro q hq hz; omega) (Nat.le_refl _) (Nat.le_refl _)
      refine sv_aload_n dX1_appendWord_20 rfl ?_
      refine sv_dup dX1_appendWord_21 rfl ?_
      refine sv_get fg_X1_83 dX1_appendWord_22 (sx_rd_c hx') rfl ?_
      refine sv_iconst (nI 1) dX1_appendWord_25 (by decide +kernel) ?_
      refine sv_iaddN dX1_appendWord_26 ?_
      refine sv_put fp_X1_83 dX1_appendWord_27 hx' rfl rfl (Nat.le_of_ble_eq_true rfl) ?_
      refine hs_up hx' (fun τ46 F47 h48 N49 Z50 => ?_)
      have h48 : sx_c τ46 x0 = some (.inr (0, [v0, v1, v2, v3, .ref inp, .int (nI (I.length + 1)), v6, v7, v8])) := h48
      have h42' := h_F_c F47 h42 (e_kn h42 hx' rfl)
      have FF51 := h_F_u FF45 F47 (fun _ _ z => z) (by intro q hq hz; omega) (Nat.le_refl _) (Nat.le_refl _)
      refine sv_iinc (16) dX1_appendWord_30 rfl (by decide +kernel) (by decide) ?_
      refine sv_goto (tgt := 3) dX1_appendWord_33 (by decide) ?_
      have hI1 : k_I G τ46 x0 inp v0 v1 v2 v3 v6 v7 v8 (I ++ [b_t w 24]) := by
        refine ⟨by rw [List.length_append]; exact h48, _, h42', by rw [List.length_append]; show _ + 1 ≤ _; omega, fun i hi => ?_⟩
        rw [List.length_append, List.length_singleton] at hi
        rw [List.getD_eq_getElem?_getD]
        by_cases hx : i = I.length
        · rw [hx, pk_us, List.getElem?_append_right (Nat.le_refl _), Nat.sub_self]; rfl
        · rw [pk_un hx, List.getElem?_append_left (by omega), hf i (by omega), List.getD_eq_getElem?_getD]
      refine sx_V_Q (t1 _ _ hI1 (by rw [List.length_append]; show _ + 1 + _ ≤ _; omega)) ?_
      rintro o τ ⟨v, e1, e2, h1, F9⟩
      refine ⟨v, e1, e2, ?_, h_F_w (h_F_t FF51 F9 (fun q _ z => z)) (fun _ _ z => z) (by omega) (by omega)⟩
      rw [List.append_assoc] at h1
      exact h1
  refine sx_body (by decide) (Nat.le_of_ble_eq_true rfl) ?_
  refine sv_bipush (nI 24) dX1_appendWord_0 (by decide +kernel) ?_
  refine sv_tI (y := 24) (by decide +kernel) ?_
  refine sv_istore_n dX1_appendWord_2 (by decide) ?_
  exact t0 σ I hI hl
theorem cpx_app (hK : c_K G mu oc σ A) {a b c d e : Int32} (h : ¬ (A_i A).length + 20 ≤ 700) : sx_C G 100 YX1_append [.ref (mu 0), .int a, .int b, .int c, .int d, .int e] σ (c_X0 "java/lang/IllegalStateException" σ) := by
  refine sx_body (by decide) (Nat.le_of_ble_eq_true rfl) ?_
  obtain ⟨sv, nl, hX, hF, hN⟩ := hK
  obtain ⟨Λ0, hV, hzz, hw⟩ := id hF
  have hx := hX.1
  have hnb := hw.1.1
  have hns := hw.1.2.1
  have hX0 : c_X G mu (sx_n σ) oc σ sv nl (A_st A 0) := hX
  have hF0 : c_F G mu (sx_n σ) σ sv (A_v (A_st A 0)) := hF
  have hv1 := hV.1
  have hil := hX.2.2.2.1
  obtain ⟨_, _, hil7, _⟩ := hil
  refine sv_aload_n dX1_append_0 rfl ?_
  refine sv_get fg_X1_83 dX1_append_1 (sx_rd_c hx) rfl ?_
  refine sv_bipush (nI 20) dX1_append_4 (by decide +kernel) ?_
  refine sv_iaddN dX1_append_6 ?_
  refine sv_sipush (nI 700) dX1_append_7 (by decide +kernel) ?_
  refine sv_icmp_gtN (tgt := 17) dX1_append_10 (by decide) (by omega) (by omega) (fun c10 => ?_) (fun c10 => ?_)
  · refine sv_iconst (nI 0) dX1_append_17 (by decide +kernel) ?_
    refine sv_tI (y := b_I false) rfl ?_
    refine sv_cs _ cx_S okX1_requireState ks_X1_86.1 ks_X1_86.2 dX1_append_18 rfl rfl (by omega) (Nat.le_of_ble_eq_true rfl) (fun v τ h => by obtain ⟨q, e, _⟩ := h; cases e) (fun E q τ h => ?_)
    obtain ⟨q9, e9, F9⟩ := h
    cases e9
    refine sv_out (fun x hx => by cases hx) ?_
    exact ⟨_, rfl, F9⟩
  · exact absurd (by omega) h
theorem cp_app (hK : c_K G mu oc σ A) {a b c d e : Int32} (h : (A_i A).length + 20 ≤ 700) : sx_C G 100 YX1_append [.ref (mu 0), .int a, .int b, .int c, .int d, .int e] σ (c_R ["java/lang/IllegalStateException"] G mu oc σ ((nI ((A_i A).length + 20), s_in (A_st A 0) (b_4 a ++ (b_4 b ++ (b_4 c ++ (b_4 d ++ b_4 e))))))) := by
  refine sx_body (by decide) (Nat.le_of_ble_eq_true rfl) ?_
  obtain ⟨sv, nl, hX, hF, hN⟩ := hK
  obtain ⟨Λ0, hV, hzz, hw⟩ := id hF
  have hx := hX.1
  have hnb := hw.1.1
  have hns := hw.1.2.1
  have hX0 : c_X G mu (sx_n σ) oc σ sv nl (A_st A 0) := hX
  have hF0 : c_F G mu (sx_n σ) σ sv (A_v (A_st A 0)) := hF
  have hv1 := hV.1
  have hI0 := c_X_I hX
  refine sv_aload_n dX1_append_0 rfl ?_
  refine sv_get fg_X1_83 dX1_append_1 (sx_rd_c hx) rfl ?_
  refine sv_bipush (nI 20) dX1_append_4 (by decide +kernel) ?_
  refine sv_iaddN dX1_append_6 ?_
  refine sv_sipush (nI 700) dX1_append_7 (by decide +kernel) ?_
  refine sv_icmp_gtN (tgt := 17) dX1_append_10 (by decide) (by omega) (by omega) (fun c10 => ?_) (fun c10 => ?_)
  · exact absurd h (by omega)
  · refine sv_iconst (nI 1) dX1_append_13 (by decide +kernel) ?_
    refine sv_goto (tgt := 18) dX1_append_14 (by decide) ?_
    refine sv_tI (y := b_I true) (by decide +kernel) ?_
    refine sv_csR _ cr_S okX1_requireState ks_X1_86 dX1_append_18 rfl rfl (by omega) (Nat.le_of_ble_eq_true rfl) ?_
    refine sv_aload_n dX1_append_21 rfl ?_
    refine sv_iload_n dX1_append_22 rfl ?_
    refine sv_cvP _ (cc_apw hI0 (by omega)) okX1_appendWord kv_X1_90 (sx_rd_c hx) rfl dX1_append_23 rfl rfl (by omega) (Nat.le_of_ble_eq_true rfl) ?_
    intro v54 τ52 hp53
    obtain ⟨rfl, hI1, hF1⟩ := hp53
    have N55 := (hF1).1.1
    have hx1 := hI1.1
    refine sv_aload_n dX1_append_26 rfl ?_
    refine sv_iload_n dX1_append_27 rfl ?_
    refine sv_cvP _ (cc_apw hI1 (by simp only [List.length_append, b_4_l]; omega)) okX1_appendWord kv_X1_90 (sx_rd_c hx1) rfl dX1_append_28 rfl rfl (by omega) (Nat.le_of_ble_eq_true rfl) ?_
    intro v58 τ56 hp57
    obtain ⟨rfl, hI2, hF2⟩ := hp57
    have N59 := (hF2).1.1
    have hx2 := hI2.1
    refine sv_aload_n dX1_append_31 rfl ?_
    refine sv_iload_n dX1_append_32 rfl ?_
    refine sv_cvP _ (cc_apw hI2 (by simp only [List.length_append, b_4_l]; omega)) okX1_appendWord kv_X1_90 (sx_rd_c hx2) rfl dX1_append_33 rfl rfl (by omega) (Nat.le_of_ble_eq_true rfl) ?_
    intro v62 τ60 hp61
    obtain ⟨rfl, hI3, hF3⟩ := hp61
    have N63 := (hF3).1.1
    have hx3 := hI3.1
    refine sv_aload_n dX1_append_36 rfl ?_
    refine sv_iload dX1_append_37 rfl ?_
    refine sv_cvP _ (cc_apw hI3 (by simp only [List.length_append, b_4_l]; omega)) okX1_appendWord kv_X1_90 (sx_rd_c hx3) rfl dX1_append_39 rfl rfl (by omega) (Nat.le_of_ble_eq_true rfl) ?_
    intro v66 τ64 hp65
    obtain ⟨rfl, hI4, hF4⟩ := hp65
    have N67 := (hF4).1.1
    have hx4 := hI4.1
    refine sv_aload_n dX1_append_42 rfl ?_
    refine sv_iload dX1_append_43 rfl ?_
    refine sv_cvP _ (cc_apw hI4 (by simp only [List.length_append, b_4_l]; omega)) okX1_appendWord kv_X1_90 (sx_rd_c hx4) rfl dX1_append_45 rfl rfl (by omega) (Nat.le_of_ble_eq_true rfl) ?_
    intro v70 τ68 hp69
    obtain ⟨rfl, hI5, hF5⟩ := hp69
    have N71 := (hF5).1.1
    have hx5 := hI5.1
    refine sv_aload_n dX1_append_48 rfl ?_
    refine sv_get fg_X1_83 dX1_append_49 (sx_rd_c hx5) rfl ?_
    refine sv_iret rfl rfl dX1_append_52 ?_
    have FA := h_F_t (h_F_t (h_F_t (h_F_t hF1 hF2 (fun q _ z => z)) hF3 (fun q _ z => z)) hF4 (fun q _ z => z)) hF5 (fun q _ z => z)
    have hK9 := c_K_x hX hF hN FA hI5
    refine c_R_ok (x := (nI ((A_i A).length + 20), s_in (A_st A 0) (b_4 a ++ (b_4 b ++ (b_4 c ++ (b_4 d ++ b_4 e)))))) ?_ rfl ⟨mu, oc, fun _ _ => rfl, ?_, Nat.le_refl _, FA.1.1, by have := FA.1.2; omega, by have := FA.2.1; omega⟩
    · congr 1
      simp only [List.length_append, b_4_l]
    · simp only [List.append_assoc] at hK9
      exact hK9
theorem pm_app (hK : c_K G mu oc σ A) {a b c d e : Int32} : sx_C G 100 YX1_append [.ref (mu 0), .int a, .int b, .int c, .int d, .int e] σ (c_R ["java/lang/IllegalStateException"] G mu oc σ (sp_app A a b c d e)) := by
  unfold sp_app
  exact c_1 hK (fun h => cpx_app hK (of_decide_eq_false h)) (fun h => cp_app hK (of_decide_eq_true h))
/-- what truncate hands back -/
def c_Rn (es : List String) (G : sx_G) (mu : Nat → Nat) (oc : Nat) (σ : sx_St) (r : a_A) (o : sx_O) (τ : sx_St) : Prop := ((A_t r = 0 ∧ o = .inl none) ∨ ∃ k q E, es[k]? = some E ∧ A_t r = nI (k + 1) ∧ o = .inr (E, q)) ∧ c_S G mu oc σ τ r
theorem in_3 {x : Int32} {n : Nat} (hn : n < 2 ^ 31) : decide ((0 : Int64) ≤ x.toInt64 ∧ x.toInt64 ≤ (nI n).toInt64) = decide (0 ≤ x.toInt ∧ x.toInt ≤ n) := decide_eq_decide.mpr (by rw [show (0 : Int64) = (0 : Int32).toInt64 from rfl, i64_le, i64_le, Int32.le_iff_toInt_le, Int32.le_iff_toInt_le, nI_toInt hn]; rfl)
theorem cpx_tru (hK : c_K G mu oc σ A) {x : Int32} (h : decide (0 ≤ x.toInt ∧ x.toInt ≤ (A_i A).length) = false) : sx_C G 100 YX1_truncate [.ref (mu 0), .int x] σ (c_X0 "java/lang/IllegalArgumentException" σ) := by
  refine sx_body (by decide) (Nat.le_of_ble_eq_true rfl) ?_
  obtain ⟨sv, nl, hX, hF, hN⟩ := hK
  obtain ⟨Λ0, hV, hzz, hw⟩ := id hF
  have hx := hX.1
  have hnb := hw.1.1
  have hns := hw.1.2.1
  have hX0 : c_X G mu (sx_n σ) oc σ sv nl (A_st A 0) := hX
  have hF0 : c_F G mu (sx_n σ) σ sv (A_v (A_st A 0)) := hF
  have hv1 := hV.1
  obtain ⟨_, _, hil7, _⟩ := id hX.2.2.2.1
  refine sv_iload_n dX1_truncate_0 rfl ?_
  refine sv_i2l dX1_truncate_1 ?_
  refine sv_lconst 0 dX1_truncate_2 (by decide) ?_
  refine sv_aload_n dX1_truncate_3 rfl ?_
  refine sv_get fg_X1_83 dX1_truncate_4 (sx_rd_c hx) rfl ?_
  refine sv_i2l dX1_truncate_7 ?_
  refine sv_csR _ cc_inRange okX1_inRange ks_X1_94 dX1_truncate_8 rfl rfl (by omega) (Nat.le_of_ble_eq_true rfl) ?_
  refine sv_tI (y := b_I false) (congrArg b_I ((in_3 (by omega)).trans h)) ?_
  refine sv_cs _ cx_A okX1_requireArgument ks_X1_98.1 ks_X1_98.2 dX1_truncate_11 rfl rfl (by omega) (Nat.le_of_ble_eq_true rfl) (fun v τ h => by obtain ⟨q, e, _⟩ := h; cases e) (fun E q τ h => ?_)
  obtain ⟨q9, e9, F9⟩ := h
  cases e9
  refine sv_out (fun x hx => by cases hx) ?_
  exact ⟨_, rfl, F9⟩
theorem cp_tru (hK : c_K G mu oc σ A) {n : Nat} (hn : n ≤ (A_i A).length) : sx_C G 100 YX1_truncate [.ref (mu 0), .int (nI n)] σ (c_Rn ["java/lang/IllegalArgumentException"] G mu oc σ (A_si (A_st A 0) ((A_i A).take n))) := by
  refine sx_body (by decide) (Nat.le_of_ble_eq_true rfl) ?_
  obtain ⟨sv, nl, hX, hF, hN⟩ := hK
  obtain ⟨Λ0, hV, hzz, hw⟩ := id hF
  have hx := hX.1
  have hnb := hw.1.1
  have hns := hw.1.2.1
  have hX0 : c_X G mu (sx_n σ) oc σ sv nl (A_st A 0) := hX
  have hF0 : c_F G mu (sx_n σ) σ sv (A_v (A_st A 0)) := hF
  have hv1 := hV.1
  obtain ⟨fi, hi4, hil7, hfi⟩ := id hX.2.2.2.1
  have h9 : decide (0 ≤ (nI n).toInt ∧ (nI n).toInt ≤ ((A_i A).length : Int)) = true := decide_eq_true (by rw [nI_toInt (by omega)]; omega)
  refine sv_iload_n dX1_truncate_0 rfl ?_
  refine sv_i2l dX1_truncate_1 ?_
  refine sv_lconst 0 dX1_truncate_2 (by decide) ?_
  refine sv_aload_n dX1_truncate_3 rfl ?_
  refine sv_get fg_X1_83 dX1_truncate_4 (sx_rd_c hx) rfl ?_
  refine sv_i2l dX1_truncate_7 ?_
  refine sv_csR _ cc_inRange okX1_inRange ks_X1_94 dX1_truncate_8 rfl rfl (by omega) (Nat.le_of_ble_eq_true rfl) ?_
  refine sv_tI (y := b_I true) (congrArg b_I ((in_3 (by omega)).trans h9)) ?_
  refine sv_csR _ cr_A okX1_requireArgument ks_X1_98 dX1_truncate_11 rfl rfl (by omega) (Nat.le_of_ble_eq_true rfl) ?_
  refine sv_aload_n dX1_truncate_14 rfl ?_
  refine sv_iload_n dX1_truncate_15 rfl ?_
  refine sv_put fp_X1_83 dX1_truncate_16 hx rfl rfl (Nat.le_of_ble_eq_true rfl) ?_
  refine hs_up hx (fun τ72 F73 h74 N75 Z76 => ?_)
  have h74 : sx_c τ72 ((mu 0)) = some (.inr (0, [.ref sv, .ref (mu 1), .ref (mu 3), .ref nl, .ref (mu 4), .int (nI n), .int (A_c A), .int (A_p A), .ref (mu 5)])) := h74
  have hv1' := h_F_c F73 hv1 (e_kn hv1 hx rfl)
  have F9 := F73
  refine sv_vret rfl dX1_truncate_19 ?_
  have e9 : ((A_i A).take n).length = n := by rw [List.length_take]; omega
  have hK9 := c_K_x (I := (A_i A).take n) (ec := A_c A) (ep := A_p A) hX hF hN (h_F_w F9 (fun q _ z => Or.inl z) (Nat.le_refl _) (Nat.le_refl _)) ⟨by rw [e9]; exact h74, fi, h_F_c F9 hi4 (e_kn hi4 hx rfl), by rw [e9]; omega, fun i hi => by rw [e9] at hi; rw [hfi i (by omega), List.getD_eq_getElem?_getD, List.getD_eq_getElem?_getD, List.getElem?_take_of_lt hi]⟩
  exact ⟨Or.inl ⟨rfl, rfl⟩, mu, oc, fun _ _ => rfl, hK9, Nat.le_refl _, F9.1.1, by have := F9.1.2; omega, by have := F9.2.1; omega⟩
theorem pm_tru (hK : c_K G mu oc σ A) {x : Int32} : sx_C G 100 YX1_truncate [.ref (mu 0), .int x] σ (c_Rn ["java/lang/IllegalArgumentException"] G mu oc σ (sp_tru A x)) := by
  have hil : (A_i A).length ≤ 700 := by obtain ⟨_, _, hX, _⟩ := hK; obtain ⟨_, _, h, _⟩ := id hX.2.2.2.1; exact h
  unfold sp_tru
  by_cases h : decide (0 ≤ x.toInt ∧ x.toInt ≤ (A_i A).length) = true
  · rw [if_pos h]
    have h2 := of_decide_eq_true h
    obtain ⟨e1, e2⟩ := i32_nat h2.1
    have := cp_tru hK (n := x.toNatClampNeg) (by omega)
    rw [← e1] at this
    exact this
  · rw [if_neg h]
    refine sx_C_Q (cpx_tru hK (Bool.eq_false_iff.mpr h)) ?_
    rintro o τ ⟨q, rfl, F⟩
    exact ⟨Or.inr ⟨0, q, _, rfl, by show (1 : Int32) = nI 1; decide +kernel, rfl⟩, c_S_0 (c_K_t hK _) F (by omega) (by omega)⟩
end CI1
