set_option maxRecDepth 100000
section CPQ
variable {G : sx_G} {σ τ ρ σ0 : sx_St} {pa ps sel onl x0 inp o wd lo n0 s0 wb : Nat} {tt : Nat → Nat} {t : List Int32} {k : k_T} {w0 w1 w2 w3 w6 w7 w8 : Value} {S : p_S} {ow : Nat → Nat} {Λ : Nat → Nat → Nat → Nat} {T : List (Nat × Nat × (a_M → Bool))}
theorem J_st (hG9 : g_Y G lo tt) (hb : b_B t) (hJ : y_J G lo n0 s0 wb σ0 pa ps sel onl x0 inp w0 w1 w2 w3 w6 w7 w8 t σ S k ow Λ wd o []) : sx_C G 13 YX4_parseStatement [.ref pa] σ (y_U lo n0 s0 σ0 (p_st t S k) (fun y oc τ => oc = .inl none ∧ ∃ ow Λ wd, y_J G lo n0 s0 wb σ0 pa ps sel onl x0 inp w0 w1 w2 w3 w6 w7 w8 t τ y.1 y.2 ow Λ wd o [])) := by
  have midT : ∀ (ρ : sx_St) ix, y_w G (fun q => wb ≤ q ∧ ow q = 0) ρ wd (p_w t k) → h_F (fun q => q = wd ∧ p_w t k ≠ []) 0 0 σ ρ → ((ix = none ∧ p_is t k 1 = false ∧ p_is t k 2 = false ∧ p_is t k 3 = false ∧ p_is t k 4 = false) ∨ (ix = some 0 ∧ p_is t k 1 = true) ∨ (ix = some 1 ∧ p_is t k 2 = true) ∨ (ix = some 2 ∧ p_is t k 3 = true) ∨ (ix = some 3 ∧ p_is t k 4 = true)) → sx_V G 13 YX4_parseStatement 105 [some (.ref pa), some (.ref wd), some (.int (o_I ix))] [] ρ (y_U lo n0 s0 σ0 (p_st t S k) (fun y oc τ => oc = .inl none ∧ ∃ ow Λ wd, y_J G lo n0 s0 wb σ0 pa ps sel onl x0 inp w0 w1 w2 w3 w6 w7 w8 t τ y.1 y.2 ow Λ wd o [])) := by
    obtain ⟨⟨⟨tk, vv, hp, hk9, hvv, hww, hko⟩, hwl⟩, -⟩ := id hJ
    have ht7 := J_7 hJ
    obtain ⟨vs1, hwr⟩ := k_Sr_rd (y_w_r hG9 hww (by have := p_w_ll hko ht7; omega))
    intro ρ ix hwwT FT hix
    have hJT := J_h hJ hwwT FT
    obtain ⟨⟨tkJ1, vvJ1, hpJ1, kzJ1, hvvJ1, wwJ1, koJ1⟩, wlJ1⟩ := id hJT.1
    obtain ⟨vsJ1, wrJ1⟩ := k_Sr_rd (y_w_r hG9 wwJ1 (by have := p_w_ll koJ1 (J_7 hJT); omega))
    refine sv_iload_n dX4_parseStatement_105 rfl ?_
    rcases hix with ⟨rfl, n1, n2, n3, n4⟩ | ⟨rfl, y1⟩ | ⟨rfl, y2⟩ | ⟨rfl, y3⟩ | ⟨rfl, y4⟩
    · refine sv_tableOut (tgt := 164) dX4_parseStatement_106 (by decide +kernel) (by decide) ?_
      have FFt : h_F (fun q => False) 0 0 ρ ρ := h_F_r
      refine sv_new fn_X4_100 dX4_parseStatement_164 ?_
      refine hs_al (fun e9 τ2 E7 F3 h4 N5 Z6 => ?_)
      have hpJ1' := h_F_c F3 hpJ1 (fun z => z)
      have FF8 := h_F_u FFt F3 (fun _ _ z => z) (fun _ _ z => z.elim) (Nat.le_refl _) (Nat.le_refl _)
      have h4 : sx_c τ2 e9 = some (.inr (4, [.null, .null, .null, .null, .null, .int (nI 0), .int (nI 0), .int (nI 0)])) := by rw [nI_0]; exact h4
      refine sv_dup dX4_parseStatement_167 rfl ?_
      refine sv_iconst (nI 1) dX4_parseStatement_168 (by decide +kernel) ?_
      refine sv_aload_n dX4_parseStatement_169 rfl ?_
      refine sv_get fg_X4_58 dX4_parseStatement_170 (sx_rd_c hpJ1') rfl ?_
      refine sv_ciP _ (cx_PE hG9.2.2.2.2.2.2 h4) okX5_init ki_X4_102 dX4_parseStatement_173 rfl rfl (by omega) (Nat.le_of_ble_eq_true rfl) ?_
      intro v12 τ10 hp11
      obtain ⟨rfl, hE9, F9⟩ := hp11
      have N13 := (F9).1.1
      have hpJ1'' := h_F_c F9 hpJ1' (e_kn hpJ1' h4 rfl)
      have FF14 := h_F_u FF8 F9 (fun _ _ z => z) (by intro q hq hz; omega) (Nat.le_refl _) (Nat.le_refl _)
      refine sv_athrow (sx_rd_c hE9) rfl dX4_parseStatement_176 ?_
      refine sv_out (fun x hx => by cases hx) ?_
      have hst : p_st t S k = .inl (1, k.2.1) := by unfold p_st; rw [if_neg (bf_n n1), if_neg (bf_n n2), if_neg (bf_n n3), if_neg (bf_n n4)]; rfl
      exact y_U_l hst (J_x hJT ⟨_, rfl, hE9, h_F_w FF14 (fun _ _ z => z) (by omega) (by omega)⟩)
    · refine sv_tableIn (off := 30) (tgt := 136) dX4_parseStatement_106 (by decide +kernel) (by decide +kernel) (by decide +kernel) (by decide) ?_
      refine sv_aload_n dX4_parseStatement_136 rfl ?_
      refine sv_cv _ (J_lim hG9 hb hJT (by have := p_is_k (by decide) (by decide) y1; omega)) okX4_parseLimit (sx_rd_c hpJ1) rfl kv_X4_230.1 kv_X4_230.2.1 kv_X4_230.2.2 dX4_parseStatement_137 rfl rfl (by omega) (Nat.le_of_ble_eq_true rfl) (fun v15 τ16 h17 => ?_) (fun E q τ h => ?_)
      rotate_left
      · have hU := y_U_thr h (fun _ _ _ z => ⟨_, z.1⟩)
        refine sv_out (fun x hx => by cases hx) ?_
        obtain ⟨e, he, hz⟩ := hU
        have hst : p_st t S k = p_lim t S k := by unfold p_st; rw [if_pos y1]
        exact y_U_l (hst.trans he) hz
      have hU := y_U_ret h17
      obtain ⟨y, hy, hv9, ow9, Λ9, wd9, hJ9⟩ := hU
      cases hv9
      have hst : p_st t S k = p_lim t S k := by unfold p_st; rw [if_pos y1]
      refine sv_goto (tgt := 177) dX4_parseStatement_140 (by decide) ?_
      refine sv_vret rfl dX4_parseStatement_177 ?_
      exact y_U_r (hst.trans hy) ⟨rfl, ow9, Λ9, wd9, hJ9⟩
    · refine sv_tableIn (off := 37) (tgt := 143) dX4_parseStatement_106 (by decide +kernel) (by decide +kernel) (by decide +kernel) (by decide) ?_
      refine sv_aload_n dX4_parseStatement_143 rfl ?_
      refine sv_cv _ (J_box hG9 hb hJT (by have := p_is_k (by decide) (by decide) y2; omega)) okX4_parseBox (sx_rd_c hpJ1) rfl kv_X4_233.1 kv_X4_233.2.1 kv_X4_233.2.2 dX4_parseStatement_144 rfl rfl (by omega) (Nat.le_of_ble_eq_true rfl) (fun v18 τ19 h20 => ?_) (fun E q τ h => ?_)
      rotate_left
      · have hU := y_U_thr h (fun _ _ _ z => ⟨_, z.1⟩)
        refine sv_out (fun x hx => by cases hx) ?_
        obtain ⟨e, he, hz⟩ := hU
        have hst : p_st t S k = p_bbx t S k := by unfold p_st; rw [if_neg (bf_n (p_is_1 y2 (by decide) (by decide) (by decide))), if_pos y2]
        exact y_U_l (hst.trans he) hz
      have hU := y_U_ret h20
      obtain ⟨y, hy, hv9, ow9, Λ9, wd9, hJ9⟩ := hU
      cases hv9
      have hst : p_st t S k = p_bbx t S k := by unfold p_st; rw [if_neg (bf_n (p_is_1 y2 (by decide) (by decide) (by decide))), if_pos y2]
      refine sv_goto (tgt := 177) dX4_parseStatement_147 (by decide) ?_
      refine sv_vret rfl dX4_parseStatement_177 ?_
      exact y_U_r (hst.trans hy) ⟨rfl, ow9, Λ9, wd9, hJ9⟩
    · refine sv_tableIn (off := 44) (tgt := 150) dX4_parseStatement_106 (by decide +kernel) (by decide +kernel) (by decide +kernel) (by decide) ?_
      refine sv_aload_n dX4_parseStatement_150 rfl ?_
      refine sv_cv _ (J_mes hG9 hb hJT (by have := p_is_k (by decide) (by decide) y3; omega)) okX4_parseMessage (sx_rd_c hpJ1) rfl kv_X4_236.1 kv_X4_236.2.1 kv_X4_236.2.2 dX4_parseStatement_151 rfl rfl (by omega) (Nat.le_of_ble_eq_true rfl) (fun v21 τ22 h23 => ?_) (fun E q τ h => ?_)
      rotate_left
      · have hU := y_U_thr h (fun _ _ _ z => ⟨_, z.1⟩)
        refine sv_out (fun x hx => by cases hx) ?_
        obtain ⟨e, he, hz⟩ := hU
        have hst : p_st t S k = p_mes t S k := by unfold p_st; rw [if_neg (bf_n (p_is_1 y3 (by decide) (by decide) (by decide))), if_neg (bf_n (p_is_1 y3 (by decide) (by decide) (by decide))), if_pos y3]
        exact y_U_l (hst.trans he) hz
      have hU := y_U_ret h23
      obtain ⟨y, hy, hv9, ow9, Λ9, wd9, hJ9⟩ := hU
      cases hv9
      have hst : p_st t S k = p_mes t S k := by unfold p_st; rw [if_neg (bf_n (p_is_1 y3 (by decide) (by decide) (by decide))), if_neg (bf_n (p_is_1 y3 (by decide) (by decide) (by decide))), if_pos y3]
      refine sv_goto (tgt := 177) dX4_parseStatement_154 (by decide) ?_
      refine sv_vret rfl dX4_parseStatement_177 ?_
      exact y_U_r (hst.trans hy) ⟨rfl, ow9, Λ9, wd9, hJ9⟩
    · refine sv_tableIn (off := 51) (tgt := 157) dX4_parseStatement_106 (by decide +kernel) (by decide +kernel) (by decide +kernel) (by decide) ?_
      refine sv_aload_n dX4_parseStatement_157 rfl ?_
      refine sv_cv _ (J_ses hG9 hb hJT (by have := p_is_k (by decide) (by decide) y4; omega)) okX4_parseSession (sx_rd_c hpJ1) rfl kv_X4_239.1 kv_X4_239.2.1 kv_X4_239.2.2 dX4_parseStatement_158 rfl rfl (by omega) (Nat.le_of_ble_eq_true rfl) (fun v24 τ25 h26 => ?_) (fun E q τ h => ?_)
      rotate_left
      · have hU := y_U_thr h (fun _ _ _ z => ⟨_, z.1⟩)
        refine sv_out (fun x hx => by cases hx) ?_
        obtain ⟨e, he, hz⟩ := hU
        have hst : p_st t S k = p_sss t S k := by unfold p_st; rw [if_neg (bf_n (p_is_1 y4 (by decide) (by decide) (by decide))), if_neg (bf_n (p_is_1 y4 (by decide) (by decide) (by decide))), if_neg (bf_n (p_is_1 y4 (by decide) (by decide) (by decide))), if_pos y4]
        exact y_U_l (hst.trans he) hz
      have hU := y_U_ret h26
      obtain ⟨y, hy, hv9, ow9, Λ9, wd9, hJ9⟩ := hU
      cases hv9
      have hst : p_st t S k = p_sss t S k := by unfold p_st; rw [if_neg (bf_n (p_is_1 y4 (by decide) (by decide) (by decide))), if_neg (bf_n (p_is_1 y4 (by decide) (by decide) (by decide))), if_neg (bf_n (p_is_1 y4 (by decide) (by decide) (by decide))), if_pos y4]
      refine sv_goto (tgt := 177) dX4_parseStatement_161 (by decide) ?_
      refine sv_vret rfl dX4_parseStatement_177 ?_
      exact y_U_r (hst.trans hy) ⟨rfl, ow9, Λ9, wd9, hJ9⟩
  refine sx_body (by decide) (Nat.le_of_ble_eq_true rfl) ?_
  obtain ⟨⟨⟨tk, vv, hp, hk9, hvv, hww, hko⟩, hwl⟩, -⟩ := id hJ
  have ht7 := J_7 hJ
  obtain ⟨vs1, hwr⟩ := k_Sr_rd (y_w_r hG9 hww (by have := p_w_ll hko ht7; omega))
  refine sv_aload_n dX4_parseStatement_0 rfl ?_
  refine sv_get fg_X4_32 dX4_parseStatement_1 (sx_rd_c hp) rfl ?_
  refine sv_astore_n dX4_parseStatement_4 (by decide) ?_
  refine sv_iconst (-1) dX4_parseStatement_5 (by decide +kernel) ?_
  refine sv_tI (show (-1 : Int32) = o_I none from rfl) ?_
  refine sv_istore_n dX4_parseStatement_6 (by decide) ?_
  refine sv_aload_n dX4_parseStatement_7 rfl ?_
  refine sv_cvP _ (cy_hash hG9.1 hG9.2.1 hww (by have := p_w_ll hko ht7; omega) (p_w_128 hb hko)) okJ9_hashCode kv_X4_119 hwr rfl dX4_parseStatement_8 rfl rfl (by omega) (Nat.le_of_ble_eq_true rfl) ?_
  intro v29 τ27 hp28
  obtain ⟨rfl, hww2, Fh⟩ := hp28
  have hp2 := h_F_c Fh hp (y_w_ne hww hp rfl)
  obtain ⟨vs2, hwr2⟩ := k_Sr_rd (y_w_r hG9 hww2 (by have := p_w_ll hko ht7; omega))
  by_cases e2 : t_h (p_w t k) = (97739 : Int32)
  · refine sv_lookup (off := 55) (tgt := 66) dX4_parseStatement_11 (by decide) (by rw [e2]; decide +kernel) (by decide) ?_
    refine sv_aload_n dX4_parseStatement_66 rfl ?_
    refine sv_ldcS 2 rfl dX4_parseStatement_67 ?_
    refine sv_cvR _ (cy_eq hG9 hww2 hb hko hwl (i := 2) (by decide) (by decide) ht7) okJ9_equals kv_X4_105 hwr2 rfl dX4_parseStatement_69 rfl rfl (by omega) (Nat.le_of_ble_eq_true rfl) ?_
    refine sv_if_eqB (tgt := 105) dX4_parseStatement_72 (by decide) (fun c72 => ?_) (fun c72 => ?_)
    · have ceq := c72
      exact midT _ none hww2 Fh (Or.inl ⟨rfl, p_is_h2 e2 rfl (by decide), ceq, p_is_h2 e2 rfl (by decide), p_is_h2 e2 rfl (by decide)⟩)
    · have ceq := c72
      refine sv_iconst (nI 1) dX4_parseStatement_75 (by decide +kernel) ?_
      refine sv_tI (show nI 1 = o_I (some 1) from rfl) ?_
      refine sv_istore_n dX4_parseStatement_76 (by decide) ?_
      refine sv_goto (tgt := 105) dX4_parseStatement_77 (by decide) ?_
      exact midT _ (some 1) hww2 Fh (Or.inr (Or.inr (Or.inl ⟨rfl, ceq⟩)))
  by_cases e1 : t_h (p_w t k) = (102976443 : Int32)
  · refine sv_lookup (off := 41) (tgt := 52) dX4_parseStatement_11 (by decide) (by rw [e1]; decide +kernel) (by decide) ?_
    refine sv_aload_n dX4_parseStatement_52 rfl ?_
    refine sv_ldcS 1 rfl dX4_parseStatement_53 ?_
    refine sv_cvR _ (cy_eq hG9 hww2 hb hko hwl (i := 1) (by decide) (by decide) ht7) okJ9_equals kv_X4_105 hwr2 rfl dX4_parseStatement_55 rfl rfl (by omega) (Nat.le_of_ble_eq_true rfl) ?_
    refine sv_if_eqB (tgt := 105) dX4_parseStatement_58 (by decide) (fun c58 => ?_) (fun c58 => ?_)
    · have ceq := c58
      exact midT _ none hww2 Fh (Or.inl ⟨rfl, ceq, p_is_h2 e1 rfl (by decide), p_is_h2 e1 rfl (by decide), p_is_h2 e1 rfl (by decide)⟩)
    · have ceq := c58
      refine sv_iconst (nI 0) dX4_parseStatement_61 (by decide +kernel) ?_
      refine sv_tI (show nI 0 = o_I (some 0) from rfl) ?_
      refine sv_istore_n dX4_parseStatement_62 (by decide) ?_
      refine sv_goto (tgt := 105) dX4_parseStatement_63 (by decide) ?_
      exact midT _ (some 0) hww2 Fh (Or.inr (Or.inl ⟨rfl, ceq⟩))
  by_cases e3 : t_h (p_w t k) = (954925063 : Int32)
  · refine sv_lookup (off := 69) (tgt := 80) dX4_parseStatement_11 (by decide) (by rw [e3]; decide +kernel) (by decide) ?_
    refine sv_aload_n dX4_parseStatement_80 rfl ?_
    refine sv_ldcS 3 rfl dX4_parseStatement_81 ?_
    refine sv_cvR _ (cy_eq hG9 hww2 hb hko hwl (i := 3) (by decide) (by decide) ht7) okJ9_equals kv_X4_105 hwr2 rfl dX4_parseStatement_83 rfl rfl (by omega) (Nat.le_of_ble_eq_true rfl) ?_
    refine sv_if_eqB (tgt := 105) dX4_parseStatement_86 (by decide) (fun c86 => ?_) (fun c86 => ?_)
    · have ceq := c86
      exact midT _ none hww2 Fh (Or.inl ⟨rfl, p_is_h2 e3 rfl (by decide), p_is_h2 e3 rfl (by decide), ceq, p_is_h2 e3 rfl (by decide)⟩)
    · have ceq := c86
      refine sv_iconst (nI 2) dX4_parseStatement_89 (by decide +kernel) ?_
      refine sv_tI (show nI 2 = o_I (some 2) from rfl) ?_
      refine sv_istore_n dX4_parseStatement_90 (by decide) ?_
      refine sv_goto (tgt := 105) dX4_parseStatement_91 (by decide) ?_
      exact midT _ (some 2) hww2 Fh (Or.inr (Or.inr (Or.inr (Or.inl ⟨rfl, ceq⟩))))
  by_cases e4 : t_h (p_w t k) = (1984987798 : Int32)
  · refine sv_lookup (off := 83) (tgt := 94) dX4_parseStatement_11 (by decide) (by rw [e4]; decide +kernel) (by decide) ?_
    refine sv_aload_n dX4_parseStatement_94 rfl ?_
    refine sv_ldcS 4 rfl dX4_parseStatement_95 ?_
    refine sv_cvR _ (cy_eq hG9 hww2 hb hko hwl (i := 4) (by decide) (by decide) ht7) okJ9_equals kv_X4_105 hwr2 rfl dX4_parseStatement_97 rfl rfl (by omega) (Nat.le_of_ble_eq_true rfl) ?_
    refine sv_if_eqB (tgt := 105) dX4_parseStatement_100 (by decide) (fun c100 => ?_) (fun c100 => ?_)
    · have ceq := c100
      exact midT _ none hww2 Fh (Or.inl ⟨rfl, p_is_h2 e4 rfl (by decide), p_is_h2 e4 rfl (by decide), p_is_h2 e4 rfl (by decide), ceq⟩)
    · have ceq := c100
      refine sv_iconst (nI 3) dX4_parseStatement_103 (by decide +kernel) ?_
      refine sv_tI (show nI 3 = o_I (some 3) from rfl) ?_
      refine sv_istore_n dX4_parseStatement_104 (by decide) ?_
      exact midT _ (some 3) hww2 Fh (Or.inr (Or.inr (Or.inr (Or.inr (⟨rfl, ceq⟩)))))
  refine sv_lookup (off := 94) (tgt := 105) dX4_parseStatement_11 (by decide) (by show (if _ = _ then _ else (if _ = _ then _ else (if _ = _ then _ else (if _ = _ then _ else _)))) = _; rw [if_neg (fun z => e2 (Int32.toInt_inj.mp z.symm)), if_neg (fun z => e1 (Int32.toInt_inj.mp z.symm)), if_neg (fun z => e3 (Int32.toInt_inj.mp z.symm)), if_neg (fun z => e4 (Int32.toInt_inj.mp z.symm))]; rfl) (by decide) ?_
  exact midT _ none hww2 Fh (Or.inl ⟨rfl, p_is_h e1 rfl, p_is_h e2 rfl, p_is_h e3 rfl, p_is_h e4 rfl⟩)
end CPQ
