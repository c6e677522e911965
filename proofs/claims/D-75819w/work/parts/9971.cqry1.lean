set_option maxRecDepth 100000
section CQA
variable {G : sx_G} {σ τ ρ σ0 : sx_St} {pa ps sel onl x0 inp o wd lo n0 s0 wb : Nat} {tt : Nat → Nat} {t : List Int32} {k : k_T} {w0 w1 w2 w3 w6 w7 w8 : Value} {S : p_S} {ow : Nat → Nat} {Λ : Nat → Nat → Nat → Nat} {T : List (Nat × Nat × (a_M → Bool))}
theorem J_next2 (hG9 : g_Y G lo tt) (hb : b_B t) (hJ : y_J G lo (n0 + 2) (s0 + 4) wb σ0 pa ps sel onl x0 inp w0 w1 w2 w3 w6 w7 w8 t σ S k ow Λ wd o T) (h0 : k.1 ≠ 0) : sx_Cp G 9 YX4_next [.ref pa] σ (fun v τ => v = none ∧ ∃ wd2, y_J G lo n0 s0 wb σ0 pa ps sel onl x0 inp w0 w1 w2 w3 w6 w7 w8 t τ S (p_nx t k) ow Λ wd2 o T) := by
  obtain ⟨⟨⟨tk, vv, hp, hk9, hvv, hw0, hko⟩, hwl⟩, -⟩ := id hJ
  refine sx_C_Q (cy_next (wb := fun q => wb ≤ q ∧ ow q = 0) hG9.1 hG9.2.2.2.2.1 hp (J_I hJ) hb hko.2.1 (fun q hq => ⟨Nat.le_trans hJ.2.2.1.2.2.2.2 hq, hJ.2.1.1.2.2.2 q hq⟩)) ?_
  rintro oc τ ⟨v, rfl, rfl, wd2, h1, h2, h3⟩
  obtain ⟨g1, g2, g3, g4, g5, -, g7⟩ := K_nx hG9 (J_K hJ) h1 h2 h3
  refine ⟨_, rfl, rfl, wd2, g1, g2, g3, g4, g5, ?_, g7⟩
  have hB := hJ.2.2.2.2.2.1
  have e1 := (k_ok_s hko).1
  have e2 := (k_ok_x hko).1
  have e3 : k.2.2.1 ≤ (p_nx t k).2.1 := (k_n_p hko.2.1).1
  have e4 := hko.2.2.2.2.1 h0
  have e5 : sx_n τ ≤ sx_n σ + 4 * ((p_nx t k).2.2.1 - k.2.2.1) := h3.1.2
  have e6 : sx_s τ ≤ sx_s σ + 30 * ((p_nx t k).2.2.1 - k.2.2.1) := h3.2.1
  unfold y_B at hB ⊢
  omega
/-- a test is made -/
theorem J_al {c sl : Nat} (hJ : y_J G lo n0 s0 wb σ0 pa ps sel onl x0 inp w0 w1 w2 w3 w6 w7 w8 t σ S k ow Λ wd o T) (F : h_F (fun _ => False) c sl σ τ) (hc : c ≤ 1) (hsl : sl ≤ 2) : y_J G lo (n0 + 1) (s0 + 2) wb σ0 pa ps sel onl x0 inp w0 w1 w2 w3 w6 w7 w8 t τ S k ow Λ wd o T := by
  obtain ⟨⟨hy, hwl⟩, ⟨hI, hcap⟩, ⟨how, o4, o5, o6, o7⟩, ⟨fs, fo, a1, a2, a3⟩, hz, hB, hok, ⟨b1, b2, b3, b4⟩, hx⟩ := hJ
  have n1 := F.1.1
  obtain ⟨tk, vv, hp0, hk9, hvv, hww, hko⟩ := id hy
  refine ⟨⟨⟨tk, vv, h_F_c F hp0 (fun z => z), hk9, hvv, ?_, hko⟩, hwl⟩, ⟨c_I_w9 F hI (fun q z => z.elim), hcap⟩, ⟨how, o4, o5, o6, by omega⟩, ⟨fs, fo, h_F_c F a1 (fun z => z), h_F_c F a2 (fun z => z), a3⟩, hz, ?_, hok, ⟨fun q hq => ?_, b2, by omega, b4⟩, hx.1, fun x hm => k_P_fr F (fun q e z => z.elim) _ _ _ (hx.2 x hm)⟩
  · rcases hww with h | ⟨hne, nb, hn, hw⟩
    · exact Or.inl h
    · exact Or.inr ⟨hne, nb, k_Sn_fr F hn (fun z => z) (fun z => z), hw⟩
  · have g1 := F.1.2
    have g2 := F.2.1
    unfold y_B at hB ⊢
    omega
  · rw [F.2.2 q (by omega) (fun z => z)]
    exact b1 q hq
/-- a test is kept -/
theorem J_T {n te : Nat} {q : a_M → Bool} (hJ : y_J G lo n0 s0 wb σ0 pa ps sel onl x0 inp w0 w1 w2 w3 w6 w7 w8 t σ S k ow Λ wd o T) (h : k_P G n σ te q) : y_J G lo n0 s0 wb σ0 pa ps sel onl x0 inp w0 w1 w2 w3 w6 w7 w8 t σ S k ow Λ wd o ((n, te, q) :: T) := by
  obtain ⟨h1, h2, h3, h4, h5, h6, h7, h8, h9, h10⟩ := hJ
  refine ⟨h1, h2, h3, h4, h5, h6, h7, h8, h9, fun x hx => ?_⟩
  rcases List.mem_cons.mp hx with e | e
  · rw [e]; exact h
  · exact h10 x e
/-- tests may be forgotten, room may be given away -/
theorem J_U {T2 : List (Nat × Nat × (a_M → Bool))} {n1 s1 : Nat} (hJ : y_J G lo n0 s0 wb σ0 pa ps sel onl x0 inp w0 w1 w2 w3 w6 w7 w8 t σ S k ow Λ wd o T) (hT : ∀ x, x ∈ T2 → x ∈ T) (hn : n0 ≤ n1) (hs : s0 ≤ s1) : y_J G lo n1 s1 wb σ0 pa ps sel onl x0 inp w0 w1 w2 w3 w6 w7 w8 t σ S k ow Λ wd o T2 := by
  obtain ⟨h1, h2, h3, h4, h5, h6, h7, h8, h9, h10⟩ := hJ
  refine ⟨h1, h2, h3, h4, h5, ?_, h7, h8, h9, fun x hx => h10 x (hT x hx)⟩
  unfold y_B at h6 ⊢
  omega
theorem y_Z_w {n1 s1 : Nat} {e : p_E} {oc : sx_O} (h : y_Z lo n0 s0 σ0 e oc τ) (hn : n0 ≤ n1) (hs : s0 ≤ s1) : y_Z lo n1 s1 σ0 e oc τ := by
  obtain ⟨q, h1, h2, h3, h4, h5, h6⟩ := h
  exact ⟨q, h1, h2, h3, h4, by omega, by omega⟩
/-- how many stand open is changed -/
theorem J_po {o2 : Nat} {vv : Int32} {tk : Nat} (hJ : y_J G lo n0 s0 wb σ0 pa ps sel onl x0 inp w0 w1 w2 w3 w6 w7 w8 t σ S k ow Λ wd o T) (F : h_F (fun q => q = pa) 0 0 σ τ) (h : sx_c τ pa = some (.inr (3, [.ref ps, .ref sel, .ref onl, .int (nI k.2.2.1), .int (nI k.2.1), .int vv, .int (nI o2), .int (b_I S.2.1), .ref wd, .ref tk, .ref x0]))) (hk : sg_z G k.1 = .ref tk) (hv : k.1 = 2 → vv = nI (min 10000000 k.2.2.2)) : y_J G lo n0 s0 wb σ0 pa ps sel onl x0 inp w0 w1 w2 w3 w6 w7 w8 t τ S k ow Λ wd o2 T := by
  obtain ⟨⟨⟨tk0, vv0, hp, hk9, hvv, hww, hko⟩, hwl⟩, ⟨hI, hcap⟩, ⟨how, o4, o5, o6, o7⟩, ⟨fs, fo, a1, a2, a3⟩, hz, hB, hok, ⟨b1, b2, b3, b4⟩, hx⟩ := hJ
  have n1 := F.1.1
  refine ⟨⟨⟨tk, vv, h, hk, hv, ?_, hko⟩, hwl⟩, ⟨c_I_w9 F hI (fun q z => by rw [z]; omega), hcap⟩, ⟨how, o4, o5, o6, by omega⟩, ⟨fs, fo, h_F_c F a1 (e_kn a1 hp rfl), h_F_c F a2 (e_kn a2 hp rfl), a3⟩, hz, ?_, hok, ⟨fun q hq => ?_, b2, by omega, b4⟩, hx.1, fun x hm => k_P_fr F (k_W_1 hp ⟨Nat.ne_of_beq_eq_false rfl, Nat.ne_of_beq_eq_false rfl, Nat.le_of_ble_eq_true rfl⟩) _ _ _ (hx.2 x hm)⟩
  · rcases hww with h | ⟨hne, nb, hn, hw⟩
    · exact Or.inl h
    · obtain ⟨x1, x2, x3, x4, x5, x6⟩ := id hn
      exact Or.inr ⟨hne, nb, k_Sn_fr F hn (e_kn x4 hp rfl) (e_kn x5 hp rfl), hw⟩
  · have g1 := F.1.2
    have g2 := F.2.1
    unfold y_B at hB ⊢
    omega
  · have h9 := hI.2.2.1 pa (by omega)
    rw [F.2.2 q (by omega) (by omega)]
    exact b1 q hq
def p_go (t : List Int32) (o : Nat) (k : k_T) : p_E ⊕ k_T := if o < 5 then .inr (p_nx t k) else .inl (p_er 5 k)
theorem J_go (hG9 : g_Y G lo tt) (hb : b_B t) (hJ : y_J G lo (n0 + 2) (s0 + 4) wb σ0 pa ps sel onl x0 inp w0 w1 w2 w3 w6 w7 w8 t σ S k ow Λ wd o T) (h0 : k.1 ≠ 0) (ho : o ≤ 5) : sx_C G 10 YX4_goIn [.ref pa] σ (y_U lo (n0 + 2) (s0 + 4) σ0 (p_go t o k) (fun k2 oc τ => oc = .inl none ∧ ∃ wd2, y_J G lo n0 s0 wb σ0 pa ps sel onl x0 inp w0 w1 w2 w3 w6 w7 w8 t τ S k2 ow Λ wd2 (o + 1) T)) := by
  refine sx_body (by decide) (Nat.le_of_ble_eq_true rfl) ?_
  obtain ⟨⟨tkJ4, vvJ4, hpJ4, kzJ4, hvvJ4, wwJ4, koJ4⟩, wlJ4⟩ := id hJ.1
  obtain ⟨vsJ4, wrJ4⟩ := k_Sr_rd (y_w_r hG9 wwJ4 (by have := p_w_ll koJ4 (J_7 hJ); omega))
  refine sv_aload_n dX4_goIn_0 rfl ?_
  refine sv_aload_n dX4_goIn_1 rfl ?_
  refine sv_get fg_X4_249 dX4_goIn_2 (sx_rd_c hpJ4) rfl ?_
  refine sv_iconst (nI 5) dX4_goIn_5 (by decide +kernel) ?_
  refine sv_icmp_geN (tgt := 13) dX4_goIn_6 (by decide) (by omega) (by omega) (fun c6 => ?_) (fun c6 => ?_)
  · refine sv_iconst (nI 0) dX4_goIn_13 (by decide +kernel) ?_
    refine sv_tI b0_I ?_
    refine sv_iconst (nI 5) dX4_goIn_14 (by decide +kernel) ?_
    refine sv_cv _ (J_req0 hG9 hJ (c := 5)) okX4_require (sx_rd_c hpJ4) rfl kv_X4_115.1 kv_X4_115.2.1 kv_X4_115.2.2 dX4_goIn_15 rfl rfl (by omega) (Nat.le_of_ble_eq_true rfl) (fun v τ h => by obtain ⟨q, e, _⟩ := h; cases e) (fun E q τ h => ?_)
    obtain ⟨q9, e9, F9⟩ := id h
    cases e9
    refine sv_out (fun x hx => by cases hx) ?_
    exact y_U_l (by unfold p_go; rw [if_neg (by omega)]) h
  · refine sv_iconst (nI 1) dX4_goIn_9 (by decide +kernel) ?_
    refine sv_goto (tgt := 14) dX4_goIn_10 (by decide) ?_
    refine sv_tI b1_I ?_
    refine sv_iconst (nI 5) dX4_goIn_14 (by decide +kernel) ?_
    refine sv_cvR _ J_req1 okX4_require kv_X4_115 (sx_rd_c hpJ4) rfl dX4_goIn_15 rfl rfl (by omega) (Nat.le_of_ble_eq_true rfl) ?_
    refine sv_aload_n dX4_goIn_18 rfl ?_
    refine sv_dup dX4_goIn_19 rfl ?_
    refine sv_get fg_X4_249 dX4_goIn_20 (sx_rd_c hpJ4) rfl ?_
    refine sv_iconst (nI 1) dX4_goIn_23 (by decide +kernel) ?_
    refine sv_iaddN dX4_goIn_24 ?_
    refine sv_put fp_X4_249 dX4_goIn_25 hpJ4 rfl rfl (Nat.le_of_ble_eq_true rfl) ?_
    refine hs_up hpJ4 (fun τ5 F6 h7 N8 Z9 => ?_)
    have h7 : sx_c τ5 pa = some (.inr (3, [.ref ps, .ref sel, .ref onl, .int (nI k.2.2.1), .int (nI k.2.1), .int vvJ4, .int (nI (o + 1)), .int (b_I S.2.1), .ref wd, .ref tkJ4, .ref x0])) := h7
    have hJp := J_po (o2 := o + 1) hJ F6 h7 kzJ4 hvvJ4
    obtain ⟨⟨tkJ10, vvJ10, hpJ10, kzJ10, hvvJ10, wwJ10, koJ10⟩, wlJ10⟩ := id hJp.1
    obtain ⟨vsJ10, wrJ10⟩ := k_Sr_rd (y_w_r hG9 wwJ10 (by have := p_w_ll koJ10 (J_7 hJp); omega))
    refine sv_aload_n dX4_goIn_28 rfl ?_
    refine sv_cvP _ (J_next2 hG9 hb hJp h0) okX4_next kv_X4_36 (sx_rd_c hpJ10) rfl dX4_goIn_29 rfl rfl (by omega) (Nat.le_of_ble_eq_true rfl) ?_
    intro v11 τ12 hp13
    obtain ⟨rfl, wd15, hJ14⟩ := hp13
    obtain ⟨⟨tkJ16, vvJ16, hpJ16, kzJ16, hvvJ16, wwJ16, koJ16⟩, wlJ16⟩ := id hJ14.1
    obtain ⟨vsJ16, wrJ16⟩ := k_Sr_rd (y_w_r hG9 wwJ16 (by have := p_w_ll koJ16 (J_7 hJ14); omega))
    refine sv_vret rfl dX4_goIn_32 ?_
    exact y_U_r (show p_go t o k = .inr (p_nx t k) by unfold p_go; rw [if_pos (by omega)]) ⟨rfl, wd15, hJ14⟩
theorem J_bf (hG9 : g_Y G lo tt) (hb : b_B t) (hJ : y_J G lo n0 s0 wb σ0 pa ps sel onl x0 inp w0 w1 w2 w3 w6 w7 w8 t σ S k ow Λ wd o T) : sx_Cp G 5 YX4_beginsFactor [.ref pa] σ (fun v τ => v = some (.int (b_I (p_bf t k))) ∧ y_J G lo n0 s0 wb σ0 pa ps sel onl x0 inp w0 w1 w2 w3 w6 w7 w8 t τ S k ow Λ wd o T) := by
  refine sx_body (by decide) (Nat.le_of_ble_eq_true rfl) ?_
  obtain ⟨⟨tkJ17, vvJ17, hpJ17, kzJ17, hvvJ17, wwJ17, koJ17⟩, wlJ17⟩ := id hJ.1
  obtain ⟨vsJ17, wrJ17⟩ := k_Sr_rd (y_w_r hG9 wwJ17 (by have := p_w_ll koJ17 (J_7 hJ); omega))
  refine sv_aload_n dX4_beginsFactor_0 rfl ?_
  refine sv_cvP _ (J_flag hG9 hb hJ) okX4_flag kv_X4_153 (sx_rd_c hpJ17) rfl dX4_beginsFactor_1 rfl rfl (by omega) (Nat.le_of_ble_eq_true rfl) ?_
  intro v18 τ19 hp20
  obtain ⟨rfl, hJ21⟩ := hp20
  obtain ⟨⟨tkJ23, vvJ23, hpJ23, kzJ23, hvvJ23, wwJ23, koJ23⟩, wlJ23⟩ := id hJ21.1
  obtain ⟨vsJ23, wrJ23⟩ := k_Sr_rd (y_w_r hG9 wwJ23 (by have := p_w_ll koJ23 (J_7 hJ21); omega))
  refine sv_iconst (-1) dX4_beginsFactor_4 (by decide +kernel) ?_
  refine sv_icmp_ne (tgt := 53) dX4_beginsFactor_5 (by decide) (fun c5 => ?_) (fun c5 => ?_)
  · have hfs : (p_fl t k).isSome = true := by
      cases hz : p_fl t k with
      | none => exact absurd (by rw [hz]; rfl) c5
      | some z => rfl
    have hv : nI 1 = b_I (p_bf t k) := by unfold p_bf; rw [hfs]; simp; rfl
    refine sv_iconst (nI 1) dX4_beginsFactor_53 (by decide +kernel) ?_
    refine sv_goto (tgt := 58) dX4_beginsFactor_54 (by decide) ?_
    refine sv_iret (by first | exact b_I_nar _ | rfl) rfl dX4_beginsFactor_58 ?_
    exact ⟨_, rfl, r_I hv, hJ21⟩
  · have hfn : p_fl t k = none := (o_I_m1 _ (fun x hx => by have := (p_fl_5 hx).1; omega)).mp c5
    refine sv_aload_n dX4_beginsFactor_8 rfl ?_
    refine sv_ldcS 9 rfl dX4_beginsFactor_9 ?_
    refine sv_cvR _ (J_word hG9 hb hJ21 (i := 9) (by decide) (by decide)) okX4_isWord kv_X4_111 (sx_rd_c hpJ23) rfl dX4_beginsFactor_11 rfl rfl (by omega) (Nat.le_of_ble_eq_true rfl) ?_
    refine sv_if_neB (tgt := 53) dX4_beginsFactor_14 (by decide) (fun c14 => ?_) (fun c14 => ?_)
    · have hv : nI 1 = b_I (p_bf t k) := by unfold p_bf; rw [c14]; simp; rfl
      refine sv_iconst (nI 1) dX4_beginsFactor_53 (by decide +kernel) ?_
      refine sv_goto (tgt := 58) dX4_beginsFactor_54 (by decide) ?_
      refine sv_iret (by first | exact b_I_nar _ | rfl) rfl dX4_beginsFactor_58 ?_
      exact ⟨_, rfl, r_I hv, hJ21⟩
    · refine sv_aload_n dX4_beginsFactor_17 rfl ?_
      refine sv_ldcS 7 rfl dX4_beginsFactor_18 ?_
      refine sv_cvR _ (J_word hG9 hb hJ21 (i := 7) (by decide) (by decide)) okX4_isWord kv_X4_111 (sx_rd_c hpJ23) rfl dX4_beginsFactor_20 rfl rfl (by omega) (Nat.le_of_ble_eq_true rfl) ?_
      refine sv_if_neB (tgt := 53) dX4_beginsFactor_23 (by decide) (fun c23 => ?_) (fun c23 => ?_)
      · have hv : nI 1 = b_I (p_bf t k) := by unfold p_bf; rw [c23]; simp; rfl
        refine sv_iconst (nI 1) dX4_beginsFactor_53 (by decide +kernel) ?_
        refine sv_goto (tgt := 58) dX4_beginsFactor_54 (by decide) ?_
        refine sv_iret (by first | exact b_I_nar _ | rfl) rfl dX4_beginsFactor_58 ?_
        exact ⟨_, rfl, r_I hv, hJ21⟩
      · refine sv_aload_n dX4_beginsFactor_26 rfl ?_
        refine sv_ldcS 5 rfl dX4_beginsFactor_27 ?_
        refine sv_cvR _ (J_word hG9 hb hJ21 (i := 5) (by decide) (by decide)) okX4_isWord kv_X4_111 (sx_rd_c hpJ23) rfl dX4_beginsFactor_29 rfl rfl (by omega) (Nat.le_of_ble_eq_true rfl) ?_
        refine sv_if_neB (tgt := 53) dX4_beginsFactor_32 (by decide) (fun c32 => ?_) (fun c32 => ?_)
        · have hv : nI 1 = b_I (p_bf t k) := by unfold p_bf; rw [c32]; simp; rfl
          refine sv_iconst (nI 1) dX4_beginsFactor_53 (by decide +kernel) ?_
          refine sv_goto (tgt := 58) dX4_beginsFactor_54 (by decide) ?_
          refine sv_iret (by first | exact b_I_nar _ | rfl) rfl dX4_beginsFactor_58 ?_
          exact ⟨_, rfl, r_I hv, hJ21⟩
        · refine sv_aload_n dX4_beginsFactor_35 rfl ?_
          refine sv_ldcS 8 rfl dX4_beginsFactor_36 ?_
          refine sv_cvR _ (J_word hG9 hb hJ21 (i := 8) (by decide) (by decide)) okX4_isWord kv_X4_111 (sx_rd_c hpJ23) rfl dX4_beginsFactor_38 rfl rfl (by omega) (Nat.le_of_ble_eq_true rfl) ?_
          refine sv_if_neB (tgt := 53) dX4_beginsFactor_41 (by decide) (fun c41 => ?_) (fun c41 => ?_)
          · have hv : nI 1 = b_I (p_bf t k) := by unfold p_bf; rw [c41]; simp; rfl
            refine sv_iconst (nI 1) dX4_beginsFactor_53 (by decide +kernel) ?_
            refine sv_goto (tgt := 58) dX4_beginsFactor_54 (by decide) ?_
            refine sv_iret (by first | exact b_I_nar _ | rfl) rfl dX4_beginsFactor_58 ?_
            exact ⟨_, rfl, r_I hv, hJ21⟩
          · refine sv_aload_n dX4_beginsFactor_44 rfl ?_
            refine sv_bipush (nI 40) dX4_beginsFactor_45 (by decide +kernel) ?_
            refine sv_cvR _ (J_sym hG9 hb hJ21 (c := 40) (by decide)) okX4_isSymbol kv_X4_226 (sx_rd_c hpJ23) rfl dX4_beginsFactor_47 rfl rfl (by omega) (Nat.le_of_ble_eq_true rfl) ?_
            refine sv_if_eqB (tgt := 57) dX4_beginsFactor_50 (by decide) (fun c50 => ?_) (fun c50 => ?_)
            · have hv : nI 0 = b_I (p_bf t k) := by unfold p_bf; rw [hfn, c14, c23, c32, c41, show p_sy t k 40 = false from c50]; rfl
              refine sv_iconst (nI 0) dX4_beginsFactor_57 (by decide +kernel) ?_
              refine sv_iret (by first | exact b_I_nar _ | rfl) rfl dX4_beginsFactor_58 ?_
              exact ⟨_, rfl, r_I hv, hJ21⟩
            · have hv : nI 1 = b_I (p_bf t k) := by unfold p_bf; rw [show p_sy t k 40 = true from c50]; simp; rfl
              refine sv_iconst (nI 1) dX4_beginsFactor_53 (by decide +kernel) ?_
              refine sv_goto (tgt := 58) dX4_beginsFactor_54 (by decide) ?_
              refine sv_iret (by first | exact b_I_nar _ | rfl) rfl dX4_beginsFactor_58 ?_
              exact ⟨_, rfl, r_I hv, hJ21⟩
theorem J_cmp1 (hG9 : g_Y G lo tt) (hb : b_B t) (hJ : y_J G lo (n0 + 2) (s0 + 4) wb σ0 pa ps sel onl x0 inp w0 w1 w2 w3 w6 w7 w8 t σ S k ow Λ wd o T) (h0 : k.1 ≠ 0) (hG : g_L G) : sx_C G 81 YX4_compared [.ref pa, .int (b_I true)] σ (y_U lo (n0 + 2) (s0 + 4) σ0 (p_cmp t (p_nx t k) (q_g 1)) (fun x oc τ => ∃ te, oc = .inl (some (.ref te)) ∧ ∃ wd2, y_J G lo (n0 + 1) (s0 + 2) wb σ0 pa ps sel onl x0 inp w0 w1 w2 w3 w6 w7 w8 t τ S x.2 ow Λ wd2 o ((1, te, x.1) :: T))) := by
  refine sx_body (by decide) (Nat.le_of_ble_eq_true rfl) ?_
  obtain ⟨⟨tkJ24, vvJ24, hpJ24, kzJ24, hvvJ24, wwJ24, koJ24⟩, wlJ24⟩ := id hJ.1
  obtain ⟨vsJ24, wrJ24⟩ := k_Sr_rd (y_w_r hG9 wwJ24 (by have := p_w_ll koJ24 (J_7 hJ); omega))
  refine sv_aload_n dX4_compared_0 rfl ?_
  refine sv_cvP _ (J_next2 hG9 hb hJ h0) okX4_next kv_X4_36 (sx_rd_c hpJ24) rfl dX4_compared_1 rfl rfl (by omega) (Nat.le_of_ble_eq_true rfl) ?_
  intro v25 τ26 hp27
  obtain ⟨rfl, wd29, hJ28⟩ := hp27
  obtain ⟨⟨tkJ30, vvJ30, hpJ30, kzJ30, hvvJ30, wwJ30, koJ30⟩, wlJ30⟩ := id hJ28.1
  obtain ⟨vsJ30, wrJ30⟩ := k_Sr_rd (y_w_r hG9 wwJ30 (by have := p_w_ll koJ30 (J_7 hJ28); omega))
  refine sv_aload_n dX4_compared_4 rfl ?_
  refine sv_bipush (nI 60) dX4_compared_5 (by decide +kernel) ?_
  refine sv_cvR _ (J_sym hG9 hb hJ28 (c := 60) (by decide)) okX4_isSymbol kv_X4_226 (sx_rd_c hpJ30) rfl dX4_compared_7 rfl rfl (by omega) (Nat.le_of_ble_eq_true rfl) ?_
  refine sv_istore_n dX4_compared_10 (by decide) ?_
  refine sv_aload_n dX4_compared_11 rfl ?_
  refine sv_iload_n dX4_compared_12 rfl ?_
  refine sv_if_neB (tgt := 25) dX4_compared_13 (by decide) (fun c13 => ?_) (fun c13 => ?_)
  · have hcm : p_cmp t (p_nx t k) (q_g 1) = p_bind (p_num t (p_nx t (p_nx t k)) 0 9999) (fun x => .inr (fun m => decide ((q_g 1) m < nI x.1), x.2)) := by unfold p_cmp; rw [if_pos (show p_sy t (p_nx t k) 60 = true from c13)]
    refine sv_iconst (nI 1) dX4_compared_25 (by decide +kernel) ?_
    refine sv_goto (tgt := 30) dX4_compared_26 (by decide) ?_
    refine sv_tI b1_I ?_
    refine sv_iconst (nI 1) dX4_compared_30 (by decide +kernel) ?_
    refine sv_cvR _ J_req1 okX4_require kv_X4_115 (sx_rd_c hpJ30) rfl dX4_compared_31 rfl rfl (by omega) (Nat.le_of_ble_eq_true rfl) ?_
    refine sv_aload_n dX4_compared_34 rfl ?_
    refine sv_cvP _ (J_next hG9 hb hJ28) okX4_next kv_X4_36 (sx_rd_c hpJ30) rfl dX4_compared_35 rfl rfl (by omega) (Nat.le_of_ble_eq_true rfl) ?_
    intro v31 τ32 hp33
    obtain ⟨rfl, wd35, hJ34⟩ := hp33
    obtain ⟨⟨tkJ36, vvJ36, hpJ36, kzJ36, hvvJ36, wwJ36, koJ36⟩, wlJ36⟩ := id hJ34.1
    obtain ⟨vsJ36, wrJ36⟩ := k_Sr_rd (y_w_r hG9 wwJ36 (by have := p_w_ll koJ36 (J_7 hJ34); omega))
    refine sv_aload_n dX4_compared_38 rfl ?_
    refine sv_iconst (nI 0) dX4_compared_39 (by decide +kernel) ?_
    refine sv_sipush (nI 9999) dX4_compared_40 (by decide +kernel) ?_
    refine sv_cv _ (J_num hG9 hb hJ34 (Nat.zero_le _) (Nat.le_refl _)) okX4_number (sx_rd_c hpJ36) rfl kv_X4_170.1 kv_X4_170.2.1 kv_X4_170.2.2 dX4_compared_43 rfl rfl (by omega) (Nat.le_of_ble_eq_true rfl) (fun v37 τ38 h39 => ?_) (fun E q τ h => ?_)
    rotate_left
    · have hU := y_U_thr h (fun _ _ _ z => ⟨_, z.1⟩)
      refine sv_out (fun x hx => by cases hx) ?_
      obtain ⟨e, he, hz⟩ := hU
      exact y_U_l (show p_cmp t (p_nx t k) (q_g 1) = .inl e by rw [hcm, he]; rfl) (y_Z_w hz (by omega) (by omega))
    have hU := y_U_ret h39
    obtain ⟨⟨x, k2⟩, hx9, hv9, wdN, hJN⟩ := hU
    have hJN : y_J G lo n0 s0 wb σ0 pa ps sel onl x0 inp w0 w1 w2 w3 w6 w7 w8 t τ38 S k2 ow Λ wdN o T := hJN
    cases hv9
    obtain ⟨⟨tkJ40, vvJ40, hpJ40, kzJ40, hvvJ40, wwJ40, koJ40⟩, wlJ40⟩ := id hJN.1
    obtain ⟨vsJ40, wrJ40⟩ := k_Sr_rd (y_w_r hG9 wwJ40 (by have := p_w_ll koJ40 (J_7 hJN); omega))
    refine sv_istore_n dX4_compared_46 (by decide) ?_
    have FFt : h_F (fun q => False) 0 0 τ38 τ38 := h_F_r
    refine sv_iload_n dX4_compared_47 rfl ?_
    refine sv_if_eqB (tgt := 71) dX4_compared_48 (by decide) (fun c48 => ?_) (fun c48 => ?_)
    · exact absurd c48 (by decide)
    · refine sv_iload_n dX4_compared_51 rfl ?_
      refine sv_if_eqB (tgt := 64) dX4_compared_52 (by decide) (fun c52 => ?_) (fun c52 => ?_)
      · refine sv_iload_n dX4_compared_64 rfl ?_
        refine sv_lamM (i := 5) (f := sh_5) (code := sh_5_c) (ix := [15]) (im := 23) [.int (nI x)] _ hG rfl sh_5_k rfl rfl rfl (by
          intro j ty v h1 h2
          match j, h1, h2 with
          | 0, h1, h2 => cases h1; cases h2; exact ⟨rfl, rfl⟩
          | j + 1, h1, h2 => cases h1) dX4_compared_65 rfl (by omega) (Nat.le_of_ble_eq_true rfl) ?_
        refine hs_al (fun te τ41 E46 F42 h43 N44 Z45 => ?_)
        have hpJ40' := h_F_c F42 hpJ40 (fun z => z)
        have FF47 := h_F_u FFt F42 (fun _ _ z => z) (fun _ _ z => z.elim) (Nat.le_refl _) (Nat.le_refl _)
        have h43 : sx_c τ41 te = some (.inr (22, [.int (nI x)])) := h43
        refine sv_aret (Or.inr ⟨_, rfl⟩) (Or.inl ⟨_, rfl⟩) rfl dX4_compared_70 ?_
        first
        | exact absurd (c13.symm.trans c52) (by decide)
        | have hk9 : k_P G 1 _ te (fun m => decide (nI x < (q_g 1) m)) := Or.inr (Or.inr (Or.inr (Or.inr (Or.inr (Or.inl ⟨_, sx_rd_c h43, fun m => rfl⟩)))))
          exact y_U_r (show p_cmp t (p_nx t k) (q_g 1) = .inr (fun m => decide (nI x < (q_g 1) m), k2) by rw [hcm, hx9]; rfl) ⟨te, rfl, wdN, J_T (J_al hJN FF47 (Nat.le_of_ble_eq_true rfl) (Nat.le_of_ble_eq_true rfl)) hk9⟩
      · refine sv_iload_n dX4_compared_55 rfl ?_
        refine sv_lamM (i := 4) (f := sh_4) (code := sh_4_c) (ix := [15]) (im := 23) [.int (nI x)] _ hG rfl sh_4_k rfl rfl rfl (by
          intro j ty v h1 h2
          match j, h1, h2 with
          | 0, h1, h2 => cases h1; cases h2; exact ⟨rfl, rfl⟩
          | j + 1, h1, h2 => cases h1) dX4_compared_56 rfl (by omega) (Nat.le_of_ble_eq_true rfl) ?_
        refine hs_al (fun te τ48 E53 F49 h50 N51 Z52 => ?_)
        have hpJ40' := h_F_c F49 hpJ40 (fun z => z)
        have FF54 := h_F_u FFt F49 (fun _ _ z => z) (fun _ _ z => z.elim) (Nat.le_refl _) (Nat.le_refl _)
        have h50 : sx_c τ48 te = some (.inr (21, [.int (nI x)])) := h50
        refine sv_goto (tgt := 70) dX4_compared_61 (by decide) ?_
        refine sv_aret (Or.inr ⟨_, rfl⟩) (Or.inl ⟨_, rfl⟩) rfl dX4_compared_70 ?_
        first
        | exact absurd (c13.symm.trans c52) (by decide)
        | have hk9 : k_P G 1 _ te (fun m => decide ((q_g 1) m < nI x)) := Or.inr (Or.inr (Or.inr (Or.inr (Or.inl ⟨_, sx_rd_c h50, fun m => rfl⟩))))
          exact y_U_r (show p_cmp t (p_nx t k) (q_g 1) = .inr (fun m => decide ((q_g 1) m < nI x), k2) by rw [hcm, hx9]; rfl) ⟨te, rfl, wdN, J_T (J_al hJN FF54 (Nat.le_of_ble_eq_true rfl) (Nat.le_of_ble_eq_true rfl)) hk9⟩
  · refine sv_aload_n dX4_compared_16 rfl ?_
    refine sv_bipush (nI 62) dX4_compared_17 (by decide +kernel) ?_
    refine sv_cvR _ (J_sym hG9 hb hJ28 (c := 62) (by decide)) okX4_isSymbol kv_X4_226 (sx_rd_c hpJ30) rfl dX4_compared_19 rfl rfl (by omega) (Nat.le_of_ble_eq_true rfl) ?_
    refine sv_if_eqB (tgt := 29) dX4_compared_22 (by decide) (fun c22 => ?_) (fun c22 => ?_)
    · refine sv_iconst (nI 0) dX4_compared_29 (by decide +kernel) ?_
      refine sv_tI b0_I ?_
      refine sv_iconst (nI 1) dX4_compared_30 (by decide +kernel) ?_
      refine sv_cv _ (J_req0 hG9 hJ28 (c := 1)) okX4_require (sx_rd_c hpJ30) rfl kv_X4_115.1 kv_X4_115.2.1 kv_X4_115.2.2 dX4_compared_31 rfl rfl (by omega) (Nat.le_of_ble_eq_true rfl) (fun v τ h => by obtain ⟨q, e, _⟩ := h; cases e) (fun E q τ h => ?_)
      obtain ⟨q9, e9, F9⟩ := id h
      cases e9
      refine sv_out (fun x hx => by cases hx) ?_
      exact y_U_l (show p_cmp t (p_nx t k) (q_g 1) = .inl (p_er 1 (p_nx t k)) by unfold p_cmp; rw [if_neg (bf_n (show p_sy t (p_nx t k) 60 = false from c13)), if_neg (bf_n (show p_sy t (p_nx t k) 62 = false from c22))]) (y_Z_w h (by omega) (by omega))
    · have hcm : p_cmp t (p_nx t k) (q_g 1) = p_bind (p_num t (p_nx t (p_nx t k)) 0 9999) (fun x => .inr (fun m => decide (nI x.1 < (q_g 1) m), x.2)) := by unfold p_cmp; rw [if_neg (bf_n (show p_sy t (p_nx t k) 60 = false from c13)), if_pos (show p_sy t (p_nx t k) 62 = true from c22)]
      refine sv_iconst (nI 1) dX4_compared_25 (by decide +kernel) ?_
      refine sv_goto (tgt := 30) dX4_compared_26 (by decide) ?_
      refine sv_tI b1_I ?_
      refine sv_iconst (nI 1) dX4_compared_30 (by decide +kernel) ?_
      refine sv_cvR _ J_req1 okX4_require kv_X4_115 (sx_rd_c hpJ30) rfl dX4_compared_31 rfl rfl (by omega) (Nat.le_of_ble_eq_true rfl) ?_
      refine sv_aload_n dX4_compared_34 rfl ?_
      refine sv_cvP _ (J_next hG9 hb hJ28) okX4_next kv_X4_36 (sx_rd_c hpJ30) rfl dX4_compared_35 rfl rfl (by omega) (Nat.le_of_ble_eq_true rfl) ?_
      intro v55 τ56 hp57
      obtain ⟨rfl, wd59, hJ58⟩ := hp57
      obtain ⟨⟨tkJ60, vvJ60, hpJ60, kzJ60, hvvJ60, wwJ60, koJ60⟩, wlJ60⟩ := id hJ58.1
      obtain ⟨vsJ60, wrJ60⟩ := k_Sr_rd (y_w_r hG9 wwJ60 (by have := p_w_ll koJ60 (J_7 hJ58); omega))
      refine sv_aload_n dX4_compared_38 rfl ?_
      refine sv_iconst (nI 0) dX4_compared_39 (by decide +kernel) ?_
      refine sv_sipush (nI 9999) dX4_compared_40 (by decide +kernel) ?_
      refine sv_cv _ (J_num hG9 hb hJ58 (Nat.zero_le _) (Nat.le_refl _)) okX4_number (sx_rd_c hpJ60) rfl kv_X4_170.1 kv_X4_170.2.1 kv_X4_170.2.2 dX4_compared_43 rfl rfl (by omega) (Nat.le_of_ble_eq_true rfl) (fun v61 τ62 h63 => ?_) (fun E q τ h => ?_)
      rotate_left
      · have hU := y_U_thr h (fun _ _ _ z => ⟨_, z.1⟩)
        refine sv_out (fun x hx => by cases hx) ?_
        obtain ⟨e, he, hz⟩ := hU
        exact y_U_l (show p_cmp t (p_nx t k) (q_g 1) = .inl e by rw [hcm, he]; rfl) (y_Z_w hz (by omega) (by omega))
      have hU := y_U_ret h63
      obtain ⟨⟨x, k2⟩, hx9, hv9, wdN, hJN⟩ := hU
      have hJN : y_J G lo n0 s0 wb σ0 pa ps sel onl x0 inp w0 w1 w2 w3 w6 w7 w8 t τ62 S k2 ow Λ wdN o T := hJN
      cases hv9
      obtain ⟨⟨tkJ64, vvJ64, hpJ64, kzJ64, hvvJ64, wwJ64, koJ64⟩, wlJ64⟩ := id hJN.1
      obtain ⟨vsJ64, wrJ64⟩ := k_Sr_rd (y_w_r hG9 wwJ64 (by have := p_w_ll koJ64 (J_7 hJN); omega))
      refine sv_istore_n dX4_compared_46 (by decide) ?_
      have FFt : h_F (fun q => False) 0 0 τ62 τ62 := h_F_r
      refine sv_iload_n dX4_compared_47 rfl ?_
      refine sv_if_eqB (tgt := 71) dX4_compared_48 (by decide) (fun c48 => ?_) (fun c48 => ?_)
      · exact absurd c48 (by decide)
      · refine sv_iload_n dX4_compared_51 rfl ?_
        refine sv_if_eqB (tgt := 64) dX4_compared_52 (by decide) (fun c52 => ?_) (fun c52 => ?_)
        · refine sv_iload_n dX4_compared_64 rfl ?_
          refine sv_lamM (i := 5) (f := sh_5) (code := sh_5_c) (ix := [15]) (im := 23) [.int (nI x)] _ hG rfl sh_5_k rfl rfl rfl (by
            intro j ty v h1 h2
            match j, h1, h2 with
            | 0, h1, h2 => cases h1; cases h2; exact ⟨rfl, rfl⟩
            | j + 1, h1, h2 => cases h1) dX4_compared_65 rfl (by omega) (Nat.le_of_ble_eq_true rfl) ?_
          refine hs_al (fun te τ65 E70 F66 h67 N68 Z69 => ?_)
          have hpJ64' := h_F_c F66 hpJ64 (fun z => z)
          have FF71 := h_F_u FFt F66 (fun _ _ z => z) (fun _ _ z => z.elim) (Nat.le_refl _) (Nat.le_refl _)
          have h67 : sx_c τ65 te = some (.inr (22, [.int (nI x)])) := h67
          refine sv_aret (Or.inr ⟨_, rfl⟩) (Or.inl ⟨_, rfl⟩) rfl dX4_compared_70 ?_
          first
          | exact absurd (c13.symm.trans c52) (by decide)
          | have hk9 : k_P G 1 _ te (fun m => decide (nI x < (q_g 1) m)) := Or.inr (Or.inr (Or.inr (Or.inr (Or.inr (Or.inl ⟨_, sx_rd_c h67, fun m => rfl⟩)))))
            exact y_U_r (show p_cmp t (p_nx t k) (q_g 1) = .inr (fun m => decide (nI x < (q_g 1) m), k2) by rw [hcm, hx9]; rfl) ⟨te, rfl, wdN, J_T (J_al hJN FF71 (Nat.le_of_ble_eq_true rfl) (Nat.le_of_ble_eq_true rfl)) hk9⟩
        · refine sv_iload_n dX4_compared_55 rfl ?_
          refine sv_lamM (i := 4) (f := sh_4) (code := sh_4_c) (ix := [15]) (im := 23) [.int (nI x)] _ hG rfl sh_4_k rfl rfl rfl (by
            intro j ty v h1 h2
            match j, h1, h2 with
            | 0, h1, h2 => cases h1; cases h2; exact ⟨rfl, rfl⟩
            | j + 1, h1, h2 => cases h1) dX4_compared_56 rfl (by omega) (Nat.le_of_ble_eq_true rfl) ?_
          refine hs_al (fun te τ72 E77 F73 h74 N75 Z76 => ?_)
          have hpJ64' := h_F_c F73 hpJ64 (fun z => z)
          have FF78 := h_F_u FFt F73 (fun _ _ z => z) (fun _ _ z => z.elim) (Nat.le_refl _) (Nat.le_refl _)
          have h74 : sx_c τ72 te = some (.inr (21, [.int (nI x)])) := h74
          refine sv_goto (tgt := 70) dX4_compared_61 (by decide) ?_
          refine sv_aret (Or.inr ⟨_, rfl⟩) (Or.inl ⟨_, rfl⟩) rfl dX4_compared_70 ?_
          first
          | exact absurd (c13.symm.trans c52) (by decide)
          | have hk9 : k_P G 1 _ te (fun m => decide ((q_g 1) m < nI x)) := Or.inr (Or.inr (Or.inr (Or.inr (Or.inl ⟨_, sx_rd_c h74, fun m => rfl⟩))))
            exact y_U_r (show p_cmp t (p_nx t k) (q_g 1) = .inr (fun m => decide ((q_g 1) m < nI x), k2) by rw [hcm, hx9]; rfl) ⟨te, rfl, wdN, J_T (J_al hJN FF78 (Nat.le_of_ble_eq_true rfl) (Nat.le_of_ble_eq_true rfl)) hk9⟩
theorem J_cmp0 (hG9 : g_Y G lo tt) (hb : b_B t) (hJ : y_J G lo (n0 + 2) (s0 + 4) wb σ0 pa ps sel onl x0 inp w0 w1 w2 w3 w6 w7 w8 t σ S k ow Λ wd o T) (h0 : k.1 ≠ 0) (hG : g_L G) : sx_C G 81 YX4_compared [.ref pa, .int (b_I false)] σ (y_U lo (n0 + 2) (s0 + 4) σ0 (p_cmp t (p_nx t k) (q_g 0)) (fun x oc τ => ∃ te, oc = .inl (some (.ref te)) ∧ ∃ wd2, y_J G lo (n0 + 1) (s0 + 2) wb σ0 pa ps sel onl x0 inp w0 w1 w2 w3 w6 w7 w8 t τ S x.2 ow Λ wd2 o ((1, te, x.1) :: T))) := by
  refine sx_body (by decide) (Nat.le_of_ble_eq_true rfl) ?_
  obtain ⟨⟨tkJ79, vvJ79, hpJ79, kzJ79, hvvJ79, wwJ79, koJ79⟩, wlJ79⟩ := id hJ.1
  obtain ⟨vsJ79, wrJ79⟩ := k_Sr_rd (y_w_r hG9 wwJ79 (by have := p_w_ll koJ79 (J_7 hJ); omega))
  refine sv_aload_n dX4_compared_0 rfl ?_
  refine sv_cvP _ (J_next2 hG9 hb hJ h0) okX4_next kv_X4_36 (sx_rd_c hpJ79) rfl dX4_compared_1 rfl rfl (by omega) (Nat.le_of_ble_eq_true rfl) ?_
  intro v80 τ81 hp82
  obtain ⟨rfl, wd84, hJ83⟩ := hp82
  obtain ⟨⟨tkJ85, vvJ85, hpJ85, kzJ85, hvvJ85, wwJ85, koJ85⟩, wlJ85⟩ := id hJ83.1
  obtain ⟨vsJ85, wrJ85⟩ := k_Sr_rd (y_w_r hG9 wwJ85 (by have := p_w_ll koJ85 (J_7 hJ83); omega))
  refine sv_aload_n dX4_compared_4 rfl ?_
  refine sv_bipush (nI 60) dX4_compared_5 (by decide +kernel) ?_
  refine sv_cvR _ (J_sym hG9 hb hJ83 (c := 60) (by decide)) okX4_isSymbol kv_X4_226 (sx_rd_c hpJ85) rfl dX4_compared_7 rfl rfl (by omega) (Nat.le_of_ble_eq_true rfl) ?_
  refine sv_istore_n dX4_compared_10 (by decide) ?_
  refine sv_aload_n dX4_compared_11 rfl ?_
  refine sv_iload_n dX4_compared_12 rfl ?_
  refine sv_if_neB (tgt := 25) dX4_compared_13 (by decide) (fun c13 => ?_) (fun c13 => ?_)
  · have hcm : p_cmp t (p_nx t k) (q_g 0) = p_bind (p_num t (p_nx t (p_nx t k)) 0 9999) (fun x => .inr (fun m => decide ((q_g 0) m < nI x.1), x.2)) := by unfold p_cmp; rw [if_pos (show p_sy t (p_nx t k) 60 = true from c13)]
    refine sv_iconst (nI 1) dX4_compared_25 (by decide +kernel) ?_
    refine sv_goto (tgt := 30) dX4_compared_26 (by decide) ?_
    refine sv_tI b1_I ?_
    refine sv_iconst (nI 1) dX4_compared_30 (by decide +kernel) ?_
    refine sv_cvR _ J_req1 okX4_require kv_X4_115 (sx_rd_c hpJ85) rfl dX4_compared_31 rfl rfl (by omega) (Nat.le_of_ble_eq_true rfl) ?_
    refine sv_aload_n dX4_compared_34 rfl ?_
    refine sv_cvP _ (J_next hG9 hb hJ83) okX4_next kv_X4_36 (sx_rd_c hpJ85) rfl dX4_compared_35 rfl rfl (by omega) (Nat.le_of_ble_eq_true rfl) ?_
    intro v86 τ87 hp88
    obtain ⟨rfl, wd90, hJ89⟩ := hp88
    obtain ⟨⟨tkJ91, vvJ91, hpJ91, kzJ91, hvvJ91, wwJ91, koJ91⟩, wlJ91⟩ := id hJ89.1
    obtain ⟨vsJ91, wrJ91⟩ := k_Sr_rd (y_w_r hG9 wwJ91 (by have := p_w_ll koJ91 (J_7 hJ89); omega))
    refine sv_aload_n dX4_compared_38 rfl ?_
    refine sv_iconst (nI 0) dX4_compared_39 (by decide +kernel) ?_
    refine sv_sipush (nI 9999) dX4_compared_40 (by decide +kernel) ?_
    refine sv_cv _ (J_num hG9 hb hJ89 (Nat.zero_le _) (Nat.le_refl _)) okX4_number (sx_rd_c hpJ91) rfl kv_X4_170.1 kv_X4_170.2.1 kv_X4_170.2.2 dX4_compared_43 rfl rfl (by omega) (Nat.le_of_ble_eq_true rfl) (fun v92 τ93 h94 => ?_) (fun E q τ h => ?_)
    rotate_left
    · have hU := y_U_thr h (fun _ _ _ z => ⟨_, z.1⟩)
      refine sv_out (fun x hx => by cases hx) ?_
      obtain ⟨e, he, hz⟩ := hU
      exact y_U_l (show p_cmp t (p_nx t k) (q_g 0) = .inl e by rw [hcm, he]; rfl) (y_Z_w hz (by omega) (by omega))
    have hU := y_U_ret h94
    obtain ⟨⟨x, k2⟩, hx9, hv9, wdN, hJN⟩ := hU
    have hJN : y_J G lo n0 s0 wb σ0 pa ps sel onl x0 inp w0 w1 w2 w3 w6 w7 w8 t τ93 S k2 ow Λ wdN o T := hJN
    cases hv9
    obtain ⟨⟨tkJ95, vvJ95, hpJ95, kzJ95, hvvJ95, wwJ95, koJ95⟩, wlJ95⟩ := id hJN.1
    obtain ⟨vsJ95, wrJ95⟩ := k_Sr_rd (y_w_r hG9 wwJ95 (by have := p_w_ll koJ95 (J_7 hJN); omega))
    refine sv_istore_n dX4_compared_46 (by decide) ?_
    have FFt : h_F (fun q => False) 0 0 τ93 τ93 := h_F_r
    refine sv_iload_n dX4_compared_47 rfl ?_
    refine sv_if_eqB (tgt := 71) dX4_compared_48 (by decide) (fun c48 => ?_) (fun c48 => ?_)
    · refine sv_iload_n dX4_compared_71 rfl ?_
      refine sv_if_eqB (tgt := 84) dX4_compared_72 (by decide) (fun c72 => ?_) (fun c72 => ?_)
      · refine sv_iload_n dX4_compared_84 rfl ?_
        refine sv_lamM (i := 7) (f := sh_7) (code := sh_7_c) (ix := [15]) (im := 23) [.int (nI x)] _ hG rfl sh_7_k rfl rfl rfl (by
          intro j ty v h1 h2
          match j, h1, h2 with
          | 0, h1, h2 => cases h1; cases h2; exact ⟨rfl, rfl⟩
          | j + 1, h1, h2 => cases h1) dX4_compared_85 rfl (by omega) (Nat.le_of_ble_eq_true rfl) ?_
        refine hs_al (fun te τ96 E101 F97 h98 N99 Z100 => ?_)
        have hpJ95' := h_F_c F97 hpJ95 (fun z => z)
        have FF102 := h_F_u FFt F97 (fun _ _ z => z) (fun _ _ z => z.elim) (Nat.le_refl _) (Nat.le_refl _)
        have h98 : sx_c τ96 te = some (.inr (24, [.int (nI x)])) := h98
        refine sv_aret (Or.inr ⟨_, rfl⟩) (Or.inl ⟨_, rfl⟩) rfl dX4_compared_90 ?_
        first
        | exact absurd (c13.symm.trans c72) (by decide)
        | have hk9 : k_P G 1 _ te (fun m => decide (nI x < (q_g 0) m)) := Or.inr (Or.inr (Or.inr (Or.inr (Or.inr (Or.inr (Or.inr (Or.inl ⟨_, sx_rd_c h98, fun m => rfl⟩)))))))
          exact y_U_r (show p_cmp t (p_nx t k) (q_g 0) = .inr (fun m => decide (nI x < (q_g 0) m), k2) by rw [hcm, hx9]; rfl) ⟨te, rfl, wdN, J_T (J_al hJN FF102 (Nat.le_of_ble_eq_true rfl) (Nat.le_of_ble_eq_true rfl)) hk9⟩
      · refine sv_iload_n dX4_compared_75 rfl ?_
        refine sv_lamM (i := 6) (f := sh_6) (code := sh_6_c) (ix := [15]) (im := 23) [.int (nI x)] _ hG rfl sh_6_k rfl rfl rfl (by
          intro j ty v h1 h2
          match j, h1, h2 with
          | 0, h1, h2 => cases h1; cases h2; exact ⟨rfl, rfl⟩
          | j + 1, h1, h2 => cases h1) dX4_compared_76 rfl (by omega) (Nat.le_of_ble_eq_true rfl) ?_
        refine hs_al (fun te τ103 E108 F104 h105 N106 Z107 => ?_)
        have hpJ95' := h_F_c F104 hpJ95 (fun z => z)
        have FF109 := h_F_u FFt F104 (fun _ _ z => z) (fun _ _ z => z.elim) (Nat.le_refl _) (Nat.le_refl _)
        have h105 : sx_c τ103 te = some (.inr (23, [.int (nI x)])) := h105
        refine sv_goto (tgt := 90) dX4_compared_81 (by decide) ?_
        refine sv_aret (Or.inr ⟨_, rfl⟩) (Or.inl ⟨_, rfl⟩) rfl dX4_compared_90 ?_
        first
        | exact absurd (c13.symm.trans c72) (by decide)
        | have hk9 : k_P G 1 _ te (fun m => decide ((q_g 0) m < nI x)) := Or.inr (Or.inr (Or.inr (Or.inr (Or.inr (Or.inr (Or.inl ⟨_, sx_rd_c h105, fun m => rfl⟩))))))
          exact y_U_r (show p_cmp t (p_nx t k) (q_g 0) = .inr (fun m => decide ((q_g 0) m < nI x), k2) by rw [hcm, hx9]; rfl) ⟨te, rfl, wdN, J_T (J_al hJN FF109 (Nat.le_of_ble_eq_true rfl) (Nat.le_of_ble_eq_true rfl)) hk9⟩
    · exact absurd c48 (by decide)
  · refine sv_aload_n dX4_compared_16 rfl ?_
    refine sv_bipush (nI 62) dX4_compared_17 (by decide +kernel) ?_
    refine sv_cvR _ (J_sym hG9 hb hJ83 (c := 62) (by decide)) okX4_isSymbol kv_X4_226 (sx_rd_c hpJ85) rfl dX4_compared_19 rfl rfl (by omega) (Nat.le_of_ble_eq_true rfl) ?_
    refine sv_if_eqB (tgt := 29) dX4_compared_22 (by decide) (fun c22 => ?_) (fun c22 => ?_)
    · refine sv_iconst (nI 0) dX4_compared_29 (by decide +kernel) ?_
      refine sv_tI b0_I ?_
      refine sv_iconst (nI 1) dX4_compared_30 (by decide +kernel) ?_
      refine sv_cv _ (J_req0 hG9 hJ83 (c := 1)) okX4_require (sx_rd_c hpJ85) rfl kv_X4_115.1 kv_X4_115.2.1 kv_X4_115.2.2 dX4_compared_31 rfl rfl (by omega) (Nat.le_of_ble_eq_true rfl) (fun v τ h => by obtain ⟨q, e, _⟩ := h; cases e) (fun E q τ h => ?_)
      obtain ⟨q9, e9, F9⟩ := id h
      cases e9
      refine sv_out (fun x hx => by cases hx) ?_
      exact y_U_l (show p_cmp t (p_nx t k) (q_g 0) = .inl (p_er 1 (p_nx t k)) by unfold p_cmp; rw [if_neg (bf_n (show p_sy t (p_nx t k) 60 = false from c13)), if_neg (bf_n (show p_sy t (p_nx t k) 62 = false from c22))]) (y_Z_w h (by omega) (by omega))
    · have hcm : p_cmp t (p_nx t k) (q_g 0) = p_bind (p_num t (p_nx t (p_nx t k)) 0 9999) (fun x => .inr (fun m => decide (nI x.1 < (q_g 0) m), x.2)) := by unfold p_cmp; rw [if_neg (bf_n (show p_sy t (p_nx t k) 60 = false from c13)), if_pos (show p_sy t (p_nx t k) 62 = true from c22)]
      refine sv_iconst (nI 1) dX4_compared_25 (by decide +kernel) ?_
      refine sv_goto (tgt := 30) dX4_compared_26 (by decide) ?_
      refine sv_tI b1_I ?_
      refine sv_iconst (nI 1) dX4_compared_30 (by decide +kernel) ?_
      refine sv_cvR _ J_req1 okX4_require kv_X4_115 (sx_rd_c hpJ85) rfl dX4_compared_31 rfl rfl (by omega) (Nat.le_of_ble_eq_true rfl) ?_
      refine sv_aload_n dX4_compared_34 rfl ?_
      refine sv_cvP _ (J_next hG9 hb hJ83) okX4_next kv_X4_36 (sx_rd_c hpJ85) rfl dX4_compared_35 rfl rfl (by omega) (Nat.le_of_ble_eq_true rfl) ?_
      intro v110 τ111 hp112
      obtain ⟨rfl, wd114, hJ113⟩ := hp112
      obtain ⟨⟨tkJ115, vvJ115, hpJ115, kzJ115, hvvJ115, wwJ115, koJ115⟩, wlJ115⟩ := id hJ113.1
      obtain ⟨vsJ115, wrJ115⟩ := k_Sr_rd (y_w_r hG9 wwJ115 (by have := p_w_ll koJ115 (J_7 hJ113); omega))
      refine sv_aload_n dX4_compared_38 rfl ?_
      refine sv_iconst (nI 0) dX4_compared_39 (by decide +kernel) ?_
      refine sv_sipush (nI 9999) dX4_compared_40 (by decide +kernel) ?_
      refine sv_cv _ (J_num hG9 hb hJ113 (Nat.zero_le _) (Nat.le_refl _)) okX4_number (sx_rd_c hpJ115) rfl kv_X4_170.1 kv_X4_170.2.1 kv_X4_170.2.2 dX4_compared_43 rfl rfl (by omega) (Nat.le_of_ble_eq_true rfl) (fun v116 τ117 h118 => ?_) (fun E q τ h => ?_)
      rotate_left
      · have hU := y_U_thr h (fun _ _ _ z => ⟨_, z.1⟩)
        refine sv_out (fun x hx => by cases hx) ?_
        obtain ⟨e, he, hz⟩ := hU
        exact y_U_l (show p_cmp t (p_nx t k) (q_g 0) = .inl e by rw [hcm, he]; rfl) (y_Z_w hz (by omega) (by omega))
      have hU := y_U_ret h118
      obtain ⟨⟨x, k2⟩, hx9, hv9, wdN, hJN⟩ := hU
      have hJN : y_J G lo n0 s0 wb σ0 pa ps sel onl x0 inp w0 w1 w2 w3 w6 w7 w8 t τ117 S k2 ow Λ wdN o T := hJN
      cases hv9
      obtain ⟨⟨tkJ119, vvJ119, hpJ119, kzJ119, hvvJ119, wwJ119, koJ119⟩, wlJ119⟩ := id hJN.1
      obtain ⟨vsJ119, wrJ119⟩ := k_Sr_rd (y_w_r hG9 wwJ119 (by have := p_w_ll koJ119 (J_7 hJN); omega))
      refine sv_istore_n dX4_compared_46 (by decide) ?_
      have FFt : h_F (fun q => False) 0 0 τ117 τ117 := h_F_r
      refine sv_iload_n dX4_compared_47 rfl ?_
      refine sv_if_eqB (tgt := 71) dX4_compared_48 (by decide) (fun c48 => ?_) (fun c48 => ?_)
      · refine sv_iload_n dX4_compared_71 rfl ?_
        refine sv_if_eqB (tgt := 84) dX4_compared_72 (by decide) (fun c72 => ?_) (fun c72 => ?_)
        · refine sv_iload_n dX4_compared_84 rfl ?_
          refine sv_lamM (i := 7) (f := sh_7) (code := sh_7_c) (ix := [15]) (im := 23) [.int (nI x)] _ hG rfl sh_7_k rfl rfl rfl (by
            intro j ty v h1 h2
            match j, h1, h2 with
            | 0, h1, h2 => cases h1; cases h2; exact ⟨rfl, rfl⟩
            | j + 1, h1, h2 => cases h1) dX4_compared_85 rfl (by omega) (Nat.le_of_ble_eq_true rfl) ?_
          refine hs_al (fun te τ120 E125 F121 h122 N123 Z124 => ?_)
          have hpJ119' := h_F_c F121 hpJ119 (fun z => z)
          have FF126 := h_F_u FFt F121 (fun _ _ z => z) (fun _ _ z => z.elim) (Nat.le_refl _) (Nat.le_refl _)
          have h122 : sx_c τ120 te = some (.inr (24, [.int (nI x)])) := h122
          refine sv_aret (Or.inr ⟨_, rfl⟩) (Or.inl ⟨_, rfl⟩) rfl dX4_compared_90 ?_
          first
          | exact absurd (c13.symm.trans c72) (by decide)
          | have hk9 : k_P G 1 _ te (fun m => decide (nI x < (q_g 0) m)) := Or.inr (Or.inr (Or.inr (Or.inr (Or.inr (Or.inr (Or.inr (Or.inl ⟨_, sx_rd_c h122, fun m => rfl⟩)))))))
            exact y_U_r (show p_cmp t (p_nx t k) (q_g 0) = .inr (fun m => decide (nI x < (q_g 0) m), k2) by rw [hcm, hx9]; rfl) ⟨te, rfl, wdN, J_T (J_al hJN FF126 (Nat.le_of_ble_eq_true rfl) (Nat.le_of_ble_eq_true rfl)) hk9⟩
        · refine sv_iload_n dX4_compared_75 rfl ?_
          refine sv_lamM (i := 6) (f := sh_6) (code := sh_6_c) (ix := [15]) (im := 23) [.int (nI x)] _ hG rfl sh_6_k rfl rfl rfl (by
            intro j ty v h1 h2
            match j, h1, h2 with
            | 0, h1, h2 => cases h1; cases h2; exact ⟨rfl, rfl⟩
            | j + 1, h1, h2 => cases h1) dX4_compared_76 rfl (by omega) (Nat.le_of_ble_eq_true rfl) ?_
          refine hs_al (fun te τ127 E132 F128 h129 N130 Z131 => ?_)
          have hpJ119' := h_F_c F128 hpJ119 (fun z => z)
          have FF133 := h_F_u FFt F128 (fun _ _ z => z) (fun _ _ z => z.elim) (Nat.le_refl _) (Nat.le_refl _)
          have h129 : sx_c τ127 te = some (.inr (23, [.int (nI x)])) := h129
          refine sv_goto (tgt := 90) dX4_compared_81 (by decide) ?_
          refine sv_aret (Or.inr ⟨_, rfl⟩) (Or.inl ⟨_, rfl⟩) rfl dX4_compared_90 ?_
          first
          | exact absurd (c13.symm.trans c72) (by decide)
          | have hk9 : k_P G 1 _ te (fun m => decide ((q_g 0) m < nI x)) := Or.inr (Or.inr (Or.inr (Or.inr (Or.inr (Or.inr (Or.inl ⟨_, sx_rd_c h129, fun m => rfl⟩))))))
            exact y_U_r (show p_cmp t (p_nx t k) (q_g 0) = .inr (fun m => decide ((q_g 0) m < nI x), k2) by rw [hcm, hx9]; rfl) ⟨te, rfl, wdN, J_T (J_al hJN FF133 (Nat.le_of_ble_eq_true rfl) (Nat.le_of_ble_eq_true rfl)) hk9⟩
      · exact absurd c48 (by decide)
end CQA
