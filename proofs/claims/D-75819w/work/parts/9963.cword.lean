set_option maxRecDepth 100000
section CPW
variable {G : sx_G} {σ τ ρ : sx_St} {pa ps sel onl x0 inp o : Nat} {wb : Nat → Prop} {t : List Int32} {k : k_T} {hl : Bool} {v0 v1 v2 v3 v4 v5 v6 v7 v8 v9 : Value} {w0 w1 w2 w3 w6 w7 w8 : Value} {wd lo : Nat} {tt : Nat → Nat}
/-- what stays: constants of the parser, the tokens; lo: where the act began -/
def g_Y (G : sx_G) (lo : Nat) (tt : Nat → Nat) : Prop := g_C G ∧ g_E G ∧ (∀ i, i < 16 → g_W G i ((s_n i).map nI)) ∧ (∀ i, i < 16 → sg_t G i < lo) ∧ (∀ i, i < 4 → sg_z G i = .ref (tt i)) ∧ (∀ i j, i < 4 → j < 4 → tt i = tt j → i = j) ∧ g_P G
theorem y_w_ne {q : Nat} {e : va_E} {w : List Nat} (h : y_w G wb σ wd w) (hq : sx_c σ q = some e) (hk : Nat.beq (e_k e) 20 = false) : ¬ (q = wd ∧ w ≠ []) := by
  rintro ⟨rfl, z⟩
  rcases h with ⟨h1, -⟩ | ⟨-, nb, ⟨x, zz, f, h1, -⟩, -⟩
  · exact z h1
  · have := Option.some.inj (hq.symm.trans h1)
    rw [this] at hk
    cases hk
theorem y_w_r (hG9 : g_Y G lo tt) {w : List Nat} (h : y_w G wb σ wd w) (hl : w.length ≤ 1000) : k_Sr G σ wd (w.map nI) := by
  rcases h with ⟨rfl, rfl⟩ | ⟨-, nb, h1⟩
  · exact k_Sr_W (hG9.2.2.1 0 (by decide))
  · exact k_Sn_r h1.1 (by omega)
theorem p_w_ll {k : k_T} (hk : k_ok t k) (ht : t.length ≤ 700) : (p_w t k).length ≤ 700 := by
  by_cases h1 : k.1 = 1
  · rw [p_w_l hk h1]
    have := hk.2.1
    omega
  · rw [p_w_0 h1]
    exact Nat.zero_le _
theorem mapnI_i {a b : List Nat} (ha : ∀ c ∈ a, c < 128) (hb : ∀ c ∈ b, c < 128) : decide (a.map nI = b.map nI) = decide (a = b) := by
  have : ∀ a b : List Nat, (∀ c ∈ a, c < 128) → (∀ c ∈ b, c < 128) → a.map nI = b.map nI → a = b := by
    intro a
    induction a with
    | nil =>
      intro b _ _ e
      cases b with
      | nil => rfl
      | cons => cases e
    | cons x a ih =>
      intro b h1 h2 e
      cases b with
      | nil => cases e
      | cons y b =>
        rw [List.map_cons, List.map_cons] at e
        injection e with e1 e2
        have g1 := h1 x List.mem_cons_self
        have g2 := h2 y List.mem_cons_self
        rw [(nI_eq (by omega) (by omega)).mp e1, ih b (fun c hc => h1 c (List.mem_cons_of_mem _ hc)) (fun c hc => h2 c (List.mem_cons_of_mem _ hc)) e2]
  exact decide_eq_decide.mpr ⟨this a b ha hb, fun e => by rw [e]⟩
theorem g_W_e {i j : Nat} {A B : List Int32} (ha : g_W G i A) (hb : g_W G j B) (e : sg_t G i = sg_t G j) : A = B := by
  obtain ⟨-, n1, h1, z1, f1, a1, a2, a3⟩ := ha
  obtain ⟨-, n2, h2, z2, f2, b1, b2, b3⟩ := hb
  rw [e] at a1
  have e1 := Option.some.inj (a1.symm.trans b1)
  injection e1 with e1
  injection e1 with _ e1
  injection e1 with e2 _
  injection e2 with e2
  rw [e2] at a2
  have e3 := Option.some.inj (a2.symm.trans b2)
  injection e3 with e3
  injection e3 with _ e3
  injection e3 with e4 e5
  injection e5 with e5
  exact l_ext e4 (fun i hi => by rw [← a3 i hi, e5, b3 i (by omega)])
theorem p_w_128 (hb : b_B t) {k : k_T} (hk : k_ok t k) : ∀ c ∈ p_w t k, c < 128 := fun c hc => by have := p_w_lt hb hk c hc; omega
theorem s_n_128 {i : Nat} (hi : i < 16) : ∀ c ∈ s_n i, c < 128 := fun c hc => by have := s_n_lt i hi c hc; omega
theorem p_is_h {j : Nat} {x : Int32} (h : ¬ t_h (p_w t k) = x) (hx : decide (t_h (s_n j) = x) = true) : p_is t k j = false := by
  cases hz : p_is t k j with
  | false => rfl
  | true =>
    unfold p_is at hz
    rw [of_decide_eq_true hz] at h
    exact absurd (of_decide_eq_true hx) h
theorem p_is_h2 {j : Nat} {x : Int32} (h : t_h (p_w t k) = x) (hx : decide (t_h (s_n j) = x) = false) (_ : True) : p_is t k j = false := by
  cases hz : p_is t k j with
  | false => rfl
  | true =>
    unfold p_is at hz
    rw [of_decide_eq_true hz] at h
    exact absurd h (of_decide_eq_false hx)
theorem cy_hash (hC : g_C G) (hE : g_E G) {w : List Nat} (h : y_w G wb σ wd w) (hl : w.length ≤ 1000) (hw : ∀ c ∈ w, c < 128) : sx_Cp G 3 YJ9_hashCode [.ref wd] σ (fun v τ => v = some (.int (t_h w)) ∧ y_w G wb τ wd w ∧ h_F (fun q => q = wd ∧ w ≠ []) 0 0 σ τ) := by
  rcases h with ⟨rfl, rfl⟩ | ⟨h0, nb, h1⟩
  · refine sx_C_Q (ch_emp hE) ?_
    rintro o τ ⟨v, rfl, rfl, rfl⟩
    exact ⟨_, rfl, r_I t_h_0, Or.inl ⟨rfl, rfl⟩, h_F_r⟩
  · refine sx_C_Q (ch_str hC h1.1 hl hw) ?_
    rintro o τ ⟨v, rfl, rfl, g1, g2⟩
    exact ⟨_, rfl, rfl, Or.inr ⟨h0, nb, g1, h1.2⟩, h_F_w g2 (fun q _ z => ⟨z, h0⟩) (Nat.le_refl _) (Nat.le_refl _)⟩
theorem cy_eq (hG9 : g_Y G lo tt) (hww : y_w G wb σ wd (p_w t k)) (hb : b_B t) (hko : k_ok t k) (hwl : p_w t k ≠ [] → lo ≤ wd) {i : Nat} (h1 : 1 ≤ i) (hi : i < 16) (ht7 : t.length ≤ 700) : sx_Cr G 1 YJ9_equals [.ref wd, .ref (sg_t G i)] σ (some (.int (b_I (p_is t k i)))) σ := by
  have hll := p_w_ll hko ht7
  have := cs_eq (G := G) (σ := σ) hG9.1 (y_w_r hG9 hww (by omega)) (k_Sr_W (hG9.2.2.1 i hi)) (fun z => by
    rcases hww with ⟨e1, e2⟩ | ⟨e1, -⟩
    · rw [e1]
      exact g_W_e (hG9.2.2.1 0 (by decide)) (hG9.2.2.1 i hi) (e2.symm.trans z)
    · have g1 := hwl e1
      have g2 := hG9.2.2.2.1 i hi
      omega)
  rw [mapnI_i (p_w_128 hb hko) (s_n_128 hi)] at this
  exact this
theorem cy_isSym (hG9 : g_Y G lo tt) (hy : y_P G wb σ pa ps sel onl x0 t k o hl wd) (hwl : p_w t k ≠ [] → lo ≤ wd) (hI : k_I G σ x0 inp w0 w1 w2 w3 w6 w7 w8 t) (hb : b_B t) {c : Nat} (hc : c < 128) : sx_Cr G 1 YX4_isSymbol [.ref pa, .int (nI c)] σ (some (.int (b_I (p_sy t k (nI c))))) σ := by
  refine sx_body (by decide) (Nat.le_of_ble_eq_true rfl) ?_
  obtain ⟨tk, vv, hp, hk9, hvv, hww, hko⟩ := id hy
  have ht7 : t.length ≤ 700 := by obtain ⟨_, _, _, h, _⟩ := id hI; exact h
  obtain ⟨vs1, hwr⟩ := k_Sr_rd (y_w_r hG9 hww (by have := p_w_ll hko ht7; omega))
  obtain ⟨hx, fi, hin, ht7, hfi⟩ := id hI
  have hk3 := hko.2.2.1
  have htk : tk = tt k.1 := by have h9 := hG9.2.2.2.2.1 k.1 (by omega); rw [hk9] at h9; injection h9
  have ht3 := hG9.2.2.2.2.1 3 (by decide)
  have htj := hG9.2.2.2.2.2.1
  have hk1 := hko.1
  have hk2 := hko.2.1
  refine sv_aload_n dX4_isSymbol_0 rfl ?_
  refine sv_get fg_X4_70 dX4_isSymbol_1 (sx_rd_c hp) rfl ?_
  refine sv_gets 3 rfl q683 dX4_isSymbol_4 ?_
  rw [ht3]
  refine sv_acmp_ne (rx := (some tk)) (ry := (some ((tt 3)))) (tgt := 30) dX4_isSymbol_7 (by decide) (fun c7 => ?_) (fun c7 => ?_)
  · have hn3 : ¬ k.1 = 3 := fun z => c7 (by rw [htk, z])
    have hv : nI 0 = b_I (p_sy t k (nI c)) := by unfold p_sy; rw [decide_eq_false hn3]; rfl
    refine sv_iconst (nI 0) dX4_isSymbol_30 (by decide +kernel) ?_
    refine sv_iret (by first | exact b_I_nar _ | rfl) rfl dX4_isSymbol_31 ?_
    exact ⟨_, rfl, r_I hv, rfl⟩
  · have h3 : k.1 = 3 := by have e := Option.some.inj c7; rw [htk] at e; exact htj _ _ (by omega) (by decide) e
    have hlt : k.2.1 < t.length := by have := hko.2.2.2.2.1 (by omega); omega
    refine sv_aload_n dX4_isSymbol_10 rfl ?_
    refine sv_get fg_X4_3 dX4_isSymbol_11 (sx_rd_c hp) rfl ?_
    refine sv_get fg_X4_46 dX4_isSymbol_14 (sx_rd_c hx) rfl ?_
    refine sv_aload_n dX4_isSymbol_17 rfl ?_
    refine sv_get fg_X4_58 dX4_isSymbol_18 (sx_rd_c hp) rfl ?_
    refine sv_bald dX4_isSymbol_21 (sx_rd_c hin) (vp_in_nI (by omega) (by omega)) ?_
    rw [nI_clamp (show k.2.1 < 2 ^ 31 by omega)]
    refine sv_tI (y := t.getD k.2.1 0) (hfi k.2.1 hlt) ?_
    refine sv_iload_n dX4_isSymbol_22 rfl ?_
    refine sv_icmp_ne (tgt := 30) dX4_isSymbol_23 (by decide) (fun c23 => ?_) (fun c23 => ?_)
    · have hv : nI 0 = b_I (p_sy t k (nI c)) := by unfold p_sy; rw [decide_eq_true h3, decide_eq_false (fun z => c23 ((k_b_x hb hlt hc).mp z))]; rfl
      refine sv_iconst (nI 0) dX4_isSymbol_30 (by decide +kernel) ?_
      refine sv_iret (by first | exact b_I_nar _ | rfl) rfl dX4_isSymbol_31 ?_
      exact ⟨_, rfl, r_I hv, rfl⟩
    · have hv : nI 1 = b_I (p_sy t k (nI c)) := by unfold p_sy; rw [decide_eq_true h3, decide_eq_true ((k_b_x hb hlt hc).mpr c23)]; rfl
      refine sv_iconst (nI 1) dX4_isSymbol_26 (by decide +kernel) ?_
      refine sv_goto (tgt := 31) dX4_isSymbol_27 (by decide) ?_
      refine sv_iret (by first | exact b_I_nar _ | rfl) rfl dX4_isSymbol_31 ?_
      exact ⟨_, rfl, r_I hv, rfl⟩
theorem cy_isWord (hG9 : g_Y G lo tt) (hy : y_P G wb σ pa ps sel onl x0 t k o hl wd) (hwl : p_w t k ≠ [] → lo ≤ wd) (hI : k_I G σ x0 inp w0 w1 w2 w3 w6 w7 w8 t) (hb : b_B t) {i : Nat} (h1 : 1 ≤ i) (hi : i < 16) : sx_Cr G 2 YX4_isWord [.ref pa, .ref (sg_t G i)] σ (some (.int (b_I (p_is t k i)))) σ := by
  refine sx_body (by decide) (Nat.le_of_ble_eq_true rfl) ?_
  obtain ⟨tk, vv, hp, hk9, hvv, hww, hko⟩ := id hy
  have ht7 : t.length ≤ 700 := by obtain ⟨_, _, _, h, _⟩ := id hI; exact h
  obtain ⟨vs1, hwr⟩ := k_Sr_rd (y_w_r hG9 hww (by have := p_w_ll hko ht7; omega))
  refine sv_aload_n dX4_isWord_0 rfl ?_
  refine sv_get fg_X4_32 dX4_isWord_1 (sx_rd_c hp) rfl ?_
  refine sv_aload_n dX4_isWord_4 rfl ?_
  refine sv_cvR _ (cy_eq hG9 hww hb hko hwl h1 hi ht7) okJ9_equals kv_X4_105 hwr rfl dX4_isWord_5 rfl rfl (by omega) (Nat.le_of_ble_eq_true rfl) ?_
  refine sv_iret (by first | exact b_I_nar _ | rfl) rfl dX4_isWord_8 ?_
  exact ⟨_, rfl, rfl, rfl⟩
theorem cy_flag (hG9 : g_Y G lo tt) (hy : y_P G wb σ pa ps sel onl x0 t k o hl wd) (hwl : p_w t k ≠ [] → lo ≤ wd) (hI : k_I G σ x0 inp w0 w1 w2 w3 w6 w7 w8 t) (hb : b_B t) : sx_C G 4 YX4_flag [.ref pa] σ (fun oc τ => ∃ v, oc = .inl v ∧ v = some (.int (o_I (p_fl t k))) ∧ y_w G wb τ wd (p_w t k) ∧ h_F (fun q => q = wd ∧ p_w t k ≠ []) 0 0 σ τ) := by
  have midT : ∀ (ρ : sx_St) ix, y_w G wb ρ wd (p_w t k) → h_F (fun q => q = wd ∧ p_w t k ≠ []) 0 0 σ ρ → ((ix = none ∧ p_is t k 11 = false ∧ p_is t k 12 = false ∧ p_is t k 13 = false ∧ p_is t k 14 = false ∧ p_is t k 15 = false) ∨ (ix = some 0 ∧ p_is t k 11 = true) ∨ (ix = some 1 ∧ p_is t k 12 = true) ∨ (ix = some 2 ∧ p_is t k 13 = true) ∨ (ix = some 3 ∧ p_is t k 14 = true) ∨ (ix = some 4 ∧ p_is t k 15 = true)) → sx_V G 4 YX4_flag 127 [some (.ref pa), some (.ref wd), some (.int (o_I ix))] [] ρ (fun oc τ => ∃ v, oc = .inl v ∧ v = some (.int (o_I (p_fl t k))) ∧ y_w G wb τ wd (p_w t k) ∧ h_F (fun q => q = wd ∧ p_w t k ≠ []) 0 0 σ τ) := by
    obtain ⟨tk, vv, hp, hk9, hvv, hww, hko⟩ := id hy
    have ht7 : t.length ≤ 700 := by obtain ⟨_, _, _, h, _⟩ := id hI; exact h
    obtain ⟨vs1, hwr⟩ := k_Sr_rd (y_w_r hG9 hww (by have := p_w_ll hko ht7; omega))
    intro ρ ix hwwT FT hix
    refine sv_iload_n dX4_flag_127 rfl ?_
    rcases hix with ⟨rfl, n11, n12, n13, n14, n15⟩ | ⟨rfl, y11⟩ | ⟨rfl, y12⟩ | ⟨rfl, y13⟩ | ⟨rfl, y14⟩ | ⟨rfl, y15⟩
    · refine sv_tableOut (tgt := 184) dX4_flag_128 (by decide +kernel) (by decide) ?_
      refine sv_iconst (-1) dX4_flag_184 (by decide +kernel) ?_
      refine sv_iret rfl rfl dX4_flag_185 ?_
      first
      | exact ⟨_, rfl, r_I (by unfold p_fl; rw [if_neg (bf_n n11), if_neg (bf_n n12), if_neg (bf_n n13), if_neg (bf_n n14), if_neg (bf_n n15)]; rfl), hwwT, FT⟩
      | exact ⟨_, rfl, r_I (by unfold p_fl; rw [if_pos y11]; rfl), hwwT, FT⟩
      | exact ⟨_, rfl, r_I (by unfold p_fl; rw [if_neg (bf_n (p_is_1 y12 (by decide) (by decide) (by decide))), if_pos y12]; rfl), hwwT, FT⟩
      | exact ⟨_, rfl, r_I (by unfold p_fl; rw [if_neg (bf_n (p_is_1 y13 (by decide) (by decide) (by decide))), if_neg (bf_n (p_is_1 y13 (by decide) (by decide) (by decide))), if_pos y13]; rfl), hwwT, FT⟩
      | exact ⟨_, rfl, r_I (by unfold p_fl; rw [if_neg (bf_n (p_is_1 y14 (by decide) (by decide) (by decide))), if_neg (bf_n (p_is_1 y14 (by decide) (by decide) (by decide))), if_neg (bf_n (p_is_1 y14 (by decide) (by decide) (by decide))), if_pos y14]; rfl), hwwT, FT⟩
      | exact ⟨_, rfl, r_I (by unfold p_fl; rw [if_neg (bf_n (p_is_1 y15 (by decide) (by decide) (by decide))), if_neg (bf_n (p_is_1 y15 (by decide) (by decide) (by decide))), if_neg (bf_n (p_is_1 y15 (by decide) (by decide) (by decide))), if_neg (bf_n (p_is_1 y15 (by decide) (by decide) (by decide))), if_pos y15]; rfl), hwwT, FT⟩
    · refine sv_tableIn (off := 36) (tgt := 164) dX4_flag_128 (by decide +kernel) (by decide +kernel) (by decide +kernel) (by decide) ?_
      refine sv_iconst (nI 0) dX4_flag_164 (by decide +kernel) ?_
      refine sv_goto (tgt := 185) dX4_flag_165 (by decide) ?_
      refine sv_iret rfl rfl dX4_flag_185 ?_
      first
      | exact ⟨_, rfl, r_I (by unfold p_fl; rw [if_neg (bf_n n11), if_neg (bf_n n12), if_neg (bf_n n13), if_neg (bf_n n14), if_neg (bf_n n15)]; rfl), hwwT, FT⟩
      | exact ⟨_, rfl, r_I (by unfold p_fl; rw [if_pos y11]; rfl), hwwT, FT⟩
      | exact ⟨_, rfl, r_I (by unfold p_fl; rw [if_neg (bf_n (p_is_1 y12 (by decide) (by decide) (by decide))), if_pos y12]; rfl), hwwT, FT⟩
      | exact ⟨_, rfl, r_I (by unfold p_fl; rw [if_neg (bf_n (p_is_1 y13 (by decide) (by decide) (by decide))), if_neg (bf_n (p_is_1 y13 (by decide) (by decide) (by decide))), if_pos y13]; rfl), hwwT, FT⟩
      | exact ⟨_, rfl, r_I (by unfold p_fl; rw [if_neg (bf_n (p_is_1 y14 (by decide) (by decide) (by decide))), if_neg (bf_n (p_is_1 y14 (by decide) (by decide) (by decide))), if_neg (bf_n (p_is_1 y14 (by decide) (by decide) (by decide))), if_pos y14]; rfl), hwwT, FT⟩
      | exact ⟨_, rfl, r_I (by unfold p_fl; rw [if_neg (bf_n (p_is_1 y15 (by decide) (by decide) (by decide))), if_neg (bf_n (p_is_1 y15 (by decide) (by decide) (by decide))), if_neg (bf_n (p_is_1 y15 (by decide) (by decide) (by decide))), if_neg (bf_n (p_is_1 y15 (by decide) (by decide) (by decide))), if_pos y15]; rfl), hwwT, FT⟩
    · refine sv_tableIn (off := 40) (tgt := 168) dX4_flag_128 (by decide +kernel) (by decide +kernel) (by decide +kernel) (by decide) ?_
      refine sv_iconst (nI 1) dX4_flag_168 (by decide +kernel) ?_
      refine sv_goto (tgt := 185) dX4_flag_169 (by decide) ?_
      refine sv_iret rfl rfl dX4_flag_185 ?_
      first
      | exact ⟨_, rfl, r_I (by unfold p_fl; rw [if_neg (bf_n n11), if_neg (bf_n n12), if_neg (bf_n n13), if_neg (bf_n n14), if_neg (bf_n n15)]; rfl), hwwT, FT⟩
      | exact ⟨_, rfl, r_I (by unfold p_fl; rw [if_pos y11]; rfl), hwwT, FT⟩
      | exact ⟨_, rfl, r_I (by unfold p_fl; rw [if_neg (bf_n (p_is_1 y12 (by decide) (by decide) (by decide))), if_pos y12]; rfl), hwwT, FT⟩
      | exact ⟨_, rfl, r_I (by unfold p_fl; rw [if_neg (bf_n (p_is_1 y13 (by decide) (by decide) (by decide))), if_neg (bf_n (p_is_1 y13 (by decide) (by decide) (by decide))), if_pos y13]; rfl), hwwT, FT⟩
      | exact ⟨_, rfl, r_I (by unfold p_fl; rw [if_neg (bf_n (p_is_1 y14 (by decide) (by decide) (by decide))), if_neg (bf_n (p_is_1 y14 (by decide) (by decide) (by decide))), if_neg (bf_n (p_is_1 y14 (by decide) (by decide) (by decide))), if_pos y14]; rfl), hwwT, FT⟩
      | exact ⟨_, rfl, r_I (by unfold p_fl; rw [if_neg (bf_n (p_is_1 y15 (by decide) (by decide) (by decide))), if_neg (bf_n (p_is_1 y15 (by decide) (by decide) (by decide))), if_neg (bf_n (p_is_1 y15 (by decide) (by decide) (by decide))), if_neg (bf_n (p_is_1 y15 (by decide) (by decide) (by decide))), if_pos y15]; rfl), hwwT, FT⟩
    · refine sv_tableIn (off := 44) (tgt := 172) dX4_flag_128 (by decide +kernel) (by decide +kernel) (by decide +kernel) (by decide) ?_
      refine sv_iconst (nI 2) dX4_flag_172 (by decide +kernel) ?_
      refine sv_goto (tgt := 185) dX4_flag_173 (by decide) ?_
      refine sv_iret rfl rfl dX4_flag_185 ?_
      first
      | exact ⟨_, rfl, r_I (by unfold p_fl; rw [if_neg (bf_n n11), if_neg (bf_n n12), if_neg (bf_n n13), if_neg (bf_n n14), if_neg (bf_n n15)]; rfl), hwwT, FT⟩
      | exact ⟨_, rfl, r_I (by unfold p_fl; rw [if_pos y11]; rfl), hwwT, FT⟩
      | exact ⟨_, rfl, r_I (by unfold p_fl; rw [if_neg (bf_n (p_is_1 y12 (by decide) (by decide) (by decide))), if_pos y12]; rfl), hwwT, FT⟩
      | exact ⟨_, rfl, r_I (by unfold p_fl; rw [if_neg (bf_n (p_is_1 y13 (by decide) (by decide) (by decide))), if_neg (bf_n (p_is_1 y13 (by decide) (by decide) (by decide))), if_pos y13]; rfl), hwwT, FT⟩
      | exact ⟨_, rfl, r_I (by unfold p_fl; rw [if_neg (bf_n (p_is_1 y14 (by decide) (by decide) (by decide))), if_neg (bf_n (p_is_1 y14 (by decide) (by decide) (by decide))), if_neg (bf_n (p_is_1 y14 (by decide) (by decide) (by decide))), if_pos y14]; rfl), hwwT, FT⟩
      | exact ⟨_, rfl, r_I (by unfold p_fl; rw [if_neg (bf_n (p_is_1 y15 (by decide) (by decide) (by decide))), if_neg (bf_n (p_is_1 y15 (by decide) (by decide) (by decide))), if_neg (bf_n (p_is_1 y15 (by decide) (by decide) (by decide))), if_neg (bf_n (p_is_1 y15 (by decide) (by decide) (by decide))), if_pos y15]; rfl), hwwT, FT⟩
    · refine sv_tableIn (off := 48) (tgt := 176) dX4_flag_128 (by decide +kernel) (by decide +kernel) (by decide +kernel) (by decide) ?_
      refine sv_iconst (nI 3) dX4_flag_176 (by decide +kernel) ?_
      refine sv_goto (tgt := 185) dX4_flag_177 (by decide) ?_
      refine sv_iret rfl rfl dX4_flag_185 ?_
      first
      | exact ⟨_, rfl, r_I (by unfold p_fl; rw [if_neg (bf_n n11), if_neg (bf_n n12), if_neg (bf_n n13), if_neg (bf_n n14), if_neg (bf_n n15)]; rfl), hwwT, FT⟩
      | exact ⟨_, rfl, r_I (by unfold p_fl; rw [if_pos y11]; rfl), hwwT, FT⟩
      | exact ⟨_, rfl, r_I (by unfold p_fl; rw [if_neg (bf_n (p_is_1 y12 (by decide) (by decide) (by decide))), if_pos y12]; rfl), hwwT, FT⟩
      | exact ⟨_, rfl, r_I (by unfold p_fl; rw [if_neg (bf_n (p_is_1 y13 (by decide) (by decide) (by decide))), if_neg (bf_n (p_is_1 y13 (by decide) (by decide) (by decide))), if_pos y13]; rfl), hwwT, FT⟩
      | exact ⟨_, rfl, r_I (by unfold p_fl; rw [if_neg (bf_n (p_is_1 y14 (by decide) (by decide) (by decide))), if_neg (bf_n (p_is_1 y14 (by decide) (by decide) (by decide))), if_neg (bf_n (p_is_1 y14 (by decide) (by decide) (by decide))), if_pos y14]; rfl), hwwT, FT⟩
      | exact ⟨_, rfl, r_I (by unfold p_fl; rw [if_neg (bf_n (p_is_1 y15 (by decide) (by decide) (by decide))), if_neg (bf_n (p_is_1 y15 (by decide) (by decide) (by decide))), if_neg (bf_n (p_is_1 y15 (by decide) (by decide) (by decide))), if_neg (bf_n (p_is_1 y15 (by decide) (by decide) (by decide))), if_pos y15]; rfl), hwwT, FT⟩
    · refine sv_tableIn (off := 52) (tgt := 180) dX4_flag_128 (by decide +kernel) (by decide +kernel) (by decide +kernel) (by decide) ?_
      refine sv_iconst (nI 4) dX4_flag_180 (by decide +kernel) ?_
      refine sv_goto (tgt := 185) dX4_flag_181 (by decide) ?_
      refine sv_iret rfl rfl dX4_flag_185 ?_
      first
      | exact ⟨_, rfl, r_I (by unfold p_fl; rw [if_neg (bf_n n11), if_neg (bf_n n12), if_neg (bf_n n13), if_neg (bf_n n14), if_neg (bf_n n15)]; rfl), hwwT, FT⟩
      | exact ⟨_, rfl, r_I (by unfold p_fl; rw [if_pos y11]; rfl), hwwT, FT⟩
      | exact ⟨_, rfl, r_I (by unfold p_fl; rw [if_neg (bf_n (p_is_1 y12 (by decide) (by decide) (by decide))), if_pos y12]; rfl), hwwT, FT⟩
      | exact ⟨_, rfl, r_I (by unfold p_fl; rw [if_neg (bf_n (p_is_1 y13 (by decide) (by decide) (by decide))), if_neg (bf_n (p_is_1 y13 (by decide) (by decide) (by decide))), if_pos y13]; rfl), hwwT, FT⟩
      | exact ⟨_, rfl, r_I (by unfold p_fl; rw [if_neg (bf_n (p_is_1 y14 (by decide) (by decide) (by decide))), if_neg (bf_n (p_is_1 y14 (by decide) (by decide) (by decide))), if_neg (bf_n (p_is_1 y14 (by decide) (by decide) (by decide))), if_pos y14]; rfl), hwwT, FT⟩
      | exact ⟨_, rfl, r_I (by unfold p_fl; rw [if_neg (bf_n (p_is_1 y15 (by decide) (by decide) (by decide))), if_neg (bf_n (p_is_1 y15 (by decide) (by decide) (by decide))), if_neg (bf_n (p_is_1 y15 (by decide) (by decide) (by decide))), if_neg (bf_n (p_is_1 y15 (by decide) (by decide) (by decide))), if_pos y15]; rfl), hwwT, FT⟩
  refine sx_body (by decide) (Nat.le_of_ble_eq_true rfl) ?_
  obtain ⟨tk, vv, hp, hk9, hvv, hww, hko⟩ := id hy
  have ht7 : t.length ≤ 700 := by obtain ⟨_, _, _, h, _⟩ := id hI; exact h
  obtain ⟨vs1, hwr⟩ := k_Sr_rd (y_w_r hG9 hww (by have := p_w_ll hko ht7; omega))
  refine sv_aload_n dX4_flag_0 rfl ?_
  refine sv_get fg_X4_32 dX4_flag_1 (sx_rd_c hp) rfl ?_
  refine sv_astore_n dX4_flag_4 (by decide) ?_
  refine sv_iconst (-1) dX4_flag_5 (by decide +kernel) ?_
  refine sv_tI (show (-1 : Int32) = o_I none from rfl) ?_
  refine sv_istore_n dX4_flag_6 (by decide) ?_
  refine sv_aload_n dX4_flag_7 rfl ?_
  refine sv_cvP _ (cy_hash hG9.1 hG9.2.1 hww (by have := p_w_ll hko ht7; omega) (p_w_128 hb hko)) okJ9_hashCode kv_X4_119 hwr rfl dX4_flag_8 rfl rfl (by omega) (Nat.le_of_ble_eq_true rfl) ?_
  intro v3 τ1 hp2
  obtain ⟨rfl, hww2, Fh⟩ := hp2
  have hp2 := h_F_c Fh hp (y_w_ne hww hp rfl)
  obtain ⟨vs2, hwr2⟩ := k_Sr_rd (y_w_r hG9 hww2 (by have := p_w_ll hko ht7; omega))
  by_cases e13 : t_h (p_w t k) = (-779204518 : Int32)
  · refine sv_lookup (off := 77) (tgt := 88) dX4_flag_11 (by decide) (by rw [e13]; decide +kernel) (by decide) ?_
    refine sv_aload_n dX4_flag_88 rfl ?_
    refine sv_ldcS 13 rfl dX4_flag_89 ?_
    refine sv_cvR _ (cy_eq hG9 hww2 hb hko hwl (i := 13) (by decide) (by decide) ht7) okJ9_equals kv_X4_105 hwr2 rfl dX4_flag_91 rfl rfl (by omega) (Nat.le_of_ble_eq_true rfl) ?_
    refine sv_if_eqB (tgt := 127) dX4_flag_94 (by decide) (fun c94 => ?_) (fun c94 => ?_)
    · have ceq := c94
      exact midT _ none hww2 Fh (Or.inl ⟨rfl, p_is_h2 e13 rfl (by decide), p_is_h2 e13 rfl (by decide), ceq, p_is_h2 e13 rfl (by decide), p_is_h2 e13 rfl (by decide)⟩)
    · have ceq := c94
      refine sv_iconst (nI 2) dX4_flag_97 (by decide +kernel) ?_
      refine sv_tI (show nI 2 = o_I (some 2) from rfl) ?_
      refine sv_istore_n dX4_flag_98 (by decide) ?_
      refine sv_goto (tgt := 127) dX4_flag_99 (by decide) ?_
      exact midT _ (some 2) hww2 Fh (Or.inr (Or.inr (Or.inr (Or.inl ⟨rfl, ceq⟩))))
  by_cases e12 : t_h (p_w t k) = (-499559203 : Int32)
  · refine sv_lookup (off := 63) (tgt := 74) dX4_flag_11 (by decide) (by rw [e12]; decide +kernel) (by decide) ?_
    refine sv_aload_n dX4_flag_74 rfl ?_
    refine sv_ldcS 12 rfl dX4_flag_75 ?_
    refine sv_cvR _ (cy_eq hG9 hww2 hb hko hwl (i := 12) (by decide) (by decide) ht7) okJ9_equals kv_X4_105 hwr2 rfl dX4_flag_77 rfl rfl (by omega) (Nat.le_of_ble_eq_true rfl) ?_
    refine sv_if_eqB (tgt := 127) dX4_flag_80 (by decide) (fun c80 => ?_) (fun c80 => ?_)
    · have ceq := c80
      exact midT _ none hww2 Fh (Or.inl ⟨rfl, p_is_h2 e12 rfl (by decide), ceq, p_is_h2 e12 rfl (by decide), p_is_h2 e12 rfl (by decide), p_is_h2 e12 rfl (by decide)⟩)
    · have ceq := c80
      refine sv_iconst (nI 1) dX4_flag_83 (by decide +kernel) ?_
      refine sv_tI (show nI 1 = o_I (some 1) from rfl) ?_
      refine sv_istore_n dX4_flag_84 (by decide) ?_
      refine sv_goto (tgt := 127) dX4_flag_85 (by decide) ?_
      exact midT _ (some 1) hww2 Fh (Or.inr (Or.inr (Or.inl ⟨rfl, ceq⟩)))
  by_cases e11 : t_h (p_w t k) = (3526267 : Int32)
  · refine sv_lookup (off := 49) (tgt := 60) dX4_flag_11 (by decide) (by rw [e11]; decide +kernel) (by decide) ?_
    refine sv_aload_n dX4_flag_60 rfl ?_
    refine sv_ldcS 11 rfl dX4_flag_61 ?_
    refine sv_cvR _ (cy_eq hG9 hww2 hb hko hwl (i := 11) (by decide) (by decide) ht7) okJ9_equals kv_X4_105 hwr2 rfl dX4_flag_63 rfl rfl (by omega) (Nat.le_of_ble_eq_true rfl) ?_
    refine sv_if_eqB (tgt := 127) dX4_flag_66 (by decide) (fun c66 => ?_) (fun c66 => ?_)
    · have ceq := c66
      exact midT _ none hww2 Fh (Or.inl ⟨rfl, ceq, p_is_h2 e11 rfl (by decide), p_is_h2 e11 rfl (by decide), p_is_h2 e11 rfl (by decide), p_is_h2 e11 rfl (by decide)⟩)
    · have ceq := c66
      refine sv_iconst (nI 0) dX4_flag_69 (by decide +kernel) ?_
      refine sv_tI (show nI 0 = o_I (some 0) from rfl) ?_
      refine sv_istore_n dX4_flag_70 (by decide) ?_
      refine sv_goto (tgt := 127) dX4_flag_71 (by decide) ?_
      exact midT _ (some 0) hww2 Fh (Or.inr (Or.inl ⟨rfl, ceq⟩))
  by_cases e15 : t_h (p_w t k) = (95844769 : Int32)
  · refine sv_lookup (off := 105) (tgt := 116) dX4_flag_11 (by decide) (by rw [e15]; decide +kernel) (by decide) ?_
    refine sv_aload_n dX4_flag_116 rfl ?_
    refine sv_ldcS 15 rfl dX4_flag_117 ?_
    refine sv_cvR _ (cy_eq hG9 hww2 hb hko hwl (i := 15) (by decide) (by decide) ht7) okJ9_equals kv_X4_105 hwr2 rfl dX4_flag_119 rfl rfl (by omega) (Nat.le_of_ble_eq_true rfl) ?_
    refine sv_if_eqB (tgt := 127) dX4_flag_122 (by decide) (fun c122 => ?_) (fun c122 => ?_)
    · have ceq := c122
      exact midT _ none hww2 Fh (Or.inl ⟨rfl, p_is_h2 e15 rfl (by decide), p_is_h2 e15 rfl (by decide), p_is_h2 e15 rfl (by decide), p_is_h2 e15 rfl (by decide), ceq⟩)
    · have ceq := c122
      refine sv_iconst (nI 4) dX4_flag_125 (by decide +kernel) ?_
      refine sv_tI (show nI 4 = o_I (some 4) from rfl) ?_
      refine sv_istore_n dX4_flag_126 (by decide) ?_
      exact midT _ (some 4) hww2 Fh (Or.inr (Or.inr (Or.inr (Or.inr (Or.inr (⟨rfl, ceq⟩))))))
  by_cases e14 : t_h (p_w t k) = (1550463001 : Int32)
  · refine sv_lookup (off := 91) (tgt := 102) dX4_flag_11 (by decide) (by rw [e14]; decide +kernel) (by decide) ?_
    refine sv_aload_n dX4_flag_102 rfl ?_
    refine sv_ldcS 14 rfl dX4_flag_103 ?_
    refine sv_cvR _ (cy_eq hG9 hww2 hb hko hwl (i := 14) (by decide) (by decide) ht7) okJ9_equals kv_X4_105 hwr2 rfl dX4_flag_105 rfl rfl (by omega) (Nat.le_of_ble_eq_true rfl) ?_
    refine sv_if_eqB (tgt := 127) dX4_flag_108 (by decide) (fun c108 => ?_) (fun c108 => ?_)
    · have ceq := c108
      exact midT _ none hww2 Fh (Or.inl ⟨rfl, p_is_h2 e14 rfl (by decide), p_is_h2 e14 rfl (by decide), p_is_h2 e14 rfl (by decide), ceq, p_is_h2 e14 rfl (by decide)⟩)
    · have ceq := c108
      refine sv_iconst (nI 3) dX4_flag_111 (by decide +kernel) ?_
      refine sv_tI (show nI 3 = o_I (some 3) from rfl) ?_
      refine sv_istore_n dX4_flag_112 (by decide) ?_
      refine sv_goto (tgt := 127) dX4_flag_113 (by decide) ?_
      exact midT _ (some 3) hww2 Fh (Or.inr (Or.inr (Or.inr (Or.inr (Or.inl ⟨rfl, ceq⟩)))))
  refine sv_lookup (off := 116) (tgt := 127) dX4_flag_11 (by decide) (by show (if _ = _ then _ else (if _ = _ then _ else (if _ = _ then _ else (if _ = _ then _ else (if _ = _ then _ else _))))) = _; rw [if_neg (fun z => e13 (Int32.toInt_inj.mp z.symm)), if_neg (fun z => e12 (Int32.toInt_inj.mp z.symm)), if_neg (fun z => e11 (Int32.toInt_inj.mp z.symm)), if_neg (fun z => e15 (Int32.toInt_inj.mp z.symm)), if_neg (fun z => e14 (Int32.toInt_inj.mp z.symm))]; rfl) (by decide) ?_
  exact midT _ none hww2 Fh (Or.inl ⟨rfl, p_is_h e11 rfl, p_is_h e12 rfl, p_is_h e13 rfl, p_is_h e14 rfl, p_is_h e15 rfl⟩)
theorem cy_kw (hG9 : g_Y G lo tt) (hy : y_P G wb σ pa ps sel onl x0 t k o hl wd) (hwl : p_w t k ≠ [] → lo ≤ wd) (hI : k_I G σ x0 inp w0 w1 w2 w3 w6 w7 w8 t) (hb : b_B t) : sx_C G 5 YX4_isKeyword [.ref pa] σ (fun oc τ => ∃ v, oc = .inl v ∧ v = some (.int (b_I (p_kw t k))) ∧ y_w G wb τ wd (p_w t k) ∧ h_F (fun q => q = wd ∧ p_w t k ≠ []) 0 0 σ τ) := by
  have midT : ∀ (ρ : sx_St) ix, y_w G wb ρ wd (p_w t k) → h_F (fun q => q = wd ∧ p_w t k ≠ []) 0 0 σ ρ → ((ix = none ∧ p_is t k 1 = false ∧ p_is t k 2 = false ∧ p_is t k 3 = false ∧ p_is t k 5 = false ∧ p_is t k 4 = false ∧ p_is t k 6 = false ∧ p_is t k 7 = false ∧ p_is t k 8 = false ∧ p_is t k 9 = false ∧ p_is t k 10 = false) ∨ (ix = some 0 ∧ p_is t k 1 = true) ∨ (ix = some 1 ∧ p_is t k 2 = true) ∨ (ix = some 2 ∧ p_is t k 3 = true) ∨ (ix = some 3 ∧ p_is t k 5 = true) ∨ (ix = some 4 ∧ p_is t k 4 = true) ∨ (ix = some 5 ∧ p_is t k 6 = true) ∨ (ix = some 6 ∧ p_is t k 7 = true) ∨ (ix = some 7 ∧ p_is t k 8 = true) ∨ (ix = some 8 ∧ p_is t k 9 = true) ∨ (ix = some 9 ∧ p_is t k 10 = true)) → sx_V G 5 YX4_isKeyword 241 [some (.ref pa), some (.ref wd), some (.int (o_I ix))] [] ρ (fun oc τ => ∃ v, oc = .inl v ∧ v = some (.int (b_I (p_kw t k))) ∧ y_w G wb τ wd (p_w t k) ∧ h_F (fun q => q = wd ∧ p_w t k ≠ []) 0 0 σ τ) := by
    obtain ⟨tk, vv, hp, hk9, hvv, hww, hko⟩ := id hy
    have ht7 : t.length ≤ 700 := by obtain ⟨_, _, _, h, _⟩ := id hI; exact h
    obtain ⟨vs1, hwr⟩ := k_Sr_rd (y_w_r hG9 hww (by have := p_w_ll hko ht7; omega))
    obtain ⟨hx, fi, hin, ht7, hfi⟩ := id hI
    intro ρ ix hwwT FT hix
    have hpT := h_F_c FT hp (y_w_ne hww hp rfl)
    have hxT := h_F_c FT hx (y_w_ne hww hx rfl)
    have hinT := h_F_c FT hin (y_w_ne hww hin rfl)
    have hyT : y_P G wb ρ pa ps sel onl x0 t k o hl wd := ⟨tk, vv, hpT, hk9, hvv, hwwT, hko⟩
    refine sv_iload_n dX4_isKeyword_241 rfl ?_
    rcases hix with ⟨rfl, n1, n2, n3, n5, n4, n6, n7, n8, n9, n10⟩ | ⟨rfl, y1⟩ | ⟨rfl, y2⟩ | ⟨rfl, y3⟩ | ⟨rfl, y5⟩ | ⟨rfl, y4⟩ | ⟨rfl, y6⟩ | ⟨rfl, y7⟩ | ⟨rfl, y8⟩ | ⟨rfl, y9⟩ | ⟨rfl, y10⟩
    · refine sv_tableOut (tgt := 300) dX4_isKeyword_242 (by decide +kernel) (by decide) ?_
      refine sv_aload_n dX4_isKeyword_300 rfl ?_
      refine sv_cvP _ (cy_flag hG9 hyT hwl ⟨hxT, fi, hinT, ht7, hfi⟩ hb) okX4_flag kv_X4_153 (sx_rd_c hpT) rfl dX4_isKeyword_301 rfl rfl (by omega) (Nat.le_of_ble_eq_true rfl) ?_
      intro v6 τ4 hp5
      obtain ⟨rfl, hww3, F3⟩ := hp5
      refine sv_iconst (-1) dX4_isKeyword_304 (by decide +kernel) ?_
      refine sv_icmp_eq (tgt := 312) dX4_isKeyword_305 (by decide) (fun c305 => ?_) (fun c305 => ?_)
      · have hfn : p_fl t k = none := (o_I_m1 _ (fun x hx => by have := (p_fl_5 hx).1; omega)).mp c305
        have hv : nI 0 = b_I (p_kw t k) := by unfold p_kw; rw [n1, n2, n3, n5, n4, n6, n7, n8, n9, n10, hfn]; rfl
        have hW9 := hww3
        have hF9 := h_F_w (h_F_t FT F3 (fun _ _ z => z)) (fun _ _ z => z) (Nat.le_refl _) (Nat.le_refl _)
        refine sv_iconst (nI 0) dX4_isKeyword_312 (by decide +kernel) ?_
        refine sv_iret (by first | exact b_I_nar _ | rfl) rfl dX4_isKeyword_313 ?_
        first
        | exact ⟨_, rfl, r_I hv, hW9, hF9⟩
        | exact ⟨_, rfl, r_I (by unfold p_kw; simp [y1]; rfl), hwwT, FT⟩
        | exact ⟨_, rfl, r_I (by unfold p_kw; simp [y2]; rfl), hwwT, FT⟩
        | exact ⟨_, rfl, r_I (by unfold p_kw; simp [y3]; rfl), hwwT, FT⟩
        | exact ⟨_, rfl, r_I (by unfold p_kw; simp [y5]; rfl), hwwT, FT⟩
        | exact ⟨_, rfl, r_I (by unfold p_kw; simp [y4]; rfl), hwwT, FT⟩
        | exact ⟨_, rfl, r_I (by unfold p_kw; simp [y6]; rfl), hwwT, FT⟩
        | exact ⟨_, rfl, r_I (by unfold p_kw; simp [y7]; rfl), hwwT, FT⟩
        | exact ⟨_, rfl, r_I (by unfold p_kw; simp [y8]; rfl), hwwT, FT⟩
        | exact ⟨_, rfl, r_I (by unfold p_kw; simp [y9]; rfl), hwwT, FT⟩
        | exact ⟨_, rfl, r_I (by unfold p_kw; simp [y10]; rfl), hwwT, FT⟩
      · have hfs : (p_fl t k).isSome = true := by
          cases hz : p_fl t k with
          | none => exact absurd (by rw [hz]; rfl) c305
          | some z => rfl
        have hv : nI 1 = b_I (p_kw t k) := by unfold p_kw; rw [hfs, Bool.or_true]; rfl
        have hW9 := hww3
        have hF9 := h_F_w (h_F_t FT F3 (fun _ _ z => z)) (fun _ _ z => z) (Nat.le_refl _) (Nat.le_refl _)
        refine sv_iconst (nI 1) dX4_isKeyword_308 (by decide +kernel) ?_
        refine sv_goto (tgt := 313) dX4_isKeyword_309 (by decide) ?_
        refine sv_iret (by first | exact b_I_nar _ | rfl) rfl dX4_isKeyword_313 ?_
        first
        | exact ⟨_, rfl, r_I hv, hW9, hF9⟩
        | exact ⟨_, rfl, r_I (by unfold p_kw; simp [y1]; rfl), hwwT, FT⟩
        | exact ⟨_, rfl, r_I (by unfold p_kw; simp [y2]; rfl), hwwT, FT⟩
        | exact ⟨_, rfl, r_I (by unfold p_kw; simp [y3]; rfl), hwwT, FT⟩
        | exact ⟨_, rfl, r_I (by unfold p_kw; simp [y5]; rfl), hwwT, FT⟩
        | exact ⟨_, rfl, r_I (by unfold p_kw; simp [y4]; rfl), hwwT, FT⟩
        | exact ⟨_, rfl, r_I (by unfold p_kw; simp [y6]; rfl), hwwT, FT⟩
        | exact ⟨_, rfl, r_I (by unfold p_kw; simp [y7]; rfl), hwwT, FT⟩
        | exact ⟨_, rfl, r_I (by unfold p_kw; simp [y8]; rfl), hwwT, FT⟩
        | exact ⟨_, rfl, r_I (by unfold p_kw; simp [y9]; rfl), hwwT, FT⟩
        | exact ⟨_, rfl, r_I (by unfold p_kw; simp [y10]; rfl), hwwT, FT⟩
    · refine sv_tableIn (off := 54) (tgt := 296) dX4_isKeyword_242 (by decide +kernel) (by decide +kernel) (by decide +kernel) (by decide) ?_
      refine sv_iconst (nI 1) dX4_isKeyword_296 (by decide +kernel) ?_
      refine sv_goto (tgt := 313) dX4_isKeyword_297 (by decide) ?_
      refine sv_iret (by first | exact b_I_nar _ | rfl) rfl dX4_isKeyword_313 ?_
      first
      | exact ⟨_, rfl, r_I hv, hW9, hF9⟩
      | exact ⟨_, rfl, r_I (by unfold p_kw; simp [y1]; rfl), hwwT, FT⟩
      | exact ⟨_, rfl, r_I (by unfold p_kw; simp [y2]; rfl), hwwT, FT⟩
      | exact ⟨_, rfl, r_I (by unfold p_kw; simp [y3]; rfl), hwwT, FT⟩
      | exact ⟨_, rfl, r_I (by unfold p_kw; simp [y5]; rfl), hwwT, FT⟩
      | exact ⟨_, rfl, r_I (by unfold p_kw; simp [y4]; rfl), hwwT, FT⟩
      | exact ⟨_, rfl, r_I (by unfold p_kw; simp [y6]; rfl), hwwT, FT⟩
      | exact ⟨_, rfl, r_I (by unfold p_kw; simp [y7]; rfl), hwwT, FT⟩
      | exact ⟨_, rfl, r_I (by unfold p_kw; simp [y8]; rfl), hwwT, FT⟩
      | exact ⟨_, rfl, r_I (by unfold p_kw; simp [y9]; rfl), hwwT, FT⟩
      | exact ⟨_, rfl, r_I (by unfold p_kw; simp [y10]; rfl), hwwT, FT⟩
    · refine sv_tableIn (off := 54) (tgt := 296) dX4_isKeyword_242 (by decide +kernel) (by decide +kernel) (by decide +kernel) (by decide) ?_
      refine sv_iconst (nI 1) dX4_isKeyword_296 (by decide +kernel) ?_
      refine sv_goto (tgt := 313) dX4_isKeyword_297 (by decide) ?_
      refine sv_iret (by first | exact b_I_nar _ | rfl) rfl dX4_isKeyword_313 ?_
      first
      | exact ⟨_, rfl, r_I hv, hW9, hF9⟩
      | exact ⟨_, rfl, r_I (by unfold p_kw; simp [y1]; rfl), hwwT, FT⟩
      | exact ⟨_, rfl, r_I (by unfold p_kw; simp [y2]; rfl), hwwT, FT⟩
      | exact ⟨_, rfl, r_I (by unfold p_kw; simp [y3]; rfl), hwwT, FT⟩
      | exact ⟨_, rfl, r_I (by unfold p_kw; simp [y5]; rfl), hwwT, FT⟩
      | exact ⟨_, rfl, r_I (by unfold p_kw; simp [y4]; rfl), hwwT, FT⟩
      | exact ⟨_, rfl, r_I (by unfold p_kw; simp [y6]; rfl), hwwT, FT⟩
      | exact ⟨_, rfl, r_I (by unfold p_kw; simp [y7]; rfl), hwwT, FT⟩
      | exact ⟨_, rfl, r_I (by unfold p_kw; simp [y8]; rfl), hwwT, FT⟩
      | exact ⟨_, rfl, r_I (by unfold p_kw; simp [y9]; rfl), hwwT, FT⟩
      | exact ⟨_, rfl, r_I (by unfold p_kw; simp [y10]; rfl), hwwT, FT⟩
    · refine sv_tableIn (off := 54) (tgt := 296) dX4_isKeyword_242 (by decide +kernel) (by decide +kernel) (by decide +kernel) (by decide) ?_
      refine sv_iconst (nI 1) dX4_isKeyword_296 (by decide +kernel) ?_
      refine sv_goto (tgt := 313) dX4_isKeyword_297 (by decide) ?_
      refine sv_iret (by first | exact b_I_nar _ | rfl) rfl dX4_isKeyword_313 ?_
      first
      | exact ⟨_, rfl, r_I hv, hW9, hF9⟩
      | exact ⟨_, rfl, r_I (by unfold p_kw; simp [y1]; rfl), hwwT, FT⟩
      | exact ⟨_, rfl, r_I (by unfold p_kw; simp [y2]; rfl), hwwT, FT⟩
      | exact ⟨_, rfl, r_I (by unfold p_kw; simp [y3]; rfl), hwwT, FT⟩
      | exact ⟨_, rfl, r_I (by unfold p_kw; simp [y5]; rfl), hwwT, FT⟩
      | exact ⟨_, rfl, r_I (by unfold p_kw; simp [y4]; rfl), hwwT, FT⟩
      | exact ⟨_, rfl, r_I (by unfold p_kw; simp [y6]; rfl), hwwT, FT⟩
      | exact ⟨_, rfl, r_I (by unfold p_kw; simp [y7]; rfl), hwwT, FT⟩
      | exact ⟨_, rfl, r_I (by unfold p_kw; simp [y8]; rfl), hwwT, FT⟩
      | exact ⟨_, rfl, r_I (by unfold p_kw; simp [y9]; rfl), hwwT, FT⟩
      | exact ⟨_, rfl, r_I (by unfold p_kw; simp [y10]; rfl), hwwT, FT⟩
    · refine sv_tableIn (off := 54) (tgt := 296) dX4_isKeyword_242 (by decide +kernel) (by decide +kernel) (by decide +kernel) (by decide) ?_
      refine sv_iconst (nI 1) dX4_isKeyword_296 (by decide +kernel) ?_
      refine sv_goto (tgt := 313) dX4_isKeyword_297 (by decide) ?_
      refine sv_iret (by first | exact b_I_nar _ | rfl) rfl dX4_isKeyword_313 ?_
      first
      | exact ⟨_, rfl, r_I hv, hW9, hF9⟩
      | exact ⟨_, rfl, r_I (by unfold p_kw; simp [y1]; rfl), hwwT, FT⟩
      | exact ⟨_, rfl, r_I (by unfold p_kw; simp [y2]; rfl), hwwT, FT⟩
      | exact ⟨_, rfl, r_I (by unfold p_kw; simp [y3]; rfl), hwwT, FT⟩
      | exact ⟨_, rfl, r_I (by unfold p_kw; simp [y5]; rfl), hwwT, FT⟩
      | exact ⟨_, rfl, r_I (by unfold p_kw; simp [y4]; rfl), hwwT, FT⟩
      | exact ⟨_, rfl, r_I (by unfold p_kw; simp [y6]; rfl), hwwT, FT⟩
      | exact ⟨_, rfl, r_I (by unfold p_kw; simp [y7]; rfl), hwwT, FT⟩
      | exact ⟨_, rfl, r_I (by unfold p_kw; simp [y8]; rfl), hwwT, FT⟩
      | exact ⟨_, rfl, r_I (by unfold p_kw; simp [y9]; rfl), hwwT, FT⟩
      | exact ⟨_, rfl, r_I (by unfold p_kw; simp [y10]; rfl), hwwT, FT⟩
    · refine sv_tableIn (off := 54) (tgt := 296) dX4_isKeyword_242 (by decide +kernel) (by decide +kernel) (by decide +kernel) (by decide) ?_
      refine sv_iconst (nI 1) dX4_isKeyword_296 (by decide +kernel) ?_
      refine sv_goto (tgt := 313) dX4_isKeyword_297 (by decide) ?_
      refine sv_iret (by first | exact b_I_nar _ | rfl) rfl dX4_isKeyword_313 ?_
      first
      | exact ⟨_, rfl, r_I hv, hW9, hF9⟩
      | exact ⟨_, rfl, r_I (by unfold p_kw; simp [y1]; rfl), hwwT, FT⟩
      | exact ⟨_, rfl, r_I (by unfold p_kw; simp [y2]; rfl), hwwT, FT⟩
      | exact ⟨_, rfl, r_I (by unfold p_kw; simp [y3]; rfl), hwwT, FT⟩
      | exact ⟨_, rfl, r_I (by unfold p_kw; simp [y5]; rfl), hwwT, FT⟩
      | exact ⟨_, rfl, r_I (by unfold p_kw; simp [y4]; rfl), hwwT, FT⟩
      | exact ⟨_, rfl, r_I (by unfold p_kw; simp [y6]; rfl), hwwT, FT⟩
      | exact ⟨_, rfl, r_I (by unfold p_kw; simp [y7]; rfl), hwwT, FT⟩
      | exact ⟨_, rfl, r_I (by unfold p_kw; simp [y8]; rfl), hwwT, FT⟩
      | exact ⟨_, rfl, r_I (by unfold p_kw; simp [y9]; rfl), hwwT, FT⟩
      | exact ⟨_, rfl, r_I (by unfold p_kw; simp [y10]; rfl), hwwT, FT⟩
    · refine sv_tableIn (off := 54) (tgt := 296) dX4_isKeyword_242 (by decide +kernel) (by decide +kernel) (by decide +kernel) (by decide) ?_
      refine sv_iconst (nI 1) dX4_isKeyword_296 (by decide +kernel) ?_
      refine sv_goto (tgt := 313) dX4_isKeyword_297 (by decide) ?_
      refine sv_iret (by first | exact b_I_nar _ | rfl) rfl dX4_isKeyword_313 ?_
      first
      | exact ⟨_, rfl, r_I hv, hW9, hF9⟩
      | exact ⟨_, rfl, r_I (by unfold p_kw; simp [y1]; rfl), hwwT, FT⟩
      | exact ⟨_, rfl, r_I (by unfold p_kw; simp [y2]; rfl), hwwT, FT⟩
      | exact ⟨_, rfl, r_I (by unfold p_kw; simp [y3]; rfl), hwwT, FT⟩
      | exact ⟨_, rfl, r_I (by unfold p_kw; simp [y5]; rfl), hwwT, FT⟩
      | exact ⟨_, rfl, r_I (by unfold p_kw; simp [y4]; rfl), hwwT, FT⟩
      | exact ⟨_, rfl, r_I (by unfold p_kw; simp [y6]; rfl), hwwT, FT⟩
      | exact ⟨_, rfl, r_I (by unfold p_kw; simp [y7]; rfl), hwwT, FT⟩
      | exact ⟨_, rfl, r_I (by unfold p_kw; simp [y8]; rfl), hwwT, FT⟩
      | exact ⟨_, rfl, r_I (by unfold p_kw; simp [y9]; rfl), hwwT, FT⟩
      | exact ⟨_, rfl, r_I (by unfold p_kw; simp [y10]; rfl), hwwT, FT⟩
    · refine sv_tableIn (off := 54) (tgt := 296) dX4_isKeyword_242 (by decide +kernel) (by decide +kernel) (by decide +kernel) (by decide) ?_
      refine sv_iconst (nI 1) dX4_isKeyword_296 (by decide +kernel) ?_
      refine sv_goto (tgt := 313) dX4_isKeyword_297 (by decide) ?_
      refine sv_iret (by first | exact b_I_nar _ | rfl) rfl dX4_isKeyword_313 ?_
      first
      | exact ⟨_, rfl, r_I hv, hW9, hF9⟩
      | exact ⟨_, rfl, r_I (by unfold p_kw; simp [y1]; rfl), hwwT, FT⟩
      | exact ⟨_, rfl, r_I (by unfold p_kw; simp [y2]; rfl), hwwT, FT⟩
      | exact ⟨_, rfl, r_I (by unfold p_kw; simp [y3]; rfl), hwwT, FT⟩
      | exact ⟨_, rfl, r_I (by unfold p_kw; simp [y5]; rfl), hwwT, FT⟩
      | exact ⟨_, rfl, r_I (by unfold p_kw; simp [y4]; rfl), hwwT, FT⟩
      | exact ⟨_, rfl, r_I (by unfold p_kw; simp [y6]; rfl), hwwT, FT⟩
      | exact ⟨_, rfl, r_I (by unfold p_kw; simp [y7]; rfl), hwwT, FT⟩
      | exact ⟨_, rfl, r_I (by unfold p_kw; simp [y8]; rfl), hwwT, FT⟩
      | exact ⟨_, rfl, r_I (by unfold p_kw; simp [y9]; rfl), hwwT, FT⟩
      | exact ⟨_, rfl, r_I (by unfold p_kw; simp [y10]; rfl), hwwT, FT⟩
    · refine sv_tableIn (off := 54) (tgt := 296) dX4_isKeyword_242 (by decide +kernel) (by decide +kernel) (by decide +kernel) (by decide) ?_
      refine sv_iconst (nI 1) dX4_isKeyword_296 (by decide +kernel) ?_
      refine sv_goto (tgt := 313) dX4_isKeyword_297 (by decide) ?_
      refine sv_iret (by first | exact b_I_nar _ | rfl) rfl dX4_isKeyword_313 ?_
      first
      | exact ⟨_, rfl, r_I hv, hW9, hF9⟩
      | exact ⟨_, rfl, r_I (by unfold p_kw; simp [y1]; rfl), hwwT, FT⟩
      | exact ⟨_, rfl, r_I (by unfold p_kw; simp [y2]; rfl), hwwT, FT⟩
      | exact ⟨_, rfl, r_I (by unfold p_kw; simp [y3]; rfl), hwwT, FT⟩
      | exact ⟨_, rfl, r_I (by unfold p_kw; simp [y5]; rfl), hwwT, FT⟩
      | exact ⟨_, rfl, r_I (by unfold p_kw; simp [y4]; rfl), hwwT, FT⟩
      | exact ⟨_, rfl, r_I (by unfold p_kw; simp [y6]; rfl), hwwT, FT⟩
      | exact ⟨_, rfl, r_I (by unfold p_kw; simp [y7]; rfl), hwwT, FT⟩
      | exact ⟨_, rfl, r_I (by unfold p_kw; simp [y8]; rfl), hwwT, FT⟩
      | exact ⟨_, rfl, r_I (by unfold p_kw; simp [y9]; rfl), hwwT, FT⟩
      | exact ⟨_, rfl, r_I (by unfold p_kw; simp [y10]; rfl), hwwT, FT⟩
    · refine sv_tableIn (off := 54) (tgt := 296) dX4_isKeyword_242 (by decide +kernel) (by decide +kernel) (by decide +kernel) (by decide) ?_
      refine sv_iconst (nI 1) dX4_isKeyword_296 (by decide +kernel) ?_
      refine sv_goto (tgt := 313) dX4_isKeyword_297 (by decide) ?_
      refine sv_iret (by first | exact b_I_nar _ | rfl) rfl dX4_isKeyword_313 ?_
      first
      | exact ⟨_, rfl, r_I hv, hW9, hF9⟩
      | exact ⟨_, rfl, r_I (by unfold p_kw; simp [y1]; rfl), hwwT, FT⟩
      | exact ⟨_, rfl, r_I (by unfold p_kw; simp [y2]; rfl), hwwT, FT⟩
      | exact ⟨_, rfl, r_I (by unfold p_kw; simp [y3]; rfl), hwwT, FT⟩
      | exact ⟨_, rfl, r_I (by unfold p_kw; simp [y5]; rfl), hwwT, FT⟩
      | exact ⟨_, rfl, r_I (by unfold p_kw; simp [y4]; rfl), hwwT, FT⟩
      | exact ⟨_, rfl, r_I (by unfold p_kw; simp [y6]; rfl), hwwT, FT⟩
      | exact ⟨_, rfl, r_I (by unfold p_kw; simp [y7]; rfl), hwwT, FT⟩
      | exact ⟨_, rfl, r_I (by unfold p_kw; simp [y8]; rfl), hwwT, FT⟩
      | exact ⟨_, rfl, r_I (by unfold p_kw; simp [y9]; rfl), hwwT, FT⟩
      | exact ⟨_, rfl, r_I (by unfold p_kw; simp [y10]; rfl), hwwT, FT⟩
    · refine sv_tableIn (off := 54) (tgt := 296) dX4_isKeyword_242 (by decide +kernel) (by decide +kernel) (by decide +kernel) (by decide) ?_
      refine sv_iconst (nI 1) dX4_isKeyword_296 (by decide +kernel) ?_
      refine sv_goto (tgt := 313) dX4_isKeyword_297 (by decide) ?_
      refine sv_iret (by first | exact b_I_nar _ | rfl) rfl dX4_isKeyword_313 ?_
      first
      | exact ⟨_, rfl, r_I hv, hW9, hF9⟩
      | exact ⟨_, rfl, r_I (by unfold p_kw; simp [y1]; rfl), hwwT, FT⟩
      | exact ⟨_, rfl, r_I (by unfold p_kw; simp [y2]; rfl), hwwT, FT⟩
      | exact ⟨_, rfl, r_I (by unfold p_kw; simp [y3]; rfl), hwwT, FT⟩
      | exact ⟨_, rfl, r_I (by unfold p_kw; simp [y5]; rfl), hwwT, FT⟩
      | exact ⟨_, rfl, r_I (by unfold p_kw; simp [y4]; rfl), hwwT, FT⟩
      | exact ⟨_, rfl, r_I (by unfold p_kw; simp [y6]; rfl), hwwT, FT⟩
      | exact ⟨_, rfl, r_I (by unfold p_kw; simp [y7]; rfl), hwwT, FT⟩
      | exact ⟨_, rfl, r_I (by unfold p_kw; simp [y8]; rfl), hwwT, FT⟩
      | exact ⟨_, rfl, r_I (by unfold p_kw; simp [y9]; rfl), hwwT, FT⟩
      | exact ⟨_, rfl, r_I (by unfold p_kw; simp [y10]; rfl), hwwT, FT⟩
  refine sx_body (by decide) (Nat.le_of_ble_eq_true rfl) ?_
  obtain ⟨tk, vv, hp, hk9, hvv, hww, hko⟩ := id hy
  have ht7 : t.length ≤ 700 := by obtain ⟨_, _, _, h, _⟩ := id hI; exact h
  obtain ⟨vs1, hwr⟩ := k_Sr_rd (y_w_r hG9 hww (by have := p_w_ll hko ht7; omega))
  refine sv_aload_n dX4_isKeyword_0 rfl ?_
  refine sv_get fg_X4_32 dX4_isKeyword_1 (sx_rd_c hp) rfl ?_
  refine sv_astore_n dX4_isKeyword_4 (by decide) ?_
  refine sv_iconst (-1) dX4_isKeyword_5 (by decide +kernel) ?_
  refine sv_tI (show (-1 : Int32) = o_I none from rfl) ?_
  refine sv_istore_n dX4_isKeyword_6 (by decide) ?_
  refine sv_aload_n dX4_isKeyword_7 rfl ?_
  refine sv_cvP _ (cy_hash hG9.1 hG9.2.1 hww (by have := p_w_ll hko ht7; omega) (p_w_128 hb hko)) okJ9_hashCode kv_X4_119 hwr rfl dX4_isKeyword_8 rfl rfl (by omega) (Nat.le_of_ble_eq_true rfl) ?_
  intro v9 τ7 hp8
  obtain ⟨rfl, hww2, Fh⟩ := hp8
  have hp2 := h_F_c Fh hp (y_w_ne hww hp rfl)
  obtain ⟨vs2, hwr2⟩ := k_Sr_rd (y_w_r hG9 hww2 (by have := p_w_ll hko ht7; omega))
  by_cases e10 : t_h (p_w t k) = (3555 : Int32)
  · refine sv_lookup (off := 218) (tgt := 229) dX4_isKeyword_11 (by decide) (by rw [e10]; decide +kernel) (by decide) ?_
    refine sv_aload_n dX4_isKeyword_229 rfl ?_
    refine sv_ldcS 10 rfl dX4_isKeyword_230 ?_
    refine sv_cvR _ (cy_eq hG9 hww2 hb hko hwl (i := 10) (by decide) (by decide) ht7) okJ9_equals kv_X4_105 hwr2 rfl dX4_isKeyword_232 rfl rfl (by omega) (Nat.le_of_ble_eq_true rfl) ?_
    refine sv_if_eqB (tgt := 241) dX4_isKeyword_235 (by decide) (fun c235 => ?_) (fun c235 => ?_)
    · have ceq := c235
      exact midT _ none hww2 Fh (Or.inl ⟨rfl, p_is_h2 e10 rfl (by decide), p_is_h2 e10 rfl (by decide), p_is_h2 e10 rfl (by decide), p_is_h2 e10 rfl (by decide), p_is_h2 e10 rfl (by decide), p_is_h2 e10 rfl (by decide), p_is_h2 e10 rfl (by decide), p_is_h2 e10 rfl (by decide), p_is_h2 e10 rfl (by decide), ceq⟩)
    · have ceq := c235
      refine sv_bipush (nI 9) dX4_isKeyword_238 (by decide +kernel) ?_
      refine sv_tI (show nI 9 = o_I (some 9) from rfl) ?_
      refine sv_istore_n dX4_isKeyword_240 (by decide) ?_
      exact midT _ (some 9) hww2 Fh (Or.inr (Or.inr (Or.inr (Or.inr (Or.inr (Or.inr (Or.inr (Or.inr (Or.inr (Or.inr (⟨rfl, ceq⟩)))))))))))
  by_cases e7 : t_h (p_w t k) = (96673 : Int32)
  · refine sv_lookup (off := 173) (tgt := 184) dX4_isKeyword_11 (by decide) (by rw [e7]; decide +kernel) (by decide) ?_
    refine sv_aload_n dX4_isKeyword_184 rfl ?_
    refine sv_ldcS 7 rfl dX4_isKeyword_185 ?_
    refine sv_cvR _ (cy_eq hG9 hww2 hb hko hwl (i := 7) (by decide) (by decide) ht7) okJ9_equals kv_X4_105 hwr2 rfl dX4_isKeyword_187 rfl rfl (by omega) (Nat.le_of_ble_eq_true rfl) ?_
    refine sv_if_eqB (tgt := 241) dX4_isKeyword_190 (by decide) (fun c190 => ?_) (fun c190 => ?_)
    · have ceq := c190
      exact midT _ none hww2 Fh (Or.inl ⟨rfl, p_is_h2 e7 rfl (by decide), p_is_h2 e7 rfl (by decide), p_is_h2 e7 rfl (by decide), p_is_h2 e7 rfl (by decide), p_is_h2 e7 rfl (by decide), p_is_h2 e7 rfl (by decide), ceq, p_is_h2 e7 rfl (by decide), p_is_h2 e7 rfl (by decide), p_is_h2 e7 rfl (by decide)⟩)
    · have ceq := c190
      refine sv_bipush (nI 6) dX4_isKeyword_193 (by decide +kernel) ?_
      refine sv_tI (show nI 6 = o_I (some 6) from rfl) ?_
      refine sv_istore_n dX4_isKeyword_195 (by decide) ?_
      refine sv_goto (tgt := 241) dX4_isKeyword_196 (by decide) ?_
      exact midT _ (some 6) hww2 Fh (Or.inr (Or.inr (Or.inr (Or.inr (Or.inr (Or.inr (Or.inr (Or.inl ⟨rfl, ceq⟩))))))))
  by_cases e2 : t_h (p_w t k) = (97739 : Int32)
  · refine sv_lookup (off := 103) (tgt := 114) dX4_isKeyword_11 (by decide) (by rw [e2]; decide +kernel) (by decide) ?_
    refine sv_aload_n dX4_isKeyword_114 rfl ?_
    refine sv_ldcS 2 rfl dX4_isKeyword_115 ?_
    refine sv_cvR _ (cy_eq hG9 hww2 hb hko hwl (i := 2) (by decide) (by decide) ht7) okJ9_equals kv_X4_105 hwr2 rfl dX4_isKeyword_117 rfl rfl (by omega) (Nat.le_of_ble_eq_true rfl) ?_
    refine sv_if_eqB (tgt := 241) dX4_isKeyword_120 (by decide) (fun c120 => ?_) (fun c120 => ?_)
    · have ceq := c120
      exact midT _ none hww2 Fh (Or.inl ⟨rfl, p_is_h2 e2 rfl (by decide), ceq, p_is_h2 e2 rfl (by decide), p_is_h2 e2 rfl (by decide), p_is_h2 e2 rfl (by decide), p_is_h2 e2 rfl (by decide), p_is_h2 e2 rfl (by decide), p_is_h2 e2 rfl (by decide), p_is_h2 e2 rfl (by decide), p_is_h2 e2 rfl (by decide)⟩)
    · have ceq := c120
      refine sv_iconst (nI 1) dX4_isKeyword_123 (by decide +kernel) ?_
      refine sv_tI (show nI 1 = o_I (some 1) from rfl) ?_
      refine sv_istore_n dX4_isKeyword_124 (by decide) ?_
      refine sv_goto (tgt := 241) dX4_isKeyword_125 (by decide) ?_
      exact midT _ (some 1) hww2 Fh (Or.inr (Or.inr (Or.inl ⟨rfl, ceq⟩)))
  by_cases e9 : t_h (p_w t k) = (109267 : Int32)
  · refine sv_lookup (off := 203) (tgt := 214) dX4_isKeyword_11 (by decide) (by rw [e9]; decide +kernel) (by decide) ?_
    refine sv_aload_n dX4_isKeyword_214 rfl ?_
    refine sv_ldcS 9 rfl dX4_isKeyword_215 ?_
    refine sv_cvR _ (cy_eq hG9 hww2 hb hko hwl (i := 9) (by decide) (by decide) ht7) okJ9_equals kv_X4_105 hwr2 rfl dX4_isKeyword_217 rfl rfl (by omega) (Nat.le_of_ble_eq_true rfl) ?_
    refine sv_if_eqB (tgt := 241) dX4_isKeyword_220 (by decide) (fun c220 => ?_) (fun c220 => ?_)
    · have ceq := c220
      exact midT _ none hww2 Fh (Or.inl ⟨rfl, p_is_h2 e9 rfl (by decide), p_is_h2 e9 rfl (by decide), p_is_h2 e9 rfl (by decide), p_is_h2 e9 rfl (by decide), p_is_h2 e9 rfl (by decide), p_is_h2 e9 rfl (by decide), p_is_h2 e9 rfl (by decide), p_is_h2 e9 rfl (by decide), ceq, p_is_h2 e9 rfl (by decide)⟩)
    · have ceq := c220
      refine sv_bipush (nI 8) dX4_isKeyword_223 (by decide +kernel) ?_
      refine sv_tI (show nI 8 = o_I (some 8) from rfl) ?_
      refine sv_istore_n dX4_isKeyword_225 (by decide) ?_
      refine sv_goto (tgt := 241) dX4_isKeyword_226 (by decide) ?_
      exact midT _ (some 8) hww2 Fh (Or.inr (Or.inr (Or.inr (Or.inr (Or.inr (Or.inr (Or.inr (Or.inr (Or.inr (Or.inl ⟨rfl, ceq⟩))))))))))
  by_cases e8 : t_h (p_w t k) = (115792 : Int32)
  · refine sv_lookup (off := 188) (tgt := 199) dX4_isKeyword_11 (by decide) (by rw [e8]; decide +kernel) (by decide) ?_
    refine sv_aload_n dX4_isKeyword_199 rfl ?_
    refine sv_ldcS 8 rfl dX4_isKeyword_200 ?_
    refine sv_cvR _ (cy_eq hG9 hww2 hb hko hwl (i := 8) (by decide) (by decide) ht7) okJ9_equals kv_X4_105 hwr2 rfl dX4_isKeyword_202 rfl rfl (by omega) (Nat.le_of_ble_eq_true rfl) ?_
    refine sv_if_eqB (tgt := 241) dX4_isKeyword_205 (by decide) (fun c205 => ?_) (fun c205 => ?_)
    · have ceq := c205
      exact midT _ none hww2 Fh (Or.inl ⟨rfl, p_is_h2 e8 rfl (by decide), p_is_h2 e8 rfl (by decide), p_is_h2 e8 rfl (by decide), p_is_h2 e8 rfl (by decide), p_is_h2 e8 rfl (by decide), p_is_h2 e8 rfl (by decide), p_is_h2 e8 rfl (by decide), ceq, p_is_h2 e8 rfl (by decide), p_is_h2 e8 rfl (by decide)⟩)
    · have ceq := c205
      refine sv_bipush (nI 7) dX4_isKeyword_208 (by decide +kernel) ?_
      refine sv_tI (show nI 7 = o_I (some 7) from rfl) ?_
      refine sv_istore_n dX4_isKeyword_210 (by decide) ?_
      refine sv_goto (tgt := 241) dX4_isKeyword_211 (by decide) ?_
      exact midT _ (some 7) hww2 Fh (Or.inr (Or.inr (Or.inr (Or.inr (Or.inr (Or.inr (Or.inr (Or.inr (Or.inl ⟨rfl, ceq⟩)))))))))
  by_cases e5 : t_h (p_w t k) = (3530753 : Int32)
  · refine sv_lookup (off := 131) (tgt := 142) dX4_isKeyword_11 (by decide) (by rw [e5]; decide +kernel) (by decide) ?_
    refine sv_aload_n dX4_isKeyword_142 rfl ?_
    refine sv_ldcS 5 rfl dX4_isKeyword_143 ?_
    refine sv_cvR _ (cy_eq hG9 hww2 hb hko hwl (i := 5) (by decide) (by decide) ht7) okJ9_equals kv_X4_105 hwr2 rfl dX4_isKeyword_145 rfl rfl (by omega) (Nat.le_of_ble_eq_true rfl) ?_
    refine sv_if_eqB (tgt := 241) dX4_isKeyword_148 (by decide) (fun c148 => ?_) (fun c148 => ?_)
    · have ceq := c148
      exact midT _ none hww2 Fh (Or.inl ⟨rfl, p_is_h2 e5 rfl (by decide), p_is_h2 e5 rfl (by decide), p_is_h2 e5 rfl (by decide), ceq, p_is_h2 e5 rfl (by decide), p_is_h2 e5 rfl (by decide), p_is_h2 e5 rfl (by decide), p_is_h2 e5 rfl (by decide), p_is_h2 e5 rfl (by decide), p_is_h2 e5 rfl (by decide)⟩)
    · have ceq := c148
      refine sv_iconst (nI 3) dX4_isKeyword_151 (by decide +kernel) ?_
      refine sv_tI (show nI 3 = o_I (some 3) from rfl) ?_
      refine sv_istore_n dX4_isKeyword_152 (by decide) ?_
      refine sv_goto (tgt := 241) dX4_isKeyword_153 (by decide) ?_
      exact midT _ (some 3) hww2 Fh (Or.inr (Or.inr (Or.inr (Or.inr (Or.inl ⟨rfl, ceq⟩)))))
  by_cases e1 : t_h (p_w t k) = (102976443 : Int32)
  · refine sv_lookup (off := 89) (tgt := 100) dX4_isKeyword_11 (by decide) (by rw [e1]; decide +kernel) (by decide) ?_
    refine sv_aload_n dX4_isKeyword_100 rfl ?_
    refine sv_ldcS 1 rfl dX4_isKeyword_101 ?_
    refine sv_cvR _ (cy_eq hG9 hww2 hb hko hwl (i := 1) (by decide) (by decide) ht7) okJ9_equals kv_X4_105 hwr2 rfl dX4_isKeyword_103 rfl rfl (by omega) (Nat.le_of_ble_eq_true rfl) ?_
    refine sv_if_eqB (tgt := 241) dX4_isKeyword_106 (by decide) (fun c106 => ?_) (fun c106 => ?_)
    · have ceq := c106
      exact midT _ none hww2 Fh (Or.inl ⟨rfl, ceq, p_is_h2 e1 rfl (by decide), p_is_h2 e1 rfl (by decide), p_is_h2 e1 rfl (by decide), p_is_h2 e1 rfl (by decide), p_is_h2 e1 rfl (by decide), p_is_h2 e1 rfl (by decide), p_is_h2 e1 rfl (by decide), p_is_h2 e1 rfl (by decide), p_is_h2 e1 rfl (by decide)⟩)
    · have ceq := c106
      refine sv_iconst (nI 0) dX4_isKeyword_109 (by decide +kernel) ?_
      refine sv_tI (show nI 0 = o_I (some 0) from rfl) ?_
      refine sv_istore_n dX4_isKeyword_110 (by decide) ?_
      refine sv_goto (tgt := 241) dX4_isKeyword_111 (by decide) ?_
      exact midT _ (some 0) hww2 Fh (Or.inr (Or.inl ⟨rfl, ceq⟩))
  by_cases e6 : t_h (p_w t k) = (108386717 : Int32)
  · refine sv_lookup (off := 159) (tgt := 170) dX4_isKeyword_11 (by decide) (by rw [e6]; decide +kernel) (by decide) ?_
    refine sv_aload_n dX4_isKeyword_170 rfl ?_
    refine sv_ldcS 6 rfl dX4_isKeyword_171 ?_
    refine sv_cvR _ (cy_eq hG9 hww2 hb hko hwl (i := 6) (by decide) (by decide) ht7) okJ9_equals kv_X4_105 hwr2 rfl dX4_isKeyword_173 rfl rfl (by omega) (Nat.le_of_ble_eq_true rfl) ?_
    refine sv_if_eqB (tgt := 241) dX4_isKeyword_176 (by decide) (fun c176 => ?_) (fun c176 => ?_)
    · have ceq := c176
      exact midT _ none hww2 Fh (Or.inl ⟨rfl, p_is_h2 e6 rfl (by decide), p_is_h2 e6 rfl (by decide), p_is_h2 e6 rfl (by decide), p_is_h2 e6 rfl (by decide), p_is_h2 e6 rfl (by decide), ceq, p_is_h2 e6 rfl (by decide), p_is_h2 e6 rfl (by decide), p_is_h2 e6 rfl (by decide), p_is_h2 e6 rfl (by decide)⟩)
    · have ceq := c176
      refine sv_iconst (nI 5) dX4_isKeyword_179 (by decide +kernel) ?_
      refine sv_tI (show nI 5 = o_I (some 5) from rfl) ?_
      refine sv_istore_n dX4_isKeyword_180 (by decide) ?_
      refine sv_goto (tgt := 241) dX4_isKeyword_181 (by decide) ?_
      exact midT _ (some 5) hww2 Fh (Or.inr (Or.inr (Or.inr (Or.inr (Or.inr (Or.inr (Or.inl ⟨rfl, ceq⟩)))))))
  by_cases e3 : t_h (p_w t k) = (954925063 : Int32)
  · refine sv_lookup (off := 117) (tgt := 128) dX4_isKeyword_11 (by decide) (by rw [e3]; decide +kernel) (by decide) ?_
    refine sv_aload_n dX4_isKeyword_128 rfl ?_
    refine sv_ldcS 3 rfl dX4_isKeyword_129 ?_
    refine sv_cvR _ (cy_eq hG9 hww2 hb hko hwl (i := 3) (by decide) (by decide) ht7) okJ9_equals kv_X4_105 hwr2 rfl dX4_isKeyword_131 rfl rfl (by omega) (Nat.le_of_ble_eq_true rfl) ?_
    refine sv_if_eqB (tgt := 241) dX4_isKeyword_134 (by decide) (fun c134 => ?_) (fun c134 => ?_)
    · have ceq := c134
      exact midT _ none hww2 Fh (Or.inl ⟨rfl, p_is_h2 e3 rfl (by decide), p_is_h2 e3 rfl (by decide), ceq, p_is_h2 e3 rfl (by decide), p_is_h2 e3 rfl (by decide), p_is_h2 e3 rfl (by decide), p_is_h2 e3 rfl (by decide), p_is_h2 e3 rfl (by decide), p_is_h2 e3 rfl (by decide), p_is_h2 e3 rfl (by decide)⟩)
    · have ceq := c134
      refine sv_iconst (nI 2) dX4_isKeyword_137 (by decide +kernel) ?_
      refine sv_tI (show nI 2 = o_I (some 2) from rfl) ?_
      refine sv_istore_n dX4_isKeyword_138 (by decide) ?_
      refine sv_goto (tgt := 241) dX4_isKeyword_139 (by decide) ?_
      exact midT _ (some 2) hww2 Fh (Or.inr (Or.inr (Or.inr (Or.inl ⟨rfl, ceq⟩))))
  by_cases e4 : t_h (p_w t k) = (1984987798 : Int32)
  · refine sv_lookup (off := 145) (tgt := 156) dX4_isKeyword_11 (by decide) (by rw [e4]; decide +kernel) (by decide) ?_
    refine sv_aload_n dX4_isKeyword_156 rfl ?_
    refine sv_ldcS 4 rfl dX4_isKeyword_157 ?_
    refine sv_cvR _ (cy_eq hG9 hww2 hb hko hwl (i := 4) (by decide) (by decide) ht7) okJ9_equals kv_X4_105 hwr2 rfl dX4_isKeyword_159 rfl rfl (by omega) (Nat.le_of_ble_eq_true rfl) ?_
    refine sv_if_eqB (tgt := 241) dX4_isKeyword_162 (by decide) (fun c162 => ?_) (fun c162 => ?_)
    · have ceq := c162
      exact midT _ none hww2 Fh (Or.inl ⟨rfl, p_is_h2 e4 rfl (by decide), p_is_h2 e4 rfl (by decide), p_is_h2 e4 rfl (by decide), p_is_h2 e4 rfl (by decide), ceq, p_is_h2 e4 rfl (by decide), p_is_h2 e4 rfl (by decide), p_is_h2 e4 rfl (by decide), p_is_h2 e4 rfl (by decide), p_is_h2 e4 rfl (by decide)⟩)
    · have ceq := c162
      refine sv_iconst (nI 4) dX4_isKeyword_165 (by decide +kernel) ?_
      refine sv_tI (show nI 4 = o_I (some 4) from rfl) ?_
      refine sv_istore_n dX4_isKeyword_166 (by decide) ?_
      refine sv_goto (tgt := 241) dX4_isKeyword_167 (by decide) ?_
      exact midT _ (some 4) hww2 Fh (Or.inr (Or.inr (Or.inr (Or.inr (Or.inr (Or.inl ⟨rfl, ceq⟩))))))
  refine sv_lookup (off := 230) (tgt := 241) dX4_isKeyword_11 (by decide) (by show (if _ = _ then _ else (if _ = _ then _ else (if _ = _ then _ else (if _ = _ then _ else (if _ = _ then _ else (if _ = _ then _ else (if _ = _ then _ else (if _ = _ then _ else (if _ = _ then _ else (if _ = _ then _ else _)))))))))) = _; rw [if_neg (fun z => e10 (Int32.toInt_inj.mp z.symm)), if_neg (fun z => e7 (Int32.toInt_inj.mp z.symm)), if_neg (fun z => e2 (Int32.toInt_inj.mp z.symm)), if_neg (fun z => e9 (Int32.toInt_inj.mp z.symm)), if_neg (fun z => e8 (Int32.toInt_inj.mp z.symm)), if_neg (fun z => e5 (Int32.toInt_inj.mp z.symm)), if_neg (fun z => e1 (Int32.toInt_inj.mp z.symm)), if_neg (fun z => e6 (Int32.toInt_inj.mp z.symm)), if_neg (fun z => e3 (Int32.toInt_inj.mp z.symm)), if_neg (fun z => e4 (Int32.toInt_inj.mp z.symm))]; rfl) (by decide) ?_
  exact midT _ none hww2 Fh (Or.inl ⟨rfl, p_is_h e1 rfl, p_is_h e2 rfl, p_is_h e3 rfl, p_is_h e5 rfl, p_is_h e4 rfl, p_is_h e6 rfl, p_is_h e7 rfl, p_is_h e8 rfl, p_is_h e9 rfl, p_is_h e10 rfl⟩)
end CPW
