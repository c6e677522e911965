set_option maxRecDepth 100000
section MPD
variable {G : sx_G} {h : Nat} {M M' : m_M} {σ : sx_St} {V : a_V} {A : a_A} {t : List Int32} {r : r_T} {S : p_S}
/-- what parsing may change; what writing the draft may change -/
def m_P (M M2 : m_M) : Prop := M2.2.1 = M.2.1 ∧ (∀ k, (k < 10 ∨ 17 < k) → M2.1 k = M.1 k) ∧ (∀ j, j ≠ 1 → M2.2.2.1 j = M.2.2.1 j) ∧ ∀ j, j ≠ 3 → j ≠ 4 → M2.2.2.2 j = M.2.2.2 j
def m_V (M M2 : m_M) : Prop := M2.2.1 = M.2.1 ∧ (∀ k, k ≠ 16 → k ≠ 17 → M2.1 k = M.1 k) ∧ (∀ j, j ≠ 1 → M2.2.2.1 j = M.2.2.1 j) ∧ ∀ j, j ≠ 3 → j ≠ 4 → M2.2.2.2 j = M.2.2.2 j
theorem m_P_r : m_P M M := ⟨rfl, fun _ _ => rfl, fun _ _ => rfl, fun _ _ _ => rfl⟩
theorem m_V_r : m_V M M := ⟨rfl, fun _ _ _ => rfl, fun _ _ => rfl, fun _ _ _ => rfl⟩
theorem m_P_t {M2 M3 : m_M} (h : m_P M M2) (h' : m_P M2 M3) : m_P M M3 := ⟨h'.1.trans h.1, fun k a => (h'.2.1 k a).trans (h.2.1 k a), fun j a => (h'.2.2.1 j a).trans (h.2.2.1 j a), fun j a b => (h'.2.2.2 j a b).trans (h.2.2.2 j a b)⟩
theorem m_P_Y (h : m_Y M M') : m_P M M' := ⟨by rw [h.1], fun k hk => h.2 k (by omega), fun j _ => by rw [h.1], fun j _ _ => by rw [h.1]⟩
theorem m_P_V (h : m_V M M') : m_P M M' := ⟨h.1, fun k hk => h.2.1 k (by omega) (by omega), h.2.2.1, h.2.2.2⟩
theorem m_V_i {k : Nat} {x : Int32} (hk : k = 16 ∨ k = 17) (h : m_V M M') : m_V M (m_i M' k x) := by
  refine ⟨h.1, fun j a b => ?_, h.2.2.1, h.2.2.2⟩
  show upd M'.1 k x j = _
  rw [pk_un (by omega)]
  exact h.2.1 j a b
theorem m_V_u {i : Nat} {x : Int64} (hr0 : M.2.1 = true) (h : m_V M M') : m_V M (m_u M' i x) := by
  have hr := h.1.trans hr0
  refine ⟨h.1, h.2.1, fun j hj => ?_, h.2.2.2⟩
  have hw : m_wt M' = 1 := by unfold m_wt; rw [hr]; rfl
  show (if j = m_wt M' then _ else M'.2.2.1 j) = _
  rw [hw, if_neg hj]
  exact h.2.2.1 j hj
theorem m_V_b {k : Nat} {f : Nat → Int32} (hk : k = 3 ∨ k = 4) (h : m_V M M') : m_V M (m_b M' k f) := by
  refine ⟨h.1, h.2.1, h.2.2.1, fun j a b => ?_⟩
  show (if j = k then f else M'.2.2.2 j) = _
  rw [if_neg (by omega)]
  exact h.2.2.2 j a b
theorem m_Q_V {k : k_T} {c : Nat} (hZ : m_Q t k c M) (h : m_V M M') : m_Q t k c M' := by
  obtain ⟨h1, h2, h3, h4, h5, h6, h7⟩ := hZ
  refine ⟨⟨h1.1, (h.2.1 9 (by decide) (by decide)).trans h1.2.1, fun i hi => ?_⟩, ⟨h2.1, h2.2.1, (h.2.1 10 (by decide) (by decide)).trans h2.2.2.1, (h.2.1 11 (by decide) (by decide)).trans h2.2.2.2.1, (h.2.1 12 (by decide) (by decide)).trans h2.2.2.2.2.1, fun z => (h.2.1 13 (by decide) (by decide)).trans (h2.2.2.2.2.2.1 z), fun z => (h.2.1 13 (by decide) (by decide)).trans (h2.2.2.2.2.2.2 z)⟩, h3, h4, h5, (h.2.1 14 (by decide) (by decide)).trans h6, (h.2.1 15 (by decide) (by decide)).trans h7⟩
  rw [h.2.2.2 2 (by decide) (by decide)]
  exact h1.2.2 i hi
theorem m_Z_V (hZ : m_Z t r M) (h : m_V M M') : m_Z t r M' := by
  cases r with
  | inr k => exact m_Q_V (c := 0) hZ h
  | inl e =>
    obtain ⟨h1, k, h2, h3⟩ := hZ
    exact ⟨h1, k, m_Q_V h2 h, h3⟩
theorem m_w_Y (h : m_Y M M') : m_w M' = m_w M := by unfold m_w; rw [h.1]
/-- the draft holds what was read -/
def m_D (S : p_S) (M : m_M) : Prop := M.2.1 = true ∧ e_Vb (m_w M) S.1 ∧ (∀ s, s < S.1.2.2.length → m_w M (282 + 131 * s) = n_code (a_s S.1 s).1) ∧ (∀ s, s < 4 → ∀ j, 1 ≤ j → j < 131 → m_w M (282 + 131 * s + j) = 0) ∧ (∀ b, S.1.2.1.length ≤ b → b < 3 → ∀ j, j < 93 → m_w M (3 + 93 * b + j) = 0) ∧ M.1 16 = b_I S.2.1 ∧ M.1 17 = nI (p_tot S.1) ∧
  ∀ s, s < S.2.2.length → M.2.2.2 3 s = o_I (S.2.2.getD s (none, false)).1 ∧ ((S.2.2.getD s (none, false)).1.isSome = true → M.2.2.2 4 s = b_I (S.2.2.getD s (none, false)).2)
theorem m_D_Y (hD : m_D S M) (h : m_Y M M') : m_D S M' := by
  obtain ⟨h1, h2, h3, h4, h5, h6, h7, h8⟩ := hD
  unfold m_D
  rw [m_w_Y h, h.1, h.2 16 (Or.inr (by decide)), h.2 17 (Or.inr (by decide))]
  exact ⟨h1, h2, h3, h4, h5, h6, h7, h8⟩
theorem D_hl (hD : m_D S M) : m_D (S.1, true, S.2.2) (m_i M 16 (b_I true)) := by
  obtain ⟨h1, h2, h3, h4, h5, h6, h7, h8⟩ := hD
  exact ⟨h1, h2, h3, h4, h5, rfl, h7, h8⟩
theorem e_B_u {i : Nat} {x : Int64} {b : Nat} {B : a_B} {rr : Nat → Int64} (hl : B.2.2.length ≤ 30) (hi : i < 3 + 93 * b ∨ 3 + 93 * b + 93 ≤ i) (h : e_B rr (3 + 93 * b) B) : e_B (vp_updL rr i x) (3 + 93 * b) B := e_B_fr hl (fun j g1 g2 => uL_n (by omega)) h
theorem p_tot_l {V : a_V} {x : Int32} : p_tot (x, V.2) = p_tot V := by
  have : ∀ n, a_all (x, V.2) n = a_all V n := by
    intro n
    induction n with
    | zero => rfl
    | succ n ih => show a_all (x, V.2) n + _ = a_all V n + _; rw [ih]; rfl
  exact this _
theorem D_li {v : Nat} (hw : w_Vb S.1) (hD : m_D S M) : m_D ((nI v, S.1.2), S.2) (m_u M 0 (nI v).toInt64) := by
  obtain ⟨h1, h2, h3, h4, h5, h6, h7, h8⟩ := hD
  have hwl := hw.2.1
  refine ⟨h1, ⟨?_, ?_, ?_, fun b hb => ?_⟩, fun s hs => ?_, fun s hs j g1 g2 => ?_, fun b hb g1 j g2 => ?_, h6, h7.trans (congrArg nI (p_tot_l (V := S.1) (x := nI v)).symm), h8⟩
  · rw [m_w_u, uL_s, i64_back]
  · rw [m_w_u, uL_n (by decide)]; exact h2.2.1
  · rw [m_w_u, uL_n (by decide)]; exact h2.2.2.1
  · have hb : b < S.1.2.1.length := hb
    rw [m_w_u]
    exact e_B_u (hw.2.2 b hb) (Or.inl (by omega)) (h2.2.2.2 b hb)
  · rw [m_w_u, uL_n (by omega)]; exact h3 s hs
  · rw [m_w_u, uL_n (by omega)]; exact h4 s hs j g1 g2
  · rw [m_w_u, uL_n (by omega)]; exact h5 b hb g1 j g2
theorem row_1 {M : m_M} (hr : M.2.1 = true) : Value.ref (if M.2.1 then h + 2 else h + 1) = .ref (h + 2) := by rw [hr]; rfl
section
variable {d : Nat} {Y : sx_Y} {pc : Nat} {L : List (Option Value)} {st : List Value} {Q : sx_O → sx_St → Prop}
theorem sm_dst {i : Nat} {x : Int64} (hr : M.2.1 = true) (hn : h + 11 < sx_n σ) (hd : decode Y.2.1 pc = .ok (.lastore, 1)) (hi : i < 806) (kk : sx_V G d Y (pc + 1) L st (m_S G h (m_u M i x) σ) Q) : sx_V G d Y pc L (.long x :: .int (nI i) :: .ref (h + 2) :: st) (m_S G h M σ) Q := by
  have := sm_wst (G := G) (h := h) (M := M) (σ := σ) (st := st) hn hd hi kk
  rw [row_1 hr] at this
  exact this
theorem sm_dld {i : Nat} (hr : M.2.1 = true) (hn : h + 11 < sx_n σ) (hd : decode Y.2.1 pc = .ok (.laload, 1)) (hi : i < 806) (kk : sx_V G d Y (pc + 1) L (.long (m_w M i) :: st) (m_S G h M σ) Q) : sx_V G d Y pc L (.int (nI i) :: .ref (h + 2) :: st) (m_S G h M σ) Q := by
  have := sm_wld (G := G) (h := h) (M := M) (σ := σ) (st := st) hn hd hi kk
  rw [row_1 hr] at this
  exact this
end
/-- a statement's end -/
def m_W (t : List Int32) (x : p_E ⊕ (p_S × k_T)) (M : m_M) : Prop := match x with
  | .inl e => m_Z t (.inl e) M
  | .inr x => m_Q t x.2 0 M ∧ m_D x.1 M
def r_bh (t : List Int32) (V : a_V) (r : r_T) : r_T := p_bind r (fun k => p_bind (p_bh t V k) (fun _ => .inr k))
def r_bv (t : List Int32) (V : a_V) (r : r_T) : Option Nat := match p_bind r (fun k => p_bh t V k) with
  | .inr b => some b
  | .inl _ => none
theorem r_bh_n {e : p_E} (h : r_nh t r = .inl e) : r_bh t V r = .inl e ∧ r_bv t V r = none := by
  cases r with
  | inl e' => cases h; exact ⟨rfl, rfl⟩
  | inr k =>
    have h : (if p_nm t k = true then (Sum.inr k : r_T) else .inl (p_er 1 k)) = .inl e := h
    by_cases h2 : p_nm t k = true
    · rw [if_pos h2] at h; cases h
    · rw [if_neg h2] at h
      cases h
      have e1 : p_bh t V k = .inl (p_er 1 k) := by unfold p_bh; rw [if_neg h2]
      refine ⟨?_, ?_⟩
      · show p_bind (p_bh t V k) _ = _; rw [e1]; rfl
      · show (match p_bh t V k with | .inr b => some b | .inl _ => none) = none; rw [e1]
theorem r_bh_k {k : k_T} (h2 : p_nm t k = true) : (p_fb V (p_w t k) = none → r_er (.inr k) 3 = r_bh t V (.inr k)) ∧ (∀ b, p_fb V (p_w t k) = some b → (Sum.inr k : r_T) = r_bh t V (.inr k)) ∧ p_fb V (p_w t k) = r_bv t V (.inr k) := by
  have e1 : p_bh t V k = (match p_fb V (p_w t k) with
    | some b => .inr b
    | none => .inl (p_er 3 k)) := by unfold p_bh; rw [if_pos h2]; rfl
  cases hf : p_fb V (p_w t k) with
  | none =>
    rw [hf] at e1
    refine ⟨fun _ => ?_, fun b hb => (by cases hb), ?_⟩
    · show _ = p_bind (p_bh t V k) _; rw [e1]; rfl
    · show _ = (match p_bh t V k with | .inr b => some b | .inl _ => none); rw [e1]
  | some b =>
    rw [hf] at e1
    refine ⟨fun z => (by cases z), fun b hb => ?_, ?_⟩
    · show _ = p_bind (p_bh t V k) _; rw [e1]; rfl
    · show _ = (match p_bh t V k with | .inr b => some b | .inl _ => none); rw [e1]
theorem p_fb_lt {n : List Nat} {b : Nat} (h : p_fb V n = some b) : b < V.2.1.length := (List.findIdx?_eq_some_iff_getElem.mp h).1
theorem ct_boxHere (hn : h + 11 < sx_n σ) (hZ : m_Z t r M) (hW : g_S G) (hE : e_Vb (m_w M) V) (hw : w_Vb V) (hbo : ∀ b, b < V.2.1.length → o_N (a_b V b).1) : sx_Cp G 9 YX3_boxHere [.ref h] (m_S G h M σ) (fun v τ => v = some (.int (o_I (r_bv t V r))) ∧ ∃ M2, τ = m_S G h M2 σ ∧ m_Y M M2 ∧ m_Z t (r_bh t V r) M2) := by
  have mid : ∀ r1 M1 x ob, m_Y M M1 → m_Z t r1 M1 → (ob = none → r_er r1 3 = r_bh t V r) → (∀ b, ob = some b → r1 = r_bh t V r) → ob = r_bv t V r → (∀ b, ob = some b → b < 2 ^ 31) → sx_V G 9 YX3_boxHere 22 [some (.ref h), some (.long x), none, some (.int (o_I ob))] [] (m_S G h M1 σ) (fun o τ => ∃ v, o = .inl v ∧ v = some (.int (o_I (r_bv t V r))) ∧ ∃ M2, τ = m_S G h M2 σ ∧ m_Y M M2 ∧ m_Z t (r_bh t V r) M2) := by
    intro r1 M1 x ob hY1 hZ1 e1 e2 e3 hlt
    refine sv_iload_n dX3_boxHere_22 rfl ?_
    refine sv_iconst (-1) dX3_boxHere_23 (by decide +kernel) ?_
    refine sv_icmp_ne (tgt := 32) dX3_boxHere_24 (by decide) (fun c24 => ?_) (fun c24 => ?_)
    · have hY9 := hY1
      have hZ9 : m_Z t (r_bh t V r) M1 := by
        cases hob : ob with
        | none => exact absurd (by rw [hob]; rfl) c24
        | some b => rw [← e2 b hob]; exact hZ1
      refine sv_iload_n dX3_boxHere_32 rfl ?_
      refine sv_iret rfl rfl dX3_boxHere_33 ?_
      exact ⟨_, rfl, r_I (by rw [e3]), _, rfl, hY9, hZ9⟩
    · refine sv_aload_n dX3_boxHere_27 rfl ?_
      refine sv_iconst (nI 3) dX3_boxHere_28 (by decide +kernel) ?_
      refine sv_cvP _ (ct_er (c := 3) hn hZ1 (by decide) (by decide)) okX3_errs kv_X3_337 (sx_rd_c (m_S_0 hn)) rfl dX3_boxHere_29 rfl rfl (by decide) (Nat.le_of_ble_eq_true rfl) ?_
      intro v5 t5 hp5
      obtain ⟨rfl, M5, rfl, hY5, hZ5⟩ := hp5
      have hY9 := m_Y_t hY1 hY5
      have hZ9 : m_Z t (r_bh t V r) M5 := by rw [← e1 ((o_I_m1 _ hlt).mp c24)]; exact hZ5
      refine sv_iload_n dX3_boxHere_32 rfl ?_
      refine sv_iret rfl rfl dX3_boxHere_33 ?_
      exact ⟨_, rfl, r_I (by rw [e3]), _, rfl, hY9, hZ9⟩
  refine sx_body (by decide) (Nat.le_of_ble_eq_true rfl) ?_
  refine sv_aload_n dX3_boxHere_0 rfl ?_
  refine sv_cvP _ (ct_nameHere hn hZ hW) okX3_nameHere kv_X3_399 (sx_rd_c (m_S_0 hn)) rfl dX3_boxHere_1 rfl rfl (by decide) (Nat.le_of_ble_eq_true rfl) ?_
  intro v1 t1 hp1
  obtain ⟨rfl, M1, rfl, hY1, hZ1⟩ := hp1
  refine sv_lstore_n dX3_boxHere_4 (by decide) ?_
  refine sv_aload_n dX3_boxHere_5 rfl ?_
  refine sv_cvR _ (ct_gd hn hZ1) okX3_good kv_X3_279 (sx_rd_c (m_S_0 hn)) rfl dX3_boxHere_6 rfl rfl (by decide) (Nat.le_of_ble_eq_true rfl) ?_
  refine sv_if_eqB (tgt := 20) dX3_boxHere_9 (by decide) (fun c9 => ?_) (fun c9 => ?_)
  · obtain ⟨e, ek⟩ := r_g_f c9
    have g9 := r_bh_n (V := V) ek
    have f1 : (none : Option Nat) = none → r_er (r_nh t r) 3 = r_bh t V r := fun _ => by rw [ek, g9.1]; rfl
    have f2 : ∀ b, (none : Option Nat) = some b → r_nh t r = r_bh t V r := fun b z => by cases z
    have f3 := g9.2.symm
    have f4 : ∀ b, (none : Option Nat) = some b → b < 2 ^ 31 := fun b z => by cases z
    refine sv_iconst (-1) dX3_boxHere_20 (by decide +kernel) ?_
    first | refine sv_topI (show (-1 : Int32) = o_I none from rfl) ?_ | skip
    refine sv_istore_n dX3_boxHere_21 (by decide) ?_
    exact mid _ _ _ _ hY1 hZ1 f1 f2 f3 f4
  · obtain ⟨k, ek⟩ := r_g_t c9
    obtain ⟨rfl, hnm⟩ := r_nh_k ek
    have hno := p_nm_o hZ.2.2.2.1 hZ.2.2.1 hnm
    have g9 := r_bh_k (V := V) hnm
    have f1 : p_fb V (p_w t k) = none → r_er (r_nh t (.inr k)) 3 = r_bh t V (.inr k) := by rw [ek]; exact g9.1
    have f2 : ∀ b, p_fb V (p_w t k) = some b → r_nh t (.inr k) = r_bh t V (.inr k) := by rw [ek]; exact g9.2.1
    have f3 := g9.2.2
    have f4 : ∀ b, p_fb V (p_w t k) = some b → b < 2 ^ 31 := fun b z => by have h8 := p_fb_lt z; have h9 := hw.1; omega
    refine sv_aload_n dX3_boxHere_12 rfl ?_
    refine sv_lload_n dX3_boxHere_13 rfl ?_
    refine sv_cvR _ (ct_boxNamed (V := V) (n := p_w t k) hn (by rw [m_w_Y hY1]; exact hE) hw (by rw [ek]; rfl) hno.1 hbo) okX3_boxNamed kv_X3_403 (sx_rd_c (m_S_0 hn)) rfl dX3_boxHere_14 rfl rfl (by decide) (Nat.le_of_ble_eq_true rfl) ?_
    refine sv_goto (tgt := 21) dX3_boxHere_17 (by decide) ?_
    first | refine sv_topI (show (-1 : Int32) = o_I none from rfl) ?_ | skip
    refine sv_istore_n dX3_boxHere_21 (by decide) ?_
    exact mid _ _ _ _ hY1 hZ1 f1 f2 f3 f4
def r_fs (t : List Int32) (r : r_T) : p_E ⊕ (Int32 × k_T) := p_bind r (fun k => p_fls t 701 0 k)
def r_sn (x : p_E ⊕ (Int32 × k_T)) : r_T := p_bind x (fun y => .inr y.2)
theorem r_fl_so {x : Nat} (h : r_fl t r = some x) : ∃ k, r = .inr k ∧ p_fl t k = some x := by
  cases r with
  | inl e => cases h
  | inr k => exact ⟨k, rfl, h⟩
theorem fls_n {f : Nat} {fl : Int32} {k : k_T} (h : p_fl t k = none) : p_fls t (f + 1) fl k = .inr (fl, k) := by
  unfold p_fls
  rw [h]
theorem fls_h {f : Nat} {fl : Int32} {k : k_T} {x : Nat} (h : p_fl t k = some x) (hh : a_has fl x = true) : p_fls t (f + 1) fl k = .inl (p_er 3 k) := by
  unfold p_fls
  rw [h]
  exact if_pos hh
theorem fls_s {f : Nat} {fl : Int32} {k : k_T} {x : Nat} (h : p_fl t k = some x) (hh : a_has fl x = false) : p_fls t (f + 1) fl k = p_fls t f (fl ||| (nI 1 <<< (nI x &&& 31))) (p_nx t k) := by
  conv => lhs; unfold p_fls
  rw [h]
  exact if_neg (by rw [hh]; decide)
theorem ct_parseFlags (hn : h + 11 < sx_n σ) (hZ : m_Z t r M) (hW : g_S G) : sx_C G 6 YX3_parseFlags [.ref h] (m_S G h M σ) (fun o τ => ∃ v, o = .inl v ∧ ∃ fl, v = some (.int fl) ∧ ∃ M2, τ = m_S G h M2 σ ∧ m_Y M M2 ∧ m_Z t (r_sn (r_fs t r)) M2 ∧ ∀ x, r_fs t r = .inr x → fl = x.1) := by
  have loop : ∀ q r1 M1 set, m_Y M M1 → m_Z t r1 M1 → p_bind r1 (fun k => p_fls t q set k) = r_fs t r → (∀ k, r1 = .inr k → t.length + 1 ≤ k.2.1 + q) → 0 < q → sx_V G 6 YX3_parseFlags 7 [some (.ref h), some (.int set), some (.int (o_I (r_fl t r1)))] [] (m_S G h M1 σ) (fun o τ => ∃ v, o = .inl v ∧ ∃ fl, v = some (.int fl) ∧ ∃ M2, τ = m_S G h M2 σ ∧ m_Y M M2 ∧ m_Z t (r_sn (r_fs t r)) M2 ∧ ∀ x, r_fs t r = .inr x → fl = x.1) := by
    intro q
    induction q with
    | zero => intro r1 M1 set hY1 hZ1 e1 e2 h0; exact absurd h0 (by decide)
    | succ q ih =>
    intro r1 M1 set hY1 hZ1 e1 e2 h0
    refine sv_iload_n dX3_parseFlags_7 rfl ?_
    refine sv_iconst (-1) dX3_parseFlags_8 (by decide +kernel) ?_
    refine sv_icmp_eq (tgt := 43) dX3_parseFlags_9 (by decide) (fun c9 => ?_) (fun c9 => ?_)
    · have hno := (o_I_m1 _ (r_fl_k (t := t) (r := r1))).mp c9
      refine sv_iload_n dX3_parseFlags_43 rfl ?_
      refine sv_iret rfl rfl dX3_parseFlags_44 ?_
      have hfin : m_Z t (r_sn (r_fs t r)) M1 ∧ ∀ x, r_fs t r = .inr x → set = x.1 := by
        rw [← e1]
        cases r1 with
        | inl e => exact ⟨hZ1, fun x z => by cases z⟩
        | inr k =>
          have e9 : p_bind (Sum.inr k : r_T) (fun k => p_fls t (q + 1) set k) = .inr (set, k) := fls_n hno
          rw [e9]
          exact ⟨hZ1, fun x z => by cases z; rfl⟩
      exact ⟨_, rfl, _, rfl, _, rfl, hY1, hfin⟩
    · have hso : ∃ x, r_fl t r1 = some x := by
        cases hz : r_fl t r1 with
        | none => exact absurd (by rw [hz]; rfl) c9
        | some x => exact ⟨x, rfl⟩
      refine sv_iload_n dX3_parseFlags_12 rfl ?_
      obtain ⟨x, hx0⟩ := hso
      obtain ⟨k, rfl, hx⟩ := r_fl_so hx0
      have hko : k_ok t k := hZ1.2.2.1
      have hk1 := (k_ok_s hko).2 (by rw [(p_fl_5 hx).2]; decide)
      have hk2 := e2 k rfl
      have hk3 := (k_ok_x hko).1
      have hk4 := (k_ok_x hko).2.1
      refine sv_iload_n dX3_parseFlags_13 rfl ?_
      refine sv_topI (y := nI x) (by rw [hx0]; rfl) ?_
      refine sv_csR _ ct_has okX3_has ks_X3_407 dX3_parseFlags_14 rfl rfl (by decide) (Nat.le_of_ble_eq_true rfl) ?_
      refine sv_if_eqB (tgt := 25) dX3_parseFlags_17 (by decide) (fun c17 => ?_) (fun c17 => ?_)
      · have hYa := hY1
        have hZa := hZ1
        have ea : p_bind (r_nx t (.inr k)) (fun k => p_fls t q (set ||| (nI 1 <<< (nI x &&& 31))) k) = r_fs t r := by rw [← e1]; show _ = p_fls t (q + 1) set k; rw [fls_s hx c17]; rfl
        have eb : ∀ k2, r_nx t (.inr k) = .inr k2 → t.length + 1 ≤ k2.2.1 + q := fun k2 z => by cases z; omega
        refine sv_iload_n dX3_parseFlags_25 rfl ?_
        refine sv_iconst (nI 1) dX3_parseFlags_26 (by decide +kernel) ?_
        refine sv_iload_n dX3_parseFlags_27 rfl ?_
        refine sv_topI (y := nI x) (by rw [hx0]; rfl) ?_
        refine sv_ishl dX3_parseFlags_28 ?_
        refine sv_ior dX3_parseFlags_29 ?_
        refine sv_istore_n dX3_parseFlags_30 (by decide) ?_
        refine sv_aload_n dX3_parseFlags_31 rfl ?_
        refine sv_cvP _ (ct_goOn hn hZa) okX3_goOn kv_X3_340 (sx_rd_c (m_S_0 hn)) rfl dX3_parseFlags_32 rfl rfl (by decide) (Nat.le_of_ble_eq_true rfl) ?_
        intro v6 t6 hp6
        obtain ⟨rfl, M6, rfl, hY6, hZ6⟩ := hp6
        refine sv_aload_n dX3_parseFlags_35 rfl ?_
        refine sv_cvR _ (ct_flagHere hn hZ6 hW) okX3_flagHere kv_X3_372 (sx_rd_c (m_S_0 hn)) rfl dX3_parseFlags_36 rfl rfl (by decide) (Nat.le_of_ble_eq_true rfl) ?_
        refine sv_istore_n dX3_parseFlags_39 (by decide) ?_
        refine sv_goto (tgt := 7) dX3_parseFlags_40 (by decide) ?_
        exact ih _ _ _ (m_Y_t hYa hY6) hZ6 ea eb (by omega)
      · refine sv_aload_n dX3_parseFlags_20 rfl ?_
        refine sv_iconst (nI 3) dX3_parseFlags_21 (by decide +kernel) ?_
        refine sv_cvP _ (ct_er (c := 3) hn hZ1 (by decide) (by decide)) okX3_errs kv_X3_337 (sx_rd_c (m_S_0 hn)) rfl dX3_parseFlags_22 rfl rfl (by decide) (Nat.le_of_ble_eq_true rfl) ?_
        intro v5 t5 hp5
        obtain ⟨rfl, M5, rfl, hY5, hZ5⟩ := hp5
        have hYa := m_Y_t hY1 hY5
        have hZa : m_Z t (.inl (p_er 3 k)) M5 := hZ5
        have ea : p_bind (r_nx t (.inl (p_er 3 k))) (fun k => p_fls t q (set ||| (nI 1 <<< (nI x &&& 31))) k) = r_fs t r := by rw [← e1]; show _ = p_fls t (q + 1) set k; rw [fls_h hx c17]; rfl
        have eb : ∀ k2, r_nx t (.inl (p_er 3 k)) = .inr k2 → t.length + 1 ≤ k2.2.1 + q := fun k2 z => by cases z
        refine sv_iload_n dX3_parseFlags_25 rfl ?_
        refine sv_iconst (nI 1) dX3_parseFlags_26 (by decide +kernel) ?_
        refine sv_iload_n dX3_parseFlags_27 rfl ?_
        refine sv_topI (y := nI x) (by rw [hx0]; rfl) ?_
        refine sv_ishl dX3_parseFlags_28 ?_
        refine sv_ior dX3_parseFlags_29 ?_
        refine sv_istore_n dX3_parseFlags_30 (by decide) ?_
        refine sv_aload_n dX3_parseFlags_31 rfl ?_
        refine sv_cvP _ (ct_goOn hn hZa) okX3_goOn kv_X3_340 (sx_rd_c (m_S_0 hn)) rfl dX3_parseFlags_32 rfl rfl (by decide) (Nat.le_of_ble_eq_true rfl) ?_
        intro v6 t6 hp6
        obtain ⟨rfl, M6, rfl, hY6, hZ6⟩ := hp6
        refine sv_aload_n dX3_parseFlags_35 rfl ?_
        refine sv_cvR _ (ct_flagHere hn hZ6 hW) okX3_flagHere kv_X3_372 (sx_rd_c (m_S_0 hn)) rfl dX3_parseFlags_36 rfl rfl (by decide) (Nat.le_of_ble_eq_true rfl) ?_
        refine sv_istore_n dX3_parseFlags_39 (by decide) ?_
        refine sv_goto (tgt := 7) dX3_parseFlags_40 (by decide) ?_
        exact ih _ _ _ (m_Y_t hYa hY6) hZ6 ea eb (by omega)
  refine sx_body (by decide) (Nat.le_of_ble_eq_true rfl) ?_
  refine sv_iconst (nI 0) dX3_parseFlags_0 (by decide +kernel) ?_
  rw [nI_0]
  refine sv_istore_n dX3_parseFlags_1 (by decide) ?_
  refine sv_aload_n dX3_parseFlags_2 rfl ?_
  refine sv_cvR _ (ct_flagHere hn hZ hW) okX3_flagHere kv_X3_372 (sx_rd_c (m_S_0 hn)) rfl dX3_parseFlags_3 rfl rfl (by decide) (Nat.le_of_ble_eq_true rfl) ?_
  refine sv_istore_n dX3_parseFlags_6 (by decide) ?_
  exact loop 701 r M 0 m_Y_r hZ rfl (fun k hk => by subst hk; have := hZ.1.1; omega) (by decide)
end MPD
