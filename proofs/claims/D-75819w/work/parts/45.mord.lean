set_option maxRecDepth 100000
section MOR
/-! guards; the order that holds in every server: uids grow, names are names, numbers are small -/
def g_3 (a b c : Bool) (A : a_A) (x : Int32 × a_A) : Int32 × a_A := if (a && (b && c)) = true then x else (0, A_st A (nI (t_hr a b c)))
def g_2 (a b : Bool) (A : a_A) (x : Int32 × a_A) : Int32 × a_A := if (a && b) = true then x else (0, A_st A (nI (t_hr a b true)))
def g_1 (a : Bool) (A : a_A) (x : Int32 × a_A) : Int32 × a_A := if a = true then x else (0, A_st A (nI (t_hr a true true)))
theorem g_3f {a b c : Bool} {A : a_A} {x : Int32 × a_A} (h : (a && (b && c)) = false) : g_3 a b c A x = (0, A_st A (nI (t_hr a b c))) := if_neg (by rw [h]; decide)
theorem g_3t {a b c : Bool} {A : a_A} {x : Int32 × a_A} (h : (a && (b && c)) = true) : g_3 a b c A x = x := if_pos h
theorem g_2f {a b : Bool} {A : a_A} {x : Int32 × a_A} (h : (a && b) = false) : g_2 a b A x = (0, A_st A (nI (t_hr a b true))) := if_neg (by rw [h]; decide)
theorem g_2t {a b : Bool} {A : a_A} {x : Int32 × a_A} (h : (a && b) = true) : g_2 a b A x = x := if_pos h
theorem g_1f {a : Bool} {A : a_A} {x : Int32 × a_A} (h : a = false) : g_1 a A x = (0, A_st A (nI (t_hr a true true))) := if_neg (by rw [h]; decide)
theorem g_1t {a : Bool} {A : a_A} {x : Int32 × a_A} (h : a = true) : g_1 a A x = x := if_pos h
theorem t_hr_3 {a b c : Bool} (h : (a && (b && c)) = true) : nI (t_hr a b c) = 0 := by cases a <;> cases b <;> cases c <;> first | rfl | cases h
theorem t_hr_2 {a b : Bool} (h : (a && b) = true) : nI (t_hr a b true) = 0 := by cases a <;> cases b <;> first | rfl | cases h
theorem t_hr_1 {a : Bool} (h : a = true) : nI (t_hr a true true) = 0 := by cases a <;> first | rfl | cases h
def o_N (l : List Nat) : Prop := 1 ≤ l.length ∧ l.length ≤ 6 ∧ ∀ c ∈ l, 97 ≤ c ∧ c ≤ 122
def o_M (n : Int32) (m : a_M) : Prop := 1 ≤ m.1.toInt ∧ m.1 < n ∧ 1 ≤ m.2.1.toInt ∧ m.2.1.toInt ≤ 9999
def o_B (t : Nat) (B : a_B) : Prop := (1 ≤ B.2.1.toInt ∧ B.2.1.toInt ≤ 31 + 31 * (t : Int)) ∧ (∀ m ∈ B.2.2, o_M B.2.1 m) ∧ B.2.2.Pairwise (fun x y => x.1 < y.1) ∧ o_N B.1
def o_S (V : a_V) (S : a_S) : Prop := ((∀ e ∈ S.2.2.2.2.2.2, 1 ≤ e.1.toInt ∧ e.1 ≤ S.2.2.2.2.1) ∧ S.2.2.2.2.2.2.Pairwise (fun x y => x.1 < y.1) ∧ 0 ≤ S.2.2.2.2.1.toInt) ∧ (∀ b, S.2.1 = some b → S.2.2.2.2.1 < (a_b V b).2.1) ∧ o_N S.1
def o_V (t : Nat) (V : a_V) : Prop := (1 ≤ V.1.toInt ∧ V.1.toInt ≤ 30) ∧ (∀ b, b < V.2.1.length → o_B t (a_b V b)) ∧ ∀ s, s < V.2.2.length → o_S V (a_s V s)
variable {M M' : m_M} {A : a_A} {V : a_V} {r r' : Nat → Int64} {t : Nat}
theorem o_V_us {s : Nat} {S : a_S} (h : o_V t V) (hS : o_S V S) : o_V t (a_us V s S) := by
  refine ⟨h.1, h.2.1, fun t ht => ?_⟩
  rw [a_us_n] at ht
  by_cases hts : t = s
  · subst hts
    rw [a_us_s S ht]
    exact hS
  · rw [a_us_t S hts]
    exact h.2.2 t ht
theorem o_B_le {t t' : Nat} {B : a_B} (ht : t ≤ t') (h : o_B t B) : o_B t' B := ⟨⟨h.1.1, by have := h.1.2; omega⟩, h.2⟩
theorem o_V_le {t t' : Nat} (ht : t ≤ t') (h : o_V t V) : o_V t' V := ⟨h.1, fun b hb => o_B_le ht (h.2.1 b hb), h.2.2⟩
theorem o_V_ub {t t' b : Nat} {B : a_B} (h : o_V t V) (ht : t ≤ t') (hB : o_B t' B) (hn : (a_b V b).2.1 ≤ B.2.1) : o_V t' (a_ub V b B) := by
  refine ⟨h.1, fun c hc => ?_, fun s hs => ?_⟩
  · rw [a_ub_n] at hc
    by_cases hcb : c = b
    · subst hcb
      rw [a_ub_b B hc]
      exact hB
    · rw [a_ub_c B hcb]
      exact o_B_le ht (h.2.1 c hc)
  · have g := h.2.2 s hs
    refine ⟨g.1, fun c hc => ?_, g.2.2⟩
    have g2 := g.2.1 c hc
    by_cases hcb : c = b
    · subst hcb
      by_cases hl : c < V.2.1.length
      · rw [a_ub_b B hl]
        exact Int32.lt_of_lt_of_le g2 hn
      · rw [show a_b (a_ub V c B) c = a_b V c from by simp [a_b, a_ub, List.getD_eq_getElem?_getD, hl]]
        exact g2
    · rw [a_ub_c B hcb]
      exact g2
/-- only the net of the reference changes -/
def m_fr (M M' : m_M) : Prop := M' = m_a M 0 (m_w M') ∧ M'.2.1 = false
theorem m_fr_r (h : M.2.1 = false) : m_fr M M := by
  refine ⟨?_, h⟩
  unfold m_w
  rw [h]
  exact (m_a_id 0).symm
theorem m_fr_u {i : Nat} {x : Int64} (h : m_fr M M') : m_fr M (m_u M' i x) := by
  have h2 : (m_u M' i x).2.1 = false := h.2
  refine ⟨?_, h2⟩
  rw [m_w_u]
  have : m_u M' i x = m_a M' 0 (vp_updL (m_w M') i x) := by
    unfold m_u m_w m_wt
    simp [h.2]
  rw [this]
  generalize vp_updL (m_w M') i x = f
  rw [h.1, m_a_a]
theorem m_fr_n {i : Nat} {x : Int64} (h : m_fr M M') : m_fr M (m_n M' i x) := by
  have h2 : (m_n M' i x).2.1 = false := h.2
  refine ⟨?_, h2⟩
  rw [m_n_e, m_w_a h.2]
  generalize vp_updL (M'.2.2.1 0) i x = f
  rw [h.1, m_a_a]
theorem m_J_fr {V' : a_V} (hJ : m_J M A) (hf : m_fr M M') (he : e_V (m_w M') V') (hw : w_V V') : m_J M' (A_sv A V') := by
  rw [hf.1]
  exact m_J_a hJ he hw
/-- a box is selected -/
def v_se (V : a_V) (s b : Nat) (rd : Bool) : a_V := a_us V s ((a_s V s).1, some b, rd, (a_s V s).2.2.2.1, (a_b V b).2.1 - 1, (a_s V s).2.2.2.2.2.1, (a_ms V b).map (fun m => (m.1, m.2.2)))
def v_lv (V : a_V) (s : Nat) : a_V := a_us V s (S_es (S_bx (a_s V s) none) [])
theorem m_fr_lv {s : Nat} (h : m_fr M M') : m_fr M (m_lv M' s) := m_fr_u (m_fr_u (m_fr_u (m_fr_u h)))
theorem m_fr_tk {s b : Nat} (h : m_fr M M') : ∀ k, m_fr M (m_tk M' s b k) := by
  intro k
  induction k with
  | zero => exact h
  | succ k ih => exact m_fr_u (m_fr_u (m_fr_u (m_fr_u ih)))
theorem e_V_lv {s : Nat} (hw : w_V V) (hs : s < V.2.2.length) (h : e_V r V) : e_V (r_lv r s) (v_lv V s) := by
  obtain ⟨h1, h2, h3, h4, h5, h6, h7⟩ := h.2.1 s hs
  have z : ∀ i, i ≠ 282 + 131 * s + 1 → i ≠ 282 + 131 * s + 2 → i ≠ 282 + 131 * s + 4 → i ≠ 282 + 131 * s + 5 → r_lv r s i = r i := fun i g1 g2 g3 g4 => by
    unfold r_lv
    rw [uL_n g4, uL_n g3, uL_n g2, uL_n g1]
  refine e_V_s hw hs h (fun i hi => z i (by omega) (by omega) (by omega) (by omega)) ⟨by rw [z _ (by omega) (by omega) (by omega) (by omega)]; exact h1, ?_, ?_, by rw [z _ (by omega) (by omega) (by omega) (by omega)]; exact h4, ?_, fun k hk => by rw [z _ (by omega) (by omega) (by omega) (by omega)]; exact h6 k hk, fun j hj => absurd hj (Nat.not_lt_zero j)⟩ ?_
  · unfold r_lv
    rw [uL_n (by omega), uL_n (by omega), uL_n (by omega), uL_s]
    rfl
  · unfold r_lv
    rw [uL_n (by omega), uL_n (by omega), uL_s]
    rfl
  · unfold r_lv
    rw [uL_n (by omega), uL_s]
    rfl
  · intro b hb
    rw [a_us_bx hs] at hb
    cases hb
theorem w_V_lv {s : Nat} (hw : w_V V) : w_V (v_lv V s) := w_V_s hw (Nat.zero_le _) (fun b hb => by cases hb) (fun _ => rfl)
/-- the row after takeBox -/
theorem tk_row {s b : Nat} {rd : Bool} (hb : b < 3) (k : Nat) (hk : k ≤ 30) : (∀ i, (i < 282 + 131 * s + 1 ∨ 282 + 131 * s + 131 ≤ i ∨ i = 282 + 131 * s + 3 ∨ (282 + 131 * s + 6 ≤ i ∧ i < 282 + 131 * s + 11)) → m_w (m_tk (m_tk0 M s b rd) s b k) i = m_w M i) ∧
    (m_w (m_tk (m_tk0 M s b rd) s b k) (282 + 131 * s + 1)).toInt32 = nI b ∧ (m_w (m_tk (m_tk0 M s b rd) s b k) (282 + 131 * s + 2)).toInt32 = b_I rd ∧ (m_w (m_tk (m_tk0 M s b rd) s b k) (282 + 131 * s + 4)).toInt32 = nI k ∧
    (m_w (m_tk (m_tk0 M s b rd) s b k) (282 + 131 * s + 5)).toInt32 = (if k = 0 then 0 else (m_w M (3 + 93 * b + 3 + 3 * (k - 1))).toInt32) ∧
    (∀ j, j < k → (m_w (m_tk (m_tk0 M s b rd) s b k) (282 + 131 * s + 11 + 2 * j)).toInt32 = (m_w M (3 + 93 * b + 3 + 3 * j)).toInt32 ∧ (m_w (m_tk (m_tk0 M s b rd) s b k) (282 + 131 * s + 12 + 2 * j)).toInt32 = (m_w M (3 + 93 * b + 3 + 3 * j + 2)).toInt32) := by
  have h0 : ∀ i, i ≠ 282 + 131 * s + 1 → i ≠ 282 + 131 * s + 2 → i ≠ 282 + 131 * s + 4 → i ≠ 282 + 131 * s + 5 → m_w (m_tk0 M s b rd) i = m_w M i := fun i g1 g2 g3 g4 => by
    unfold m_tk0
    rw [m_w_u, uL_n g2, m_w_u, uL_n g1, m_w_lv]
    unfold r_lv
    rw [uL_n g4, uL_n g3, uL_n g2, uL_n g1]
  induction k with
  | zero =>
    refine ⟨fun i hi => h0 i (by omega) (by omega) (by omega) (by omega), ?_, ?_, ?_, ?_, fun j hj => absurd hj (Nat.not_lt_zero j)⟩
    · show (m_w (m_tk0 M s b rd) _).toInt32 = _
      unfold m_tk0
      rw [m_w_u, uL_n (by omega), m_w_u, uL_s, i64_back]
    · show (m_w (m_tk0 M s b rd) _).toInt32 = _
      unfold m_tk0
      rw [m_w_u, uL_s]
      cases rd <;> rfl
    · show (m_w (m_tk0 M s b rd) _).toInt32 = _
      unfold m_tk0
      rw [m_w_u, uL_n (by omega), m_w_u, uL_n (by omega), m_w_lv]
      unfold r_lv
      rw [uL_n (by omega), uL_s]
      rfl
    · show (m_w (m_tk0 M s b rd) _).toInt32 = _
      unfold m_tk0
      rw [m_w_u, uL_n (by omega), m_w_u, uL_n (by omega), m_w_lv]
      unfold r_lv
      rw [uL_s]
      rfl
  | succ k ih =>
    obtain ⟨i1, i2, i3, i4, i5, i6⟩ := ih (by omega)
    have e : m_w (m_tk (m_tk0 M s b rd) s b (k + 1)) = r_pe (m_w (m_tk (m_tk0 M s b rd) s b k)) s k (m_w (m_tk0 M s b rd) (3 + 93 * b + 3 + 3 * k)).toInt32 (m_w (m_tk0 M s b rd) (3 + 93 * b + 3 + 3 * k + 2)).toInt32 := m_w_pe s k _ _
    rw [h0 _ (by omega) (by omega) (by omega) (by omega), h0 _ (by omega) (by omega) (by omega) (by omega)] at e
    rw [e]
    unfold r_pe
    refine ⟨fun i hi => ?_, ?_, ?_, ?_, ?_, fun j hj => ?_⟩
    · rw [uL_n (by omega), uL_n (by omega), uL_n (by omega), uL_n (by omega)]
      exact i1 i hi
    · rw [uL_n (by omega), uL_n (by omega), uL_n (by omega), uL_n (by omega)]
      exact i2
    · rw [uL_n (by omega), uL_n (by omega), uL_n (by omega), uL_n (by omega)]
      exact i3
    · rw [uL_n (by omega), uL_n (by omega), uL_n (by omega), uL_s, i64_add, i4]
      exact nI_1 k
    · rw [uL_s, i64_back, if_neg (by omega), Nat.add_sub_cancel]
    · by_cases hjk : j < k
      · rw [uL_n (by omega), uL_n (by omega), uL_n (by omega), uL_n (by omega), uL_n (by omega), uL_n (by omega), uL_n (by omega), uL_n (by omega)]
        exact i6 j hjk
      · have : j = k := by omega
        subst this
        refine ⟨by rw [uL_n (by omega), uL_n (by omega), uL_s, i64_back], by rw [uL_n (by omega), show 282 + 131 * s + 12 + 2 * j = 282 + 131 * s + 11 + 2 * j + 1 by omega, uL_s, i64_back]⟩
theorem gd_mapE (l : List a_M) (j : Nat) (h : j < l.length) : (l.map (fun m => (m.1, m.2.2))).getD j (0, 0) = ((l.getD j (0, 0, 0)).1, (l.getD j (0, 0, 0)).2.2) := by
  simp [List.getD_eq_getElem?_getD, h]
theorem i32_sub1 {x : Int32} (h : 1 ≤ x.toInt) : (x - 1).toInt = x.toInt - 1 := by
  rw [Int32.toInt_sub, show (1 : Int32).toInt = 1 from rfl]
  have := Int32.toInt_lt x
  have := Int32.le_toInt x
  exact Int.bmod_eq_of_le (by omega) (by omega)
theorem e_V_se {s b : Nat} {rd : Bool} (hw : w_V V) (ho : o_B t (a_b V b)) (hs : s < V.2.2.length) (hb : b < V.2.1.length) (h : e_V (m_w M) V) : e_V (m_w (m_tk (m_tk0 M s b rd) s b (a_ms V b).length)) (v_se V s b rd) := by
  have hb3 := hw.1.1
  have hl := hw.1.2.2 b hb
  obtain ⟨h1, h2, h3, h4, h5, h6, h7⟩ := h.2.1 s hs
  obtain ⟨k1, k2, k3, k4, k5, k6⟩ := tk_row (M := M) (s := s) (rd := rd) (show b < 3 by omega) (a_ms V b).length hl
  have hB := h.1.2.2.2 b hb
  refine e_V_s hw hs h (fun i hi => k1 i (by omega)) ⟨by rw [k1 _ (by omega)]; exact h1, k2, k3, by rw [k1 _ (by omega)]; exact h4, ?_, fun k hk => by rw [k1 _ (by omega)]; exact h6 k hk, fun j hj => ?_⟩ ?_
  · rw [k4]
    show nI _ = nI (List.map _ _).length
    rw [List.length_map]
  · have hj : j < (List.map (fun m : a_M => (m.1, m.2.2)) (a_ms V b)).length := hj
    rw [List.length_map] at hj
    show _ = ((List.map (fun m : a_M => (m.1, m.2.2)) (a_ms V b)).getD j (0, 0)).1 ∧ _ = ((List.map (fun m : a_M => (m.1, m.2.2)) (a_ms V b)).getD j (0, 0)).2
    rw [gd_mapE _ _ hj, (k6 j hj).1, (k6 j hj).2]
    have := hB.2.2.2 j hj
    exact ⟨this.1, this.2.2⟩
  · intro c hc u hu
    rw [a_us_bx hs] at hc
    cases hc
    rw [a_us_ls hs, k5]
    dsimp only
    have hu : a_uB (a_b V b) u := hu
    have e1 := i32_sub1 ho.1.1
    have key : (if (a_ms V b).length = 0 then 0 else (m_w M (3 + 93 * b + 3 + 3 * ((a_ms V b).length - 1))).toInt32) < (a_b V b).2.1 := by
      by_cases hz : (a_ms V b).length = 0
      · rw [if_pos hz, Int32.lt_iff_toInt_lt]
        have := ho.1.1
        show 0 < _
        omega
      · rw [if_neg hz]
        have g := (hB.2.2.2 ((a_ms V b).length - 1) (by show _ < (a_ms V b).length; omega)).1
        rw [g]
        exact (ho.2.1 _ (gd_mem (ms := a_ms V b) (by omega))).2.1
    rcases hu with ⟨m, hm, rfl⟩ | hu
    · have hm2 := (ho.2.1 m hm).2.1
      constructor
      · intro z
        exfalso
        obtain ⟨i, hi, rfl⟩ := List.mem_iff_getElem.mp hm
        have hi : i < (a_ms V b).length := hi
        rw [if_neg (by omega)] at z
        have g := (hB.2.2.2 ((a_ms V b).length - 1) (by show _ < (a_ms V b).length; omega)).1
        rw [g] at z
        rw [List.getD_eq_getElem?_getD, List.getElem?_eq_getElem (show (a_ms V b).length - 1 < (a_b V b).2.2.length by show _ < (a_ms V b).length; omega)] at z
        rcases Nat.lt_or_ge i ((a_ms V b).length - 1) with q | q
        · have := List.pairwise_iff_getElem.mp ho.2.2.1 i ((a_ms V b).length - 1) hi (by show _ < (a_ms V b).length; omega) q
          exact Int32.lt_irrefl (Int32.lt_trans z this)
        · have q : i = (a_ms V b).length - 1 := by omega
          subst q
          exact Int32.lt_irrefl z
      · intro z
        exfalso
        rw [Int32.lt_iff_toInt_lt] at z hm2
        omega
    · refine ⟨fun _ => ?_, fun _ => Int32.lt_of_lt_of_le key hu⟩
      rw [Int32.lt_iff_toInt_lt]
      rw [Int32.le_iff_toInt_le] at hu
      omega
theorem w_V_se {s b : Nat} {rd : Bool} (hw : w_V V) (hb : b < V.2.1.length) : w_V (v_se V s b rd) := by
  refine w_V_s hw ?_ (fun c hc => ?_) (fun hc => by cases hc)
  · show (List.map _ _).length ≤ 60
    rw [List.length_map]
    exact Nat.le_trans (hw.1.2.2 b hb) (by omega)
  · cases hc
    exact hb
end MOR
