set_option maxRecDepth 100000
section MIN
/-! the whole mathematical state: server, history, slots, notices, input, error code, error place, output, thrown -/
abbrev a_N : Type := Int32 × Int32 × Int32 × Int32
abbrev a_A : Type := a_V × List a_V × (Nat → Option a_V) × List a_N × List Int32 × Int32 × Int32 × List Int32 × Int32
def A_v (A : a_A) : a_V := A.1
def A_h (A : a_A) : List a_V := A.2.1
def A_k (A : a_A) : Nat → Option a_V := A.2.2.1
def A_n (A : a_A) : List a_N := A.2.2.2.1
def A_i (A : a_A) : List Int32 := A.2.2.2.2.1
def A_c (A : a_A) : Int32 := A.2.2.2.2.2.1
def A_p (A : a_A) : Int32 := A.2.2.2.2.2.2.1
def A_o (A : a_A) : List Int32 := A.2.2.2.2.2.2.2.1
def A_t (A : a_A) : Int32 := A.2.2.2.2.2.2.2.2
def A_sv (A : a_A) (x : a_V) : a_A := (x, A.2)
def A_sh (A : a_A) (x : List a_V) : a_A := (A.1, x, A.2.2)
def A_sk (A : a_A) (x : Nat → Option a_V) : a_A := (A.1, A.2.1, x, A.2.2.2)
def A_sn (A : a_A) (x : List a_N) : a_A := (A.1, A.2.1, A.2.2.1, x, A.2.2.2.2)
def A_si (A : a_A) (x : List Int32) : a_A := (A.1, A.2.1, A.2.2.1, A.2.2.2.1, x, A.2.2.2.2.2)
def A_sc (A : a_A) (x : Int32) : a_A := (A.1, A.2.1, A.2.2.1, A.2.2.2.1, A.2.2.2.2.1, x, A.2.2.2.2.2.2)
def A_sp (A : a_A) (x : Int32) : a_A := (A.1, A.2.1, A.2.2.1, A.2.2.2.1, A.2.2.2.2.1, A.2.2.2.2.2.1, x, A.2.2.2.2.2.2.2)
def A_so (A : a_A) (x : List Int32) : a_A := (A.1, A.2.1, A.2.2.1, A.2.2.2.1, A.2.2.2.2.1, A.2.2.2.2.2.1, A.2.2.2.2.2.2.1, x, A.2.2.2.2.2.2.2.2)
def A_st (A : a_A) (x : Int32) : a_A := (A.1, A.2.1, A.2.2.1, A.2.2.2.1, A.2.2.2.2.1, A.2.2.2.2.2.1, A.2.2.2.2.2.2.1, A.2.2.2.2.2.2.2.1, x)
def nx_n (n : a_N) (w : Nat) : Int32 := match w with
  | 0 => n.1
  | 1 => n.2.1
  | 2 => n.2.2.1
  | _ => n.2.2.2
/-- the reference holds the state -/
def m_J (M : m_M) (A : a_A) : Prop := M.2.1 = false ∧ e_V (M.2.2.1 0) (A_v A) ∧ w_V (A_v A) ∧
  ((A_h A).length ≤ 6 ∧ M.1 25 = nI (A_h A).length ∧ ∀ i, i < (A_h A).length → e_V (fun k => M.2.2.1 3 (806 * i + k)) ((A_h A).getD i (0, [], [])) ∧ w_V ((A_h A).getD i (0, [], []))) ∧
  (∀ j, j < 2 → M.2.2.2 5 j = b_I (A_k A j).isSome ∧ ∀ V, A_k A j = some V → e_V (fun k => M.2.2.1 2 (806 * j + k)) V ∧ w_V V) ∧
  ((A_n A).length ≤ 1000 ∧ M.1 5 = nI (A_n A).length ∧ ∀ i, i < (A_n A).length → ∀ w, w < 4 → M.2.2.2 0 (4 * i + w) = nx_n ((A_n A).getD i (0, 0, 0, 0)) w) ∧
  ((A_i A).length ≤ 700 ∧ M.1 8 = nI (A_i A).length ∧ ∀ i, i < (A_i A).length → M.2.2.2 2 i = (A_i A).getD i 0) ∧
  M.1 14 = A_c A ∧ M.1 15 = A_p A ∧
  ((A_o A).length ≤ 12000 ∧ M.1 27 = nI (A_o A).length ∧ ∀ i, i < (A_o A).length → M.2.2.2 6 i = (A_o A).getD i 0) ∧ M.1 0 = A_t A
variable {M : m_M} {A : a_A} {V : a_V} {r r' : Nat → Int64}
theorem m_J_row (h : m_J M A) : m_w M = M.2.2.1 0 := by
  unfold m_w
  rw [h.1]
  rfl
theorem m_J_e (h : m_J M A) : e_V (m_w M) (A_v A) := by rw [m_J_row h]; exact h.2.1
/-- a block's frame -/
theorem e_S_fr {o : Nat} {S : a_S} (hl : S.2.2.2.2.2.2.length ≤ 60) (hr : ∀ i, o ≤ i → i < o + 131 → r' i = r i) (h : e_S r o S) : e_S r' o S := by
  obtain ⟨h1, h2, h3, h4, h5, h6, h7⟩ := h
  refine ⟨by rw [hr _ (by omega) (by omega)]; exact h1, by rw [hr _ (by omega) (by omega)]; exact h2, by rw [hr _ (by omega) (by omega)]; exact h3, by rw [hr _ (by omega) (by omega)]; exact h4, by rw [hr _ (by omega) (by omega)]; exact h5, fun k hk => by rw [hr _ (by omega) (by omega)]; exact h6 k hk, fun j hj => ?_⟩
  rw [hr _ (by omega) (by omega), hr _ (by omega) (by omega)]
  exact h7 j hj
theorem e_B_fr {o : Nat} {B : a_B} (hl : B.2.2.length ≤ 30) (hr : ∀ i, o ≤ i → i < o + 93 → r' i = r i) (h : e_B r o B) : e_B r' o B := by
  obtain ⟨h1, h2, h3, h4⟩ := h
  refine ⟨by rw [hr _ (by omega) (by omega)]; exact h1, by rw [hr _ (by omega) (by omega)]; exact h2, by rw [hr _ (by omega) (by omega)]; exact h3, fun j hj => ?_⟩
  obtain ⟨g1, g2, g3⟩ := h4 j hj
  exact ⟨by rw [hr _ (by omega) (by omega)]; exact g1, by rw [hr _ (by omega) (by omega)]; exact g2, by rw [hr _ (by omega) (by omega)]; exact g3⟩
/-- one session is another, one box is another -/
def a_us (V : a_V) (s : Nat) (S : a_S) : a_V := (V.1, V.2.1, V.2.2.set s S)
def a_ub (V : a_V) (b : Nat) (B : a_B) : a_V := (V.1, V.2.1.set b B, V.2.2)
theorem a_us_s {s : Nat} (S : a_S) (hs : s < V.2.2.length) : a_s (a_us V s S) s = S := by
  simp [a_s, a_us, List.getD_eq_getElem?_getD, hs]
theorem a_us_t {s t : Nat} (S : a_S) (h : t ≠ s) : a_s (a_us V s S) t = a_s V t := by
  simp [a_s, a_us, List.getD_eq_getElem?_getD, List.getElem?_set_ne (Ne.symm h)]
theorem a_us_b (V : a_V) (s : Nat) (S : a_S) (b : Nat) : a_b (a_us V s S) b = a_b V b := rfl
theorem a_us_n (V : a_V) (s : Nat) (S : a_S) : (a_us V s S).2.2.length = V.2.2.length := List.length_set
theorem a_us_m (V : a_V) (s : Nat) (S : a_S) : (a_us V s S).2.1 = V.2.1 := rfl
theorem a_ub_b {b : Nat} (B : a_B) (hb : b < V.2.1.length) : a_b (a_ub V b B) b = B := by
  simp [a_b, a_ub, List.getD_eq_getElem?_getD, hb]
theorem a_ub_c {b c : Nat} (B : a_B) (h : c ≠ b) : a_b (a_ub V b B) c = a_b V c := by
  simp [a_b, a_ub, List.getD_eq_getElem?_getD, List.getElem?_set_ne (Ne.symm h)]
theorem a_ub_s (V : a_V) (b : Nat) (B : a_B) (s : Nat) : a_s (a_ub V b B) s = a_s V s := rfl
theorem a_ub_n (V : a_V) (b : Nat) (B : a_B) : (a_ub V b B).2.1.length = V.2.1.length := List.length_set
theorem a_ub_m (V : a_V) (b : Nat) (B : a_B) : (a_ub V b B).2.2 = V.2.2 := rfl
/-- a session's block changes -/
theorem e_V_s {s : Nat} {S : a_S} (hw : w_V V) (hs : s < V.2.2.length) (h : e_V r V) (hr : ∀ i, i < 282 + 131 * s ∨ 282 + 131 * s + 131 ≤ i → r' i = r i) (hS : e_S r' (282 + 131 * s) S) (hL : e_L r' (a_us V s S) s) : e_V r' (a_us V s S) := by
  obtain ⟨⟨h1, h2, h3, h4⟩, h5, h6⟩ := h
  have w1 := hw.1.1
  have w2 := hw.1.2.1
  refine ⟨⟨by rw [hr _ (by omega)]; exact h1, by rw [hr _ (by omega)]; exact h2, by rw [hr _ (by omega), a_us_n]; exact h3, fun b hb => ?_⟩, fun t ht => ?_, fun t ht => ?_⟩
  · have hb : b < V.2.1.length := hb
    exact e_B_fr (hw.1.2.2 b hb) (fun i g1 g2 => hr i (by omega)) (h4 b hb)
  · rw [a_us_n] at ht
    by_cases hts : t = s
    · subst hts
      rw [a_us_s S hs]
      exact hS
    · rw [a_us_t S hts]
      exact e_S_fr (hw.2.1 t ht) (fun i g1 g2 => hr i (by omega)) (h5 t ht)
  · rw [a_us_n] at ht
    by_cases hts : t = s
    · rw [hts]; exact hL
    · intro b hb m hm
      unfold a_bx a_ls at *
      rw [a_us_t S hts] at hb ⊢
      rw [hr _ (by omega)]
      exact h6 t ht b hb m hm
/-- a box's block changes -/
theorem e_V_b {b : Nat} {B : a_B} (hw : w_V V) (hb : b < V.2.1.length) (h : e_V r V) (hr : ∀ i, i < 3 + 93 * b ∨ 3 + 93 * b + 93 ≤ i → r' i = r i) (hB : e_B r' (3 + 93 * b) B) (hL : ∀ s, s < V.2.2.length → a_bx V s = some b → ∀ u, a_uB B u → ((r (282 + 131 * s + 5)).toInt32 < u ↔ a_ls V s < u)) : e_V r' (a_ub V b B) := by
  obtain ⟨⟨h1, h2, h3, h4⟩, h5, h6⟩ := h
  have w1 := hw.1.1
  have w2 := hw.1.2.1
  refine ⟨⟨by rw [hr _ (by omega)]; exact h1, by rw [hr _ (by omega), a_ub_n]; exact h2, by rw [hr _ (by omega)]; exact h3, fun c hc => ?_⟩, fun t ht => ?_, fun t ht => ?_⟩
  · rw [a_ub_n] at hc
    by_cases hcb : c = b
    · subst hcb
      rw [a_ub_b B hb]
      exact hB
    · rw [a_ub_c B hcb]
      exact e_B_fr (hw.1.2.2 c hc) (fun i g1 g2 => hr i (by omega)) (h4 c hc)
  · have ht : t < V.2.2.length := ht
    exact e_S_fr (hw.2.1 t ht) (fun i g1 g2 => hr i (by omega)) (h5 t ht)
  · have ht : t < V.2.2.length := ht
    intro c hc m hm
    have hc : a_bx V t = some c := hc
    rw [hr _ (by have := hw.2.2.1 t c ht hc; omega)]
    show _ ↔ a_ls V t < m
    by_cases hcb : c = b
    · subst hcb
      have hm : a_uB (a_b (a_ub V c B) c) m := hm
      rw [a_ub_b B hb] at hm
      exact hL t ht hc m hm
    · have hm : a_uB (a_b (a_ub V b B) c) m := hm
      rw [a_ub_c B hcb] at hm
      exact h6 t ht c hc m hm
/-- the state's server and notices change, the reference's net, notices, noticed -/
theorem m_J_v {M' : m_M} {V' : a_V} {ns : List a_N} (h : m_J M A) (h0 : M'.2.1 = M.2.1) (h1 : ∀ k, k ≠ 5 → M'.1 k = M.1 k) (h2 : ∀ t, t ≠ 0 → M'.2.2.1 t = M.2.2.1 t) (h3 : ∀ t, t ≠ 0 → t ≠ 1 → M'.2.2.2 t = M.2.2.2 t) (he : e_V (M'.2.2.1 0) V') (hw : w_V V')
    (hn : ns.length ≤ 1000 ∧ M'.1 5 = nI ns.length ∧ ∀ i, i < ns.length → ∀ w, w < 4 → M'.2.2.2 0 (4 * i + w) = nx_n (ns.getD i (0, 0, 0, 0)) w) : m_J M' (A_sn (A_sv A V') ns) := by
  obtain ⟨g1, g2, g3, g4, g5, g6, g7, g8, g9, g10, g11⟩ := h
  refine ⟨h0.trans g1, he, hw, ⟨g4.1, (h1 25 (by decide)).trans g4.2.1, fun i hi => ?_⟩, fun j hj => ?_, hn, ⟨g7.1, (h1 8 (by decide)).trans g7.2.1, fun i hi => ?_⟩, (h1 14 (by decide)).trans g8, (h1 15 (by decide)).trans g9, ⟨g10.1, (h1 27 (by decide)).trans g10.2.1, fun i hi => ?_⟩, (h1 0 (by decide)).trans g11⟩
  · rw [h2 3 (by decide)]; exact g4.2.2 i hi
  · rw [h2 2 (by decide), h3 5 (by decide) (by decide)]; exact g5 j hj
  · rw [h3 2 (by decide) (by decide)]; exact g7.2.2 i hi
  · rw [h3 6 (by decide) (by decide)]; exact g10.2.2 i hi
end MIN
