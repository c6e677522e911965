set_option maxRecDepth 100000
section COB
theorem fi_s {α : Type} {l : List α} {p : α → Bool} (x : α) {k : Nat} (hk : k < l.length) (h : ∀ j, j < k → p (l.getD j x) = false) (he : p (l.getD k x) = true) : l.findIdx? p = some k := by
  rw [List.findIdx?_eq_some_iff_getElem]
  refine ⟨hk, ?_, fun j hj => ?_⟩
  · rw [List.getD_eq_getElem?_getD, List.getElem?_eq_getElem hk] at he
    exact he
  · have := h j hj
    rw [List.getD_eq_getElem?_getD, List.getElem?_eq_getElem (by omega)] at this
    simpa using this
theorem fi_n {α : Type} {l : List α} {p : α → Bool} (x : α) (h : ∀ j, j < l.length → p (l.getD j x) = false) : l.findIdx? p = none := by
  rw [List.findIdx?_eq_none_iff]
  intro y hy
  obtain ⟨j, hj, rfl⟩ := List.getElem_of_mem hy
  have := h j hj
  rw [List.getD_eq_getElem?_getD, List.getElem?_eq_getElem hj] at this
  exact this
variable {G : sx_G} {σ τ : sx_St}
/-- a message, a notice -/
def k_M (σ : sx_St) (a : Nat) (m : a_M) : Prop := sx_c σ a = some (.inr (6, [.int m.1, .int m.2.1, .int m.2.2]))
def k_Nt (σ : sx_St) (a : Nat) (m : a_N) : Prop := sx_c σ a = some (.inr (8, [.int m.1, .int m.2.1, .int m.2.2.1, .int m.2.2.2]))
/-- a session: its cell, uids, told, accounts, the name's address -/
def k_S (G : sx_G) (σ : sx_St) (so u t ac nm : Nat) (S : a_S) : Prop := ∃ (fu ft fa : Nat → Int32),
  sx_c σ so = some (.inr (7, [.ref nm, .int (o_I S.2.1), .int (nI S.2.2.2.2.2.2.length), .int S.2.2.2.2.1, .int (b_I S.2.2.1), .int (b_I S.2.2.2.1), .ref u, .ref t, .ref ac])) ∧
  sx_c σ u = some (.inl (sg_a G 0, 60, .inl fu)) ∧ sx_c σ t = some (.inl (sg_a G 0, 60, .inl ft)) ∧ sx_c σ ac = some (.inl (sg_a G 0, 5, .inl fa)) ∧
  (u ≠ t ∧ u ≠ ac ∧ t ≠ ac) ∧ S.2.2.2.2.2.2.length ≤ 60 ∧ (∀ i, i < S.2.2.2.2.2.2.length → fu i = (S.2.2.2.2.2.2.getD i (0, 0)).1) ∧ (∀ i, i < S.2.2.2.2.2.2.length → ft i = (S.2.2.2.2.2.2.getD i (0, 0)).2) ∧ ∀ i, i < 5 → fa i = S.2.2.2.2.2.1 i
theorem k_S_fr {W : Nat → Prop} {c s so u t ac nm : Nat} {S : a_S} (F : h_F W c s σ τ) (h : k_S G σ so u t ac nm S) (h1 : ¬ W so) (h2 : ¬ W u) (h3 : ¬ W t) (h4 : ¬ W ac) : k_S G τ so u t ac nm S := by
  obtain ⟨fu, ft, fa, a1, a2, a3, a4, a5⟩ := h
  exact ⟨fu, ft, fa, h_F_c F a1 h1, h_F_c F a2 h2, h_F_c F a3 h3, h_F_c F a4 h4, a5⟩
theorem gd_ap (l : List a_E) (e : a_E) (j : Nat) : (l ++ [e]).getD j (0, 0) = if j < l.length then l.getD j (0, 0) else if j = l.length then e else (0, 0) := by
  simp only [List.getD_eq_getElem?_getD]
  by_cases h : j < l.length
  · rw [if_pos h, List.getElem?_append_left h]
  · rw [if_neg h, List.getElem?_append_right (by omega)]
    by_cases h2 : j = l.length
    · subst h2; simp
    · rw [if_neg h2, List.getElem?_eq_none (by simp; omega)]; rfl
end COB
