set_option maxRecDepth 100000
section MLI
/-! lists of messages and entries whose uids grow; messages of a range of entries -/
variable {ms : List a_M} {es : List a_E} {V : a_V} {A : a_A}
def L_lt (ms : List a_M) : Prop := ms.Pairwise (fun x y => x.1 < y.1)
def E_lt (es : List a_E) : Prop := es.Pairwise (fun x y => x.1 < y.1)
/-- the message is of an entry of f .. k - 1 -/
def r_g (es : List a_E) (f k : Nat) (m : a_M) : Bool := match es.findIdx? (fun e => e.1 == m.1) with
  | some i => decide (f ≤ i ∧ i < k)
  | none => false
theorem E_ne (h : E_lt es) {i j : Nat} (hi : i < es.length) (hj : j < es.length) (he : (es.getD i (0, 0)).1 = (es.getD j (0, 0)).1) : i = j := by
  rw [List.getD_eq_getElem?_getD, List.getD_eq_getElem?_getD, List.getElem?_eq_getElem hi, List.getElem?_eq_getElem hj] at he
  have he : es[i].1 = es[j].1 := he
  rcases Nat.lt_trichotomy i j with q | q | q
  · have := List.pairwise_iff_getElem.mp h i j hi hj q
    rw [he] at this
    exact absurd this Int32.lt_irrefl
  · exact q
  · have := List.pairwise_iff_getElem.mp h j i hj hi q
    rw [he] at this
    exact absurd this Int32.lt_irrefl
theorem E_find {u : Int32} {i : Nat} (h : es.findIdx? (fun e => e.1 == u) = some i) : i < es.length ∧ (es.getD i (0, 0)).1 = u := by
  rw [List.findIdx?_eq_some_iff_getElem] at h
  obtain ⟨h1, h2, _⟩ := h
  refine ⟨h1, ?_⟩
  rw [List.getD_eq_getElem?_getD, List.getElem?_eq_getElem h1]
  simpa using h2
theorem E_none {u : Int32} (h : es.findIdx? (fun e => e.1 == u) = none) {i : Nat} (hi : i < es.length) : (es.getD i (0, 0)).1 ≠ u := by
  rw [List.findIdx?_eq_none_iff] at h
  rw [List.getD_eq_getElem?_getD, List.getElem?_eq_getElem hi]
  have := h es[i] (List.getElem_mem hi)
  simpa using this
theorem r_g_iff (h : E_lt es) {f k : Nat} {m : a_M} : r_g es f k m = true ↔ ∃ i, f ≤ i ∧ i < k ∧ i < es.length ∧ (es.getD i (0, 0)).1 = m.1 := by
  unfold r_g
  cases hf : es.findIdx? (fun e => e.1 == m.1) with
  | none =>
    simp only [Bool.false_eq_true, false_iff]
    rintro ⟨i, _, _, hi, he⟩
    exact E_none hf hi he
  | some j =>
    obtain ⟨h1, h2⟩ := E_find hf
    simp only [decide_eq_true_eq]
    constructor
    · rintro ⟨g1, g2⟩
      exact ⟨j, g1, g2, h1, h2⟩
    · rintro ⟨i, g1, g2, hi, he⟩
      have := E_ne h hi h1 (he.trans h2.symm)
      subst this
      exact ⟨g1, g2⟩
theorem r_g_0 {f : Nat} {m : a_M} : r_g es f f m = false := by
  unfold r_g
  cases es.findIdx? (fun e => e.1 == m.1) with
  | none => rfl
  | some j => exact decide_eq_false (by omega)
theorem r_g_s (h : E_lt es) {f k : Nat} {m : a_M} (hf : f ≤ k) (hk : k < es.length) (he : (es.getD k (0, 0)).1 = m.1) : r_g es f (k + 1) m = true ∧ r_g es f k m = false := by
  refine ⟨(r_g_iff h).mpr ⟨k, hf, by omega, hk, he⟩, ?_⟩
  rw [Bool.eq_false_iff]
  intro z
  obtain ⟨i, _, g2, g3, g4⟩ := (r_g_iff h).mp z
  have := E_ne h g3 hk (g4.trans he.symm)
  omega
theorem r_g_n (h : E_lt es) {f k : Nat} {m : a_M} (he : (es.getD k (0, 0)).1 ≠ m.1) : r_g es f (k + 1) m = r_g es f k m := by
  rw [Bool.eq_iff_iff, r_g_iff h, r_g_iff h]
  constructor
  · rintro ⟨i, g1, g2, g3, g4⟩
    refine ⟨i, g1, ?_, g3, g4⟩
    rcases Nat.lt_or_ge i k with q | q
    · exact q
    · have : i = k := by omega
      subst this
      exact absurd g4 he
  · rintro ⟨i, g1, g2, g3, g4⟩
    exact ⟨i, g1, by omega, g3, g4⟩
theorem a_find_n {u : Int32} (h : a_find ms u = none) : ∀ y ∈ ms, y.1 ≠ u := by
  unfold a_find at h
  rw [List.findIdx?_eq_none_iff] at h
  intro y hy
  simpa using h y hy
theorem a_find_s {u : Int32} {i : Nat} (h : a_find ms u = some i) : ∃ pre x post, ms = pre ++ x :: post ∧ pre.length = i ∧ x.1 = u ∧ ∀ y ∈ pre, y.1 ≠ u := by
  unfold a_find at h
  rw [List.findIdx?_eq_some_iff_getElem] at h
  obtain ⟨h1, h2, h3⟩ := h
  refine ⟨ms.take i, ms[i], ms.drop (i + 1), ?_, by rw [List.length_take]; omega, by simpa using h2, fun y hy => ?_⟩
  · rw [List.getElem_cons_drop, List.take_append_drop]
  · obtain ⟨j, hj, rfl⟩ := List.mem_iff_getElem.mp hy
    rw [List.length_take] at hj
    have := h3 j (by omega)
    rw [List.getElem_take]
    simpa using this
theorem L_split {pre post : List a_M} {x : a_M} (h : L_lt (pre ++ x :: post)) : (∀ y ∈ pre, y.1 < x.1) ∧ ∀ y ∈ post, x.1 < y.1 := by
  unfold L_lt at h
  rw [List.pairwise_append, List.pairwise_cons] at h
  exact ⟨fun y hy => h.2.2 y hy x (List.mem_cons_self ..), fun y hy => h.2.1.1 y hy⟩
theorem a_find_p {u : Int32} {pre post : List a_M} {x : a_M} (hx : x.1 = u) (hp : ∀ y ∈ pre, y.1 ≠ u) : a_find (pre ++ x :: post) u = some pre.length := by
  unfold a_find
  rw [List.findIdx?_append, List.findIdx?_eq_none_iff.mpr (fun y hy => by simpa using hp y hy)]
  simp [List.findIdx?_cons, hx]
theorem a_find_map {φ : a_M → a_M} (hφ : ∀ m, (φ m).1 = m.1) (u : Int32) : a_find (ms.map φ) u = a_find ms u := by
  unfold a_find
  rw [List.findIdx?_map]
  congr 1
  funext m
  simp [hφ]
/-- flags of messages of a range are others -/
def f_m (es : List a_E) (f k : Nat) (g : Int32 → Int32) (m : a_M) : a_M := if r_g es f k m then (m.1, m.2.1, g m.2.2) else m
theorem f_m_1 {f k : Nat} {g : Int32 → Int32} (m : a_M) : (f_m es f k g m).1 = m.1 := by unfold f_m; split <;> rfl
theorem f_m_s {f k : Nat} {g : Int32 → Int32} (m : a_M) : (f_m es f k g m).2.1 = m.2.1 := by unfold f_m; split <;> rfl
theorem f_m_0 {f : Nat} {g : Int32 → Int32} : ms.map (f_m es f f g) = ms := by
  rw [show ms.map (f_m es f f g) = ms.map id from List.map_congr_left (fun m _ => by unfold f_m; rw [r_g_0]; rfl), List.map_id]
theorem f_m_none (h : E_lt es) {f k : Nat} {g : Int32 → Int32} (hn : a_find ms (es.getD k (0, 0)).1 = none) : ms.map (f_m es f (k + 1) g) = ms.map (f_m es f k g) := by
  refine List.map_congr_left (fun m hm => ?_)
  unfold f_m
  rw [r_g_n h (Ne.symm (a_find_n hn m hm))]
theorem f_m_some (h : E_lt es) (hm : L_lt ms) {f k i : Nat} {g : Int32 → Int32} (hf : f ≤ k) (hk : k < es.length) (hn : a_find ms (es.getD k (0, 0)).1 = some i) : (ms.map (f_m es f k g)).getD i (0, 0, 0) = ms.getD i (0, 0, 0) ∧ ms.map (f_m es f (k + 1) g) = (ms.map (f_m es f k g)).set i ((ms.getD i (0, 0, 0)).1, (ms.getD i (0, 0, 0)).2.1, g (ms.getD i (0, 0, 0)).2.2) := by
  obtain ⟨pre, x, post, rfl, rfl, hx, hp⟩ := a_find_s hn
  obtain ⟨h1, h2⟩ := L_split hm
  obtain ⟨e1, e2⟩ := r_g_s (m := x) h hf hk hx.symm
  rw [gd_mid, List.map_append, List.map_cons]
  have fx : f_m es f k g x = x := by unfold f_m; rw [e2]; rfl
  have fx2 : f_m es f (k + 1) g x = (x.1, x.2.1, g x.2.2) := by unfold f_m; rw [e1]; rfl
  refine ⟨?_, ?_⟩
  · rw [show pre.length = (pre.map (f_m es f k g)).length from (List.length_map _).symm, gd_mid, fx]
  · rw [List.map_append, List.map_cons, fx2]
    rw [show pre.map (f_m es f (k + 1) g) = pre.map (f_m es f k g) from List.map_congr_left (fun m hm => by unfold f_m; rw [r_g_n h (by rw [← hx]; exact (Int32.ne_of_lt (h1 m hm)).symm)]), show post.map (f_m es f (k + 1) g) = post.map (f_m es f k g) from List.map_congr_left (fun m hm => by unfold f_m; rw [r_g_n h (by rw [← hx]; exact Int32.ne_of_lt (h2 m hm))])]
    rw [show pre.length = (pre.map (f_m es f k g)).length from (List.length_map _).symm, List.set_append_right _ _ (Nat.le_refl _), Nat.sub_self]
    rfl
theorem cn_none (h : E_lt es) {f k : Nat} {c : a_M → Bool} (hn : a_find ms (es.getD k (0, 0)).1 = none) : ms.countP (fun m => r_g es f (k + 1) m && c m) = ms.countP (fun m => r_g es f k m && c m) :=
  List.countP_congr (fun m hm => by rw [r_g_n h (Ne.symm (a_find_n hn m hm))])
theorem cn_some (h : E_lt es) (hm : L_lt ms) {f k i : Nat} {c : a_M → Bool} (hf : f ≤ k) (hk : k < es.length) (hn : a_find ms (es.getD k (0, 0)).1 = some i) : ms.countP (fun m => r_g es f (k + 1) m && c m) = ms.countP (fun m => r_g es f k m && c m) + (if c (ms.getD i (0, 0, 0)) then 1 else 0) := by
  obtain ⟨pre, x, post, rfl, rfl, hx, hp⟩ := a_find_s hn
  obtain ⟨h1, h2⟩ := L_split hm
  obtain ⟨e1, e2⟩ := r_g_s (m := x) h hf hk hx.symm
  rw [gd_mid, List.countP_append, List.countP_append, List.countP_cons, List.countP_cons, e1, e2]
  rw [List.countP_congr (l := pre) (p := fun m => r_g es f (k + 1) m && c m) (q := fun m => r_g es f k m && c m) (fun m hm => by rw [r_g_n h (by rw [← hx]; exact (Int32.ne_of_lt (h1 m hm)).symm)]), List.countP_congr (l := post) (p := fun m => r_g es f (k + 1) m && c m) (q := fun m => r_g es f k m && c m) (fun m hm => by rw [r_g_n h (by rw [← hx]; exact Int32.ne_of_lt (h2 m hm))])]
  simp
  omega
theorem fl_none (h : E_lt es) {f k : Nat} (hn : a_find ms (es.getD k (0, 0)).1 = none) : ms.filter (r_g es f (k + 1)) = ms.filter (r_g es f k) :=
  List.filter_congr (fun m hm => by rw [r_g_n h (Ne.symm (a_find_n hn m hm))])
theorem fl_some (h : E_lt es) (hm : L_lt ms) {f k i : Nat} (hf : f ≤ k) (hk : k < es.length) (hn : a_find ms (es.getD k (0, 0)).1 = some i) : ms.filter (r_g es f (k + 1)) = ms.filter (r_g es f k) ++ [ms.getD i (0, 0, 0)] := by
  obtain ⟨pre, x, post, rfl, rfl, hx, hp⟩ := a_find_s hn
  obtain ⟨h1, h2⟩ := L_split hm
  obtain ⟨e1, e2⟩ := r_g_s (m := x) h hf hk hx.symm
  have hpost : ∀ m ∈ post, r_g es f (k + 1) m = false ∧ r_g es f k m = false := by
    intro m hm
    have q := h2 m hm
    have e3 : r_g es f k m = false := by
      rw [Bool.eq_false_iff]
      intro z
      obtain ⟨i, g1, g2, g3, g4⟩ := (r_g_iff h).mp z
      have w := List.pairwise_iff_getElem.mp h i k g3 hk g2
      rw [List.getD_eq_getElem?_getD, List.getElem?_eq_getElem g3] at g4
      rw [List.getD_eq_getElem?_getD, List.getElem?_eq_getElem hk] at hx
      have g4 : es[i].1 = m.1 := g4
      have hx : x.1 = es[k].1 := hx
      rw [g4, ← hx] at w
      exact absurd (Int32.lt_trans w q) Int32.lt_irrefl
    exact ⟨by rw [r_g_n h (by rw [← hx]; exact Int32.ne_of_lt q)]; exact e3, e3⟩
  rw [gd_mid, List.filter_append, List.filter_append, List.filter_cons_of_pos e1, List.filter_cons_of_neg (by rw [e2]; decide)]
  have n1 : post.filter (r_g es f (k + 1)) = [] := List.filter_eq_nil_iff.mpr (fun m hm => by rw [(hpost m hm).1]; decide)
  have n2 : post.filter (r_g es f k) = [] := List.filter_eq_nil_iff.mpr (fun m hm => by rw [(hpost m hm).2]; decide)
  rw [n1, n2]
  rw [List.filter_congr (l := pre) (p := r_g es f (k + 1)) (q := r_g es f k) (fun m hm => by rw [r_g_n h (by rw [← hx]; exact (Int32.ne_of_lt (h1 m hm)).symm)])]
  simp
end MLI
