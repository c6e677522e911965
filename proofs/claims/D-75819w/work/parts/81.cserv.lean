set_option maxRecDepth 100000
section CSV
/-- the hash of a text -/
def t_h (t : List Nat) : Int32 := t.foldl (fun h c => 31 * h + nI c) 0
variable {G : sx_G} {σ τ : sx_St}
/-- a string of the run's own: its cell, its bytes' cell -/
def k_Sn (G : sx_G) (σ : sx_St) (nm nb : Nat) (t : List Nat) : Prop := ∃ (h : Int32) (z : Bool) (f : Nat → Int32), sx_c σ nm = some (.inr (12, [.ref nb, .int (nI 0), .int h, .int (b_I z)])) ∧ sx_c σ nb = some (.inl (sg_a G 2, t.length, .inl f)) ∧ (∀ i, i < t.length → f i = nI (t.getD i 0)) ∧ (h = 0 ∨ h = t_h t) ∧ (z = true → t_h t = 0)
theorem k_Sn_fr {W : Nat → Prop} {c s nm nb : Nat} {t : List Nat} (F : h_F W c s σ τ) (h : k_Sn G σ nm nb t) (h1 : ¬ W nm) (h2 : ¬ W nb) : k_Sn G τ nm nb t := by
  obtain ⟨x, z, f, a1, a2, a3⟩ := h
  exact ⟨x, z, f, h_F_c F a1 h1, h_F_c F a2 h2, a3⟩
/-- a server's cells: the layout lists addresses: 0 lists; 1 boxes (cell, list, array, capacity, name, name's bytes); 2 messages; 3 sessions (cell, uids, told, accounts, name, name's bytes) -/
def k_V (G : sx_G) (σ : sx_St) (a : Nat) (Λ : Nat → Nat → Nat → Nat) (V : a_V) : Prop :=
  sx_c σ a = some (.inr (1, [.ref (Λ 0 0 0), .ref (Λ 0 2 0), .int V.1])) ∧
  k_L G σ (Λ 0 0 0) (Λ 0 1 0) (Λ 0 4 0) V.2.1.length (fun i => Λ 1 i 0) ∧ k_L G σ (Λ 0 2 0) (Λ 0 3 0) (Λ 0 5 0) V.2.2.length (fun s => Λ 3 s 0) ∧
  (∀ i, i < V.2.1.length → k_B G σ (Λ 1 i 0) (Λ 1 i 1) (Λ 1 i 2) (Λ 1 i 3) (Λ 1 i 4) (Λ 2 i) (a_b V i) ∧ k_Sn G σ (Λ 1 i 4) (Λ 1 i 5) (a_b V i).1) ∧
  ∀ s, s < V.2.2.length → k_S G σ (Λ 3 s 0) (Λ 3 s 1) (Λ 3 s 2) (Λ 3 s 3) (Λ 3 s 4) (a_s V s) ∧ k_Sn G σ (Λ 3 s 4) (Λ 3 s 5) (a_s V s).1
/-- owners: 0 nobody's; 1 server, 2 3 boxes' list, 4 5 sessions' list, 6 7 notices' list; box i 10i+11 .. 10i+13; session s 10s+14 .. 10s+17 -/
def k_t (ow : Nat → Nat) (a : Nat) (Λ : Nat → Nat → Nat → Nat) (V : a_V) : Prop := ow a = 1 ∧ ow (Λ 0 0 0) = 2 ∧ ow (Λ 0 1 0) = 3 ∧ ow (Λ 0 2 0) = 4 ∧ ow (Λ 0 3 0) = 5 ∧
  (∀ i, i < V.2.1.length → ow (Λ 1 i 0) = 10 * i + 11 ∧ ow (Λ 1 i 1) = 10 * i + 12 ∧ ow (Λ 1 i 2) = 10 * i + 13 ∧ ow (Λ 1 i 4) = 0 ∧ ow (Λ 1 i 5) = 0 ∧ ∀ j, j < (a_ms V i).length → ow (Λ 2 i j) = 0) ∧
  ∀ s, s < V.2.2.length → ow (Λ 3 s 0) = 10 * s + 14 ∧ ow (Λ 3 s 1) = 10 * s + 15 ∧ ow (Λ 3 s 2) = 10 * s + 16 ∧ ow (Λ 3 s 3) = 10 * s + 17 ∧ ow (Λ 3 s 4) = 0 ∧ ow (Λ 3 s 5) = 0
/-- a server that the act at work owns: all its cells lie at lo or behind -/
def c_I (G : sx_G) (lo : Nat) (σ : sx_St) (ow : Nat → Nat) (a : Nat) (Λ : Nat → Nat → Nat → Nat) (V : a_V) : Prop := k_V G σ a Λ V ∧ k_t ow a Λ V ∧ (∀ q, ow q ≠ 0 → lo ≤ q) ∧ ∀ q, sx_n σ ≤ q → ow q = 0
/-- the notices, their list's capacity -/
def c_N (G : sx_G) (σ : sx_St) (ow : Nat → Nat) (nl cap : Nat) (N : List a_N) : Prop := ow nl = 6 ∧ ((k_L0 G σ nl ∧ N = [] ∧ cap = 0) ∨ ∃ na g, k_L G σ nl na cap N.length g ∧ ow na = 7 ∧ ∀ i, i < N.length → k_Nt σ (g i) (N.getD i (0, 0, 0, 0)) ∧ ow (g i) = 0)
variable {ow : Nat → Nat} {a lo : Nat} {Λ : Nat → Nat → Nat → Nat} {V : a_V} {W : Nat → Prop} {c sl : Nat}
theorem k_V_w (F : h_F W c sl σ τ) (h : k_V G σ a Λ V) (ht : k_t ow a Λ V) (hW : ∀ q, W q → 6 ≤ ow q ∧ ow q ≤ 7) : k_V G τ a Λ V := by
  obtain ⟨h1, h2, h3, h4, h5⟩ := h
  obtain ⟨t1, t2, t3, t4, t5, t6, t7⟩ := ht
  refine ⟨h_F_c F h1 (fun z => by have := hW _ z; omega), k_L_fr F h2 (fun z => by have := hW _ z; omega) (fun z => by have := hW _ z; omega), k_L_fr F h3 (fun z => by have := hW _ z; omega) (fun z => by have := hW _ z; omega), fun i hi => ?_, fun t ht => ?_⟩
  · obtain ⟨g1, g2, g3, g4, g5, g6⟩ := t6 i hi
    exact ⟨k_B_fr F (h4 i hi).1 (fun z => by have := hW _ z; omega) (fun z => by have := hW _ z; omega) (fun z => by have := hW _ z; omega) (fun j hj z => by have h8 := hW _ z; have h9 := g6 j hj; omega), k_Sn_fr F (h4 i hi).2 (fun z => by have := hW _ z; omega) (fun z => by have := hW _ z; omega)⟩
  · obtain ⟨g1, g2, g3, g4, g5, g6⟩ := t7 t ht
    exact ⟨k_S_fr F (h5 t ht).1 (fun z => by have := hW _ z; omega) (fun z => by have := hW _ z; omega) (fun z => by have := hW _ z; omega) (fun z => by have := hW _ z; omega), k_Sn_fr F (h5 t ht).2 (fun z => by have := hW _ z; omega) (fun z => by have := hW _ z; omega)⟩
/-- a session changes -/
theorem k_V_s {s : Nat} {S : a_S} (F : h_F W c sl σ τ) (h : k_V G σ a Λ V) (ht : k_t ow a Λ V) (hs : s < V.2.2.length) (hW : ∀ q, W q → 10 * s + 14 ≤ ow q ∧ ow q ≤ 10 * s + 17) (hS : k_S G τ (Λ 3 s 0) (Λ 3 s 1) (Λ 3 s 2) (Λ 3 s 3) (Λ 3 s 4) S) (hnm : S.1 = (a_s V s).1) : k_V G τ a Λ (a_us V s S) := by
  obtain ⟨h1, h2, h3, h4, h5⟩ := h
  obtain ⟨t1, t2, t3, t4, t5, t6, t7⟩ := ht
  refine ⟨h_F_c F h1 (fun z => by have := hW _ z; omega), k_L_fr F h2 (fun z => by have := hW _ z; omega) (fun z => by have := hW _ z; omega), ?_, fun i hi => ?_, fun t ht => ?_⟩
  · rw [a_us_n]
    exact k_L_fr F h3 (fun z => by have := hW _ z; omega) (fun z => by have := hW _ z; omega)
  · have hi : i < V.2.1.length := hi
    obtain ⟨g1, g2, g3, g4, g5, g6⟩ := t6 i hi
    exact ⟨k_B_fr F (h4 i hi).1 (fun z => by have := hW _ z; omega) (fun z => by have := hW _ z; omega) (fun z => by have := hW _ z; omega) (fun j hj z => by have h8 := hW _ z; have h9 := g6 j hj; omega), k_Sn_fr F (h4 i hi).2 (fun z => by have := hW _ z; omega) (fun z => by have := hW _ z; omega)⟩
  · rw [a_us_n] at ht
    obtain ⟨g1, g2, g3, g4, g5, g6⟩ := t7 t ht
    by_cases hts : t = s
    · subst hts
      rw [a_us_s S ht]
      refine ⟨hS, ?_⟩
      rw [hnm]
      exact k_Sn_fr F (h5 t ht).2 (fun z => by have := hW _ z; omega) (fun z => by have := hW _ z; omega)
    · rw [a_us_t S hts]
      exact ⟨k_S_fr F (h5 t ht).1 (fun z => by have := hW _ z; omega) (fun z => by have := hW _ z; omega) (fun z => by have := hW _ z; omega) (fun z => by have := hW _ z; omega), k_Sn_fr F (h5 t ht).2 (fun z => by have := hW _ z; omega) (fun z => by have := hW _ z; omega)⟩
theorem k_t_s {s : Nat} {S : a_S} (ht : k_t ow a Λ V) : k_t ow a Λ (a_us V s S) := by
  obtain ⟨t1, t2, t3, t4, t5, t6, t7⟩ := ht
  refine ⟨t1, t2, t3, t4, t5, t6, fun t ht => ?_⟩
  rw [a_us_n] at ht
  exact t7 t ht
/-- the layout where box b's array, capacity and messages are others -/
def Λ_b (Λ : Nat → Nat → Nat → Nat) (b ar cap : Nat) (g : Nat → Nat) : Nat → Nat → Nat → Nat := fun k i j => if i = b then (if k = 2 then g j else if k = 1 then (if j = 2 then ar else if j = 3 then cap else Λ 1 b j) else Λ k i j) else Λ k i j
/-- owners, where an array is box b's -/
def ow_b (ow : Nat → Nat) (b ar : Nat) : Nat → Nat := fun q => if q = ar then 10 * b + 13 else ow q
theorem Λ_b_0 {b ar cap : Nat} {g : Nat → Nat} (j k : Nat) : Λ_b Λ b ar cap g 0 j k = Λ 0 j k := by
  unfold Λ_b
  by_cases h : j = b
  · rw [if_pos h, if_neg (by decide), if_neg (by decide)]
  · rw [if_neg h]
theorem Λ_b_3 {b ar cap : Nat} {g : Nat → Nat} (j k : Nat) : Λ_b Λ b ar cap g 3 j k = Λ 3 j k := by
  unfold Λ_b
  by_cases h : j = b
  · rw [if_pos h, if_neg (by decide), if_neg (by decide)]
  · rw [if_neg h]
theorem Λ_b_1 {b ar cap : Nat} {g : Nat → Nat} {i j : Nat} (h : i ≠ b ∨ (j ≠ 2 ∧ j ≠ 3)) : Λ_b Λ b ar cap g 1 i j = Λ 1 i j := by
  unfold Λ_b
  by_cases hi : i = b
  · rw [if_pos hi, if_neg (by decide), if_pos rfl, if_neg (by omega), if_neg (by omega), hi]
  · rw [if_neg hi]
theorem Λ_b_12 {b ar cap : Nat} {g : Nat → Nat} : Λ_b Λ b ar cap g 1 b 2 = ar := by simp [Λ_b]
theorem Λ_b_13 {b ar cap : Nat} {g : Nat → Nat} : Λ_b Λ b ar cap g 1 b 3 = cap := by simp [Λ_b]
theorem Λ_b_2 {b ar cap : Nat} {g : Nat → Nat} : Λ_b Λ b ar cap g 2 b = g := by funext j; simp [Λ_b]
theorem Λ_b_2n {b ar cap : Nat} {g : Nat → Nat} {i : Nat} (h : i ≠ b) : Λ_b Λ b ar cap g 2 i = Λ 2 i := by funext j; simp [Λ_b, h]
/-- a box changes -/
theorem k_V_b {b ar cap : Nat} {g : Nat → Nat} {B : a_B} (F : h_F W c sl σ τ) (h : k_V G σ a Λ V) (ht : k_t ow a Λ V) (hb : b < V.2.1.length) (hW : ∀ q, W q → 10 * b + 11 ≤ ow q ∧ ow q ≤ 10 * b + 13) (hB : k_B G τ (Λ 1 b 0) (Λ 1 b 1) ar cap (Λ 1 b 4) g B) (hnm : B.1 = (a_b V b).1) : k_V G τ a (Λ_b Λ b ar cap g) (a_ub V b B) := by
  obtain ⟨h1, h2, h3, h4, h5⟩ := h
  obtain ⟨t1, t2, t3, t4, t5, t6, t7⟩ := ht
  refine ⟨?_, ?_, ?_, fun i hi => ?_, fun t ht => ?_⟩
  · rw [Λ_b_0, Λ_b_0]
    exact h_F_c F h1 (fun z => by have := hW _ z; omega)
  · rw [Λ_b_0, Λ_b_0, Λ_b_0, a_ub_n]
    exact k_L_g (k_L_fr F h2 (fun z => by have := hW _ z; omega) (fun z => by have := hW _ z; omega)) (fun i hi => (Λ_b_1 (Or.inr ⟨by decide, by decide⟩)).symm)
  · rw [Λ_b_0, Λ_b_0, Λ_b_0, a_ub_m]
    exact k_L_g (k_L_fr F h3 (fun z => by have := hW _ z; omega) (fun z => by have := hW _ z; omega)) (fun i hi => (Λ_b_3 i 0).symm)
  · rw [a_ub_n] at hi
    obtain ⟨g1, g2, g3, g4, g5, g6⟩ := t6 i hi
    by_cases hib : i = b
    · subst hib
      rw [a_ub_b B hi, Λ_b_1 (i := i) (j := 0) (Or.inr ⟨by decide, by decide⟩), Λ_b_1 (i := i) (j := 1) (Or.inr ⟨by decide, by decide⟩), Λ_b_1 (i := i) (j := 4) (Or.inr ⟨by decide, by decide⟩), Λ_b_1 (i := i) (j := 5) (Or.inr ⟨by decide, by decide⟩), Λ_b_12, Λ_b_13, Λ_b_2]
      refine ⟨hB, ?_⟩
      rw [hnm]
      exact k_Sn_fr F (h4 i hi).2 (fun z => by have := hW _ z; omega) (fun z => by have := hW _ z; omega)
    · rw [a_ub_c B hib, Λ_b_1 (Or.inl hib), Λ_b_1 (Or.inl hib), Λ_b_1 (Or.inl hib), Λ_b_1 (Or.inl hib), Λ_b_1 (Or.inl hib), Λ_b_1 (Or.inl hib), Λ_b_2n hib]
      exact ⟨k_B_fr F (h4 i hi).1 (fun z => by have := hW _ z; omega) (fun z => by have := hW _ z; omega) (fun z => by have := hW _ z; omega) (fun j hj z => by have h8 := hW _ z; have h9 := g6 j hj; omega), k_Sn_fr F (h4 i hi).2 (fun z => by have := hW _ z; omega) (fun z => by have := hW _ z; omega)⟩
  · have ht : t < V.2.2.length := ht
    obtain ⟨g1, g2, g3, g4, g5, g6⟩ := t7 t ht
    rw [Λ_b_3, Λ_b_3, Λ_b_3, Λ_b_3, Λ_b_3, Λ_b_3]
    exact ⟨k_S_fr F (h5 t ht).1 (fun z => by have := hW _ z; omega) (fun z => by have := hW _ z; omega) (fun z => by have := hW _ z; omega) (fun z => by have := hW _ z; omega), k_Sn_fr F (h5 t ht).2 (fun z => by have := hW _ z; omega) (fun z => by have := hW _ z; omega)⟩
theorem c_I_s {s : Nat} {S : a_S} (F : h_F W c sl σ τ) (h : c_I G lo σ ow a Λ V) (hs : s < V.2.2.length) (hW : ∀ q, W q → 10 * s + 14 ≤ ow q ∧ ow q ≤ 10 * s + 17) (hS : k_S G τ (Λ 3 s 0) (Λ 3 s 1) (Λ 3 s 2) (Λ 3 s 3) (Λ 3 s 4) S) (hnm : S.1 = (a_s V s).1) : c_I G lo τ ow a Λ (a_us V s S) := by
  obtain ⟨h1, h2, h3, h4⟩ := h
  exact ⟨k_V_s F h1 h2 hs hW hS hnm, k_t_s h2, h3, fun q hq => h4 q (Nat.le_trans F.1.1 hq)⟩
theorem k_V_lt (h : k_V G σ a Λ V) : a < sx_n σ ∧ Λ 0 0 0 < sx_n σ ∧ Λ 0 1 0 < sx_n σ ∧ Λ 0 2 0 < sx_n σ ∧ Λ 0 3 0 < sx_n σ ∧ (∀ i, i < V.2.1.length → Λ 1 i 0 < sx_n σ ∧ Λ 1 i 1 < sx_n σ ∧ Λ 1 i 2 < sx_n σ ∧ Λ 1 i 4 < sx_n σ ∧ Λ 1 i 5 < sx_n σ ∧ ∀ j, j < (a_ms V i).length → Λ 2 i j < sx_n σ) ∧ ∀ s, s < V.2.2.length → Λ 3 s 0 < sx_n σ ∧ Λ 3 s 1 < sx_n σ ∧ Λ 3 s 2 < sx_n σ ∧ Λ 3 s 3 < sx_n σ ∧ Λ 3 s 4 < sx_n σ ∧ Λ 3 s 5 < sx_n σ := by
  obtain ⟨h1, ⟨_, _, b1, b2, _⟩, ⟨_, _, s1, s2, _⟩, h4, h5⟩ := h
  refine ⟨sx_lt h1, sx_lt b1, sx_lt b2, sx_lt s1, sx_lt s2, fun i hi => ?_, fun t ht => ?_⟩
  · obtain ⟨⟨c1, ⟨_, _, c2, c3, _⟩, c4⟩, ⟨_, _, _, c5, c6, _⟩⟩ := h4 i hi
    exact ⟨sx_lt c1, sx_lt c2, sx_lt c3, sx_lt c5, sx_lt c6, fun j hj => sx_lt (c4 j hj)⟩
  · obtain ⟨⟨_, _, _, c1, c2, c3, c4, _⟩, ⟨_, _, _, c5, c6, _⟩⟩ := h5 t ht
    exact ⟨sx_lt c1, sx_lt c2, sx_lt c3, sx_lt c4, sx_lt c5, sx_lt c6⟩
/-- box b changes: an array of its own that is the old one or new, messages that are old or new -/
theorem c_I_b {b ar cap : Nat} {g : Nat → Nat} {B : a_B} (F : h_F W c sl σ τ) (h : c_I G lo σ ow a Λ V) (hlo : lo ≤ sx_n σ) (hb : b < V.2.1.length) (hW : ∀ q, W q → 10 * b + 11 ≤ ow q ∧ ow q ≤ 10 * b + 13) (hB : k_B G τ (Λ 1 b 0) (Λ 1 b 1) ar cap (Λ 1 b 4) g B) (hnm : B.1 = (a_b V b).1)
    (har : ar = Λ 1 b 2 ∨ sx_n σ ≤ ar) (hg : ∀ i, i < B.2.2.length → (∃ j, g i = Λ 2 b j ∧ j < (a_ms V b).length) ∨ sx_n σ ≤ g i) : c_I G lo τ (ow_b ow b ar) a (Λ_b Λ b ar cap g) (a_ub V b B) := by
  obtain ⟨h1, h2, h3, h4⟩ := h
  have hV := k_V_b F h1 h2 hb hW hB hnm
  have hlt := k_V_lt h1
  have h2' := h2
  obtain ⟨t1, t2, t3, t4, t5, t6, t7⟩ := h2'
  obtain ⟨l1, l2, l3, l4, l5, l6, l7⟩ := hlt
  have hb9 := t6 b hb
  have hl9 := l6 b hb
  have hne : ∀ q, q < sx_n σ → ow q ≠ 10 * b + 13 → q ≠ ar := by
    intro q q1 q2 e
    rcases har with e2 | e2
    · rw [e, e2] at q2; exact q2 hb9.2.2.1
    · omega
  have hw : ∀ q, q < sx_n σ → ow q ≠ 10 * b + 13 → ow_b ow b ar q = ow q := by
    intro q q1 q2
    unfold ow_b
    rw [if_neg (hne q q1 q2)]
  have har2 : ar < sx_n τ := by
    obtain ⟨_, ⟨_, _, _, x, _⟩, _⟩ := hB
    exact sx_lt x
  refine ⟨hV, ⟨?_, ?_, ?_, ?_, ?_, fun i hi => ?_, fun s hs => ?_⟩, fun q hq => ?_, fun q hq => ?_⟩
  · rw [hw _ l1 (by omega)]; exact t1
  · rw [Λ_b_0, hw _ l2 (by omega)]; exact t2
  · rw [Λ_b_0, hw _ l3 (by omega)]; exact t3
  · rw [Λ_b_0, hw _ l4 (by omega)]; exact t4
  · rw [Λ_b_0, hw _ l5 (by omega)]; exact t5
  · rw [a_ub_n] at hi
    have g6 := t6 i hi
    have m6 := l6 i hi
    rw [Λ_b_1 (i := i) (j := 0) (Or.inr ⟨by decide, by decide⟩), Λ_b_1 (i := i) (j := 1) (Or.inr ⟨by decide, by decide⟩), Λ_b_1 (i := i) (j := 4) (Or.inr ⟨by decide, by decide⟩), Λ_b_1 (i := i) (j := 5) (Or.inr ⟨by decide, by decide⟩), hw _ m6.1 (by omega), hw _ m6.2.1 (by omega), hw _ m6.2.2.2.1 (by omega), hw _ m6.2.2.2.2.1 (by omega)]
    by_cases hib : i = b
    · subst hib
      rw [Λ_b_12]
      refine ⟨g6.1, g6.2.1, by unfold ow_b; rw [if_pos rfl], g6.2.2.2.1, g6.2.2.2.2.1, fun j hj => ?_⟩
      have hj : j < (a_b (a_ub V i B) i).2.2.length := hj
      rw [a_ub_b B hi] at hj
      rw [Λ_b_2]
      have hgm : k_M τ (g j) (B.2.2.getD j (0, 0, 0)) := hB.2.2 j hj
      have hga : g j ≠ ar := by
        obtain ⟨_, ⟨_, _, _, x, _⟩, _⟩ := hB
        exact e_kn hgm x rfl
      unfold ow_b
      rw [if_neg hga]
      rcases hg j hj with ⟨k, e1, e2⟩ | e1
      · rw [e1]; exact g6.2.2.2.2.2 k e2
      · exact h4 _ e1
    · rw [Λ_b_1 (Or.inl hib), hw _ m6.2.2.1 (by omega), Λ_b_2n hib]
      refine ⟨g6.1, g6.2.1, g6.2.2.1, g6.2.2.2.1, g6.2.2.2.2.1, fun j hj => ?_⟩
      have hj : j < (a_b (a_ub V b B) i).2.2.length := hj
      rw [a_ub_c B hib] at hj
      have e9 := g6.2.2.2.2.2 j hj
      rw [hw _ (m6.2.2.2.2.2 j hj) (by omega)]
      exact e9
  · have hs : s < V.2.2.length := hs
    have g6 := t7 s hs
    have m6 := l7 s hs
    rw [Λ_b_3, Λ_b_3, Λ_b_3, Λ_b_3, Λ_b_3, Λ_b_3, hw _ m6.1 (by omega), hw _ m6.2.1 (by omega), hw _ m6.2.2.1 (by omega), hw _ m6.2.2.2.1 (by omega), hw _ m6.2.2.2.2.1 (by omega), hw _ m6.2.2.2.2.2 (by omega)]
    exact g6
  · unfold ow_b at hq
    by_cases hqa : q = ar
    · subst hqa
      rcases har with e | e
      · exact h3 q (by rw [e]; omega)
      · omega
    · rw [if_neg hqa] at hq
      exact h3 q hq
  · unfold ow_b
    rw [if_neg (by omega)]
    exact h4 q (Nat.le_trans F.1.1 hq)
end CSV
