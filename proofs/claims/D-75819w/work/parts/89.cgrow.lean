set_option maxRecDepth 100000
section CGR
variable {G : sx_G} {σ τ : sx_St} {ow : Nat → Nat} {a lo : Nat} {Λ : Nat → Nat → Nat → Nat} {V : a_V} {W : Nat → Prop} {c sl : Nat}
/-- the layout with one more box, with one more session -/
def Λ_B (Λ : Nat → Nat → Nat → Nat) (n ba cap : Nat) (x : Nat → Nat) (g : Nat → Nat) : Nat → Nat → Nat → Nat := fun k i j => if k = 0 then (if i = 1 then ba else if i = 4 then cap else Λ 0 i j) else if i = n then (if k = 1 then x j else if k = 2 then g j else Λ k i j) else Λ k i j
def Λ_S (Λ : Nat → Nat → Nat → Nat) (n sa cap : Nat) (x : Nat → Nat) : Nat → Nat → Nat → Nat := fun k i j => if k = 0 then (if i = 3 then sa else if i = 5 then cap else Λ 0 i j) else if i = n then (if k = 3 then x j else Λ k i j) else Λ k i j
theorem Λ_B_1 {n ba cap : Nat} {x g : Nat → Nat} (j : Nat) : Λ_B Λ n ba cap x g 1 n j = x j := by simp [Λ_B]
theorem Λ_B_2 {n ba cap : Nat} {x g : Nat → Nat} : Λ_B Λ n ba cap x g 2 n = g := by funext j; simp [Λ_B]
theorem Λ_B_1n {n ba cap i : Nat} {x g : Nat → Nat} (h : i ≠ n) (j : Nat) : Λ_B Λ n ba cap x g 1 i j = Λ 1 i j := by simp [Λ_B, h]
theorem Λ_B_2n {n ba cap i : Nat} {x g : Nat → Nat} (h : i ≠ n) : Λ_B Λ n ba cap x g 2 i = Λ 2 i := by funext j; simp [Λ_B, h]
theorem Λ_B_3 {n ba cap : Nat} {x g : Nat → Nat} (i j : Nat) : Λ_B Λ n ba cap x g 3 i j = Λ 3 i j := by
  unfold Λ_B
  rw [if_neg (by decide)]
  by_cases h : i = n
  · rw [if_pos h, if_neg (by decide), if_neg (by decide)]
  · rw [if_neg h]
theorem Λ_S_3 {n sa cap : Nat} {x : Nat → Nat} (j : Nat) : Λ_S Λ n sa cap x 3 n j = x j := by simp [Λ_S]
theorem Λ_S_3n {n sa cap i : Nat} {x : Nat → Nat} (h : i ≠ n) (j : Nat) : Λ_S Λ n sa cap x 3 i j = Λ 3 i j := by simp [Λ_S, h]
theorem Λ_S_1 {n sa cap : Nat} {x : Nat → Nat} (i j : Nat) : Λ_S Λ n sa cap x 1 i j = Λ 1 i j := by
  unfold Λ_S
  rw [if_neg (by decide)]
  by_cases h : i = n
  · rw [if_pos h, if_neg (by decide)]
  · rw [if_neg h]
theorem Λ_S_2 {n sa cap : Nat} {x : Nat → Nat} (i : Nat) : Λ_S Λ n sa cap x 2 i = Λ 2 i := by
  funext j
  unfold Λ_S
  rw [if_neg (by decide)]
  by_cases h : i = n
  · rw [if_pos h, if_neg (by decide)]
  · rw [if_neg h]
theorem a_b_ap {B : a_B} {i : Nat} (h : i < V.2.1.length) : a_b (V.1, V.2.1 ++ [B], V.2.2) i = a_b V i := by
  show (V.2.1 ++ [B]).getD i _ = V.2.1.getD i _
  rw [List.getD_eq_getElem?_getD, List.getElem?_append_left h, ← List.getD_eq_getElem?_getD]
theorem a_b_aq {B : a_B} : a_b (V.1, V.2.1 ++ [B], V.2.2) V.2.1.length = B := by
  show (V.2.1 ++ [B]).getD _ _ = B
  rw [List.getD_eq_getElem?_getD, List.getElem?_append_right (Nat.le_refl _), Nat.sub_self]
  rfl
theorem a_s_ap {S : a_S} {i : Nat} (h : i < V.2.2.length) : a_s (V.1, V.2.1, V.2.2 ++ [S]) i = a_s V i := by
  show (V.2.2 ++ [S]).getD i _ = V.2.2.getD i _
  rw [List.getD_eq_getElem?_getD, List.getElem?_append_left h, ← List.getD_eq_getElem?_getD]
theorem a_s_aq {S : a_S} : a_s (V.1, V.2.1, V.2.2 ++ [S]) V.2.2.length = S := by
  show (V.2.2 ++ [S]).getD _ _ = S
  rw [List.getD_eq_getElem?_getD, List.getElem?_append_right (Nat.le_refl _), Nat.sub_self]
  rfl
def ow_B (ow : Nat → Nat) (n ba bo l ar : Nat) : Nat → Nat := fun q => if q = ba then 3 else if q = bo then 10 * n + 11 else if q = l then 10 * n + 12 else if q = ar then 10 * n + 13 else ow q
def ow_S (ow : Nat → Nat) (n sa so u t ac : Nat) : Nat → Nat := fun q => if q = sa then 5 else if q = so then 10 * n + 14 else if q = u then 10 * n + 15 else if q = t then 10 * n + 16 else if q = ac then 10 * n + 17 else ow q
/-- a box more -/
theorem c_I_aB {bo l ar capb nm nb ba cap : Nat} {g : Nat → Nat} {B : a_B} (F : h_F W c sl σ τ) (h : c_I G lo σ ow a Λ V) (hlo : lo ≤ sx_n σ) (hW : ∀ q, q < sx_n σ → W q → 2 ≤ ow q ∧ ow q ≤ 3)
    (hL : k_L G τ (Λ 0 0 0) ba cap (V.2.1.length + 1) (va_up (fun i => Λ 1 i 0) V.2.1.length bo)) (hB : k_B G τ bo l ar capb nm g B) (hn : k_Sn G τ nm nb B.1)
    (hba : ba = Λ 0 1 0 ∨ sx_n σ ≤ ba) (hbo : sx_n σ ≤ bo) (hl : sx_n σ ≤ l) (har : sx_n σ ≤ ar) (hne : ar ≠ ba) (hnm : ow nm = 0 ∧ ow nb = 0) (hg : ∀ i, i < B.2.2.length → ow (g i) = 0) :
    c_I G lo τ (ow_B ow V.2.1.length ba bo l ar) a (Λ_B Λ V.2.1.length ba cap (fun j => match j with | 0 => bo | 1 => l | 2 => ar | 3 => capb | 4 => nm | _ => nb) g) (V.1, V.2.1 ++ [B], V.2.2) := by
  obtain ⟨⟨h1, h2, h3, h4, h5⟩, ht, hge, hz⟩ := h
  have hlt := k_V_lt (G := G) (σ := σ) (a := a) (Λ := Λ) (V := V) ⟨h1, h2, h3, h4, h5⟩
  obtain ⟨l1, l2, l3, l4, l5, l6, l7⟩ := hlt
  obtain ⟨t1, t2, t3, t4, t5, t6, t7⟩ := ht
  obtain ⟨cB, ⟨mcB, fB, cL, cA, cLr⟩, cM⟩ := id hB
  obtain ⟨hN, zN, fN, cN, cNb, -⟩ := id hn
  obtain ⟨mcL, fL, cT, cba, -⟩ := id hL
  have n1 := F.1.1
  have wr : ∀ q, q < sx_n σ → ow q ≠ 3 → ow_B ow V.2.1.length ba bo l ar q = ow q := by
    intro q q1 q2
    unfold ow_B
    rw [if_neg (fun e => by rcases hba with z | z; rw [e, z] at q2; exact q2 t3; omega), if_neg (by omega), if_neg (by omega), if_neg (by omega)]
  have wz : ∀ (q : Nat) (e : va_E), sx_c τ q = some e → ow q = 0 → (e_k e = 14 ∨ e_k e = 20 ∨ e_k e = 0) → ow_B ow V.2.1.length ba bo l ar q = 0 := by
    intro q e qe q0 qk
    unfold ow_B
    have f1 : q ≠ ba := fun z => by rw [z] at qe; have := Option.some.inj (qe.symm.trans cba); rw [this] at qk; have h9 : (4 = 14 ∨ 4 = 20 ∨ 4 = 0) := qk; omega
    have f2 : q ≠ bo := fun z => by rw [z] at qe; have := Option.some.inj (qe.symm.trans cB); rw [this] at qk; have h9 : (5 + 8 = 14 ∨ 5 + 8 = 20 ∨ 5 + 8 = 0) := qk; omega
    have f3 : q ≠ l := fun z => by rw [z] at qe; have := Option.some.inj (qe.symm.trans cL); rw [this] at qk; have h9 : (9 + 8 = 14 ∨ 9 + 8 = 20 ∨ 9 + 8 = 0) := qk; omega
    have f4 : q ≠ ar := fun z => by rw [z] at qe; have := Option.some.inj (qe.symm.trans cA); rw [this] at qk; have h9 : (4 = 14 ∨ 4 = 20 ∨ 4 = 0) := qk; omega
    rw [if_neg f1, if_neg f2, if_neg f3, if_neg f4]
    exact q0
  have nW : ∀ q, q < sx_n σ → (ow q < 2 ∨ 3 < ow q) → ¬ W q := fun q q1 q2 z => by have := hW q q1 z; omega
  refine ⟨⟨?_, ?_, ?_, fun i hi => ?_, fun s hs => ?_⟩, ⟨?_, ?_, ?_, ?_, ?_, fun i hi => ?_, fun s hs => ?_⟩, fun q hq => ?_, fun q hq => ?_⟩
  · exact h_F_c F h1 (nW _ l1 (by omega))
  · show k_L G τ (Λ 0 0 0) ba cap (V.2.1 ++ [B]).length _
    rw [List.length_append]
    refine k_L_g hL (fun i hi => ?_)
    unfold va_up
    by_cases hx : i = V.2.1.length
    · rw [if_pos hx, hx, Λ_B_1]; rfl
    · rw [if_neg hx, Λ_B_1n hx]
  · refine k_L_g (k_L_fr F h3 (nW (Λ 0 2 0) l4 (by omega)) (nW (Λ 0 3 0) l5 (by omega))) (fun i hi => ?_)
    rw [Λ_B_3]
  · have hi : i < (V.2.1 ++ [B]).length := hi
    rw [List.length_append] at hi
    have hi : i < V.2.1.length + 1 := hi
    by_cases hx : i = V.2.1.length
    · subst hx
      rw [a_b_aq, Λ_B_1, Λ_B_1, Λ_B_1, Λ_B_1, Λ_B_1, Λ_B_1, Λ_B_2]
      exact ⟨hB, hn⟩
    · have hi2 : i < V.2.1.length := by omega
      obtain ⟨g1, g2, g3, g4, g5, g6⟩ := t6 i hi2
      obtain ⟨m1, m2, m3, m4, m5, m6⟩ := l6 i hi2
      rw [a_b_ap hi2, Λ_B_1n hx, Λ_B_1n hx, Λ_B_1n hx, Λ_B_1n hx, Λ_B_1n hx, Λ_B_1n hx, Λ_B_2n hx]
      exact ⟨k_B_fr F (h4 i hi2).1 (nW _ m1 (by omega)) (nW _ m2 (by omega)) (nW _ m3 (by omega)) (fun j hj => nW _ (m6 j hj) (by have := g6 j hj; omega)), k_Sn_fr F (h4 i hi2).2 (nW _ m4 (by omega)) (nW _ m5 (by omega))⟩
  · have hs : s < V.2.2.length := hs
    obtain ⟨g1, g2, g3, g4, g5, g6⟩ := t7 s hs
    obtain ⟨m1, m2, m3, m4, m5, m6⟩ := l7 s hs
    rw [Λ_B_3, Λ_B_3, Λ_B_3, Λ_B_3, Λ_B_3, Λ_B_3]
    exact ⟨k_S_fr F (h5 s hs).1 (nW _ m1 (by omega)) (nW _ m2 (by omega)) (nW _ m3 (by omega)) (nW _ m4 (by omega)), k_Sn_fr F (h5 s hs).2 (nW _ m5 (by omega)) (nW _ m6 (by omega))⟩
  · rw [wr _ l1 (by omega)]; exact t1
  · show ow_B ow V.2.1.length ba bo l ar (Λ 0 0 0) = 2
    rw [wr _ l2 (by omega)]; exact t2
  · show ow_B ow V.2.1.length ba bo l ar ba = 3
    unfold ow_B; rw [if_pos rfl]
  · show ow_B ow V.2.1.length ba bo l ar (Λ 0 2 0) = 4
    rw [wr _ l4 (by omega)]; exact t4
  · show ow_B ow V.2.1.length ba bo l ar (Λ 0 3 0) = 5
    rw [wr _ l5 (by omega)]; exact t5
  · have hi : i < (V.2.1 ++ [B]).length := hi
    rw [List.length_append] at hi
    have hi : i < V.2.1.length + 1 := hi
    by_cases hx : i = V.2.1.length
    · subst hx
      rw [Λ_B_1, Λ_B_1, Λ_B_1, Λ_B_1, Λ_B_1, Λ_B_2]
      have e1 : bo ≠ ba := e_kn cB cba rfl
      have e2 : l ≠ ba := e_kn cL cba rfl
      have e3 : l ≠ bo := e_kn cL cB rfl
      have e4 : ar ≠ bo := e_kn cA cB rfl
      have e5 : ar ≠ l := e_kn cA cL rfl
      refine ⟨by show ow_B ow V.2.1.length ba bo l ar bo = _; unfold ow_B; rw [if_neg e1, if_pos rfl], by show ow_B ow V.2.1.length ba bo l ar l = _; unfold ow_B; rw [if_neg e2, if_neg e3, if_pos rfl], by show ow_B ow V.2.1.length ba bo l ar ar = _; unfold ow_B; rw [if_neg hne, if_neg e4, if_neg e5, if_pos rfl], wz _ _ cN hnm.1 (Or.inr (Or.inl rfl)), wz _ _ cNb hnm.2 (Or.inr (Or.inr rfl)), fun j hj => ?_⟩
      have hj : j < (a_b (V.1, V.2.1 ++ [B], V.2.2) V.2.1.length).2.2.length := hj
      rw [a_b_aq] at hj
      exact wz _ _ (cM j hj) (hg j hj) (Or.inl rfl)
    · have hi2 : i < V.2.1.length := by omega
      have g6 := t6 i hi2
      have m6 := l6 i hi2
      rw [Λ_B_1n hx, Λ_B_1n hx, Λ_B_1n hx, Λ_B_1n hx, Λ_B_1n hx, Λ_B_2n hx, wr _ m6.1 (by omega), wr _ m6.2.1 (by omega), wr _ m6.2.2.1 (by omega), wr _ m6.2.2.2.1 (by omega), wr _ m6.2.2.2.2.1 (by omega)]
      refine ⟨g6.1, g6.2.1, g6.2.2.1, g6.2.2.2.1, g6.2.2.2.2.1, fun j hj => ?_⟩
      have hj : j < (a_b (V.1, V.2.1 ++ [B], V.2.2) i).2.2.length := hj
      rw [a_b_ap hi2] at hj
      have e9 := g6.2.2.2.2.2 j hj
      rw [wr _ (m6.2.2.2.2.2 j hj) (by omega)]
      exact e9
  · have hs : s < V.2.2.length := hs
    have g6 := t7 s hs
    have m6 := l7 s hs
    rw [Λ_B_3, Λ_B_3, Λ_B_3, Λ_B_3, Λ_B_3, Λ_B_3, wr _ m6.1 (by omega), wr _ m6.2.1 (by omega), wr _ m6.2.2.1 (by omega), wr _ m6.2.2.2.1 (by omega), wr _ m6.2.2.2.2.1 (by omega), wr _ m6.2.2.2.2.2 (by omega)]
    exact g6
  · rcases Nat.lt_or_ge q (sx_n σ) with q1 | q1
    · by_cases q3 : ow q = 3
      · exact hge q (by omega)
      · rw [wr q q1 q3] at hq; exact hge q hq
    · omega
  · have x1 := sx_lt cba
    have x2 := sx_lt cB
    have x3 := sx_lt cL
    have x4 := sx_lt cA
    unfold ow_B
    rw [if_neg (by omega), if_neg (by omega), if_neg (by omega), if_neg (by omega)]
    exact hz q (by omega)
/-- a session more -/
theorem c_I_aS {so u t ac nm nb sa cap : Nat} {S : a_S} (F : h_F W c sl σ τ) (h : c_I G lo σ ow a Λ V) (hlo : lo ≤ sx_n σ) (hW : ∀ q, q < sx_n σ → W q → 4 ≤ ow q ∧ ow q ≤ 5)
    (hL : k_L G τ (Λ 0 2 0) sa cap (V.2.2.length + 1) (va_up (fun i => Λ 3 i 0) V.2.2.length so)) (hS : k_S G τ so u t ac nm S) (hn : k_Sn G τ nm nb S.1)
    (hsa : sa = Λ 0 3 0 ∨ sx_n σ ≤ sa) (hso : sx_n σ ≤ so) (hu : sx_n σ ≤ u) (ht2 : sx_n σ ≤ t) (hac : sx_n σ ≤ ac) (hnm : ow nm = 0 ∧ ow nb = 0) (hne : nb ≠ u ∧ nb ≠ t ∧ nb ≠ ac) :
    c_I G lo τ (ow_S ow V.2.2.length sa so u t ac) a (Λ_S Λ V.2.2.length sa cap (fun j => match j with | 0 => so | 1 => u | 2 => t | 3 => ac | 4 => nm | _ => nb)) (V.1, V.2.1, V.2.2 ++ [S]) := by
  obtain ⟨⟨h1, h2, h3, h4, h5⟩, ht, hge, hz⟩ := h
  have hlt := k_V_lt (G := G) (σ := σ) (a := a) (Λ := Λ) (V := V) ⟨h1, h2, h3, h4, h5⟩
  obtain ⟨l1, l2, l3, l4, l5, l6, l7⟩ := hlt
  obtain ⟨t1, t2, t3, t4, t5, t6, t7⟩ := ht
  obtain ⟨fu, ft, fa, c1, c2, c3, c4, ⟨d1, d2, d3⟩, -⟩ := id hS
  obtain ⟨hN, zN, fN, cN, cNb, -⟩ := id hn
  obtain ⟨mcL, fL, cT, csa, -⟩ := id hL
  have n1 := F.1.1
  have wr : ∀ q, q < sx_n σ → ow q ≠ 5 → ow_S ow V.2.2.length sa so u t ac q = ow q := by
    intro q q1 q2
    unfold ow_S
    rw [if_neg (fun e => by rcases hsa with z | z; rw [e, z] at q2; exact q2 t5; omega), if_neg (by omega), if_neg (by omega), if_neg (by omega), if_neg (by omega)]
  have nW : ∀ q, q < sx_n σ → (ow q < 4 ∨ 5 < ow q) → ¬ W q := fun q q1 q2 z => by have := hW q q1 z; omega
  have x1 := sx_lt csa
  have x2 := sx_lt c1
  have x3 := sx_lt c2
  have x4 := sx_lt c3
  have x5 := sx_lt c4
  refine ⟨⟨?_, ?_, ?_, fun i hi => ?_, fun s hs => ?_⟩, ⟨?_, ?_, ?_, ?_, ?_, fun i hi => ?_, fun s hs => ?_⟩, fun q hq => ?_, fun q hq => ?_⟩
  · exact h_F_c F h1 (nW _ l1 (by omega))
  · refine k_L_g (k_L_fr F h2 (nW (Λ 0 0 0) l2 (by omega)) (nW (Λ 0 1 0) l3 (by omega))) (fun i hi => ?_)
    rw [Λ_S_1]
  · show k_L G τ (Λ 0 2 0) sa cap (V.2.2 ++ [S]).length _
    rw [List.length_append]
    refine k_L_g hL (fun i hi => ?_)
    unfold va_up
    by_cases hx : i = V.2.2.length
    · rw [if_pos hx, hx, Λ_S_3]; rfl
    · rw [if_neg hx, Λ_S_3n hx]
  · have hi : i < V.2.1.length := hi
    obtain ⟨g1, g2, g3, g4, g5, g6⟩ := t6 i hi
    obtain ⟨m1, m2, m3, m4, m5, m6⟩ := l6 i hi
    rw [Λ_S_1, Λ_S_1, Λ_S_1, Λ_S_1, Λ_S_1, Λ_S_1, Λ_S_2]
    exact ⟨k_B_fr F (h4 i hi).1 (nW _ m1 (by omega)) (nW _ m2 (by omega)) (nW _ m3 (by omega)) (fun j hj => nW _ (m6 j hj) (by have := g6 j hj; omega)), k_Sn_fr F (h4 i hi).2 (nW _ m4 (by omega)) (nW _ m5 (by omega))⟩
  · have hs : s < (V.2.2 ++ [S]).length := hs
    rw [List.length_append] at hs
    have hs : s < V.2.2.length + 1 := hs
    by_cases hx : s = V.2.2.length
    · subst hx
      rw [a_s_aq, Λ_S_3, Λ_S_3, Λ_S_3, Λ_S_3, Λ_S_3, Λ_S_3]
      exact ⟨hS, hn⟩
    · have hs2 : s < V.2.2.length := by omega
      obtain ⟨g1, g2, g3, g4, g5, g6⟩ := t7 s hs2
      obtain ⟨m1, m2, m3, m4, m5, m6⟩ := l7 s hs2
      rw [a_s_ap hs2, Λ_S_3n hx, Λ_S_3n hx, Λ_S_3n hx, Λ_S_3n hx, Λ_S_3n hx, Λ_S_3n hx]
      exact ⟨k_S_fr F (h5 s hs2).1 (nW _ m1 (by omega)) (nW _ m2 (by omega)) (nW _ m3 (by omega)) (nW _ m4 (by omega)), k_Sn_fr F (h5 s hs2).2 (nW _ m5 (by omega)) (nW _ m6 (by omega))⟩
  · rw [wr _ l1 (by omega)]; exact t1
  · show ow_S ow V.2.2.length sa so u t ac (Λ 0 0 0) = 2
    rw [wr _ l2 (by omega)]; exact t2
  · show ow_S ow V.2.2.length sa so u t ac (Λ 0 1 0) = 3
    rw [wr _ l3 (by omega)]; exact t3
  · show ow_S ow V.2.2.length sa so u t ac (Λ 0 2 0) = 4
    rw [wr _ l4 (by omega)]; exact t4
  · show ow_S ow V.2.2.length sa so u t ac sa = 5
    unfold ow_S; rw [if_pos rfl]
  · have hi : i < V.2.1.length := hi
    have g6 := t6 i hi
    have m6 := l6 i hi
    rw [Λ_S_1, Λ_S_1, Λ_S_1, Λ_S_1, Λ_S_1, Λ_S_2, wr _ m6.1 (by omega), wr _ m6.2.1 (by omega), wr _ m6.2.2.1 (by omega), wr _ m6.2.2.2.1 (by omega), wr _ m6.2.2.2.2.1 (by omega)]
    refine ⟨g6.1, g6.2.1, g6.2.2.1, g6.2.2.2.1, g6.2.2.2.2.1, fun j hj => ?_⟩
    have e9 := g6.2.2.2.2.2 j hj
    rw [wr _ (m6.2.2.2.2.2 j hj) (by omega)]
    exact e9
  · have hs : s < (V.2.2 ++ [S]).length := hs
    rw [List.length_append] at hs
    have hs : s < V.2.2.length + 1 := hs
    by_cases hx : s = V.2.2.length
    · subst hx
      rw [Λ_S_3, Λ_S_3, Λ_S_3, Λ_S_3, Λ_S_3, Λ_S_3]
      have e1 : so ≠ sa := e_kn c1 csa rfl
      have e2 : u ≠ sa := e_kn c2 csa rfl
      have e3 : u ≠ so := e_kn c2 c1 rfl
      have e4 : t ≠ sa := e_kn c3 csa rfl
      have e5 : t ≠ so := e_kn c3 c1 rfl
      have e6 : ac ≠ sa := e_kn c4 csa rfl
      have e7 : ac ≠ so := e_kn c4 c1 rfl
      refine ⟨by show ow_S ow V.2.2.length sa so u t ac so = _; unfold ow_S; rw [if_neg e1, if_pos rfl], by show ow_S ow V.2.2.length sa so u t ac u = _; unfold ow_S; rw [if_neg e2, if_neg e3, if_pos rfl], by show ow_S ow V.2.2.length sa so u t ac t = _; unfold ow_S; rw [if_neg e4, if_neg e5, if_neg (Ne.symm d1), if_pos rfl], by show ow_S ow V.2.2.length sa so u t ac ac = _; unfold ow_S; rw [if_neg e6, if_neg e7, if_neg (Ne.symm d2), if_neg (Ne.symm d3), if_pos rfl], ?_, ?_⟩
      · show ow_S ow V.2.2.length sa so u t ac nm = 0
        unfold ow_S
        rw [if_neg (e_kn cN csa rfl), if_neg (e_kn cN c1 rfl), if_neg (e_kn cN c2 rfl), if_neg (e_kn cN c3 rfl), if_neg (e_kn cN c4 rfl)]
        exact hnm.1
      · show ow_S ow V.2.2.length sa so u t ac nb = 0
        unfold ow_S
        rw [if_neg (e_kn cNb csa rfl), if_neg (e_kn cNb c1 rfl), if_neg hne.1, if_neg hne.2.1, if_neg hne.2.2]
        exact hnm.2
    · have hs2 : s < V.2.2.length := by omega
      have g6 := t7 s hs2
      have m6 := l7 s hs2
      rw [Λ_S_3n hx, Λ_S_3n hx, Λ_S_3n hx, Λ_S_3n hx, Λ_S_3n hx, Λ_S_3n hx, wr _ m6.1 (by omega), wr _ m6.2.1 (by omega), wr _ m6.2.2.1 (by omega), wr _ m6.2.2.2.1 (by omega), wr _ m6.2.2.2.2.1 (by omega), wr _ m6.2.2.2.2.2 (by omega)]
      exact g6
  · rcases Nat.lt_or_ge q (sx_n σ) with q1 | q1
    · by_cases q3 : ow q = 5
      · exact hge q (by omega)
      · rw [wr q q1 q3] at hq; exact hge q hq
    · omega
  · unfold ow_S
    rw [if_neg (by omega), if_neg (by omega), if_neg (by omega), if_neg (by omega), if_neg (by omega)]
    exact hz q (by omega)
end CGR
