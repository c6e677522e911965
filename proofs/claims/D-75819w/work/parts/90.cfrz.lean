set_option maxRecDepth 100000
section CFZ
variable {G : sx_G} {σ τ : sx_St} {ow : Nat → Nat} {a lo : Nat} {Λ : Nat → Nat → Nat → Nat} {V : a_V} {W Z : Nat → Prop} {c sl : Nat}
/-- all of a server's cells lie in Z -/
def k_z (Z : Nat → Prop) (a : Nat) (Λ : Nat → Nat → Nat → Nat) (V : a_V) : Prop := Z a ∧ Z (Λ 0 0 0) ∧ Z (Λ 0 1 0) ∧ Z (Λ 0 2 0) ∧ Z (Λ 0 3 0) ∧
  (∀ i, i < V.2.1.length → Z (Λ 1 i 0) ∧ Z (Λ 1 i 1) ∧ Z (Λ 1 i 2) ∧ Z (Λ 1 i 4) ∧ Z (Λ 1 i 5) ∧ ∀ j, j < (a_ms V i).length → Z (Λ 2 i j)) ∧
  ∀ s, s < V.2.2.length → Z (Λ 3 s 0) ∧ Z (Λ 3 s 1) ∧ Z (Λ 3 s 2) ∧ Z (Λ 3 s 3) ∧ Z (Λ 3 s 4) ∧ Z (Λ 3 s 5)
theorem k_z_of {Z Z' : Nat → Prop} (h : k_z Z a Λ V) (hz : ∀ q, Z q → Z' q) : k_z Z' a Λ V := by
  obtain ⟨h1, h2, h3, h4, h5, h6, h7⟩ := h
  refine ⟨hz _ h1, hz _ h2, hz _ h3, hz _ h4, hz _ h5, fun i hi => ?_, fun s hs => ?_⟩
  · obtain ⟨g1, g2, g3, g4, g5, g6⟩ := h6 i hi
    exact ⟨hz _ g1, hz _ g2, hz _ g3, hz _ g4, hz _ g5, fun j hj => hz _ (g6 j hj)⟩
  · obtain ⟨g1, g2, g3, g4, g5, g6⟩ := h7 s hs
    exact ⟨hz _ g1, hz _ g2, hz _ g3, hz _ g4, hz _ g5, hz _ g6⟩
/-- what lies in Z is kept -/
theorem k_V_Z (h : k_V G σ a Λ V) (hz : k_z Z a Λ V) (F : h_F W c sl σ τ) (hW : ∀ q, Z q → ¬ W q) : k_V G τ a Λ V := by
  obtain ⟨h1, h2, h3, h4, h5⟩ := h
  obtain ⟨t1, t2, t3, t4, t5, t6, t7⟩ := hz
  refine ⟨h_F_c F h1 (hW _ t1), k_L_fr F h2 (hW _ t2) (hW _ t3), k_L_fr F h3 (hW _ t4) (hW _ t5), fun i hi => ?_, fun t ht => ?_⟩
  · obtain ⟨g1, g2, g3, g4, g5, g6⟩ := t6 i hi
    exact ⟨k_B_fr F (h4 i hi).1 (hW _ g1) (hW _ g2) (hW _ g3) (fun j hj => hW _ (g6 j hj)), k_Sn_fr F (h4 i hi).2 (hW _ g4) (hW _ g5)⟩
  · obtain ⟨g1, g2, g3, g4, g5, g6⟩ := t7 t ht
    exact ⟨k_S_fr F (h5 t ht).1 (hW _ g1) (hW _ g2) (hW _ g3) (hW _ g4), k_Sn_fr F (h5 t ht).2 (hW _ g5) (hW _ g6)⟩
/-- cells that are there, none of them a given server's own -/
theorem k_z_lt {b : Nat} {vs : List Value} (h : k_V G σ a Λ V) (hb : sx_c σ b = some (.inr (1, vs))) (hne : a ≠ b) : k_z (fun q => q < sx_n σ ∧ q ≠ b) a Λ V := by
  obtain ⟨h1, ⟨_, _, b1, b2, _⟩, ⟨_, _, s1, s2, _⟩, h4, h5⟩ := h
  refine ⟨⟨sx_lt h1, hne⟩, ⟨sx_lt b1, e_kn b1 hb rfl⟩, ⟨sx_lt b2, e_kn b2 hb rfl⟩, ⟨sx_lt s1, e_kn s1 hb rfl⟩, ⟨sx_lt s2, e_kn s2 hb rfl⟩, fun i hi => ?_, fun t ht => ?_⟩
  · obtain ⟨⟨c1, ⟨_, _, c2, c3, _⟩, c4⟩, ⟨_, _, _, c5, c6, _⟩⟩ := h4 i hi
    exact ⟨⟨sx_lt c1, e_kn c1 hb rfl⟩, ⟨sx_lt c2, e_kn c2 hb rfl⟩, ⟨sx_lt c3, e_kn c3 hb rfl⟩, ⟨sx_lt c5, e_kn c5 hb rfl⟩, ⟨sx_lt c6, e_kn c6 hb rfl⟩, fun j hj => ⟨sx_lt (c4 j hj), e_kn (c4 j hj) hb rfl⟩⟩
  · obtain ⟨⟨_, _, _, c1, c2, c3, c4, _⟩, ⟨_, _, _, c5, c6, _⟩⟩ := h5 t ht
    exact ⟨⟨sx_lt c1, e_kn c1 hb rfl⟩, ⟨sx_lt c2, e_kn c2 hb rfl⟩, ⟨sx_lt c3, e_kn c3 hb rfl⟩, ⟨sx_lt c4, e_kn c4 hb rfl⟩, ⟨sx_lt c5, e_kn c5 hb rfl⟩, ⟨sx_lt c6, e_kn c6 hb rfl⟩⟩
/-- the names' cells lie in Z -/
def c_Z (Z : Nat → Prop) (Λ : Nat → Nat → Nat → Nat) (V : a_V) : Prop := (∀ i, i < V.2.1.length → Z (Λ 1 i 4) ∧ Z (Λ 1 i 5)) ∧ ∀ s, s < V.2.2.length → Z (Λ 3 s 4) ∧ Z (Λ 3 s 5)
/-- the boxes' capacities -/
def c_cap (Λ : Nat → Nat → Nat → Nat) (V : a_V) : Prop := ∀ i, i < V.2.1.length → Λ 1 i 3 ≤ 62
/-- an empty server's picture -/
def Λ_0 (bl ba sl2 sa : Nat) : Nat → Nat → Nat → Nat := fun k i _ => if k = 0 then (match i with | 0 => bl | 1 => ba | 2 => sl2 | 3 => sa | _ => 2) else 0
def ow_0 (a bl ba sl2 sa : Nat) : Nat → Nat := fun q => if q = a then 1 else if q = bl then 2 else if q = ba then 3 else if q = sl2 then 4 else if q = sa then 5 else 0
theorem c_I_new {bl ba sl2 sa : Nat} {x : Int32} {g g' : Nat → Nat} (h1 : sx_c σ a = some (.inr (1, [.ref bl, .ref sl2, .int x]))) (h2 : k_L G σ bl ba 2 0 g) (h3 : k_L G σ sl2 sa 2 0 g') (n1 : a < bl) (n2 : a < ba) (n3 : a < sl2) (n4 : a < sa) (n5 : bl ≠ sl2) (n6 : ba ≠ sa) : c_I G a σ (ow_0 a bl ba sl2 sa) a (Λ_0 bl ba sl2 sa) (x, [], []) := by
  obtain ⟨mc, f, c1, c2, c3⟩ := id h2
  obtain ⟨mc', f', d1, d2, d3⟩ := id h3
  have e1 : ba ≠ bl := e_kn c2 c1 rfl
  have e2 : sl2 ≠ ba := e_kn d1 c2 rfl
  have e3 : sa ≠ bl := e_kn d2 c1 rfl
  have e4 : sa ≠ sl2 := e_kn d2 d1 rfl
  have l1 := sx_lt h1
  have l2 := sx_lt c1
  have l3 := sx_lt c2
  have l4 := sx_lt d1
  have l5 := sx_lt d2
  refine ⟨⟨h1, k_L_g h2 (fun i hi => absurd hi (Nat.not_lt_zero i)), k_L_g h3 (fun i hi => absurd hi (Nat.not_lt_zero i)), fun i hi => absurd hi (Nat.not_lt_zero i), fun i hi => absurd hi (Nat.not_lt_zero i)⟩, ⟨?_, ?_, ?_, ?_, ?_, fun i hi => absurd hi (Nat.not_lt_zero i), fun i hi => absurd hi (Nat.not_lt_zero i)⟩, fun q hq => ?_, fun q hq => ?_⟩
  · unfold ow_0; rw [if_pos rfl]
  · show ow_0 a bl ba sl2 sa bl = 2
    unfold ow_0; rw [if_neg (by omega), if_pos rfl]
  · show ow_0 a bl ba sl2 sa ba = 3
    unfold ow_0; rw [if_neg (by omega), if_neg e1, if_pos rfl]
  · show ow_0 a bl ba sl2 sa sl2 = 4
    unfold ow_0; rw [if_neg (by omega), if_neg (Ne.symm n5), if_neg e2, if_pos rfl]
  · show ow_0 a bl ba sl2 sa sa = 5
    unfold ow_0; rw [if_neg (by omega), if_neg e3, if_neg (Ne.symm n6), if_neg e4, if_pos rfl]
  · unfold ow_0 at hq
    by_cases z1 : q = a
    · omega
    · rw [if_neg z1] at hq
      by_cases z2 : q = bl
      · omega
      · rw [if_neg z2] at hq
        by_cases z3 : q = ba
        · omega
        · rw [if_neg z3] at hq
          by_cases z4 : q = sl2
          · omega
          · rw [if_neg z4] at hq
            by_cases z5 : q = sa
            · omega
            · rw [if_neg z5] at hq; exact absurd rfl hq
  · unfold ow_0
    rw [if_neg (by omega), if_neg (by omega), if_neg (by omega), if_neg (by omega), if_neg (by omega)]
end CFZ
