set_option maxRecDepth 100000
section CST
variable {G : sx_G} {σ τ : sx_St} {mu : Nat → Nat} {n n' a lo sv nl cap : Nat} {ow : Nat → Nat} {Λ : Nat → Nat → Nat → Nat} {V : a_V} {A : a_A} {W : Nat → Prop} {c sl : Nat}
/-- cells below n that are none of x's own: 0 x, 1 deque, 2 its array, 3 slots, 4 input, 5 builder, 6 its bytes -/
def c_Zm (mu : Nat → Nat) (n q : Nat) : Prop := q < n ∧ ∀ i, i < 7 → q ≠ mu i
theorem c_Zm_le {q : Nat} (h : c_Zm mu n q) (hn : n ≤ n') : c_Zm mu n' q := ⟨Nat.lt_of_lt_of_le h.1 hn, h.2⟩
/-- a server at rest -/
def c_F (G : sx_G) (mu : Nat → Nat) (n : Nat) (σ : sx_St) (a : Nat) (V : a_V) : Prop := ∃ Λ, k_V G σ a Λ V ∧ k_z (c_Zm mu n) a Λ V ∧ w_V V
theorem c_F_fr (h : c_F G mu n σ a V) (F : h_F W c sl σ τ) (hW : ∀ q, c_Zm mu n q → ¬ W q) (hn : n ≤ n') : c_F G mu n' τ a V := by
  obtain ⟨Λ, h1, h2, h3⟩ := h
  exact ⟨Λ, k_V_Z h1 h2 F hW, k_z_of h2 (fun q z => c_Zm_le z hn), h3⟩
/-- notices at rest -/
def c_Fn (G : sx_G) (mu : Nat → Nat) (n : Nat) (σ : sx_St) (nl : Nat) (N : List a_N) : Prop := c_Zm mu n nl ∧ ((k_L0 G σ nl ∧ N = []) ∨ ∃ na cap g, k_L G σ nl na cap N.length g ∧ c_Zm mu n na ∧ ∀ i, i < N.length → k_Nt σ (g i) (N.getD i (0, 0, 0, 0)) ∧ c_Zm mu n (g i))
theorem c_Fn_fr {N : List a_N} (h : c_Fn G mu n σ nl N) (F : h_F W c sl σ τ) (hW : ∀ q, c_Zm mu n q → ¬ W q) (hn : n ≤ n') : c_Fn G mu n' τ nl N := by
  obtain ⟨h1, h2⟩ := h
  refine ⟨c_Zm_le h1 hn, ?_⟩
  rcases h2 with ⟨g1, g2⟩ | ⟨na, cap, g, g1, g2, g3⟩
  · exact Or.inl ⟨k_L0_fr F g1 (hW _ h1), g2⟩
  · exact Or.inr ⟨na, cap, g, k_L_fr F g1 (hW _ h1) (hW _ g2), c_Zm_le g2 hn, fun i hi => ⟨k_Nt_fr F (g3 i hi).1 (hW _ (g3 i hi).2), c_Zm_le (g3 i hi).2 hn⟩⟩
/-- x's own cells -/
def c_Xh (G : sx_G) (mu : Nat → Nat) (n : Nat) (σ : sx_St) (H : List a_V) : Prop := ∃ h g, k_D G σ (mu 1) (mu 2) h H.length g ∧ H.length ≤ 6 ∧ ∀ i, i < H.length → c_F G mu n σ (g i) (H.getD i (0, [], []))
def c_Xk (G : sx_G) (mu : Nat → Nat) (n : Nat) (σ : sx_St) (K : Nat → Option a_V) : Prop := ∃ fs, sx_c σ (mu 3) = some (.inl (sg_a G 6, 2, .inr (.inr (.inr (.inr fs))))) ∧ (∀ j, j < 2 → (K j = none → fs j = none) ∧ ∀ V, K j = some V → ∃ a, fs j = some a ∧ c_F G mu n σ a V) ∧ ∀ q e, sg_w G q = some e → sx_c σ q = some e ∧ c_Zm mu n q
def c_Xi (G : sx_G) (mu : Nat → Nat) (σ : sx_St) (I : List Int32) : Prop := ∃ fi, sx_c σ (mu 4) = some (.inl (sg_a G 2, 700, .inl fi)) ∧ I.length ≤ 700 ∧ ∀ i, i < I.length → fi i = I.getD i 0
def c_Xo (G : sx_G) (mu : Nat → Nat) (σ : sx_St) (oc : Nat) (O : List Int32) : Prop := ∃ fo z, sx_c σ (mu 5) = some (.inr (11, [.ref (mu 6), .int (nI 0), .int (b_I z), .int (nI O.length)])) ∧ sx_c σ (mu 6) = some (.inl (sg_a G 2, oc, .inl fo)) ∧ O.length ≤ oc ∧ 16 ≤ oc ∧ oc ≤ 30000 ∧ (∀ i, i < O.length → fo i = O.getD i 0) ∧ ∀ i, fits .byte (.int (fo i)) = true
def c_X (G : sx_G) (mu : Nat → Nat) (n oc : Nat) (σ : sx_St) (sv nl : Nat) (A : a_A) : Prop :=
  sx_c σ (mu 0) = some (.inr (0, [.ref sv, .ref (mu 1), .ref (mu 3), .ref nl, .ref (mu 4), .int (nI (A_i A).length), .int (A_c A), .int (A_p A), .ref (mu 5)])) ∧
  c_Xh G mu n σ (A_h A) ∧ c_Xk G mu n σ (A_k A) ∧ c_Xi G mu σ (A_i A) ∧ c_Xo G mu σ oc (A_o A) ∧ (mu 4 ≠ mu 6 ∧ mu 2 ≠ mu 3) ∧ n ≤ sx_n σ
theorem c_Xh_fr {H : List a_V} (h : c_Xh G mu n σ H) (F : h_F W c sl σ τ) (hW : ∀ q, c_Zm mu n q → ¬ W q) (h1 : ¬ W (mu 1)) (h2 : ¬ W (mu 2)) (hn : n ≤ n') : c_Xh G mu n' τ H := by
  obtain ⟨x, g, a1, a2, a3⟩ := h
  exact ⟨x, g, k_D_fr F a1 h1 h2, a2, fun i hi => c_F_fr (a3 i hi) F hW hn⟩
theorem c_Xk_fr {K : Nat → Option a_V} (h : c_Xk G mu n σ K) (F : h_F W c sl σ τ) (hW : ∀ q, c_Zm mu n q → ¬ W q) (h3 : ¬ W (mu 3)) (hn : n ≤ n') : c_Xk G mu n' τ K := by
  obtain ⟨fs, a1, a2, a3⟩ := h
  refine ⟨fs, h_F_c F a1 h3, fun j hj => ⟨(a2 j hj).1, fun V hV => ?_⟩, fun q e hq => ⟨h_F_c F (a3 q e hq).1 (hW q (a3 q e hq).2), c_Zm_le (a3 q e hq).2 hn⟩⟩
  obtain ⟨a, e1, e2⟩ := (a2 j hj).2 V hV
  exact ⟨a, e1, c_F_fr e2 F hW hn⟩
theorem c_Xi_fr {I : List Int32} (h : c_Xi G mu σ I) (F : h_F W c sl σ τ) (h4 : ¬ W (mu 4)) : c_Xi G mu τ I := by
  obtain ⟨fi, a1, a2⟩ := h
  exact ⟨fi, h_F_c F a1 h4, a2⟩
theorem c_Xo_fr {oc : Nat} {O : List Int32} (h : c_Xo G mu σ oc O) (F : h_F W c sl σ τ) (h5 : ¬ W (mu 5)) (h6 : ¬ W (mu 6)) : c_Xo G mu τ oc O := by
  obtain ⟨fo, z, a1, a2, a3⟩ := h
  exact ⟨fo, z, h_F_c F a1 h5, h_F_c F a2 h6, a3⟩
theorem c_X_fr {oc : Nat} (h : c_X G mu n oc σ sv nl A) (F : h_F W c sl σ τ) (hW : ∀ q, c_Zm mu n q → ¬ W q) (hm : ∀ i, i < 7 → ¬ W (mu i)) : c_X G mu n oc τ sv nl A := by
  obtain ⟨h1, h2, h3, h4, h5, h6, h7⟩ := h
  exact ⟨h_F_c F h1 (hm 0 (by decide)), c_Xh_fr h2 F hW (hm 1 (by decide)) (hm 2 (by decide)) (Nat.le_refl _), c_Xk_fr h3 F hW (hm 3 (by decide)) (Nat.le_refl _), c_Xi_fr h4 F (hm 4 (by decide)), c_Xo_fr h5 F (hm 5 (by decide)) (hm 6 (by decide)), h6, Nat.le_trans h7 F.1.1⟩
theorem c_X_n {oc : Nat} (h : c_X G mu n oc σ sv nl A) (hn : n ≤ n') (hn' : n' ≤ sx_n σ) : c_X G mu n' oc σ sv nl A := by
  obtain ⟨h1, h2, h3, h4, h5, h6, h7⟩ := h
  have F : h_F (fun _ => False) 0 0 σ σ := h_F_r
  exact ⟨h1, c_Xh_fr h2 F (fun _ _ z => z) (fun z => z) (fun z => z) hn, c_Xk_fr h3 F (fun _ _ z => z) (fun z => z) hn, h4, h5, h6, hn'⟩
theorem c_X_mu {oc : Nat} (h : c_X G mu n oc σ sv nl A) : ∀ i, i < 7 → mu i < sx_n σ := by
  obtain ⟨h1, ⟨_, _, ⟨_, h2, h3, _⟩, _⟩, ⟨_, h4, _⟩, ⟨_, h5, _⟩, ⟨_, _, h6, h7, _⟩, -⟩ := h
  intro i hi
  match i, hi with
  | 0, _ => exact sx_lt h1
  | 1, _ => exact sx_lt h2
  | 2, _ => exact sx_lt h3
  | 3, _ => exact sx_lt h4
  | 4, _ => exact sx_lt h5
  | 5, _ => exact sx_lt h6
  | 6, _ => exact sx_lt h7
/-- cells of other kinds are none of x's own -/
theorem c_X_ne {oc q : Nat} {e : va_E} (h : c_X G mu n oc σ sv nl A) (he : sx_c σ q = some e) (hk : e_k e = 14 ∨ e_k e = 16 ∨ e_k e = 17) : ∀ i, i < 7 → q ≠ mu i := by
  obtain ⟨h1, ⟨_, _, ⟨_, h2, h3, _⟩, _⟩, ⟨_, h4, _⟩, ⟨_, h5, _⟩, ⟨_, _, h6, h7, _⟩, -⟩ := h
  have key : ∀ (b : Nat) (e' : va_E), sx_c σ b = some e' → (e_k e' ≠ 14 ∧ e_k e' ≠ 16 ∧ e_k e' ≠ 17) → q ≠ b := by
    intro b e' hb hk' z
    rw [z] at he
    have := Option.some.inj (he.symm.trans hb)
    rw [this] at hk
    omega
  intro i hi
  match i, hi with
  | 0, _ => exact key _ _ h1 ⟨by show 0 + 8 ≠ 14; omega, by show 0 + 8 ≠ 16; omega, by show 0 + 8 ≠ 17; omega⟩
  | 1, _ => exact key _ _ h2 ⟨by show 10 + 8 ≠ 14; omega, by show 10 + 8 ≠ 16; omega, by show 10 + 8 ≠ 17; omega⟩
  | 2, _ => exact key _ _ h3 ⟨by show 4 ≠ 14; omega, by show 4 ≠ 16; omega, by show 4 ≠ 17; omega⟩
  | 3, _ => exact key _ _ h4 ⟨by show 4 ≠ 14; omega, by show 4 ≠ 16; omega, by show 4 ≠ 17; omega⟩
  | 4, _ => exact key _ _ h5 ⟨by show 0 ≠ 14; omega, by show 0 ≠ 16; omega, by show 0 ≠ 17; omega⟩
  | 5, _ => exact key _ _ h6 ⟨by show 11 + 8 ≠ 14; omega, by show 11 + 8 ≠ 16; omega, by show 11 + 8 ≠ 17; omega⟩
  | 6, _ => exact key _ _ h7 ⟨by show 0 ≠ 14; omega, by show 0 ≠ 16; omega, by show 0 ≠ 17; omega⟩
/-- between acts -/
def c_K (G : sx_G) (mu : Nat → Nat) (oc : Nat) (σ : sx_St) (A : a_A) : Prop := ∃ sv nl, c_X G mu (sx_n σ) oc σ sv nl A ∧ c_F G mu (sx_n σ) σ sv (A_v A) ∧ c_Fn G mu (sx_n σ) σ nl (A_n A)
/-- within an act that began at lo -/
def c_A (G : sx_G) (mu : Nat → Nat) (oc lo : Nat) (σ : sx_St) (sv nl : Nat) (ow : Nat → Nat) (Λ : Nat → Nat → Nat → Nat) (cap : Nat) (A : a_A) : Prop := c_X G mu lo oc σ sv nl A ∧ c_J G lo σ ow sv Λ nl cap A ∧ c_Z (fun q => ∀ i, i < 7 → q ≠ mu i) Λ (A_v A) ∧ c_cap Λ (A_v A) ∧ ∀ i, i < 7 → mu i < lo
theorem c_A_K {oc : Nat} (h : c_A G mu oc lo σ sv nl ow Λ cap A) : c_K G mu oc σ A := by
  obtain ⟨h1, ⟨hI, hN, hw, hlo, -⟩, hz, -, hm⟩ := h
  have hlt := k_V_lt hI.1
  obtain ⟨l1, l2, l3, l4, l5, l6, l7⟩ := hlt
  obtain ⟨t1, t2, t3, t4, t5, t6, t7⟩ := hI.2.1
  have hi : ∀ q, q < sx_n σ → ow q ≠ 0 → c_Zm mu (sx_n σ) q := fun q q1 q2 => ⟨q1, fun i hi z => by have h8 := hI.2.2.1 q q2; have h9 := hm i hi; omega⟩
  have F : h_F (fun _ => False) 0 0 σ σ := h_F_r
  refine ⟨sv, nl, c_X_n h1 hlo (Nat.le_refl _), ⟨Λ, hI.1, ⟨hi _ l1 (by omega), hi _ l2 (by omega), hi _ l3 (by omega), hi _ l4 (by omega), hi _ l5 (by omega), fun i hi2 => ?_, fun s hs => ?_⟩, hw⟩, ?_, ?_⟩
  · have g6 := t6 i hi2
    have m6 := l6 i hi2
    exact ⟨hi _ m6.1 (by omega), hi _ m6.2.1 (by omega), hi _ m6.2.2.1 (by omega), ⟨m6.2.2.2.1, (hz.1 i hi2).1⟩, ⟨m6.2.2.2.2.1, (hz.1 i hi2).2⟩, fun j hj => ⟨m6.2.2.2.2.2 j hj, c_X_ne h1 ((hI.1.2.2.2.1 i hi2).1.2.2 j hj) (Or.inl rfl)⟩⟩
  · have g6 := t7 s hs
    have m6 := l7 s hs
    exact ⟨hi _ m6.1 (by omega), hi _ m6.2.1 (by omega), hi _ m6.2.2.1 (by omega), hi _ m6.2.2.2.1 (by omega), ⟨m6.2.2.2.2.1, (hz.2 s hs).1⟩, ⟨m6.2.2.2.2.2, (hz.2 s hs).2⟩⟩
  · obtain ⟨vs, hc⟩ := c_N_c hN
    exact hi _ (sx_lt hc) (by rw [hN.1]; decide)
  · rcases hN.2 with ⟨g1, g2, -⟩ | ⟨na, g, g1, g2, g3⟩
    · exact Or.inl ⟨g1, g2⟩
    · refine Or.inr ⟨na, cap, g, g1, hi _ (k_L_lt g1).2 (by omega), fun i hi2 => ⟨(g3 i hi2).1, sx_lt (g3 i hi2).1, c_X_ne h1 (g3 i hi2).1 (Or.inr (Or.inl rfl))⟩⟩
end CST
