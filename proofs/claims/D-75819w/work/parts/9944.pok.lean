set_option maxRecDepth 100000
section CPO
/-! what a text makes -/
def p_fr (n : List Nat) : a_S := (n, none, false, false, 0, fun _ => 0, [])
def p_B (B : a_B) : Prop := o_N B.1 ∧ B.2.2.length ≤ 30 ∧ B.2.1 = nI (B.2.2.length + 1) ∧ ∀ i, i < B.2.2.length → (B.2.2.getD i (0, 0, 0)).1 = nI (i + 1) ∧ 1 ≤ (B.2.2.getD i (0, 0, 0)).2.1.toInt ∧ (B.2.2.getD i (0, 0, 0)).2.1.toInt ≤ 9999
def p_OV (V : a_V) : Prop := (1 ≤ V.1.toInt ∧ V.1.toInt ≤ 30) ∧ V.2.1.length ≤ 3 ∧ V.2.2.length ≤ 4 ∧ (∀ b, b < V.2.1.length → p_B (a_b V b)) ∧ ∀ s, s < V.2.2.length → o_N (a_s V s).1 ∧ a_s V s = p_fr (a_s V s).1
def p_ok (S : p_S) : Prop := p_OV S.1 ∧ S.2.2.length = S.1.2.2.length ∧ ∀ s b, (S.2.2.getD s (none, false)).1 = some b → b < S.1.2.1.length
variable {V : a_V} {S : p_S} {t : List Int32} {k : k_T}
theorem p_OV_w (h : p_OV V) : w_Vb V := ⟨h.2.1, h.2.2.1, fun b hb => (h.2.2.2.1 b hb).2.1⟩
theorem p_ok_0 : p_ok ((30, [], []), false, []) := ⟨⟨by decide, by decide, by decide, fun b hb => absurd hb (Nat.not_lt_zero b), fun b hb => absurd hb (Nat.not_lt_zero b)⟩, rfl, fun s b hb => by cases hb⟩
theorem p_B_o {B : a_B} (h : p_B B) : o_B 0 B := by
  obtain ⟨h1, h2, h3, h4⟩ := h
  have e : B.2.1.toInt = B.2.2.length + 1 := by rw [h3, nI_toInt (by omega)]; rfl
  have key : ∀ i (hi : i < B.2.2.length), (B.2.2[i]).1 = nI (i + 1) ∧ 1 ≤ (B.2.2[i]).2.1.toInt ∧ (B.2.2[i]).2.1.toInt ≤ 9999 := fun i hi => by
    have := h4 i hi
    rw [List.getD_eq_getElem?_getD, List.getElem?_eq_getElem hi] at this
    exact this
  refine ⟨⟨by omega, by omega⟩, fun m hm => ?_, ?_, h1⟩
  · obtain ⟨i, hi, rfl⟩ := List.getElem_of_mem hm
    obtain ⟨g1, g2, g3⟩ := key i hi
    refine ⟨by rw [g1, nI_toInt (by omega)]; omega, by rw [g1, h3]; exact nI_lt (by omega) (by omega), g2, g3⟩
  · rw [List.pairwise_iff_getElem]
    intro i j hi hj hij
    rw [(key i hi).1, (key j hj).1]
    exact nI_lt (by omega) (by omega)
theorem p_OV_o (h : p_OV V) : o_V 0 V := by
  refine ⟨h.1, fun b hb => p_B_o (h.2.2.2.1 b hb), fun s hs => ?_⟩
  obtain ⟨h1, h2⟩ := h.2.2.2.2 s hs
  rw [h2]
  exact ⟨⟨fun e he => (by cases he), List.Pairwise.nil, Int.le_refl 0⟩, fun b hb => (by cases hb), h1⟩
theorem p_OV_V (h : p_OV V) : w_V V := by
  refine ⟨p_OV_w h, fun s hs => ?_, fun s b hs hb => ?_, fun s hs _ => ?_⟩
  · unfold a_es
    rw [(h.2.2.2.2 s hs).2]
    exact Nat.zero_le _
  · unfold a_bx at hb
    rw [(h.2.2.2.2 s hs).2] at hb
    cases hb
  · unfold a_es
    rw [(h.2.2.2.2 s hs).2]
    rfl
theorem p_lim_ok {x : p_S × k_T} (hS : p_ok S) (hk : k_ok t k) (h : p_lim t S k = .inr x) (h0 : k.1 ≠ 0) : p_ok x.1 ∧ k_ok t x.2 ∧ k.2.1 < x.2.2.1 := by
  unfold p_lim at h
  by_cases h1 : 0 < p_tot S.1
  · rw [if_pos h1] at h; cases h
  · rw [if_neg h1] at h
    by_cases h2 : S.2.1 = true
    · rw [if_pos h2] at h; cases h
    · rw [if_neg h2] at h
      unfold p_num at h
      by_cases h3 : (p_nx t k).1 = 2
      · rw [if_pos h3] at h
        by_cases h4 : 1 ≤ (p_nx t k).2.2.2 ∧ (p_nx t k).2.2.2 ≤ 30
        · rw [if_pos h4] at h
          have h : (Sum.inr (((nI (p_nx t k).2.2.2, S.1.2), true, S.2.2), p_nx t (p_nx t k)) : p_E ⊕ (p_S × k_T)) = .inr x := h
          cases h
          have g1 := k_ok_s hk
          have g2 := k_ok_s (k_ok_x hk)
          have g3 := (k_ok_x hk).1
          refine ⟨⟨⟨?_, hS.1.2⟩, hS.2⟩, k_ok_x (k_ok_x hk), ?_⟩
          · show 1 ≤ (nI (p_nx t k).2.2.2).toInt ∧ (nI (p_nx t k).2.2.2).toInt ≤ 30
            rw [nI_toInt (by omega)]
            omega
          · show k.2.1 < (p_nx t (p_nx t k)).2.1
            have := g1.2 h0
            omega
        · rw [if_neg h4] at h; cases h
      · rw [if_neg h3] at h; cases h
theorem p_OV_box {n : List Nat} (h : p_OV V) (hn : o_N n) (hb : V.2.1.length < 3) : p_OV (V.1, V.2.1 ++ [(n, 1, [])], V.2.2) := by
  refine ⟨h.1, ?_, h.2.2.1, fun b hb2 => ?_, h.2.2.2.2⟩
  · show (V.2.1 ++ [_]).length ≤ 3
    rw [List.length_append, List.length_singleton]
    omega
  · have hb2 : b < (V.2.1 ++ [_]).length := hb2
    rw [List.length_append, List.length_singleton] at hb2
    by_cases hbb : b < V.2.1.length
    · rw [a_b_ap hbb]
      exact h.2.2.2.1 b hbb
    · obtain rfl : b = V.2.1.length := by omega
      rw [a_b_aq]
      exact ⟨hn, Nat.zero_le _, rfl, fun i hi => absurd hi (Nat.not_lt_zero i)⟩
theorem p_OV_ses {n : List Nat} (h : p_OV V) (hn : o_N n) (hb : V.2.2.length < 4) : p_OV (p_aS V n) := by
  refine ⟨h.1, h.2.1, ?_, h.2.2.2.1, fun b hb2 => ?_⟩
  · show (V.2.2 ++ [_]).length ≤ 4
    rw [List.length_append, List.length_singleton]
    omega
  · have hb2 : b < (V.2.2 ++ [_]).length := hb2
    rw [List.length_append, List.length_singleton] at hb2
    unfold p_aS
    by_cases hbb : b < V.2.2.length
    · rw [a_s_ap hbb]
      exact h.2.2.2.2 b hbb
    · obtain rfl : b = V.2.2.length := by omega
      rw [a_s_aq]
      exact ⟨hn, rfl⟩
theorem p_OV_co {b x : Nat} {fl : Int32} (h : p_OV V) (hb : b < V.2.1.length) (hl : nI (a_ms V b).length < V.1) (hx : 1 ≤ x ∧ x ≤ 9999) : p_OV (v_co V b (nI x) fl) ∧ (a_ms V b).length < 30 := by
  have hB := h.2.2.2.1 b hb
  have h30 : (a_ms V b).length < 30 := by
    have h9 : (a_ms V b).length ≤ 30 := hB.2.1
    rw [Int32.lt_iff_toInt_lt, nI_toInt (by omega)] at hl
    have := h.1.2
    omega
  refine ⟨⟨h.1, by unfold v_co; rw [a_ub_n]; exact h.2.1, h.2.2.1, fun c hc => ?_, h.2.2.2.2⟩, h30⟩
  unfold v_co at hc ⊢
  rw [a_ub_n] at hc
  by_cases hcb : c = b
  · subst hcb
    rw [a_ub_b _ hb]
    refine ⟨hB.1, ?_, ?_, fun i hi => ?_⟩
    · show (a_ms V c ++ [_]).length ≤ 30
      rw [List.length_append, List.length_singleton]
      exact h30
    · show (a_b V c).2.1 + 1 = nI ((a_ms V c ++ [_]).length + 1)
      rw [hB.2.2.1, List.length_append, List.length_singleton]
      exact nI_1 _
    · have hi : i < (a_ms V c ++ [_]).length := hi
      show ((a_ms V c ++ [_]).getD i (0, 0, 0)).1 = _ ∧ 1 ≤ ((a_ms V c ++ [_]).getD i (0, 0, 0)).2.1.toInt ∧ ((a_ms V c ++ [_]).getD i (0, 0, 0)).2.1.toInt ≤ 9999
      rw [gd_appM _ _ _ hi]
      rw [List.length_append, List.length_singleton] at hi
      by_cases hil : i < (a_ms V c).length
      · rw [if_pos hil]
        exact hB.2.2.2 i hil
      · rw [if_neg hil]
        obtain rfl : i = (a_ms V c).length := by omega
        refine ⟨hB.2.2.1, ?_⟩
        show 1 ≤ (nI x).toInt ∧ (nI x).toInt ≤ 9999
        rw [nI_toInt (by omega)]
        omega
  · rw [a_ub_c _ hcb]
    exact h.2.2.2.1 c hc
theorem p_box_ok {x : p_S × k_T} (hb : b_B t) (hS : p_ok S) (hk : k_ok t k) (h : p_bbx t S k = .inr x) (h0 : k.1 ≠ 0) : p_ok x.1 ∧ k_ok t x.2 ∧ k.2.1 < x.2.2.1 := by
  unfold p_bbx at h
  by_cases h1 : S.1.2.1.length < 3
  · rw [if_pos h1] at h
    by_cases h2 : p_nm t (p_nx t k) = true
    · rw [if_pos h2] at h
      by_cases h3 : (p_fb S.1 (p_w t (p_nx t k))).isNone = true
      · rw [if_pos h3] at h
        cases h
        have g1 := k_ok_s hk
        have g2 := k_ok_s (k_ok_x hk)
        have g3 := (k_ok_x hk).1
        refine ⟨⟨p_OV_box hS.1 (p_nm_o hb (k_ok_x hk) h2).1 h1, hS.2.1, fun s b hsb => ?_⟩, k_ok_x (k_ok_x hk), ?_⟩
        · show b < (S.1.2.1 ++ [_]).length
          rw [List.length_append, List.length_singleton]
          exact Nat.lt_succ_of_lt (hS.2.2 s b hsb)
        · show k.2.1 < (p_nx t (p_nx t k)).2.1
          have := g1.2 h0
          omega
      · rw [if_neg h3] at h; cases h
    · rw [if_neg h2] at h; cases h
  · rw [if_neg h1] at h; cases h
theorem p_bh_ok {b : Nat} (h : p_bh t V k = .inr b) : p_nm t k = true ∧ p_fb V (p_w t k) = some b ∧ b < V.2.1.length := by
  unfold p_bh at h
  by_cases h1 : p_nm t k = true
  · rw [if_pos h1] at h
    cases hf : p_fb V (p_w t k) with
    | none => rw [hf] at h; cases h
    | some b' =>
      rw [hf] at h
      cases h
      refine ⟨h1, rfl, ?_⟩
      unfold p_fb at hf
      exact (List.findIdx?_eq_some_iff_getElem.mp hf).1
  · rw [if_neg h1] at h; cases h
theorem p_num_ok {lo hi : Nat} {x : Nat × k_T} (hk : k_ok t k) (h : p_num t k lo hi = .inr x) : lo ≤ x.1 ∧ x.1 ≤ hi ∧ x.2 = p_nx t k ∧ k_ok t x.2 ∧ k.2.1 < x.2.2.1 := by
  unfold p_num at h
  by_cases h3 : k.1 = 2
  · rw [if_pos h3] at h
    by_cases h4 : lo ≤ k.2.2.2 ∧ k.2.2.2 ≤ hi
    · rw [if_pos h4] at h
      cases h
      exact ⟨h4.1, h4.2, rfl, k_ok_x hk, (k_ok_s hk).2 (by omega)⟩
    · rw [if_neg h4] at h; cases h
  · rw [if_neg h3] at h; cases h
theorem p_fls_ok : ∀ f fl k x, k_ok t k → p_fls t f fl k = .inr x → k_ok t x.2 ∧ k.2.1 ≤ x.2.2.1 := by
  intro f
  induction f with
  | zero => intro fl k x hk h; cases h; exact ⟨hk, Nat.le_refl _⟩
  | succ f ih =>
    intro fl k x hk h
    unfold p_fls at h
    cases hf : p_fl t k with
    | none => rw [hf] at h; cases h; exact ⟨hk, Nat.le_refl _⟩
    | some y =>
      rw [hf] at h
      have h : (if a_has fl y then (.inl (p_er 3 k) : p_E ⊕ (Int32 × k_T)) else p_fls t f (fl ||| (nI 1 <<< (nI y &&& 31))) (p_nx t k)) = .inr x := h
      by_cases h2 : a_has fl y = true
      · rw [if_pos h2] at h; cases h
      · rw [if_neg h2] at h
        have g := ih _ _ x (k_ok_x hk) h
        have := (k_ok_s hk).1
        have := hk.1
        exact ⟨g.1, by omega⟩
theorem p_bind_r {α β : Type} {a : p_E ⊕ α} {f : α → p_E ⊕ β} {y : β} (h : p_bind a f = .inr y) : ∃ x, a = .inr x ∧ f x = .inr y := by
  cases a with
  | inl e => cases h
  | inr x => exact ⟨x, rfl, h⟩
theorem p_mes_ok {x : p_S × k_T} (hS : p_ok S) (hk : k_ok t k) (h : p_mes t S k = .inr x) (h0 : k.1 ≠ 0) : p_ok x.1 ∧ k_ok t x.2 ∧ k.2.1 < x.2.2.1 := by
  unfold p_mes at h
  obtain ⟨b, hb, h⟩ := p_bind_r h
  obtain ⟨b1, b2, b3⟩ := p_bh_ok hb
  by_cases h1 : nI (a_ms S.1 b).length < S.1.1
  · rw [if_pos h1] at h
    unfold p_msg1 at h
    by_cases h2 : p_is t (p_nx t (p_nx t k)) 5 = true
    · rw [if_pos h2] at h
      obtain ⟨y, hy, h⟩ := p_bind_r h
      obtain ⟨z, hz, h⟩ := p_bind_r h
      cases h
      have q1 := k_ok_x hk
      have q2 := k_ok_x q1
      have q3 := k_ok_x q2
      obtain ⟨n1, n2, n3, n4, n5⟩ := p_num_ok q3 hy
      have n6 := p_fls_ok _ _ _ _ n4 hz
      have g1 := (k_ok_s hk).2 h0
      have g2 := (k_ok_s q1).1
      have g3 := (k_ok_s q2).1
      have g4 := q1.1
      have g5 := q2.1
      refine ⟨⟨(p_OV_co hS.1 b3 h1 ⟨n1, n2⟩).1, hS.2.1, fun s c hsc => ?_⟩, n6.1, ?_⟩
      · show c < (v_co S.1 b _ _).2.1.length
        unfold v_co
        rw [a_ub_n]
        exact hS.2.2 s c hsc
      · show k.2.1 < z.2.2.1
        omega
    · rw [if_neg h2] at h; cases h
  · rw [if_neg h1] at h; cases h
theorem gd_aps {α : Type} (l : List α) (x d : α) (j : Nat) : (l ++ [x]).getD j d = if j < l.length then l.getD j d else if j = l.length then x else d := by
  simp only [List.getD_eq_getElem?_getD]
  by_cases h : j < l.length
  · rw [if_pos h, List.getElem?_append_left h]
  · rw [if_neg h, List.getElem?_append_right (by omega)]
    by_cases h2 : j = l.length
    · subst h2; simp
    · rw [if_neg h2, List.getElem?_eq_none (by simp; omega)]; rfl
theorem p_ok_ses {n : List Nat} {o : Option Nat × Bool} (hS : p_ok S) (hn : o_N n) (hl : S.1.2.2.length < 4) (ho : ∀ b, o.1 = some b → b < S.1.2.1.length) : p_ok (p_aS S.1 n, S.2.1, S.2.2 ++ [o]) := by
  refine ⟨p_OV_ses hS.1 hn hl, ?_, fun s b hsb => ?_⟩
  · show (S.2.2 ++ [o]).length = (S.1.2.2 ++ [_]).length
    rw [List.length_append, List.length_append, hS.2.1]
    rfl
  · have hsb : ((S.2.2 ++ [o]).getD s (none, false)).1 = some b := hsb
    rw [gd_aps] at hsb
    by_cases h1 : s < S.2.2.length
    · rw [if_pos h1] at hsb
      exact hS.2.2 s b hsb
    · rw [if_neg h1] at hsb
      by_cases h2 : s = S.2.2.length
      · rw [if_pos h2] at hsb
        exact ho b hsb
      · rw [if_neg h2] at hsb
        cases hsb
theorem p_ses_ok {x : p_S × k_T} (hb : b_B t) (hS : p_ok S) (hk : k_ok t k) (h : p_sss t S k = .inr x) (h0 : k.1 ≠ 0) : p_ok x.1 ∧ k_ok t x.2 ∧ k.2.1 < x.2.2.1 := by
  unfold p_sss at h
  by_cases h1 : S.1.2.2.length < 4
  · rw [if_pos h1] at h
    by_cases h2 : p_nm t (p_nx t k) = true
    · rw [if_pos h2] at h
      by_cases h3 : (p_fs S.1 (p_w t (p_nx t k))).isNone = true
      · rw [if_pos h3] at h
        have q1 := k_ok_x hk
        have q2 := k_ok_x q1
        have q3 := k_ok_x q2
        have hno := (p_nm_o hb q1 h2).1
        have g1 := (k_ok_s hk).2 h0
        have g2 := (k_ok_s q1).1
        have g3 := (k_ok_s q2).1
        have g6 := (k_ok_s q3).1
        have g4 := q1.1
        have g5 := q2.1
        have g7 := q3.1
        unfold p_ses1 at h
        by_cases h4 : p_sy t (p_nx t (p_nx t k)) 59 = true
        · rw [if_pos h4] at h
          cases h
          exact ⟨p_ok_ses hS hno h1 (fun b hb => by cases hb), q2, by show k.2.1 < (p_nx t (p_nx t k)).2.1; omega⟩
        · rw [if_neg h4] at h
          unfold p_ses2 at h
          obtain ⟨b, hbh, h⟩ := p_bind_r h
          cases h
          have hbl : b < S.1.2.1.length := (p_bh_ok hbh).2.2
          refine ⟨p_ok_ses hS hno h1 (fun c hc => by cases hc; exact hbl), ?_, ?_⟩
          · show k_ok t (p_nx t (if p_is t (p_nx t (p_nx t k)) 6 = true then p_nx t (p_nx t (p_nx t k)) else p_nx t (p_nx t k)))
            by_cases h5 : p_is t (p_nx t (p_nx t k)) 6 = true
            · rw [if_pos h5]; exact k_ok_x q3
            · rw [if_neg h5]; exact q3
          show k.2.1 < (p_nx t (if p_is t (p_nx t (p_nx t k)) 6 = true then p_nx t (p_nx t (p_nx t k)) else p_nx t (p_nx t k))).2.1
          by_cases h5 : p_is t (p_nx t (p_nx t k)) 6 = true
          · rw [if_pos h5]; omega
          · rw [if_neg h5]; omega
      · rw [if_neg h3] at h; cases h
    · rw [if_neg h2] at h; cases h
  · rw [if_neg h1] at h; cases h
theorem p_st_ok {x : p_S × k_T} (hb : b_B t) (hS : p_ok S) (hk : k_ok t k) (h : p_st t S k = .inr x) : p_ok x.1 ∧ k_ok t x.2 ∧ k.2.1 < x.2.2.1 := by
  unfold p_st at h
  by_cases h1 : p_is t k 1 = true
  · rw [if_pos h1] at h
    exact p_lim_ok hS hk h (by rw [p_is_k (by decide) (by decide) h1]; decide)
  · rw [if_neg h1] at h
    by_cases h2 : p_is t k 2 = true
    · rw [if_pos h2] at h
      exact p_box_ok hb hS hk h (by rw [p_is_k (by decide) (by decide) h2]; decide)
    · rw [if_neg h2] at h
      by_cases h3 : p_is t k 3 = true
      · rw [if_pos h3] at h
        exact p_mes_ok hS hk h (by rw [p_is_k (by decide) (by decide) h3]; decide)
      · rw [if_neg h3] at h
        by_cases h4 : p_is t k 4 = true
        · rw [if_pos h4] at h
          exact p_ses_ok hb hS hk h (by rw [p_is_k (by decide) (by decide) h4]; decide)
        · rw [if_neg h4] at h; cases h
end CPO
