set_option maxRecDepth 100000
section CPS
/-! the language of texts and queries, over tokens k_T (kind, start, next, value) of the text t -/
/-- the words: 0 none, 1 limit 2 box 3 message 4 session 5 size 6 reads 7 all 8 uid 9 not 10 or 11 seen 12 answered 13 flagged 14 deleted 15 draft -/
def s_n (i : Nat) : List Nat := match i with
  | 1 => [108, 105, 109, 105, 116]
  | 2 => [98, 111, 120]
  | 3 => [109, 101, 115, 115, 97, 103, 101]
  | 4 => [115, 101, 115, 115, 105, 111, 110]
  | 5 => [115, 105, 122, 101]
  | 6 => [114, 101, 97, 100, 115]
  | 7 => [97, 108, 108]
  | 8 => [117, 105, 100]
  | 9 => [110, 111, 116]
  | 10 => [111, 114]
  | 11 => [115, 101, 101, 110]
  | 12 => [97, 110, 115, 119, 101, 114, 101, 100]
  | 13 => [102, 108, 97, 103, 103, 101, 100]
  | 14 => [100, 101, 108, 101, 116, 101, 100]
  | 15 => [100, 114, 97, 102, 116]
  | _ => []
/-- the word that stands here -/
def p_w (t : List Int32) (k : k_T) : List Nat := if k.1 = 1 then ((t.drop k.2.1).take (k.2.2.1 - k.2.1)).map (fun c => c.toNatClampNeg) else []
def p_is (t : List Int32) (k : k_T) (i : Nat) : Bool := decide (p_w t k = s_n i)
def p_sy (t : List Int32) (k : k_T) (c : Int32) : Bool := decide (k.1 = 3) && decide (k_b t k.2.1 = c)
def p_nx (t : List Int32) (k : k_T) : k_T := k_n t k.2.2.1
def p_fl (t : List Int32) (k : k_T) : Option Nat := if p_is t k 11 then some 0 else if p_is t k 12 then some 1 else if p_is t k 13 then some 2 else if p_is t k 14 then some 3 else if p_is t k 15 then some 4 else none
def p_kw (t : List Int32) (k : k_T) : Bool := p_is t k 1 || p_is t k 2 || p_is t k 3 || p_is t k 5 || p_is t k 4 || p_is t k 6 || p_is t k 7 || p_is t k 8 || p_is t k 9 || p_is t k 10 || (p_fl t k).isSome
def p_nm (t : List Int32) (k : k_T) : Bool := decide (k.1 = 1) && decide (k.2.2.1 - k.2.1 ≤ 6) && !(p_kw t k)
/-- an error: its code, its place -/
abbrev p_E : Type := Nat × Nat
def p_er (c : Nat) (k : k_T) : p_E := (c, k.2.1)
def p_num (t : List Int32) (k : k_T) (lo hi : Nat) : p_E ⊕ (Nat × k_T) := if k.1 = 2 then (if lo ≤ k.2.2.2 ∧ k.2.2.2 ≤ hi then .inr (k.2.2.2, p_nx t k) else .inl (p_er 2 k)) else .inl (p_er 1 k)
def p_bind {α β : Type} (x : p_E ⊕ α) (f : α → p_E ⊕ β) : p_E ⊕ β := match x with
  | .inl e => .inl e
  | .inr a => f a
/-! queries -/
abbrev p_T : Type := a_M → Bool
def p_cmp (t : List Int32) (k : k_T) (g : a_M → Int32) : p_E ⊕ (p_T × k_T) :=
  if p_sy t k 60 then p_bind (p_num t (p_nx t k) 0 9999) (fun x => .inr (fun m => decide (g m < nI x.1), x.2))
  else if p_sy t k 62 then p_bind (p_num t (p_nx t k) 0 9999) (fun x => .inr (fun m => decide (nI x.1 < g m), x.2))
  else .inl (p_er 1 k)
def p_bf (t : List Int32) (k : k_T) : Bool := (p_fl t k).isSome || p_is t k 9 || p_is t k 7 || p_is t k 5 || p_is t k 8 || p_sy t k 40
/-- modes: 0 factor, 1 the rest of a term, 2 the rest of a query, 3 term, 4 query -/
def p_Q (t : List Int32) : Nat → Nat → Nat → p_T → k_T → p_E ⊕ (p_T × k_T)
  | 0, _, _, q, k => .inr (q, k)
  | f + 1, 0, o, q, k => match p_fl t k with
    | some x => .inr (fun m => a_has m.2.2 x, p_nx t k)
    | none => if p_is t k 7 then .inr (fun _ => true, p_nx t k)
      else if p_is t k 5 then p_cmp t (p_nx t k) (fun m => m.2.1)
      else if p_is t k 8 then p_cmp t (p_nx t k) (fun m => m.1)
      else if p_is t k 9 then (if o < 5 then p_bind (p_Q t f 0 (o + 1) q (p_nx t k)) (fun x => .inr (fun m => !(x.1 m), x.2)) else .inl (p_er 5 k))
      else if p_sy t k 40 then (if o < 5 then p_bind (p_Q t f 4 (o + 1) q (p_nx t k)) (fun x => if p_sy t x.2 41 then .inr (x.1, p_nx t x.2) else .inl (p_er 1 x.2)) else .inl (p_er 5 k))
      else .inl (p_er 1 k)
  | f + 1, 1, o, q, k => if p_bf t k then p_bind (p_Q t f 0 o q k) (fun x => p_Q t f 1 o (fun m => q m && x.1 m) x.2) else .inr (q, k)
  | f + 1, 2, o, q, k => if p_is t k 10 then p_bind (p_Q t f 3 o q (p_nx t k)) (fun x => p_Q t f 2 o (fun m => q m || x.1 m) x.2) else .inr (q, k)
  | f + 1, 3, o, q, k => p_bind (p_Q t f 0 o q k) (fun x => p_Q t f 1 o x.1 x.2)
  | f + 1, _, o, q, k => p_bind (p_Q t f 3 o q k) (fun x => p_Q t f 2 o x.1 x.2)
def p_wh (t : List Int32) : p_E ⊕ p_T := p_bind (p_Q t 8000 4 0 (fun _ => false) (k_n t 0)) (fun x => if x.2.1 = 0 then .inr x.1 else .inl (p_er 1 x.2))
/-! texts: the server that is made, whether its limit was told, what its sessions select -/
abbrev p_S : Type := a_V × Bool × List (Option Nat × Bool)
def p_tot (V : a_V) : Nat := a_all V V.2.1.length
def p_fb (V : a_V) (n : List Nat) : Option Nat := V.2.1.findIdx? (fun b => decide (b.1 = n))
def p_fs (V : a_V) (n : List Nat) : Option Nat := V.2.2.findIdx? (fun s => decide (s.1 = n))
def p_lim (t : List Int32) (S : p_S) (k : k_T) : p_E ⊕ (p_S × k_T) := if 0 < p_tot S.1 then .inl (p_er 1 k) else if S.2.1 then .inl (p_er 3 k) else p_bind (p_num t (p_nx t k) 1 30) (fun x => .inr (((nI x.1, S.1.2), true, S.2.2), x.2))
def p_bbx (t : List Int32) (S : p_S) (k : k_T) : p_E ⊕ (p_S × k_T) := if S.1.2.1.length < 3 then (if p_nm t (p_nx t k) then (if (p_fb S.1 (p_w t (p_nx t k))).isNone then .inr (((S.1.1, S.1.2.1 ++ [(p_w t (p_nx t k), 1, [])], S.1.2.2), S.2), p_nx t (p_nx t k)) else .inl (p_er 3 (p_nx t k))) else .inl (p_er 1 (p_nx t k))) else .inl (p_er 4 k)
def p_bh (t : List Int32) (V : a_V) (k : k_T) : p_E ⊕ Nat := if p_nm t k then (match p_fb V (p_w t k) with
  | some b => .inr b
  | none => .inl (p_er 3 k)) else .inl (p_er 1 k)
def p_fls (t : List Int32) : Nat → Int32 → k_T → p_E ⊕ (Int32 × k_T)
  | 0, fl, k => .inr (fl, k)
  | f + 1, fl, k => match p_fl t k with
    | none => .inr (fl, k)
    | some x => if a_has fl x then .inl (p_er 3 k) else p_fls t f (fl ||| (nI 1 <<< (nI x &&& 31))) (p_nx t k)
def p_msg1 (t : List Int32) (S : p_S) (b : Nat) (k : k_T) : p_E ⊕ (p_S × k_T) := if p_is t k 5 then p_bind (p_num t (p_nx t k) 1 9999) (fun x => p_bind (p_fls t 701 0 x.2) (fun y => .inr ((v_co S.1 b (nI x.1) y.1, S.2), y.2))) else .inl (p_er 1 k)
def p_mes (t : List Int32) (S : p_S) (k : k_T) : p_E ⊕ (p_S × k_T) := p_bind (p_bh t S.1 (p_nx t k)) (fun b => if nI (a_ms S.1 b).length < S.1.1 then p_msg1 t S b (p_nx t (p_nx t k)) else .inl (p_er 4 (p_nx t k)))
def p_aS (V : a_V) (n : List Nat) : a_V := (V.1, V.2.1, V.2.2 ++ [(n, none, false, false, 0, fun _ => 0, [])])
def p_ses2 (t : List Int32) (S : p_S) (rd : Bool) (k : k_T) : p_E ⊕ (p_S × k_T) := p_bind (p_bh t S.1 k) (fun b => .inr ((S.1, S.2.1, S.2.2 ++ [(some b, rd)]), p_nx t k))
def p_ses1 (t : List Int32) (S : p_S) (k : k_T) : p_E ⊕ (p_S × k_T) := if p_sy t k 59 then .inr ((S.1, S.2.1, S.2.2 ++ [(none, false)]), k) else p_ses2 t S (p_is t k 6) (if p_is t k 6 then p_nx t k else k)
def p_sss (t : List Int32) (S : p_S) (k : k_T) : p_E ⊕ (p_S × k_T) := if S.1.2.2.length < 4 then (if p_nm t (p_nx t k) then (if (p_fs S.1 (p_w t (p_nx t k))).isNone then p_ses1 t (p_aS S.1 (p_w t (p_nx t k)), S.2) (p_nx t (p_nx t k)) else .inl (p_er 3 (p_nx t k))) else .inl (p_er 1 (p_nx t k))) else .inl (p_er 4 k)
def p_st (t : List Int32) (S : p_S) (k : k_T) : p_E ⊕ (p_S × k_T) := if p_is t k 1 then p_lim t S k else if p_is t k 2 then p_bbx t S k else if p_is t k 3 then p_mes t S k else if p_is t k 4 then p_sss t S k else .inl (p_er 1 k)
def p_all (t : List Int32) : Nat → p_S → k_T → p_E ⊕ p_S
  | 0, S, _ => .inr S
  | f + 1, S, k => p_bind (p_st t S k) (fun x => if p_sy t x.2 59 then (if (p_nx t x.2).1 = 0 then .inr x.1 else p_all t f x.1 (p_nx t x.2)) else .inl (p_er 1 x.2))
/-- sessions select their boxes -/
def p_se : Nat → a_V → List (Option Nat × Bool) → a_V
  | 0, V, _ => V
  | n + 1, V, l => match l.getD n (none, false) with
    | (some b, rd) => v_se (p_se n V l) n b rd
    | (none, _) => p_se n V l
def p_tx (t : List Int32) : p_E ⊕ a_V := p_bind (p_all t 701 ((30, [], []), false, []) (k_n t 0)) (fun S => .inr (p_se S.1.2.2.length S.1 S.2.2))
/-! the tokens -/
variable {t : List Int32}
theorem k_w_le {p : Int32 → Bool} (hp : p (-1) = false) : ∀ f i, i ≤ t.length → i ≤ k_w p t f i ∧ k_w p t f i ≤ t.length := by
  intro f
  induction f with
  | zero => intro i hi; exact ⟨Nat.le_refl _, hi⟩
  | succ f ih =>
    intro i hi
    cases h : p (k_b t i) with
    | true =>
      have := k_b_lt hp h
      rw [k_w_s h]
      have := ih (i + 1) (by omega)
      omega
    | false => rw [k_w_n h]; omega
theorem k_w_all {p : Int32 → Bool} : ∀ f i j, i ≤ j → j < k_w p t f i → p (k_b t j) = true := by
  intro f
  induction f with
  | zero =>
    intro i j h1 h2
    have h2 : j < i := h2
    omega
  | succ f ih =>
    intro i j h1 h2
    cases h : p (k_b t i) with
    | true =>
      rw [k_w_s h] at h2
      by_cases hj : j = i
      · rw [hj]; exact h
      · exact ih (i + 1) j (by omega) h2
    | false =>
      rw [k_w_n h] at h2
      omega
/-- a token of the text -/
def k_ok (t : List Int32) (k : k_T) : Prop := k.2.1 ≤ k.2.2.1 ∧ k.2.2.1 ≤ t.length ∧ k.1 ≤ 3 ∧ (k.1 = 0 → k.2.1 = t.length) ∧ (k.1 ≠ 0 → k.2.1 < k.2.2.1) ∧ (k.1 = 1 → ∀ j, k.2.1 ≤ j → j < k.2.2.1 → k_a (k_b t j) = true)
theorem k_n_p {i : Nat} (hi : i ≤ t.length) : i ≤ (k_n t i).2.1 ∧ k_ok t (k_n t i) := by
  obtain ⟨h1, h2⟩ := k_w_le (t := t) (p := k_s) (by decide +kernel) 701 i hi
  unfold k_n
  generalize k_w k_s t 701 i = s at h1 h2
  unfold k_c
  by_cases hs : s < t.length
  · rw [if_pos hs]
    by_cases ha : k_a (k_b t s) = true
    · rw [if_pos ha]
      have := k_w_le (t := t) (p := k_a) (by decide +kernel) 700 (s + 1) (by omega)
      rw [← k_w_s ha] at this
      have this : s + 1 ≤ k_w k_a t 701 s ∧ k_w k_a t 701 s ≤ t.length := this
      exact ⟨h1, by show s ≤ k_w k_a t 701 s; omega, this.2, Nat.le_of_ble_eq_true rfl, fun z => (by cases z), fun _ => by show s < k_w k_a t 701 s; omega, fun _ j g1 g2 => k_w_all 701 s j g1 g2⟩
    · rw [if_neg ha]
      by_cases hd : k_d (k_b t s) = true
      · rw [if_pos hd]
        have := k_w_le (t := t) (p := k_d) (by decide +kernel) 700 (s + 1) (by omega)
        rw [← k_w_s hd] at this
        have this : s + 1 ≤ k_w k_d t 701 s ∧ k_w k_d t 701 s ≤ t.length := this
        exact ⟨h1, by show s ≤ k_w k_d t 701 s; omega, this.2, Nat.le_of_ble_eq_true rfl, fun z => (by cases z), fun _ => by show s < k_w k_d t 701 s; omega, fun z => (by cases z)⟩
      · rw [if_neg hd]
        exact ⟨h1, Nat.le_succ s, hs, Nat.le_of_ble_eq_true rfl, fun z => (by cases z), fun _ => Nat.lt_succ_self s, fun z => (by cases z)⟩
  · rw [if_neg hs]
    exact ⟨h1, Nat.le_refl s, h2, Nat.le_of_ble_eq_true rfl, fun _ => by show s = t.length; omega, fun z => absurd rfl z, fun z => (by cases z)⟩
theorem k_ok_n {i : Nat} (hi : i ≤ t.length) : k_ok t (k_n t i) := (k_n_p hi).2
theorem k_ok_x {k : k_T} (h : k_ok t k) : k_ok t (p_nx t k) := k_ok_n h.2.1
theorem k_ok_s {k : k_T} (h : k_ok t k) : k.2.2.1 ≤ (p_nx t k).2.1 ∧ (k.1 ≠ 0 → k.2.1 < (p_nx t k).2.1) := by
  have := (k_n_p h.2.1).1
  exact ⟨this, fun z => Nat.lt_of_lt_of_le (h.2.2.2.2.1 z) this⟩
/-! bytes -/
theorem b_n128 : ∀ n, n < 128 → vp_nar .byte (nI n).toInt8.toInt32 = nI n := by decide +kernel
theorem b_m {I : List Int32} (h : b_B I) {k : Nat} (hk : k < I.length) : -128 ≤ (I.getD k 0).toInt ∧ (I.getD k 0).toInt ≤ 127 := h _ (by rw [List.getD_eq_getElem?_getD, List.getElem?_eq_getElem hk]; exact List.getElem_mem hk)
theorem k_b_x (hb : b_B t) {j c : Nat} (hj : j < t.length) (hc : c < 128) : k_b t j = nI c ↔ t.getD j 0 = nI c := by
  have e : k_b t j = t.getD j 0 &&& 255 := if_pos hj
  rw [e]
  constructor
  · intro h
    have := b_B_g hb hj
    rw [h, b_n128 c hc] at this
    exact this.symm
  · intro h
    rw [h]
    exact b_255 c hc
theorem k_a_of {c : Int32} (h : k_a c = true) : ∃ d, c = nI d ∧ 97 ≤ d ∧ d ≤ 122 := by
  unfold k_a a_in at h
  have := of_decide_eq_true h
  rw [i64_le, i64_le, Int32.le_iff_toInt_le, Int32.le_iff_toInt_le, show (97 : Int32).toInt = 97 from rfl, show (122 : Int32).toInt = 122 from rfl] at this
  obtain ⟨e1, e2⟩ := i32_nat (x := c) (by omega)
  exact ⟨c.toNatClampNeg, e1, by omega, by omega⟩
theorem nI_cl {n : Nat} (h : n < 128) : (nI n).toNatClampNeg = n := nI_clamp (by omega)
/-- the word that stands here, sign by sign -/
theorem p_w_l {k : k_T} (h : k_ok t k) (h1 : k.1 = 1) : (p_w t k).length = k.2.2.1 - k.2.1 := by
  unfold p_w
  rw [if_pos h1, List.length_map, List.length_take, List.length_drop]
  have := h.1
  have := h.2.1
  omega
theorem p_w_g (hb : b_B t) {k : k_T} (h : k_ok t k) (h1 : k.1 = 1) {i : Nat} (hi : i < k.2.2.1 - k.2.1) : t.getD (k.2.1 + i) 0 = nI ((p_w t k).getD i 0) ∧ 97 ≤ (p_w t k).getD i 0 ∧ (p_w t k).getD i 0 ≤ 122 := by
  have h2 := h.1
  have h3 := h.2.1
  obtain ⟨d, e1, e2, e3⟩ := k_a_of (h.2.2.2.2.2 h1 (k.2.1 + i) (by omega) (by omega))
  have e4 := (k_b_x hb (by omega) (by omega)).mp e1
  have e5 : (p_w t k).getD i 0 = d := by
    unfold p_w
    rw [if_pos h1, List.getD_eq_getElem?_getD, List.getElem?_map, List.getElem?_take_of_lt hi, List.getElem?_drop, List.getElem?_eq_getElem (by omega)]
    rw [List.getD_eq_getElem?_getD, List.getElem?_eq_getElem (by omega)] at e4
    show (t[k.2.1 + i]).toNatClampNeg = d
    have e4 : t[k.2.1 + i] = nI d := e4
    rw [e4]
    exact nI_cl (by omega)
  rw [e5]
  exact ⟨e4, e2, e3⟩
theorem ln_ext {a b : List Nat} (hl : a.length = b.length) (h : ∀ i, i < a.length → a.getD i 0 = b.getD i 0) : a = b := by
  refine List.ext_getElem hl (fun i h1 h2 => ?_)
  have := h i h1
  rw [List.getD_eq_getElem?_getD, List.getD_eq_getElem?_getD, List.getElem?_eq_getElem h1, List.getElem?_eq_getElem h2] at this
  exact this
theorem p_w_lt (hb : b_B t) {k : k_T} (h : k_ok t k) : ∀ c ∈ p_w t k, 97 ≤ c ∧ c ≤ 122 := by
  intro c hc
  by_cases h1 : k.1 = 1
  · obtain ⟨i, hi, rfl⟩ := List.getElem_of_mem hc
    have hi2 := hi
    rw [p_w_l h h1] at hi2
    have := (p_w_g hb h h1 hi2).2
    rw [List.getD_eq_getElem?_getD, List.getElem?_eq_getElem hi] at this
    exact this
  · unfold p_w at hc
    rw [if_neg h1] at hc
    cases hc
theorem p_w_0 {k : k_T} (h1 : k.1 ≠ 1) : p_w t k = [] := if_neg h1
theorem s_n_lt : ∀ i, i < 16 → ∀ c ∈ s_n i, 97 ≤ c ∧ c ≤ 122 := by decide +kernel
theorem s_n_l : ∀ i, i < 16 → (s_n i).length ≤ 8 ∧ (1 ≤ i → 1 ≤ (s_n i).length) := by decide +kernel
theorem s_n_i : ∀ i, i < 16 → ∀ j, j < 16 → s_n i = s_n j → i = j := by decide +kernel
/-- one word alone stands here -/
theorem p_is_1 {k : k_T} {i j : Nat} (h : p_is t k i = true) (hi : i < 16) (hj : j < 16) (hij : i ≠ j) : p_is t k j = false := by
  cases z : p_is t k j with
  | false => rfl
  | true =>
    unfold p_is at h z
    exact absurd (s_n_i i hi j hj ((of_decide_eq_true h).symm.trans (of_decide_eq_true z))) hij
theorem p_is_k {k : k_T} {i : Nat} (hi : i < 16) (h1 : 1 ≤ i) (h : p_is t k i = true) : k.1 = 1 := by
  by_cases hk : k.1 = 1
  · exact hk
  · unfold p_is at h
    have := of_decide_eq_true h
    rw [p_w_0 hk] at this
    have h2 := (s_n_l i hi).2 h1
    rw [← this] at h2
    exact absurd h2 (by decide)
theorem p_sy_k {k : k_T} {c : Int32} (h : p_sy t k c = true) : k.1 = 3 := by
  unfold p_sy at h
  rw [Bool.and_eq_true] at h
  exact of_decide_eq_true h.1
theorem p_is_s {k : k_T} {c : Int32} (h : p_sy t k c = true) {i : Nat} (hi : i < 16) (h1 : 1 ≤ i) : p_is t k i = false := by
  cases z : p_is t k i with
  | false => rfl
  | true =>
    have h2 := p_is_k hi h1 z
    have h3 := p_sy_k h
    omega
theorem p_fl_n {k : k_T} (h : ∀ i, 11 ≤ i → i < 16 → p_is t k i = false) : p_fl t k = none := by
  unfold p_fl
  rw [h 11 (by decide) (by decide), h 12 (by decide) (by decide), h 13 (by decide) (by decide), h 14 (by decide) (by decide), h 15 (by decide) (by decide)]
  rfl
theorem p_fl_i {k : k_T} {i : Nat} (h : p_is t k i = true) (hi : i < 11) : p_fl t k = none := p_fl_n (fun j h1 h2 => p_is_1 h (by omega) h2 (by omega))
theorem p_fl_s {k : k_T} {c : Int32} (h : p_sy t k c = true) : p_fl t k = none := p_fl_n (fun _ h1 h2 => p_is_s h h2 (by omega))
theorem p_fl_5 {k : k_T} {x : Nat} (h : p_fl t k = some x) : x < 5 ∧ k.1 = 1 := by
  have key : ∀ i, p_is t k i = true → 11 ≤ i → i < 16 → k.1 = 1 := fun i h1 h2 h3 => p_is_k h3 (by omega) h1
  unfold p_fl at h
  by_cases h1 : p_is t k 11 = true
  · rw [if_pos h1] at h; cases h; exact ⟨by decide, key _ h1 (by decide) (by decide)⟩
  · rw [if_neg h1] at h
    by_cases h1 : p_is t k 12 = true
    · rw [if_pos h1] at h; cases h; exact ⟨by decide, key _ h1 (by decide) (by decide)⟩
    · rw [if_neg h1] at h
      by_cases h1 : p_is t k 13 = true
      · rw [if_pos h1] at h; cases h; exact ⟨by decide, key _ h1 (by decide) (by decide)⟩
      · rw [if_neg h1] at h
        by_cases h1 : p_is t k 14 = true
        · rw [if_pos h1] at h; cases h; exact ⟨by decide, key _ h1 (by decide) (by decide)⟩
        · rw [if_neg h1] at h
          by_cases h1 : p_is t k 15 = true
          · rw [if_pos h1] at h; cases h; exact ⟨by decide, key _ h1 (by decide) (by decide)⟩
          · rw [if_neg h1] at h; cases h
end CPS
