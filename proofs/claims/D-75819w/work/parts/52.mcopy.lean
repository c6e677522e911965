set_option maxRecDepth 100000
section MCO
/-! copies of messages come into a box -/
variable {V : a_V} {A : a_A} {M : m_M} {t : Nat}
def n_um (x : Int32) : List a_M → List a_M
  | [] => []
  | m :: l => (x, m.2.1, m.2.2) :: n_um (x + 1) l
def v_cs (V : a_V) (b : Nat) (l : List a_M) : a_V := a_ub V b ((a_b V b).1, (a_b V b).2.1 + nI l.length, a_ms V b ++ n_um (a_b V b).2.1 l)
theorem n_um_l (l : List a_M) : ∀ x, (n_um x l).length = l.length := by
  induction l with
  | nil => intro x; rfl
  | cons m l ih => intro x; show (n_um _ l).length + 1 = _; rw [ih]; rfl
theorem n_um_a (l : List a_M) (m : a_M) : ∀ x, n_um x (l ++ [m]) = n_um x l ++ [(x + nI l.length, m.2.1, m.2.2)] := by
  induction l with
  | nil => intro x; show [(x, m.2.1, m.2.2)] = [(x + nI 0, m.2.1, m.2.2)]; rw [nI_0, Int32.add_zero]
  | cons y l ih =>
    intro x
    show (x, y.2.1, y.2.2) :: n_um (x + 1) (l ++ [m]) = _
    rw [ih]
    show _ = (x, y.2.1, y.2.2) :: (n_um (x + 1) l ++ [(x + nI (l.length + 1), m.2.1, m.2.2)])
    rw [show x + 1 + nI l.length = x + nI (l.length + 1) from by rw [nI_succ, Int32.add_assoc, Int32.add_comm 1]]
theorem n_um_m (l : List a_M) : ∀ x, ∀ y ∈ n_um x l, ∃ i m, i < l.length ∧ m ∈ l ∧ y = (x + nI i, m.2.1, m.2.2) := by
  induction l with
  | nil => intro x y hy; cases hy
  | cons z l ih =>
    intro x y hy
    have hy : y ∈ (x, z.2.1, z.2.2) :: n_um (x + 1) l := hy
    rcases List.mem_cons.mp hy with g | g
    · exact ⟨0, z, Nat.succ_pos _, List.mem_cons_self .., by rw [g, nI_0, Int32.add_zero]⟩
    · obtain ⟨i, m, h1, h2, h3⟩ := ih (x + 1) y g
      exact ⟨i + 1, m, Nat.succ_lt_succ h1, List.mem_cons_of_mem _ h2, by rw [h3, nI_succ, show x + 1 + nI i = x + (nI i + 1) from by rw [Int32.add_assoc, Int32.add_comm 1]]⟩
theorem i32_n {x : Int32} {n : Nat} (h0 : 0 ≤ x.toInt) (h : x.toInt + n < 2147483648) : (x + nI n).toInt = x.toInt + n := by
  rw [Int32.toInt_add, nI_toInt (by omega)]
  exact Int.bmod_eq_of_le (by omega) (by omega)
theorem n_um_p (l : List a_M) : ∀ x : Int32, 0 ≤ x.toInt → x.toInt + l.length < 2147483648 → L_lt (n_um x l) := by
  induction l with
  | nil => intro x _ _; exact List.Pairwise.nil
  | cons z l ih =>
    intro x h0 h1
    rw [List.length_cons] at h1
    have e1 : (x + 1).toInt = x.toInt + 1 := i32_s1 (by omega)
    refine List.Pairwise.cons (fun y hy => ?_) (ih (x + 1) (by omega) (by omega))
    obtain ⟨i, m, g1, g2, rfl⟩ := n_um_m l _ y hy
    show x < x + 1 + nI i
    rw [Int32.lt_iff_toInt_lt, i32_n (by omega) (by omega)]
    omega
theorem v_cs_nil {b : Nat} (hb : b < V.2.1.length) : v_cs V b [] = V := by
  unfold v_cs
  show a_ub V b ((a_b V b).1, (a_b V b).2.1 + nI 0, a_ms V b ++ []) = V
  rw [nI_0, Int32.add_zero, List.append_nil]
  exact v_bm_id hb
theorem v_cs_b {b : Nat} {l : List a_M} (hb : b < V.2.1.length) : a_b (v_cs V b l) b = ((a_b V b).1, (a_b V b).2.1 + nI l.length, a_ms V b ++ n_um (a_b V b).2.1 l) := a_ub_b _ hb
theorem v_cs_c {b c : Nat} {l : List a_M} (h : c ≠ b) : a_b (v_cs V b l) c = a_b V c := a_ub_c _ h
theorem ub_ub {b : Nat} {B B' : a_B} : a_ub (a_ub V b B) b B' = a_ub V b B' := by
  unfold a_ub
  simp
theorem v_cs_s {b : Nat} {l : List a_M} {m : a_M} (hb : b < V.2.1.length) : v_co (v_cs V b l) b m.2.1 m.2.2 = v_cs V b (l ++ [m]) := by
  unfold v_co a_ms
  rw [v_cs_b hb]
  unfold v_cs
  rw [ub_ub]
  dsimp only
  rw [n_um_a, List.length_append, List.length_singleton, nI_succ, ← List.append_assoc, Int32.add_assoc]
theorem v_cs_ms {b c : Nat} {l : List a_M} : ∃ l', a_ms (v_cs V b l) c = a_ms V c ++ l' ∧ ∀ y ∈ l', ∃ i, i < l.length ∧ y.1 = (a_b V c).2.1 + nI i := by
  by_cases h : c = b
  · subst h
    by_cases hb : c < V.2.1.length
    · refine ⟨n_um (a_b V c).2.1 l, by unfold a_ms; rw [v_cs_b hb]; rfl, fun y hy => ?_⟩
      obtain ⟨i, m, g1, _, rfl⟩ := n_um_m l _ y hy
      exact ⟨i, g1, rfl⟩
    · refine ⟨[], ?_, fun y hy => by cases hy⟩
      unfold a_ms
      rw [show a_b (v_cs V c l) c = a_b V c from by simp [a_b, v_cs, a_ub, List.getD_eq_getElem?_getD, hb], List.append_nil]
  · exact ⟨[], by unfold a_ms; rw [v_cs_c h, List.append_nil], fun y hy => by cases hy⟩
theorem v_cs_m {b c m : Nat} {l : List a_M} (hm : m < (a_ms V c).length) : a_m (v_cs V b l) c m = a_m V c m := by
  obtain ⟨l', h1, _⟩ := v_cs_ms (V := V) (b := b) (c := c) (l := l)
  unfold a_m
  rw [h1, List.getD_eq_getElem?_getD, List.getD_eq_getElem?_getD, List.getElem?_append_left hm]
theorem find_app {ms l' : List a_M} {u : Int32} (h : ∀ y ∈ l', y.1 ≠ u) : a_find (ms ++ l') u = a_find ms u := by
  unfold a_find
  have h2 : l'.findIdx? (fun m => m.1 == u) = none := List.findIdx?_eq_none_iff.mpr (fun y hy => by simpa using h y hy)
  rw [List.findIdx?_append, h2]
  cases ms.findIdx? (fun m => m.1 == u) <;> rfl
/-- an entry's uid is less than the next -/
theorem o_uid (ho : o_V t V) {s c i : Nat} (hs : s < V.2.2.length) (hbx : a_bx V s = some c) (hi : i < (a_es V s).length) : (a_e V s i).1 < (a_b V c).2.1 := by
  have h1 := (ho.2.2 s hs).1.1 (a_e V s i) (by unfold a_e; rw [List.getD_eq_getElem?_getD, List.getElem?_eq_getElem hi]; exact List.getElem_mem hi)
  exact Int32.lt_of_le_of_lt h1.2 ((ho.2.2 s hs).2.1 c hbx)
theorem o_far (ho : o_V t V) (ht : t ≤ 1000) {c i : Nat} (hc : c < V.2.1.length) (hi : i ≤ 60) : (a_b V c).2.1 ≤ (a_b V c).2.1 + nI i ∧ ((a_b V c).2.1 + nI i).toInt = (a_b V c).2.1.toInt + i := by
  have h1 := (ho.2.1 c hc).1
  have e := i32_n (x := (a_b V c).2.1) (n := i) (by omega) (by omega)
  refine ⟨?_, e⟩
  rw [Int32.le_iff_toInt_le, e]
  omega
theorem a_mo_cs (ho : o_V t V) (ht : t ≤ 1000) {s b c i : Nat} {l : List a_M} (hs : s < V.2.2.length) (hbx : a_bx V s = some c) (hc : c < V.2.1.length) (hi : i < (a_es V s).length) (hl : l.length ≤ 60) : a_mo (v_cs V b l) s i = a_mo V s i := by
  unfold a_mo
  rw [show a_bx (v_cs V b l) s = a_bx V s from rfl, hbx]
  show a_find (a_ms (v_cs V b l) c) (a_e V s i).1 = a_find (a_ms V c) (a_e V s i).1
  obtain ⟨l', h1, h2⟩ := v_cs_ms (V := V) (b := b) (c := c) (l := l)
  rw [h1, find_app (fun y hy => ?_)]
  obtain ⟨k, g1, g2⟩ := h2 y hy
  have g3 := (o_far ho ht hc (show k ≤ 60 by omega)).1
  have g4 := o_uid ho hs hbx hi
  rw [g2]
  intro z
  rw [z] at g3
  exact Int32.lt_irrefl (Int32.lt_of_lt_of_le g4 g3)
theorem o_V_cs (ho : o_V t V) (ht : t ≤ 1000) {b : Nat} {l : List a_M} (hb : b < V.2.1.length) (hl : l.length ≤ 31) (hz : ∀ m ∈ l, 1 ≤ m.2.1.toInt ∧ m.2.1.toInt ≤ 9999) : o_V (t + 1) (v_cs V b l) := by
  have h1 := ho.2.1 b hb
  have h2 := o_far ho ht hb (show l.length ≤ 60 by omega)
  have h3 := h1.1
  refine o_V_ub ho (Nat.le_succ t) ⟨⟨by dsimp only; rw [h2.2]; omega, by dsimp only; rw [h2.2]; omega⟩, fun m hm => ?_, ?_, h1.2.2.2⟩ h2.1
  · rcases List.mem_append.mp hm with g | g
    · have := h1.2.1 m g
      exact ⟨this.1, Int32.lt_of_lt_of_le this.2.1 h2.1, this.2.2⟩
    · obtain ⟨i, y, g1, g2, rfl⟩ := n_um_m l _ m g
      have h4 := o_far ho ht hb (show i ≤ 60 by omega)
      have h5 := hz y g2
      refine ⟨by dsimp only; rw [h4.2]; omega, ?_, h5.1, h5.2⟩
      dsimp only
      rw [Int32.lt_iff_toInt_lt, h4.2, h2.2]
      omega
  · refine List.pairwise_append.mpr ⟨h1.2.2.1, n_um_p l _ (by omega) (by omega), fun x hx y hy => ?_⟩
    obtain ⟨i, z, g1, g2, rfl⟩ := n_um_m l _ y hy
    exact Int32.lt_of_lt_of_le (h1.2.1 x hx).2.1 (o_far ho ht hb (show i ≤ 60 by omega)).1
theorem r_g_mono {es : List a_E} {f i k : Nat} {m : a_M} (h : i ≤ k) (hr : r_g es f i m = true) : r_g es f k m = true := by
  unfold r_g at *
  cases hf : es.findIdx? (fun e => e.1 == m.1) with
  | none => rw [hf] at hr; cases hr
  | some j =>
    rw [hf] at hr
    have := of_decide_eq_true hr
    exact decide_eq_true (by omega)
theorem fl_mono {ms : List a_M} {es : List a_E} {f i k : Nat} (h : i ≤ k) : (ms.filter (r_g es f i)).length ≤ (ms.filter (r_g es f k)).length := by
  rw [← List.countP_eq_length_filter, ← List.countP_eq_length_filter]
  exact List.countP_mono_left (fun m _ hr => r_g_mono h hr)
/-- how many messages of a range are there -/
theorem th_fl (ho : o_V t V) {s c f : Nat} (hs : s < V.2.2.length) (hbx : a_bx V s = some c) (hc : c < V.2.1.length) : ∀ n, f + n ≤ (a_es V s).length → a_th V s f n = ((a_ms V c).filter (r_g (a_es V s) f (f + n))).length := by
  have hE : E_lt (a_es V s) := (ho.2.2 s hs).1.2.1
  have hL : L_lt (a_ms V c) := (ho.2.1 c hc).2.2.1
  intro n
  induction n with
  | zero =>
    intro _
    rw [show a_th V s f 0 = 0 from rfl, Nat.add_zero, List.filter_eq_nil_iff.mpr (fun m _ => by rw [r_g_0]; decide)]
    rfl
  | succ n ih =>
    intro hn
    rw [a_th_s, ih (by omega)]
    have hmo : a_mo V s (f + n) = a_find (a_ms V c) ((a_es V s).getD (f + n) (0, 0)).1 := a_mo_e hbx
    unfold a_go
    rw [hmo]
    cases hf : a_find (a_ms V c) ((a_es V s).getD (f + n) (0, 0)).1 with
    | none => rw [show f + (n + 1) = f + n + 1 from rfl, fl_none hE hf]; rfl
    | some i =>
      rw [show f + (n + 1) = f + n + 1 from rfl, fl_some hE hL (by omega) (by omega) hf, List.length_append]
      rfl
end MCO
