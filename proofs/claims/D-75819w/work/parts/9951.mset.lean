set_option maxRecDepth 100000
section MPJ
variable {G : sx_G} {h : Nat} {M M' : m_M} {σ : sx_St} {V : a_V} {A : a_A} {t : List Int32} {r : r_T} {k : k_T}
def bt (x : Int32) (i : Nat) : Bool := x.toBitVec.getLsbD i
theorem tb_ext {x y : Int32} (h : ∀ i, i < 32 → bt x i = bt y i) : x = y := Int32.toBitVec_inj.mp (BitVec.eq_of_getLsbD_eq (fun i hi => h i hi))
theorem tb_or (x y : Int32) (i : Nat) : bt (x ||| y) i = (bt x i || bt y i) := by unfold bt; rw [Int32.toBitVec_or, BitVec.getLsbD_or]
theorem tb_and (x y : Int32) (i : Nat) : bt (x &&& y) i = (bt x i && bt y i) := by unfold bt; rw [Int32.toBitVec_and, BitVec.getLsbD_and]
theorem tb_xor (x y : Int32) (i : Nat) : bt (x ^^^ y) i = (bt x i ^^ bt y i) := by unfold bt; rw [Int32.toBitVec_xor, BitVec.getLsbD_xor]
theorem tb_m1 : ∀ i, i < 32 → bt (-1) i = true := by decide +kernel
theorem tb_0 (i : Nat) : bt 0 i = false := BitVec.getLsbD_zero
theorem ts_l : ∀ n, n < 32 → ((nI n &&& 31).toBitVec.smod 32).toNat = n := by decide +kernel
theorem tb_shl (n : Nat) (hn : n < 32) (x : Int32) {i : Nat} (hi : i < 32) : bt (x <<< (nI n &&& 31)) i = (decide (n ≤ i) && bt x (i - n)) := by
  unfold bt
  rw [Int32.toBitVec_shiftLeft]
  show (x.toBitVec <<< ((nI n &&& 31).toBitVec.smod 32).toNat).getLsbD i = _
  rw [ts_l n hn, BitVec.getLsbD_shiftLeft]
  rcases Nat.lt_or_ge i n with h | h
  · simp [h, Nat.not_le.mpr h]
  · simp [hi, h, Nat.not_lt.mpr h]
theorem tb_sshr (n : Nat) (hn : n < 32) (x : Int32) {i : Nat} (hi : i < 32) : bt (x >>> (nI n &&& 31)) i = if n + i < 32 then bt x (n + i) else bt x 31 := by
  unfold bt
  rw [Int32.toBitVec_shiftRight]
  show (x.toBitVec.sshiftRight ((nI n &&& 31).toBitVec.smod 32).toNat).getLsbD i = _
  rw [ts_l n hn, BitVec.getLsbD_sshiftRight, BitVec.msb_eq_getLsbD_last]
  simp [hi]
/-- sets of messages as bits -/
def bs (p : Nat → Bool) : Nat → Int32
  | 0 => nI 0
  | n + 1 => bs p n ||| (if p n = true then nI 1 <<< (nI n &&& 31) else nI 0)
def s_b (ms : List a_M) (p : a_M → Bool) : Int32 := bs (fun i => p (ms.getD i (0, 0, 0))) ms.length
theorem bt_1 : ∀ i, i < 32 → bt (nI 1) i = decide (i = 0) := by decide +kernel
theorem bt_0 (i : Nat) : bt (nI 0) i = false := tb_0 i
theorem bs_b (p : Nat → Bool) : ∀ n, n ≤ 31 → ∀ i, i < 32 → bt (bs p n) i = (decide (i < n) && p i) := by
  intro n
  induction n with
  | zero => intro _ i _; rw [decide_eq_false (Nat.not_lt_zero i), Bool.false_and]; exact bt_0 i
  | succ n ih =>
    intro hn i hi
    show bt (bs p n ||| (if p n = true then nI 1 <<< (nI n &&& 31) else nI 0)) i = _
    rw [tb_or, ih (by omega) i hi]
    by_cases hin : i = n
    · subst hin
      rw [decide_eq_false (Nat.lt_irrefl i), decide_eq_true (Nat.lt_succ_self i), Bool.false_and, Bool.false_or, Bool.true_and]
      cases hp : p i with
      | true => rw [if_pos rfl, tb_shl i (by omega) _ hi, Nat.sub_self, bt_1 0 (by decide), decide_eq_true (Nat.le_refl i)]; rfl
      | false => rw [if_neg (by decide)]; exact bt_0 i
    · have e : bt (if p n = true then nI 1 <<< (nI n &&& 31) else nI 0) i = false := by
        cases hp : p n with
        | true =>
          rw [if_pos rfl, tb_shl n (by omega) _ hi]
          by_cases hle : n ≤ i
          · rw [bt_1 _ (by omega), decide_eq_false (show ¬ i - n = 0 by omega), Bool.and_false]
          · rw [decide_eq_false hle, Bool.false_and]
        | false => rw [if_neg (by decide)]; exact bt_0 i
      rw [e, Bool.or_false, decide_eq_decide.mpr (show i < n ↔ i < n + 1 by omega)]
theorem bs_e {p q : Nat → Bool} {n : Nat} (h : ∀ i, i < n → p i = q i) : bs p n = bs q n := by
  induction n with
  | zero => rfl
  | succ n ih =>
    show bs p n ||| _ = bs q n ||| _
    rw [ih (fun i hi => h i (by omega)), h n (by omega)]
theorem s_b_and {ms : List a_M} {p q : a_M → Bool} (hl : ms.length ≤ 31) : s_b ms p &&& s_b ms q = s_b ms (fun m => p m && q m) := by
  refine tb_ext (fun i hi => ?_)
  unfold s_b
  rw [tb_and, bs_b _ _ hl i hi, bs_b _ _ hl i hi, bs_b _ _ hl i hi]
  cases decide (i < ms.length) <;> simp
theorem s_b_or {ms : List a_M} {p q : a_M → Bool} (hl : ms.length ≤ 31) : s_b ms p ||| s_b ms q = s_b ms (fun m => p m || q m) := by
  refine tb_ext (fun i hi => ?_)
  unfold s_b
  rw [tb_or, bs_b _ _ hl i hi, bs_b _ _ hl i hi, bs_b _ _ hl i hi]
  cases decide (i < ms.length) <;> simp
theorem s_b_not {ms : List a_M} {p : a_M → Bool} (hl : ms.length ≤ 31) : s_b ms (fun _ => true) &&& (s_b ms p ^^^ -1) = s_b ms (fun m => !(p m)) := by
  refine tb_ext (fun i hi => ?_)
  unfold s_b
  rw [tb_and, tb_xor, tb_m1 i hi, bs_b _ _ hl i hi, bs_b _ _ hl i hi, bs_b _ _ hl i hi]
  cases decide (i < ms.length) <;> simp
theorem s_b_has {ms : List a_M} {p : a_M → Bool} (hl : ms.length ≤ 31) {k : Nat} (hk : k < ms.length) : a_has (s_b ms p) k = p (ms.getD k (0, 0, 0)) := by
  have e : bt (s_b ms p) k = p (ms.getD k (0, 0, 0)) := by
    unfold s_b
    rw [bs_b _ _ hl k (by omega), decide_eq_true hk, Bool.true_and]
  rw [← e]
  unfold a_has
  have key : ∀ i, i < 32 → bt (s_b ms p >>> (nI k &&& 31) &&& 1) i = (decide (i = 0) && bt (s_b ms p) k) := by
    intro i hi
    rw [tb_and, show (1 : Int32) = nI 1 from rfl, bt_1 i hi, tb_sshr k (by omega) _ hi]
    by_cases h0 : i = 0
    · subst h0
      rw [if_pos (by omega), Nat.add_zero]
      simp
    · rw [decide_eq_false h0]; simp
  cases hb : bt (s_b ms p) k with
  | true =>
    refine decide_eq_true (tb_ext (fun i hi => ?_))
    rw [key i hi, hb, Bool.and_true, show (1 : Int32) = nI 1 from rfl, bt_1 i hi]
  | false =>
    refine decide_eq_false (fun z => ?_)
    have h2 := key 0 (by decide)
    rw [z, hb, Bool.and_false] at h2
    exact absurd h2 (by decide +kernel)
theorem bs_all : ∀ n, n ≤ 30 → ((1 : Int64) <<< ((nI n).toInt64 &&& 63) - 1).toInt32 = bs (fun _ => true) n := by decide +kernel
/-- what a query's parts may change -/
def m_Yq (M M' : m_M) : Prop := M'.2 = M.2 ∧ ∀ k, (k < 10 ∨ 15 < k) → k ≠ 21 → M'.1 k = M.1 k
theorem m_Yq_Y (h : m_Y M M') : m_Yq M M' := ⟨h.1, fun k a _ => h.2 k a⟩
theorem m_Yq_r : m_Yq M M := ⟨rfl, fun _ _ _ => rfl⟩
theorem m_Yq_t {M2 : m_M} (h : m_Yq M M') (h' : m_Yq M' M2) : m_Yq M M2 := ⟨h'.1.trans h.1, fun k a b => (h'.2 k a b).trans (h.2 k a b)⟩
theorem m_Yq_i {x : Int32} : m_Yq M (m_i M 21 x) := by
  refine ⟨rfl, fun j _ hj => ?_⟩
  show upd M.1 21 x j = _
  rw [pk_un hj]
theorem m_Z_i {x : Int32} (h : m_Z t r M) : m_Z t r (m_i M 21 x) := by
  cases r with
  | inr k => exact h
  | inl e => exact h
theorem m_w_Yq (h : m_Yq M M') : m_w M' = m_w M := by unfold m_w; rw [h.1]
def q_r (x : p_E ⊕ (p_T × k_T)) : r_T := p_bind x (fun y => .inr y.2)
theorem ct_allOf (hn : h + 11 < sx_n σ) (hE : e_Vb (m_w M) V) (hw : w_Vb V) {b : Nat} (hb : b < V.2.1.length) (h20 : M.1 20 = nI b) : sx_Cr G 2 YX3_allOf [.ref h] (m_S G h M σ) (some (.int (s_b (a_ms V b) (fun _ => true)))) (m_S G h M σ) := by
  refine sx_body (by decide) (Nat.le_of_ble_eq_true rfl) ?_
  have hl : (a_ms V b).length ≤ 30 := hw.2.2 b hb
  refine sv_lconst 1 dX3_allOf_0 (by decide) ?_
  refine sv_aload_n dX3_allOf_1 rfl ?_
  refine sv_aload_n dX3_allOf_2 rfl ?_
  refine sm_get hn fg_X3_451 dX3_allOf_3 rfl ?_
  refine sv_topI (y := nI b) h20 ?_
  refine sv_cvR _ (ct_manyIn (b := b) hn hE hw hb) okX3_manyIn kv_X3_100 (sx_rd_c (m_S_0 hn)) rfl dX3_allOf_6 rfl rfl (by decide) (Nat.le_of_ble_eq_true rfl) ?_
  refine sv_lshl _ dX3_allOf_9 rfl ?_
  refine sv_lconst 1 dX3_allOf_10 (by decide) ?_
  refine sv_lsub dX3_allOf_11 ?_
  refine sv_l2i dX3_allOf_12 ?_
  refine sv_iret rfl rfl dX3_allOf_13 ?_
  exact ⟨_, rfl, r_I (bs_all _ hl), rfl⟩
theorem ct_withFlag (hn : h + 11 < sx_n σ) (hE : e_Vb (m_w M) V) (hw : w_Vb V) {b : Nat} (hb : b < V.2.1.length) (h20 : M.1 20 = nI b) {x : Nat} (hx : x < 5) : sx_Cr G 3 YX3_withFlag [.ref h, .int (nI x)] (m_S G h M σ) (some (.int (s_b (a_ms V b) (fun m => a_has m.2.2 x)))) (m_S G h M σ) := by
  have loop : ∀ q n, n ≤ (a_ms V b).length → (a_ms V b).length + 1 ≤ n + q → sx_V G 3 YX3_withFlag 4 [some (.ref h), some (.int (nI x)), some (.int (bs (fun i => a_has ((a_ms V b).getD i (0, 0, 0)).2.2 x) n)), some (.int (nI n))] [] (m_S G h M σ) (fun o τ => ∃ v, o = .inl v ∧ v = some (.int (s_b (a_ms V b) (fun m => a_has m.2.2 x))) ∧ τ = m_S G h M σ) := by
    have hl : (a_ms V b).length ≤ 30 := hw.2.2 b hb
    intro q
    induction q with
    | zero => intro n h1 h2; exact absurd h2 (by omega)
    | succ q ih =>
    intro n g1 g2
    refine sv_iload_n dX3_withFlag_4 rfl ?_
    refine sv_aload_n dX3_withFlag_5 rfl ?_
    refine sv_aload_n dX3_withFlag_6 rfl ?_
    refine sm_get hn fg_X3_451 dX3_withFlag_7 rfl ?_
    refine sv_topI (y := nI b) h20 ?_
    refine sv_cvR _ (ct_manyIn (b := b) hn hE hw hb) okX3_manyIn kv_X3_100 (sx_rd_c (m_S_0 hn)) rfl dX3_withFlag_10 rfl rfl (by decide) (Nat.le_of_ble_eq_true rfl) ?_
    refine sv_icmp_geN (tgt := 49) dX3_withFlag_13 (by decide) (by omega) (by omega) (fun c13 => ?_) (fun c13 => ?_)
    · obtain rfl : n = (a_ms V b).length := by omega
      refine sv_iload_n dX3_withFlag_49 rfl ?_
      refine sv_iret rfl rfl dX3_withFlag_50 ?_
      exact ⟨_, rfl, rfl, rfl⟩
    · have hlt : n < (a_ms V b).length := by omega
      refine sv_iload_n dX3_withFlag_16 rfl ?_
      refine sv_aload_n dX3_withFlag_17 rfl ?_
      refine sv_aload_n dX3_withFlag_18 rfl ?_
      refine sm_get hn fg_X3_451 dX3_withFlag_19 rfl ?_
      refine sv_topI (y := nI b) h20 ?_
      refine sv_iload_n dX3_withFlag_22 rfl ?_
      refine sv_iconst (nI 2) dX3_withFlag_23 (by decide +kernel) ?_
      refine sv_cvR _ (ct_flags hn hE hw hb hlt) okX3_ofMessage kv_X3_103 (sx_rd_c (m_S_0 hn)) rfl dX3_withFlag_24 rfl rfl (by decide) (Nat.le_of_ble_eq_true rfl) ?_
      refine sv_iload_n dX3_withFlag_27 rfl ?_
      refine sv_csR _ ct_has okX3_has ks_X3_407 dX3_withFlag_28 rfl rfl (by decide) (Nat.le_of_ble_eq_true rfl) ?_
      refine sv_if_eqB (tgt := 40) dX3_withFlag_31 (by decide) (fun c31 => ?_) (fun c31 => ?_)
      · have c31 : a_has ((a_ms V b).getD n (0, 0, 0)).2.2 x = false := c31
        have hs : bs (fun i => a_has ((a_ms V b).getD i (0, 0, 0)).2.2 x) (n + 1) = bs (fun i => a_has ((a_ms V b).getD i (0, 0, 0)).2.2 x) n ||| nI 0 := by show _ ||| (if a_has ((a_ms V b).getD n (0, 0, 0)).2.2 x = true then _ else _) = _; rw [if_neg (bf_n c31)]
        refine sv_iconst (nI 0) dX3_withFlag_40 (by decide +kernel) ?_
        refine sv_ior dX3_withFlag_41 ?_
        refine sv_istore_n dX3_withFlag_42 (by decide) ?_
        refine sv_iincN dX3_withFlag_43 rfl (by decide) ?_
        refine sv_goto (tgt := 4) dX3_withFlag_46 (by decide) ?_
        have hih := ih (n + 1) (by omega) (by omega)
        rw [hs] at hih
        exact hih
      · have c31 : a_has ((a_ms V b).getD n (0, 0, 0)).2.2 x = true := c31
        have hs : bs (fun i => a_has ((a_ms V b).getD i (0, 0, 0)).2.2 x) (n + 1) = bs (fun i => a_has ((a_ms V b).getD i (0, 0, 0)).2.2 x) n ||| (nI 1 <<< (nI n &&& 31)) := by show _ ||| (if a_has ((a_ms V b).getD n (0, 0, 0)).2.2 x = true then _ else _) = _; rw [if_pos c31]
        refine sv_iconst (nI 1) dX3_withFlag_34 (by decide +kernel) ?_
        refine sv_iload_n dX3_withFlag_35 rfl ?_
        refine sv_ishl dX3_withFlag_36 ?_
        refine sv_goto (tgt := 41) dX3_withFlag_37 (by decide) ?_
        refine sv_ior dX3_withFlag_41 ?_
        refine sv_istore_n dX3_withFlag_42 (by decide) ?_
        refine sv_iincN dX3_withFlag_43 rfl (by decide) ?_
        refine sv_goto (tgt := 4) dX3_withFlag_46 (by decide) ?_
        have hih := ih (n + 1) (by omega) (by omega)
        rw [hs] at hih
        exact hih
  refine sx_body (by decide) (Nat.le_of_ble_eq_true rfl) ?_
  refine sv_iconst (nI 0) dX3_withFlag_0 (by decide +kernel) ?_
  refine sv_istore_n dX3_withFlag_1 (by decide) ?_
  refine sv_iconst (nI 0) dX3_withFlag_2 (by decide +kernel) ?_
  refine sv_istore_n dX3_withFlag_3 (by decide) ?_
  exact loop 31 0 (Nat.zero_le _) (by have : (a_ms V b).length ≤ 30 := hw.2.2 b hb; omega)
def q_g (w : Nat) (m : a_M) : Int32 := if w = 1 then m.2.1 else m.1
def q_c (w : Nat) (il : Bool) (v : Nat) (m : a_M) : Bool := if il = true then decide (q_g w m < nI v) else decide (nI v < q_g w m)
def r_c1 (t : List Int32) (k : k_T) : r_T := if (p_sy t k 60 || p_sy t k 62) = true then .inr k else .inl (p_er 1 k)
theorem p_cmp_r (w : Nat) : p_cmp t k (q_g w) = p_bind (r_n2 0 9999 (r_n1 (r_nx t (r_c1 t k)))) (fun k5 => .inr (q_c w (p_sy t k 60) k5.2.2.2, p_nx t k5)) := by
  unfold p_cmp r_c1
  by_cases h1 : p_sy t k 60 = true
  · rw [if_pos h1, if_pos (by rw [h1]; rfl), r_num]
    show _ = p_bind (r_n2 0 9999 (r_n1 (.inr (p_nx t k)))) _
    generalize r_n2 0 9999 (r_n1 (.inr (p_nx t k))) = X
    cases X with
    | inl e => rfl
    | inr k5 =>
      show Sum.inr _ = Sum.inr _
      rw [h1]
      rfl
  · rw [if_neg h1]
    have h1 : p_sy t k 60 = false := by cases h9 : p_sy t k 60 with | true => exact absurd h9 h1 | false => rfl
    rw [h1, Bool.false_or]
    by_cases h2 : p_sy t k 62 = true
    · rw [if_pos h2, if_pos h2, r_num]
      show _ = p_bind (r_n2 0 9999 (r_n1 (.inr (p_nx t k)))) _
      generalize r_n2 0 9999 (r_n1 (.inr (p_nx t k))) = X
      cases X with
      | inl e => rfl
      | inr k5 => rfl
    · rw [if_neg h2, if_neg h2]; rfl
theorem r_n_ok {X : r_T} {k5 : k_T} (hX : X = r_n2 0 9999 (r_n1 r)) (h : X = .inr k5) : r = .inr k5 := by
  rw [hX] at h
  exact (r_n1_k (r_n2_k h).1).1
theorem r_c1_k {k4 : k_T} (h : r_c1 t k = .inr k4) : k4 = k := by
  unfold r_c1 at h
  by_cases h1 : (p_sy t k 60 || p_sy t k 62) = true
  · rw [if_pos h1] at h; cases h; rfl
  · rw [if_neg h1] at h; cases h
theorem ct_compared0 (hn : h + 11 < sx_n σ) (hE : e_Vb (m_w M) V) (hw : w_Vb V) {b : Nat} (hb : b < V.2.1.length) (h20 : M.1 20 = nI b) (hZ : m_Q t k 0 M) : sx_C G 6 YX3_compared [.ref h, .int (nI 0)] (m_S G h M σ) (fun o τ => ∃ v, o = .inl v ∧ ∃ x, v = some (.int x) ∧ ∃ M2, τ = m_S G h M2 σ ∧ m_Y M M2 ∧ m_Z t (q_r (p_cmp t k (q_g 0))) M2 ∧ ∀ y, p_cmp t k (q_g 0) = .inr y → x = s_b (a_ms V b) y.1 ∧ k.2.1 < y.2.2.1) := by
  have loop : ∀ q n il v M5, m_Y M M5 → m_Z t (q_r (p_cmp t k (q_g 0))) M5 → (∀ y, p_cmp t k (q_g 0) = .inr y → s_b (a_ms V b) (q_c 0 il v) = s_b (a_ms V b) y.1 ∧ k.2.1 < y.2.2.1) → n ≤ (a_ms V b).length → (a_ms V b).length + 1 ≤ n + q → sx_V G 6 YX3_compared 44 [some (.ref h), some (.int (nI 0)), some (.int (b_I il)), some (.int (nI v)), some (.int (bs (fun i => q_c 0 il v ((a_ms V b).getD i (0, 0, 0))) n)), some (.int (nI n)), none] [] (m_S G h M5 σ) (fun o τ => ∃ v, o = .inl v ∧ ∃ x, v = some (.int x) ∧ ∃ M2, τ = m_S G h M2 σ ∧ m_Y M M2 ∧ m_Z t (q_r (p_cmp t k (q_g 0))) M2 ∧ ∀ y, p_cmp t k (q_g 0) = .inr y → x = s_b (a_ms V b) y.1 ∧ k.2.1 < y.2.2.1) := by
    have hl : (a_ms V b).length ≤ 30 := hw.2.2 b hb
    intro q
    induction q with
    | zero => intro n il v M5 a1 a2 a3 g1 g2; exact absurd g2 (by omega)
    | succ q ih =>
    intro n il v M5 hY5 hZ5 hy5 g1 g2
    have hE5 : e_Vb (m_w M5) V := by rw [m_w_Y hY5]; exact hE
    have h205 : M5.1 20 = nI b := (hY5.2 20 (by decide)).trans h20
    refine sv_iload dX3_compared_44 rfl ?_
    refine sv_aload_n dX3_compared_46 rfl ?_
    refine sv_aload_n dX3_compared_47 rfl ?_
    refine sm_get hn fg_X3_451 dX3_compared_48 rfl ?_
    refine sv_topI (y := nI b) h205 ?_
    refine sv_cvR _ (ct_manyIn (b := b) hn hE5 hw hb) okX3_manyIn kv_X3_100 (sx_rd_c (m_S_0 hn)) rfl dX3_compared_51 rfl rfl (by decide) (Nat.le_of_ble_eq_true rfl) ?_
    refine sv_icmp_geN (tgt := 108) dX3_compared_54 (by decide) (by omega) (by omega) (fun c54 => ?_) (fun c54 => ?_)
    · obtain rfl : n = (a_ms V b).length := by omega
      refine sv_iload dX3_compared_108 rfl ?_
      refine sv_iret rfl rfl dX3_compared_110 ?_
      exact ⟨_, rfl, _, rfl, _, rfl, hY5, hZ5, hy5⟩
    · have hlt : n < (a_ms V b).length := by omega
      refine sv_aload_n dX3_compared_57 rfl ?_
      refine sv_aload_n dX3_compared_58 rfl ?_
      refine sm_get hn fg_X3_451 dX3_compared_59 rfl ?_
      refine sv_topI (y := nI b) h205 ?_
      refine sv_iload dX3_compared_62 rfl ?_
      refine sv_iload_n dX3_compared_64 rfl ?_
      refine sv_cvR _ (ct_uid hn hE5 hw hb hlt) okX3_ofMessage kv_X3_103 (sx_rd_c (m_S_0 hn)) rfl dX3_compared_65 rfl rfl (by decide) (Nat.le_of_ble_eq_true rfl) ?_
      refine sv_istore dX3_compared_68 (by decide) ?_
      refine sv_iload dX3_compared_70 rfl ?_
      refine sv_iload_n dX3_compared_72 rfl ?_
      refine sv_if_eqB (tgt := 85) dX3_compared_73 (by decide) (fun c73 => ?_) (fun c73 => ?_)
      · refine sv_iload dX3_compared_85 rfl ?_
        refine sv_iload_n dX3_compared_87 rfl ?_
        refine sv_icmp_le (tgt := 98) dX3_compared_88 (by decide) (fun c88 => ?_) (fun c88 => ?_)
        · have hs : bs (fun i => q_c 0 il v ((a_ms V b).getD i (0, 0, 0))) (n + 1) = bs (fun i => q_c 0 il v ((a_ms V b).getD i (0, 0, 0))) n ||| nI 0 := by show _ ||| (if q_c 0 il v ((a_ms V b).getD n (0, 0, 0)) = true then _ else _) = _; rw [if_neg (show ¬ q_c 0 il v ((a_ms V b).getD n (0, 0, 0)) = true by unfold q_c; rw [if_neg (bf_n c73)]; exact fun z => absurd (of_decide_eq_true z) (Int32.not_lt.mpr c88))]
          refine sv_iconst (nI 0) dX3_compared_98 (by decide +kernel) ?_
          refine sv_ior dX3_compared_99 ?_
          refine sv_istore dX3_compared_100 (by decide) ?_
          refine sv_iincN dX3_compared_102 rfl (by decide) ?_
          refine sv_goto (tgt := 44) dX3_compared_105 (by decide) ?_
          have hih := ih (n + 1) il v M5 hY5 hZ5 hy5 (by omega) (by omega)
          rw [hs] at hih
          exact sx_loc _ (by refine ⟨rfl, rfl, rfl, rfl, rfl, rfl, trivial⟩) hih
        · have hs : bs (fun i => q_c 0 il v ((a_ms V b).getD i (0, 0, 0))) (n + 1) = bs (fun i => q_c 0 il v ((a_ms V b).getD i (0, 0, 0))) n ||| (nI 1 <<< (nI n &&& 31)) := by show _ ||| (if q_c 0 il v ((a_ms V b).getD n (0, 0, 0)) = true then _ else _) = _; rw [if_pos (show q_c 0 il v ((a_ms V b).getD n (0, 0, 0)) = true by unfold q_c; rw [if_neg (bf_n c73)]; exact decide_eq_true (Int32.not_le.mp c88))]
          refine sv_iconst (nI 1) dX3_compared_91 (by decide +kernel) ?_
          refine sv_iload dX3_compared_92 rfl ?_
          refine sv_ishl dX3_compared_94 ?_
          refine sv_goto (tgt := 99) dX3_compared_95 (by decide) ?_
          refine sv_ior dX3_compared_99 ?_
          refine sv_istore dX3_compared_100 (by decide) ?_
          refine sv_iincN dX3_compared_102 rfl (by decide) ?_
          refine sv_goto (tgt := 44) dX3_compared_105 (by decide) ?_
          have hih := ih (n + 1) il v M5 hY5 hZ5 hy5 (by omega) (by omega)
          rw [hs] at hih
          exact sx_loc _ (by refine ⟨rfl, rfl, rfl, rfl, rfl, rfl, trivial⟩) hih
      · refine sv_iload dX3_compared_76 rfl ?_
        refine sv_iload_n dX3_compared_78 rfl ?_
        refine sv_icmp_ge (tgt := 98) dX3_compared_79 (by decide) (fun c79 => ?_) (fun c79 => ?_)
        · have hs : bs (fun i => q_c 0 il v ((a_ms V b).getD i (0, 0, 0))) (n + 1) = bs (fun i => q_c 0 il v ((a_ms V b).getD i (0, 0, 0))) n ||| nI 0 := by show _ ||| (if q_c 0 il v ((a_ms V b).getD n (0, 0, 0)) = true then _ else _) = _; rw [if_neg (show ¬ q_c 0 il v ((a_ms V b).getD n (0, 0, 0)) = true by unfold q_c; rw [if_pos c73]; exact fun z => absurd (of_decide_eq_true z) (Int32.not_lt.mpr c79))]
          refine sv_iconst (nI 0) dX3_compared_98 (by decide +kernel) ?_
          refine sv_ior dX3_compared_99 ?_
          refine sv_istore dX3_compared_100 (by decide) ?_
          refine sv_iincN dX3_compared_102 rfl (by decide) ?_
          refine sv_goto (tgt := 44) dX3_compared_105 (by decide) ?_
          have hih := ih (n + 1) il v M5 hY5 hZ5 hy5 (by omega) (by omega)
          rw [hs] at hih
          exact sx_loc _ (by refine ⟨rfl, rfl, rfl, rfl, rfl, rfl, trivial⟩) hih
        · have hs : bs (fun i => q_c 0 il v ((a_ms V b).getD i (0, 0, 0))) (n + 1) = bs (fun i => q_c 0 il v ((a_ms V b).getD i (0, 0, 0))) n ||| (nI 1 <<< (nI n &&& 31)) := by show _ ||| (if q_c 0 il v ((a_ms V b).getD n (0, 0, 0)) = true then _ else _) = _; rw [if_pos (show q_c 0 il v ((a_ms V b).getD n (0, 0, 0)) = true by unfold q_c; rw [if_pos c73]; exact decide_eq_true (Int32.not_le.mp c79))]
          refine sv_goto (tgt := 91) dX3_compared_82 (by decide) ?_
          refine sv_iconst (nI 1) dX3_compared_91 (by decide +kernel) ?_
          refine sv_iload dX3_compared_92 rfl ?_
          refine sv_ishl dX3_compared_94 ?_
          refine sv_goto (tgt := 99) dX3_compared_95 (by decide) ?_
          refine sv_ior dX3_compared_99 ?_
          refine sv_istore dX3_compared_100 (by decide) ?_
          refine sv_iincN dX3_compared_102 rfl (by decide) ?_
          refine sv_goto (tgt := 44) dX3_compared_105 (by decide) ?_
          have hih := ih (n + 1) il v M5 hY5 hZ5 hy5 (by omega) (by omega)
          rw [hs] at hih
          exact sx_loc _ (by refine ⟨rfl, rfl, rfl, rfl, rfl, rfl, trivial⟩) hih
  have mid : ∀ r1 M1 il, m_Y M M1 → m_Z t r1 M1 → r1 = r_c1 t k → il = p_sy t k 60 → sx_V G 6 YX3_compared 25 [some (.ref h), some (.int (nI 0)), some (.int (b_I il)), none, none, none, none] [] (m_S G h M1 σ) (fun o τ => ∃ v, o = .inl v ∧ ∃ x, v = some (.int x) ∧ ∃ M2, τ = m_S G h M2 σ ∧ m_Y M M2 ∧ m_Z t (q_r (p_cmp t k (q_g 0))) M2 ∧ ∀ y, p_cmp t k (q_g 0) = .inr y → x = s_b (a_ms V b) y.1 ∧ k.2.1 < y.2.2.1) := by
    intro r1 M1 il hY1 hZ1 e1 ei
    have hko : k_ok t k := hZ.2.2.1
    refine sv_aload_n dX3_compared_25 rfl ?_
    refine sv_cvP _ (ct_goOn hn hZ1) okX3_goOn kv_X3_340 (sx_rd_c (m_S_0 hn)) rfl dX3_compared_26 rfl rfl (by decide) (Nat.le_of_ble_eq_true rfl) ?_
    intro v2 t2 hp2
    obtain ⟨rfl, M2, rfl, hY2, hZ2⟩ := hp2
    refine sv_aload_n dX3_compared_29 rfl ?_
    refine sv_iconst (nI 0) dX3_compared_30 (by decide +kernel) ?_
    refine sv_sipush (nI 9999) dX3_compared_31 (by decide +kernel) ?_
    refine sv_cvP _ (ct_number (lo := 0) (hi := 9999) hn hZ2 (by decide) (by decide)) okX3_number kv_X3_396 (sx_rd_c (m_S_0 hn)) rfl dX3_compared_34 rfl rfl (by decide) (Nat.le_of_ble_eq_true rfl) ?_
    intro v3 t3 hp3
    obtain ⟨rfl, M3, rfl, hY3, hZ3⟩ := hp3
    rw [e1] at hZ3 ⊢
    have hY13 := m_Y_t hY1 (m_Y_t hY2 hY3)
    have hpc := p_cmp_r (t := t) (k := k) 0
    have hcy : ∀ k5, r_n2 0 9999 (r_n1 (r_nx t (r_c1 t k))) = .inr k5 → k.2.1 < (p_nx t k5).2.1 := by
      intro k5 g1
      have g3 := r_n_ok rfl g1
      obtain ⟨k4, g4, g5⟩ := p_bind_r (show p_bind (r_c1 t k) (fun k => (Sum.inr (p_nx t k) : r_T)) = .inr k5 from g3)
      have g5 := Sum.inr.inj g5
      have g4 := r_c1_k g4
      subst g4
      subst g5
      have g6 := (k_ok_s hko).1
      have g7 := k_ok_x hko
      have g8 := (k_ok_s g7).2 (by rw [(r_n1_k (r_n2_k g1).1).2]; decide)
      have g9 := hko.1
      omega
    generalize r_n2 0 9999 (r_n1 (r_nx t (r_c1 t k))) = X at hZ3 hpc hcy ⊢
    have hZ9 : m_Z t (q_r (p_cmp t k (q_g 0))) M3 := by
      rw [hpc]
      cases X with
      | inl e => exact hZ3
      | inr k5 => exact hZ3
    have hy9 : ∀ y, p_cmp t k (q_g 0) = .inr y → s_b (a_ms V b) (q_c 0 il (r_nv X 0)) = s_b (a_ms V b) y.1 ∧ k.2.1 < y.2.2.1 := by
      intro y hy
      rw [hpc] at hy
      obtain ⟨k5, g1, g2⟩ := p_bind_r hy
      have g2 := Sum.inr.inj g2
      subst g2
      rw [g1, ei]
      exact ⟨rfl, hcy k5 g1⟩
    refine sv_istore_n dX3_compared_37 (by decide) ?_
    refine sv_iconst (nI 0) dX3_compared_38 (by decide +kernel) ?_
    refine sv_istore dX3_compared_39 (by decide) ?_
    refine sv_iconst (nI 0) dX3_compared_41 (by decide +kernel) ?_
    refine sv_istore dX3_compared_42 (by decide) ?_
    exact loop 31 0 il _ M3 hY13 hZ9 hy9 (Nat.zero_le _) (by have : (a_ms V b).length ≤ 30 := hw.2.2 b hb; omega)
  refine sx_body (by decide) (Nat.le_of_ble_eq_true rfl) ?_
  have hZ0 : m_Z t (.inr k) M := hZ
  refine sv_aload_n dX3_compared_0 rfl ?_
  refine sv_bipush (nI 60) dX3_compared_1 (by decide +kernel) ?_
  refine sv_cvR _ (ct_isSym (x := 60) hn hZ0 (by decide)) okX3_isSymbol kv_X3_331 (sx_rd_c (m_S_0 hn)) rfl dX3_compared_3 rfl rfl (by decide) (Nat.le_of_ble_eq_true rfl) ?_
  refine sv_istore_n dX3_compared_6 (by decide) ?_
  refine sv_iload_n dX3_compared_7 rfl ?_
  refine sv_if_neB (tgt := 25) dX3_compared_8 (by decide) (fun c8 => ?_) (fun c8 => ?_)
  · have hY9 := m_Y_r (M := M)
    have hZ9 := hZ0
    have e9 : (Sum.inr k : r_T) = r_c1 t k := by unfold r_c1; rw [show p_sy t k 60 = true from c8]; rfl
    have ei9 : r_sy t (.inr k) (nI 60) = p_sy t k 60 := rfl
    exact mid _ _ _ hY9 hZ9 e9 ei9
  · refine sv_aload_n dX3_compared_11 rfl ?_
    refine sv_bipush (nI 62) dX3_compared_12 (by decide +kernel) ?_
    refine sv_cvR _ (ct_isSym (x := 62) hn hZ0 (by decide)) okX3_isSymbol kv_X3_331 (sx_rd_c (m_S_0 hn)) rfl dX3_compared_14 rfl rfl (by decide) (Nat.le_of_ble_eq_true rfl) ?_
    refine sv_if_neB (tgt := 25) dX3_compared_17 (by decide) (fun c17 => ?_) (fun c17 => ?_)
    · have hY9 := m_Y_r (M := M)
      have hZ9 := hZ0
      have e9 : (Sum.inr k : r_T) = r_c1 t k := by unfold r_c1; rw [show p_sy t k 62 = true from c17, Bool.or_true]; rfl
      have ei9 : r_sy t (.inr k) (nI 60) = p_sy t k 60 := rfl
      exact mid _ _ _ hY9 hZ9 e9 ei9
    · refine sv_aload_n dX3_compared_20 rfl ?_
      refine sv_iconst (nI 1) dX3_compared_21 (by decide +kernel) ?_
      refine sv_cvP _ (ct_er (c := 1) hn hZ0 (by decide) (by decide)) okX3_errs kv_X3_337 (sx_rd_c (m_S_0 hn)) rfl dX3_compared_22 rfl rfl (by decide) (Nat.le_of_ble_eq_true rfl) ?_
      intro v4 t4 hp4
      obtain ⟨rfl, M4, rfl, hY4, hZ4⟩ := hp4
      have hY9 := hY4
      have hZ9 := hZ4
      have e9 : r_er (.inr k) 1 = r_c1 t k := by unfold r_c1; rw [show p_sy t k 60 = false from c8, show p_sy t k 62 = false from c17]; rfl
      have ei9 : r_sy t (.inr k) (nI 60) = p_sy t k 60 := rfl
      exact mid _ _ _ hY9 hZ9 e9 ei9
theorem ct_compared1 (hn : h + 11 < sx_n σ) (hE : e_Vb (m_w M) V) (hw : w_Vb V) {b : Nat} (hb : b < V.2.1.length) (h20 : M.1 20 = nI b) (hZ : m_Q t k 0 M) : sx_C G 6 YX3_compared [.ref h, .int (nI 1)] (m_S G h M σ) (fun o τ => ∃ v, o = .inl v ∧ ∃ x, v = some (.int x) ∧ ∃ M2, τ = m_S G h M2 σ ∧ m_Y M M2 ∧ m_Z t (q_r (p_cmp t k (q_g 1))) M2 ∧ ∀ y, p_cmp t k (q_g 1) = .inr y → x = s_b (a_ms V b) y.1 ∧ k.2.1 < y.2.2.1) := by
  have loop : ∀ q n il v M5, m_Y M M5 → m_Z t (q_r (p_cmp t k (q_g 1))) M5 → (∀ y, p_cmp t k (q_g 1) = .inr y → s_b (a_ms V b) (q_c 1 il v) = s_b (a_ms V b) y.1 ∧ k.2.1 < y.2.2.1) → n ≤ (a_ms V b).length → (a_ms V b).length + 1 ≤ n + q → sx_V G 6 YX3_compared 44 [some (.ref h), some (.int (nI 1)), some (.int (b_I il)), some (.int (nI v)), some (.int (bs (fun i => q_c 1 il v ((a_ms V b).getD i (0, 0, 0))) n)), some (.int (nI n)), none] [] (m_S G h M5 σ) (fun o τ => ∃ v, o = .inl v ∧ ∃ x, v = some (.int x) ∧ ∃ M2, τ = m_S G h M2 σ ∧ m_Y M M2 ∧ m_Z t (q_r (p_cmp t k (q_g 1))) M2 ∧ ∀ y, p_cmp t k (q_g 1) = .inr y → x = s_b (a_ms V b) y.1 ∧ k.2.1 < y.2.2.1) := by
    have hl : (a_ms V b).length ≤ 30 := hw.2.2 b hb
    intro q
    induction q with
    | zero => intro n il v M5 a1 a2 a3 g1 g2; exact absurd g2 (by omega)
    | succ q ih =>
    intro n il v M5 hY5 hZ5 hy5 g1 g2
    have hE5 : e_Vb (m_w M5) V := by rw [m_w_Y hY5]; exact hE
    have h205 : M5.1 20 = nI b := (hY5.2 20 (by decide)).trans h20
    refine sv_iload dX3_compared_44 rfl ?_
    refine sv_aload_n dX3_compared_46 rfl ?_
    refine sv_aload_n dX3_compared_47 rfl ?_
    refine sm_get hn fg_X3_451 dX3_compared_48 rfl ?_
    refine sv_topI (y := nI b) h205 ?_
    refine sv_cvR _ (ct_manyIn (b := b) hn hE5 hw hb) okX3_manyIn kv_X3_100 (sx_rd_c (m_S_0 hn)) rfl dX3_compared_51 rfl rfl (by decide) (Nat.le_of_ble_eq_true rfl) ?_
    refine sv_icmp_geN (tgt := 108) dX3_compared_54 (by decide) (by omega) (by omega) (fun c54 => ?_) (fun c54 => ?_)
    · obtain rfl : n = (a_ms V b).length := by omega
      refine sv_iload dX3_compared_108 rfl ?_
      refine sv_iret rfl rfl dX3_compared_110 ?_
      exact ⟨_, rfl, _, rfl, _, rfl, hY5, hZ5, hy5⟩
    · have hlt : n < (a_ms V b).length := by omega
      refine sv_aload_n dX3_compared_57 rfl ?_
      refine sv_aload_n dX3_compared_58 rfl ?_
      refine sm_get hn fg_X3_451 dX3_compared_59 rfl ?_
      refine sv_topI (y := nI b) h205 ?_
      refine sv_iload dX3_compared_62 rfl ?_
      refine sv_iload_n dX3_compared_64 rfl ?_
      refine sv_cvR _ (ct_size hn hE5 hw hb hlt) okX3_ofMessage kv_X3_103 (sx_rd_c (m_S_0 hn)) rfl dX3_compared_65 rfl rfl (by decide) (Nat.le_of_ble_eq_true rfl) ?_
      refine sv_istore dX3_compared_68 (by decide) ?_
      refine sv_iload dX3_compared_70 rfl ?_
      refine sv_iload_n dX3_compared_72 rfl ?_
      refine sv_if_eqB (tgt := 85) dX3_compared_73 (by decide) (fun c73 => ?_) (fun c73 => ?_)
      · refine sv_iload dX3_compared_85 rfl ?_
        refine sv_iload_n dX3_compared_87 rfl ?_
        refine sv_icmp_le (tgt := 98) dX3_compared_88 (by decide) (fun c88 => ?_) (fun c88 => ?_)
        · have hs : bs (fun i => q_c 1 il v ((a_ms V b).getD i (0, 0, 0))) (n + 1) = bs (fun i => q_c 1 il v ((a_ms V b).getD i (0, 0, 0))) n ||| nI 0 := by show _ ||| (if q_c 1 il v ((a_ms V b).getD n (0, 0, 0)) = true then _ else _) = _; rw [if_neg (show ¬ q_c 1 il v ((a_ms V b).getD n (0, 0, 0)) = true by unfold q_c; rw [if_neg (bf_n c73)]; exact fun z => absurd (of_decide_eq_true z) (Int32.not_lt.mpr c88))]
          refine sv_iconst (nI 0) dX3_compared_98 (by decide +kernel) ?_
          refine sv_ior dX3_compared_99 ?_
          refine sv_istore dX3_compared_100 (by decide) ?_
          refine sv_iincN dX3_compared_102 rfl (by decide) ?_
          refine sv_goto (tgt := 44) dX3_compared_105 (by decide) ?_
          have hih := ih (n + 1) il v M5 hY5 hZ5 hy5 (by omega) (by omega)
          rw [hs] at hih
          exact sx_loc _ (by refine ⟨rfl, rfl, rfl, rfl, rfl, rfl, trivial⟩) hih
        · have hs : bs (fun i => q_c 1 il v ((a_ms V b).getD i (0, 0, 0))) (n + 1) = bs (fun i => q_c 1 il v ((a_ms V b).getD i (0, 0, 0))) n ||| (nI 1 <<< (nI n &&& 31)) := by show _ ||| (if q_c 1 il v ((a_ms V b).getD n (0, 0, 0)) = true then _ else _) = _; rw [if_pos (show q_c 1 il v ((a_ms V b).getD n (0, 0, 0)) = true by unfold q_c; rw [if_neg (bf_n c73)]; exact decide_eq_true (Int32.not_le.mp c88))]
          refine sv_iconst (nI 1) dX3_compared_91 (by decide +kernel) ?_
          refine sv_iload dX3_compared_92 rfl ?_
          refine sv_ishl dX3_compared_94 ?_
          refine sv_goto (tgt := 99) dX3_compared_95 (by decide) ?_
          refine sv_ior dX3_compared_99 ?_
          refine sv_istore dX3_compared_100 (by decide) ?_
          refine sv_iincN dX3_compared_102 rfl (by decide) ?_
          refine sv_goto (tgt := 44) dX3_compared_105 (by decide) ?_
          have hih := ih (n + 1) il v M5 hY5 hZ5 hy5 (by omega) (by omega)
          rw [hs] at hih
          exact sx_loc _ (by refine ⟨rfl, rfl, rfl, rfl, rfl, rfl, trivial⟩) hih
      · refine sv_iload dX3_compared_76 rfl ?_
        refine sv_iload_n dX3_compared_78 rfl ?_
        refine sv_icmp_ge (tgt := 98) dX3_compared_79 (by decide) (fun c79 => ?_) (fun c79 => ?_)
        · have hs : bs (fun i => q_c 1 il v ((a_ms V b).getD i (0, 0, 0))) (n + 1) = bs (fun i => q_c 1 il v ((a_ms V b).getD i (0, 0, 0))) n ||| nI 0 := by show _ ||| (if q_c 1 il v ((a_ms V b).getD n (0, 0, 0)) = true then _ else _) = _; rw [if_neg (show ¬ q_c 1 il v ((a_ms V b).getD n (0, 0, 0)) = true by unfold q_c; rw [if_pos c73]; exact fun z => absurd (of_decide_eq_true z) (Int32.not_lt.mpr c79))]
          refine sv_iconst (nI 0) dX3_compared_98 (by decide +kernel) ?_
          refine sv_ior dX3_compared_99 ?_
          refine sv_istore dX3_compared_100 (by decide) ?_
          refine sv_iincN dX3_compared_102 rfl (by decide) ?_
          refine sv_goto (tgt := 44) dX3_compared_105 (by decide) ?_
          have hih := ih (n + 1) il v M5 hY5 hZ5 hy5 (by omega) (by omega)
          rw [hs] at hih
          exact sx_loc _ (by refine ⟨rfl, rfl, rfl, rfl, rfl, rfl, trivial⟩) hih
        · have hs : bs (fun i => q_c 1 il v ((a_ms V b).getD i (0, 0, 0))) (n + 1) = bs (fun i => q_c 1 il v ((a_ms V b).getD i (0, 0, 0))) n ||| (nI 1 <<< (nI n &&& 31)) := by show _ ||| (if q_c 1 il v ((a_ms V b).getD n (0, 0, 0)) = true then _ else _) = _; rw [if_pos (show q_c 1 il v ((a_ms V b).getD n (0, 0, 0)) = true by unfold q_c; rw [if_pos c73]; exact decide_eq_true (Int32.not_le.mp c79))]
          refine sv_goto (tgt := 91) dX3_compared_82 (by decide) ?_
          refine sv_iconst (nI 1) dX3_compared_91 (by decide +kernel) ?_
          refine sv_iload dX3_compared_92 rfl ?_
          refine sv_ishl dX3_compared_94 ?_
          refine sv_goto (tgt := 99) dX3_compared_95 (by decide) ?_
          refine sv_ior dX3_compared_99 ?_
          refine sv_istore dX3_compared_100 (by decide) ?_
          refine sv_iincN dX3_compared_102 rfl (by decide) ?_
          refine sv_goto (tgt := 44) dX3_compared_105 (by decide) ?_
          have hih := ih (n + 1) il v M5 hY5 hZ5 hy5 (by omega) (by omega)
          rw [hs] at hih
          exact sx_loc _ (by refine ⟨rfl, rfl, rfl, rfl, rfl, rfl, trivial⟩) hih
  have mid : ∀ r1 M1 il, m_Y M M1 → m_Z t r1 M1 → r1 = r_c1 t k → il = p_sy t k 60 → sx_V G 6 YX3_compared 25 [some (.ref h), some (.int (nI 1)), some (.int (b_I il)), none, none, none, none] [] (m_S G h M1 σ) (fun o τ => ∃ v, o = .inl v ∧ ∃ x, v = some (.int x) ∧ ∃ M2, τ = m_S G h M2 σ ∧ m_Y M M2 ∧ m_Z t (q_r (p_cmp t k (q_g 1))) M2 ∧ ∀ y, p_cmp t k (q_g 1) = .inr y → x = s_b (a_ms V b) y.1 ∧ k.2.1 < y.2.2.1) := by
    intro r1 M1 il hY1 hZ1 e1 ei
    have hko : k_ok t k := hZ.2.2.1
    refine sv_aload_n dX3_compared_25 rfl ?_
    refine sv_cvP _ (ct_goOn hn hZ1) okX3_goOn kv_X3_340 (sx_rd_c (m_S_0 hn)) rfl dX3_compared_26 rfl rfl (by decide) (Nat.le_of_ble_eq_true rfl) ?_
    intro v2 t2 hp2
    obtain ⟨rfl, M2, rfl, hY2, hZ2⟩ := hp2
    refine sv_aload_n dX3_compared_29 rfl ?_
    refine sv_iconst (nI 0) dX3_compared_30 (by decide +kernel) ?_
    refine sv_sipush (nI 9999) dX3_compared_31 (by decide +kernel) ?_
    refine sv_cvP _ (ct_number (lo := 0) (hi := 9999) hn hZ2 (by decide) (by decide)) okX3_number kv_X3_396 (sx_rd_c (m_S_0 hn)) rfl dX3_compared_34 rfl rfl (by decide) (Nat.le_of_ble_eq_true rfl) ?_
    intro v3 t3 hp3
    obtain ⟨rfl, M3, rfl, hY3, hZ3⟩ := hp3
    rw [e1] at hZ3 ⊢
    have hY13 := m_Y_t hY1 (m_Y_t hY2 hY3)
    have hpc := p_cmp_r (t := t) (k := k) 1
    have hcy : ∀ k5, r_n2 0 9999 (r_n1 (r_nx t (r_c1 t k))) = .inr k5 → k.2.1 < (p_nx t k5).2.1 := by
      intro k5 g1
      have g3 := r_n_ok rfl g1
      obtain ⟨k4, g4, g5⟩ := p_bind_r (show p_bind (r_c1 t k) (fun k => (Sum.inr (p_nx t k) : r_T)) = .inr k5 from g3)
      have g5 := Sum.inr.inj g5
      have g4 := r_c1_k g4
      subst g4
      subst g5
      have g6 := (k_ok_s hko).1
      have g7 := k_ok_x hko
      have g8 := (k_ok_s g7).2 (by rw [(r_n1_k (r_n2_k g1).1).2]; decide)
      have g9 := hko.1
      omega
    generalize r_n2 0 9999 (r_n1 (r_nx t (r_c1 t k))) = X at hZ3 hpc hcy ⊢
    have hZ9 : m_Z t (q_r (p_cmp t k (q_g 1))) M3 := by
      rw [hpc]
      cases X with
      | inl e => exact hZ3
      | inr k5 => exact hZ3
    have hy9 : ∀ y, p_cmp t k (q_g 1) = .inr y → s_b (a_ms V b) (q_c 1 il (r_nv X 0)) = s_b (a_ms V b) y.1 ∧ k.2.1 < y.2.2.1 := by
      intro y hy
      rw [hpc] at hy
      obtain ⟨k5, g1, g2⟩ := p_bind_r hy
      have g2 := Sum.inr.inj g2
      subst g2
      rw [g1, ei]
      exact ⟨rfl, hcy k5 g1⟩
    refine sv_istore_n dX3_compared_37 (by decide) ?_
    refine sv_iconst (nI 0) dX3_compared_38 (by decide +kernel) ?_
    refine sv_istore dX3_compared_39 (by decide) ?_
    refine sv_iconst (nI 0) dX3_compared_41 (by decide +kernel) ?_
    refine sv_istore dX3_compared_42 (by decide) ?_
    exact loop 31 0 il _ M3 hY13 hZ9 hy9 (Nat.zero_le _) (by have : (a_ms V b).length ≤ 30 := hw.2.2 b hb; omega)
  refine sx_body (by decide) (Nat.le_of_ble_eq_true rfl) ?_
  have hZ0 : m_Z t (.inr k) M := hZ
  refine sv_aload_n dX3_compared_0 rfl ?_
  refine sv_bipush (nI 60) dX3_compared_1 (by decide +kernel) ?_
  refine sv_cvR _ (ct_isSym (x := 60) hn hZ0 (by decide)) okX3_isSymbol kv_X3_331 (sx_rd_c (m_S_0 hn)) rfl dX3_compared_3 rfl rfl (by decide) (Nat.le_of_ble_eq_true rfl) ?_
  refine sv_istore_n dX3_compared_6 (by decide) ?_
  refine sv_iload_n dX3_compared_7 rfl ?_
  refine sv_if_neB (tgt := 25) dX3_compared_8 (by decide) (fun c8 => ?_) (fun c8 => ?_)
  · have hY9 := m_Y_r (M := M)
    have hZ9 := hZ0
    have e9 : (Sum.inr k : r_T) = r_c1 t k := by unfold r_c1; rw [show p_sy t k 60 = true from c8]; rfl
    have ei9 : r_sy t (.inr k) (nI 60) = p_sy t k 60 := rfl
    exact mid _ _ _ hY9 hZ9 e9 ei9
  · refine sv_aload_n dX3_compared_11 rfl ?_
    refine sv_bipush (nI 62) dX3_compared_12 (by decide +kernel) ?_
    refine sv_cvR _ (ct_isSym (x := 62) hn hZ0 (by decide)) okX3_isSymbol kv_X3_331 (sx_rd_c (m_S_0 hn)) rfl dX3_compared_14 rfl rfl (by decide) (Nat.le_of_ble_eq_true rfl) ?_
    refine sv_if_neB (tgt := 25) dX3_compared_17 (by decide) (fun c17 => ?_) (fun c17 => ?_)
    · have hY9 := m_Y_r (M := M)
      have hZ9 := hZ0
      have e9 : (Sum.inr k : r_T) = r_c1 t k := by unfold r_c1; rw [show p_sy t k 62 = true from c17, Bool.or_true]; rfl
      have ei9 : r_sy t (.inr k) (nI 60) = p_sy t k 60 := rfl
      exact mid _ _ _ hY9 hZ9 e9 ei9
    · refine sv_aload_n dX3_compared_20 rfl ?_
      refine sv_iconst (nI 1) dX3_compared_21 (by decide +kernel) ?_
      refine sv_cvP _ (ct_er (c := 1) hn hZ0 (by decide) (by decide)) okX3_errs kv_X3_337 (sx_rd_c (m_S_0 hn)) rfl dX3_compared_22 rfl rfl (by decide) (Nat.le_of_ble_eq_true rfl) ?_
      intro v4 t4 hp4
      obtain ⟨rfl, M4, rfl, hY4, hZ4⟩ := hp4
      have hY9 := hY4
      have hZ9 := hZ4
      have e9 : r_er (.inr k) 1 = r_c1 t k := by unfold r_c1; rw [show p_sy t k 60 = false from c8, show p_sy t k 62 = false from c17]; rfl
      have ei9 : r_sy t (.inr k) (nI 60) = p_sy t k 60 := rfl
      exact mid _ _ _ hY9 hZ9 e9 ei9
theorem ct_opens (hn : h + 11 < sx_n σ) (hZ : m_Q t k 0 M) {o : Nat} (ho : o ≤ 5) (h21 : M.1 21 = nI o) : sx_Cp G 4 YX3_opens [.ref h] (m_S G h M σ) (fun v τ => v = none ∧ ∃ M2, τ = m_S G h M2 σ ∧ m_Yq M M2 ∧ M2.1 21 = nI (o + 1) ∧ m_Z t (if o < 5 then .inr (p_nx t k) else .inl (p_er 5 k)) M2) := by
  refine sx_body (by decide) (Nat.le_of_ble_eq_true rfl) ?_
  have hZ0 : m_Z t (.inr k) M := hZ
  refine sv_aload_n dX3_opens_0 rfl ?_
  refine sm_get hn fg_X3_454 dX3_opens_1 rfl ?_
  refine sv_topI (y := nI o) h21 ?_
  refine sv_iconst (nI 5) dX3_opens_4 (by decide +kernel) ?_
  refine sv_icmp_neN (tgt := 13) dX3_opens_5 (by decide) (by omega) (by omega) (fun c5 => ?_) (fun c5 => ?_)
  · have hY9 := m_Yq_r (M := M)
    have h219 := h21
    have hZ9 := hZ0
    have e9 : r_nx t (.inr k) = (if o < 5 then .inr (p_nx t k) else .inl (p_er 5 k)) := by rw [if_pos (by omega)]; rfl
    refine sv_aload_n dX3_opens_13 rfl ?_
    refine sv_dup dX3_opens_14 rfl ?_
    refine sm_get hn fg_X3_454 dX3_opens_15 rfl ?_
    refine sv_topI (y := nI o) h219 ?_
    refine sv_iconst (nI 1) dX3_opens_18 (by decide +kernel) ?_
    refine sv_iaddN dX3_opens_19 ?_
    refine sm_put hn fp_X3_454 dX3_opens_20 rfl (by decide) ?_
    have hZ10 := m_Z_i (x := nI (o + 1)) hZ9
    refine sv_aload_n dX3_opens_23 rfl ?_
    refine sv_cvP _ (ct_goOn hn hZ10) okX3_goOn kv_X3_340 (sx_rd_c (m_S_0 hn)) rfl dX3_opens_24 rfl rfl (by decide) (Nat.le_of_ble_eq_true rfl) ?_
    intro v5 t5 hp5
    obtain ⟨rfl, M5, rfl, hY5, hZ5⟩ := hp5
    refine sv_vret rfl dX3_opens_27 ?_
    exact ⟨_, rfl, rfl, _, rfl, m_Yq_t hY9 (m_Yq_t m_Yq_i (m_Yq_Y hY5)), (hY5.2 21 (by decide)).trans rfl, by rw [← e9]; exact hZ5⟩
  · refine sv_aload_n dX3_opens_8 rfl ?_
    refine sv_iconst (nI 5) dX3_opens_9 (by decide +kernel) ?_
    refine sv_cvP _ (ct_er (c := 5) hn hZ0 (by decide) (by decide)) okX3_errs kv_X3_337 (sx_rd_c (m_S_0 hn)) rfl dX3_opens_10 rfl rfl (by decide) (Nat.le_of_ble_eq_true rfl) ?_
    intro v3 t3 hp3
    obtain ⟨rfl, M3, rfl, hY3, hZ3⟩ := hp3
    have hY9 := m_Yq_Y hY3
    have h219 : M3.1 21 = nI o := (hY3.2 21 (by decide)).trans h21
    have hZ9 := hZ3
    have e9 : r_nx t (r_er (.inr k) 5) = (if o < 5 then .inr (p_nx t k) else .inl (p_er 5 k)) := by rw [if_neg (by omega)]; rfl
    refine sv_aload_n dX3_opens_13 rfl ?_
    refine sv_dup dX3_opens_14 rfl ?_
    refine sm_get hn fg_X3_454 dX3_opens_15 rfl ?_
    refine sv_topI (y := nI o) h219 ?_
    refine sv_iconst (nI 1) dX3_opens_18 (by decide +kernel) ?_
    refine sv_iaddN dX3_opens_19 ?_
    refine sm_put hn fp_X3_454 dX3_opens_20 rfl (by decide) ?_
    have hZ10 := m_Z_i (x := nI (o + 1)) hZ9
    refine sv_aload_n dX3_opens_23 rfl ?_
    refine sv_cvP _ (ct_goOn hn hZ10) okX3_goOn kv_X3_340 (sx_rd_c (m_S_0 hn)) rfl dX3_opens_24 rfl rfl (by decide) (Nat.le_of_ble_eq_true rfl) ?_
    intro v5 t5 hp5
    obtain ⟨rfl, M5, rfl, hY5, hZ5⟩ := hp5
    refine sv_vret rfl dX3_opens_27 ?_
    exact ⟨_, rfl, rfl, _, rfl, m_Yq_t hY9 (m_Yq_t m_Yq_i (m_Yq_Y hY5)), (hY5.2 21 (by decide)).trans rfl, by rw [← e9]; exact hZ5⟩
theorem p_bf_e : p_bf t k = (p_is t k 9 || (p_sy t k 40 || ((p_fl t k).isSome || (p_is t k 7 || (p_is t k 5 || p_is t k 8))))) := by
  unfold p_bf
  cases (p_fl t k).isSome <;> cases p_is t k 9 <;> cases p_is t k 7 <;> cases p_is t k 5 <;> cases p_is t k 8 <;> cases p_sy t k 40 <;> rfl
theorem ct_isFactor (hn : h + 11 < sx_n σ) (hZ : m_Q t k 0 M) (hW : g_S G) : sx_Cr G 6 YX3_isFactor [.ref h] (m_S G h M σ) (some (.int (b_I (p_bf t k)))) (m_S G h M σ) := by
  refine sx_body (by decide) (Nat.le_of_ble_eq_true rfl) ?_
  have hZ0 : m_Z t (.inr k) M := hZ
  refine sv_aload_n dX3_isFactor_0 rfl ?_
  refine sv_ldcSw 25 rfl dX3_isFactor_1 ?_
  refine sv_cvR _ (ct_isWord (i := 9) (j := 25) hn hZ0 hW (by decide) (by decide) rfl) okX3_isWord kv_X3_327 (sx_rd_c (m_S_0 hn)) rfl dX3_isFactor_4 rfl rfl (by decide) (Nat.le_of_ble_eq_true rfl) ?_
  refine sv_if_neB (tgt := 57) dX3_isFactor_7 (by decide) (fun c7 => ?_) (fun c7 => ?_)
  · have hv : nI 1 = b_I (p_bf t k) := by rw [p_bf_e, show p_is t k 9 = true from c7]; rfl
    refine sv_iconst (nI 1) dX3_isFactor_57 (by decide +kernel) ?_
    refine sv_goto (tgt := 62) dX3_isFactor_58 (by decide) ?_
    refine sv_iret (by first | exact b_I_nar _ | rfl) rfl dX3_isFactor_62 ?_
    exact ⟨_, rfl, r_I hv, rfl⟩
  · refine sv_aload_n dX3_isFactor_10 rfl ?_
    refine sv_bipush (nI 40) dX3_isFactor_11 (by decide +kernel) ?_
    refine sv_cvR _ (ct_isSym (x := 40) hn hZ0 (by decide)) okX3_isSymbol kv_X3_331 (sx_rd_c (m_S_0 hn)) rfl dX3_isFactor_13 rfl rfl (by decide) (Nat.le_of_ble_eq_true rfl) ?_
    refine sv_if_neB (tgt := 57) dX3_isFactor_16 (by decide) (fun c16 => ?_) (fun c16 => ?_)
    · have hv : nI 1 = b_I (p_bf t k) := by rw [p_bf_e, show p_is t k 9 = false from c7, show p_sy t k 40 = true from c16]; rfl
      refine sv_iconst (nI 1) dX3_isFactor_57 (by decide +kernel) ?_
      refine sv_goto (tgt := 62) dX3_isFactor_58 (by decide) ?_
      refine sv_iret (by first | exact b_I_nar _ | rfl) rfl dX3_isFactor_62 ?_
      exact ⟨_, rfl, r_I hv, rfl⟩
    · refine sv_aload_n dX3_isFactor_19 rfl ?_
      refine sv_cvR _ (ct_flagHere hn hZ0 hW) okX3_flagHere kv_X3_372 (sx_rd_c (m_S_0 hn)) rfl dX3_isFactor_20 rfl rfl (by decide) (Nat.le_of_ble_eq_true rfl) ?_
      refine sv_iconst (-1) dX3_isFactor_23 (by decide +kernel) ?_
      refine sv_icmp_ne (tgt := 57) dX3_isFactor_24 (by decide) (fun c24 => ?_) (fun c24 => ?_)
      · have hfs : (p_fl t k).isSome = true := by
          cases hz : p_fl t k with
          | none => exact absurd (show o_I (r_fl t (.inr k)) = -1 by show o_I (p_fl t k) = -1; rw [hz]; rfl) c24
          | some z => rfl
        have hv : nI 1 = b_I (p_bf t k) := by rw [p_bf_e, show p_is t k 9 = false from c7, show p_sy t k 40 = false from c16, hfs]; rfl
        refine sv_iconst (nI 1) dX3_isFactor_57 (by decide +kernel) ?_
        refine sv_goto (tgt := 62) dX3_isFactor_58 (by decide) ?_
        refine sv_iret (by first | exact b_I_nar _ | rfl) rfl dX3_isFactor_62 ?_
        exact ⟨_, rfl, r_I hv, rfl⟩
      · have hfn : (p_fl t k).isSome = false := by rw [show p_fl t k = none from (o_I_m1 _ (r_fl_k (t := t) (r := .inr k))).mp c24]; rfl
        refine sv_aload_n dX3_isFactor_27 rfl ?_
        refine sv_ldcSw 23 rfl dX3_isFactor_28 ?_
        refine sv_cvR _ (ct_isWord (i := 7) (j := 23) hn hZ0 hW (by decide) (by decide) rfl) okX3_isWord kv_X3_327 (sx_rd_c (m_S_0 hn)) rfl dX3_isFactor_31 rfl rfl (by decide) (Nat.le_of_ble_eq_true rfl) ?_
        refine sv_if_neB (tgt := 57) dX3_isFactor_34 (by decide) (fun c34 => ?_) (fun c34 => ?_)
        · have hv : nI 1 = b_I (p_bf t k) := by rw [p_bf_e, show p_is t k 9 = false from c7, show p_sy t k 40 = false from c16, hfn, show p_is t k 7 = true from c34]; rfl
          refine sv_iconst (nI 1) dX3_isFactor_57 (by decide +kernel) ?_
          refine sv_goto (tgt := 62) dX3_isFactor_58 (by decide) ?_
          refine sv_iret (by first | exact b_I_nar _ | rfl) rfl dX3_isFactor_62 ?_
          exact ⟨_, rfl, r_I hv, rfl⟩
        · refine sv_aload_n dX3_isFactor_37 rfl ?_
          refine sv_ldcSw 20 rfl dX3_isFactor_38 ?_
          refine sv_cvR _ (ct_isWord (i := 5) (j := 20) hn hZ0 hW (by decide) (by decide) rfl) okX3_isWord kv_X3_327 (sx_rd_c (m_S_0 hn)) rfl dX3_isFactor_41 rfl rfl (by decide) (Nat.le_of_ble_eq_true rfl) ?_
          refine sv_if_neB (tgt := 57) dX3_isFactor_44 (by decide) (fun c44 => ?_) (fun c44 => ?_)
          · have hv : nI 1 = b_I (p_bf t k) := by rw [p_bf_e, show p_is t k 9 = false from c7, show p_sy t k 40 = false from c16, hfn, show p_is t k 7 = false from c34, show p_is t k 5 = true from c44]; rfl
            refine sv_iconst (nI 1) dX3_isFactor_57 (by decide +kernel) ?_
            refine sv_goto (tgt := 62) dX3_isFactor_58 (by decide) ?_
            refine sv_iret (by first | exact b_I_nar _ | rfl) rfl dX3_isFactor_62 ?_
            exact ⟨_, rfl, r_I hv, rfl⟩
          · refine sv_aload_n dX3_isFactor_47 rfl ?_
            refine sv_ldcSw 24 rfl dX3_isFactor_48 ?_
            refine sv_cvR _ (ct_isWord (i := 8) (j := 24) hn hZ0 hW (by decide) (by decide) rfl) okX3_isWord kv_X3_327 (sx_rd_c (m_S_0 hn)) rfl dX3_isFactor_51 rfl rfl (by decide) (Nat.le_of_ble_eq_true rfl) ?_
            refine sv_if_eqB (tgt := 61) dX3_isFactor_54 (by decide) (fun c54 => ?_) (fun c54 => ?_)
            · have hv : nI 0 = b_I (p_bf t k) := by rw [p_bf_e, show p_is t k 9 = false from c7, show p_sy t k 40 = false from c16, hfn, show p_is t k 7 = false from c34, show p_is t k 5 = false from c44, show p_is t k 8 = false from c54]; rfl
              refine sv_iconst (nI 0) dX3_isFactor_61 (by decide +kernel) ?_
              refine sv_iret (by first | exact b_I_nar _ | rfl) rfl dX3_isFactor_62 ?_
              exact ⟨_, rfl, r_I hv, rfl⟩
            · have hv : nI 1 = b_I (p_bf t k) := by rw [p_bf_e, show p_is t k 9 = false from c7, show p_sy t k 40 = false from c16, hfn, show p_is t k 7 = false from c34, show p_is t k 5 = false from c44, show p_is t k 8 = true from c54]; rfl
              refine sv_iconst (nI 1) dX3_isFactor_57 (by decide +kernel) ?_
              refine sv_goto (tgt := 62) dX3_isFactor_58 (by decide) ?_
              refine sv_iret (by first | exact b_I_nar _ | rfl) rfl dX3_isFactor_62 ?_
              exact ⟨_, rfl, r_I hv, rfl⟩
end MPJ
