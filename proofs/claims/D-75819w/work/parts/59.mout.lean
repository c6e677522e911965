set_option maxRecDepth 100000
section MRW
variable {G : sx_G} {h : Nat} {M : m_M} {σ : sx_St} {V : a_V} {A : a_A} {r r' : Nat → Int64} {t : Nat}
theorem nI_div {a b : Nat} (ha : a < 2 ^ 31) (hb : b < 2 ^ 31) : nI a / nI b = nI (a / b) := by
  have h1 : a / b < 2 ^ 31 := Nat.lt_of_le_of_lt (Nat.div_le_self a b) ha
  apply Int32.toInt_inj.mp
  rw [Int32.toInt_div, nI_toInt ha, nI_toInt hb, nI_toInt h1]
  rw [show ((a : Int).tdiv (b : Int)) = ((a / b : Nat) : Int) from rfl]
  have key : ∀ c : Nat, c < 2 ^ 31 → Int.bmod (c : Int) (2 ^ 32) = c := fun c hc => Int.bmod_eq_of_le (by omega) (by omega)
  exact key _ h1
theorem nI_rem {a b : Nat} (ha : a < 2 ^ 31) (hb : b < 2 ^ 31) : nI a - nI a / nI b * nI b = nI (a % b) := by
  rw [nI_div ha hb, pk_mul, pk_sub (Nat.div_mul_le_self a b)]
  congr 1
  have := Nat.div_add_mod a b
  rw [Nat.mul_comm] at this
  omega
theorem nI_byte : ∀ n, n < 128 → vp_nar .byte (nI n).toInt8.toInt32 = nI n := by decide +kernel
/-- more output -/
def s_wr (A : a_A) (l : List Int32) : a_A := A_so A (A_o A ++ l)
theorem wr_nil (A : a_A) : s_wr A [] = A := by
  unfold s_wr
  rw [List.append_nil]
  rfl
theorem wr_wr (A : a_A) (l m : List Int32) : s_wr (s_wr A l) m = s_wr A (l ++ m) := by
  show A_so (A_so A (A_o A ++ l)) ((A_o A ++ l) ++ m) = A_so A (A_o A ++ (l ++ m))
  rw [List.append_assoc]
  rfl
theorem wr_l (A : a_A) (l : List Int32) : (A_o (s_wr A l)).length = (A_o A).length + l.length := List.length_append
theorem m_J_wr {x : Int32} {c : Int32} (hJ : m_J M A) (hx : vp_nar .byte x = c) (hl : (A_o A).length < 12000) : m_J (m_i (m_b M 6 (upd (M.2.2.2 6) (A_o A).length (vp_nar .byte x))) 27 (nI ((A_o A).length + 1))) (s_wr A [c]) := by
  obtain ⟨g1, g2, g3, g4, g5, g6, g7, g8, g9, g10, g11⟩ := hJ
  refine ⟨g1, g2, g3, g4, g5, ⟨g6.1, g6.2.1, g6.2.2⟩, ⟨g7.1, g7.2.1, g7.2.2⟩, g8, g9, ⟨?_, ?_, fun i hi => ?_⟩, g11⟩
  · rw [wr_l]
    exact hl
  · rw [wr_l]
    show upd M.1 27 (nI ((A_o A).length + 1)) 27 = nI ((A_o A).length + 1)
    exact pk_us
  · rw [wr_l, List.length_singleton] at hi
    show upd (M.2.2.2 6) (A_o A).length _ i = (A_o A ++ [c]).getD i 0
    rw [List.getD_eq_getElem?_getD]
    by_cases h : i < (A_o A).length
    · rw [pk_un (by omega), List.getElem?_append_left h, g10.2.2 i h, List.getD_eq_getElem?_getD]
    · rw [show i = (A_o A).length by omega, pk_us, List.getElem?_append_right (Nat.le_refl _), Nat.sub_self, hx]
      rfl
theorem m_J_o0 (hJ : m_J M A) : m_J (m_i M 27 (nI 0)) (A_so A []) := by
  obtain ⟨g1, g2, g3, g4, g5, g6, g7, g8, g9, g10, g11⟩ := hJ
  exact ⟨g1, g2, g3, g4, g5, ⟨g6.1, g6.2.1, g6.2.2⟩, ⟨g7.1, g7.2.1, g7.2.2⟩, g8, g9, ⟨Nat.zero_le _, rfl, fun i hi => absurd hi (Nat.not_lt_zero i)⟩, g11⟩
/-- decimal digits -/
def p_10 (j : Nat) : Nat := match j with
  | 0 => 0
  | k + 1 => 10 ^ k
def d_r (n : Nat) : Nat → List Int32
  | 0 => []
  | k + 1 => nI (48 + n / 10 ^ k % 10) :: d_r n k
def d_l (n : Nat) : Nat → Nat
  | 0 => 0
  | f + 1 => if n < 10 then 0 else d_l (n / 10) f + 1
def d_n (n : Nat) : List Int32 := d_r n (d_l n 7 + 1)
theorem d_r_l (n : Nat) : ∀ k, (d_r n k).length = k := by
  intro k
  induction k with
  | zero => rfl
  | succ k ih => show (d_r n k).length + 1 = _; rw [ih]
theorem d_l_le (f : Nat) : ∀ n, d_l n f ≤ f := by
  induction f with
  | zero => intro n; exact Nat.le_refl _
  | succ f ih =>
    intro n
    have := ih (n / 10)
    show (if n < 10 then 0 else d_l (n / 10) f + 1) ≤ f + 1
    split <;> omega
theorem d_l_s (f : Nat) : ∀ n, n < 10 ^ (f + 1) → n < 10 ^ (d_l n f + 1) ∧ ∀ k, k < d_l n f → 10 ^ (k + 1) ≤ n := by
  induction f with
  | zero => intro n h; exact ⟨h, fun k hk => absurd hk (Nat.not_lt_zero k)⟩
  | succ f ih =>
    intro n h
    show n < 10 ^ ((if n < 10 then 0 else d_l (n / 10) f + 1) + 1) ∧ ∀ k, k < (if n < 10 then 0 else d_l (n / 10) f + 1) → _
    by_cases hn : n < 10
    · rw [if_pos hn]
      exact ⟨hn, fun k hk => absurd hk (Nat.not_lt_zero k)⟩
    · rw [if_neg hn]
      obtain ⟨h1, h2⟩ := ih (n / 10) (by rw [Nat.pow_succ] at h; omega)
      refine ⟨by rw [Nat.pow_succ]; omega, fun k hk => ?_⟩
      cases k with
      | zero => rw [Nat.zero_add, Nat.pow_one]; omega
      | succ k =>
        have := h2 k (by omega)
        rw [Nat.pow_succ]
        omega
theorem ct_write (hn : h + 11 < sx_n σ) (hJ : m_J M A) {n : Nat} (hn1 : n < 128) (hl : (A_o A).length < 12000) : sx_Cp G 0 YX3_write [.ref h, .int (nI n)] (m_S G h M σ) (fun v τ => v = none ∧ ∃ M2, τ = m_S G h M2 σ ∧ m_J M2 (s_wr A [nI n])) := by
  refine sx_body (by decide) (Nat.le_of_ble_eq_true rfl) ?_
  have hc : M.1 27 = nI (A_o A).length := hJ.2.2.2.2.2.2.2.2.2.1.2.1
  refine sv_aload_n dX3_write_0 rfl ?_
  refine sm_get hn fg_X3_57 dX3_write_1 rfl ?_
  refine sv_aload_n dX3_write_4 rfl ?_
  refine sm_get hn fg_X3_519 dX3_write_5 rfl ?_
  refine sv_topI hc ?_
  refine sv_iload_n dX3_write_8 rfl ?_
  refine sv_i2b dX3_write_9 ?_
  refine sm_b6st hn dX3_write_10 (by omega) ?_
  refine sv_aload_n dX3_write_11 rfl ?_
  refine sv_dup dX3_write_12 rfl ?_
  refine sm_get hn fg_X3_519 dX3_write_13 rfl ?_
  refine sv_topI (y := nI (A_o A).length) hc ?_
  refine sv_iconst (nI 1) dX3_write_16 (by decide +kernel) ?_
  refine sv_iaddN dX3_write_17 ?_
  refine sm_put hn fp_X3_519 dX3_write_18 rfl (by decide) ?_
  refine sv_vret rfl dX3_write_21 ?_
  exact ⟨_, rfl, rfl, _, rfl, m_J_wr hJ (nI_byte n hn1) hl⟩
theorem ct_writeNumber (hn : h + 11 < sx_n σ) (hJ : m_J M A) {n : Nat} (hn9 : n < 100000000) (hl : (A_o A).length + 8 ≤ 12000) : sx_Cp G 1 YX3_writeNumber [.ref h, .int (nI n)] (m_S G h M σ) (fun v τ => v = none ∧ ∃ M2, τ = m_S G h M2 σ ∧ m_J M2 (s_wr A (d_n n))) := by
  have loop2 : ∀ q j M A, j ≤ 8 → j + 1 ≤ q → m_J M A → (A_o A).length + j ≤ 12000 → sx_V G 1 YX3_writeNumber 20 [some (.ref h), some (.int (nI n)), none, some (.int (nI (p_10 j)))] [] (m_S G h M σ) (fun o τ => ∃ v, o = .inl v ∧ v = none ∧ ∃ M2, τ = m_S G h M2 σ ∧ m_J M2 (s_wr A (d_r n j))) := by
    intro q
    induction q with
    | zero => intro j M A h1 h2; exact absurd h2 (by omega)
    | succ q ih =>
    intro j M A hk hq hJ hl
    have hpj : p_10 j < 2 ^ 31 := by cases j with | zero => exact Nat.pow_pos (by omega) | succ k => exact Nat.lt_of_le_of_lt (Nat.pow_le_pow_right (by omega) (show k ≤ 7 by omega)) (by decide)
    refine sv_iload_n dX3_writeNumber_20 rfl ?_
    refine sv_if_leN (tgt := 45) dX3_writeNumber_21 (by decide) (by omega) (fun c21 => ?_) (fun c21 => ?_)
    · have hj0 : j = 0 := by cases j with | zero => rfl | succ k => exact absurd c21 (Nat.ne_of_gt (Nat.pow_pos (by omega)))
      subst hj0
      rw [show d_r n 0 = [] from rfl, wr_nil]
      refine sv_vret rfl dX3_writeNumber_45 ?_
      exact ⟨_, rfl, rfl, _, rfl, hJ⟩
    · obtain ⟨k, rfl⟩ : ∃ k, j = k + 1 := by cases j with | zero => exact absurd c21 (Nat.lt_irrefl 0) | succ k => exact ⟨k, rfl⟩
      have hm10 : n / 10 ^ k % 10 < 10 := Nat.mod_lt _ (by omega)
      have hdv : 10 ^ k / 10 = p_10 k := by cases k with | zero => rfl | succ k => show 10 ^ (k + 1) / 10 = 10 ^ k; rw [Nat.pow_succ]; omega
      refine sv_aload_n dX3_writeNumber_24 rfl ?_
      refine sv_bipush (nI 48) dX3_writeNumber_25 (by decide +kernel) ?_
      refine sv_iload_n dX3_writeNumber_27 rfl ?_
      refine sv_iload_n dX3_writeNumber_28 rfl ?_
      refine sv_idiv dX3_writeNumber_29 (fun z => by rw [nI_e0 hpj] at z; omega) ?_
      refine sv_topI (y := nI (n / 10 ^ k)) (nI_div (by omega) hpj) ?_
      refine sv_bipush (nI 10) dX3_writeNumber_30 (by decide +kernel) ?_
      refine sv_irem dX3_writeNumber_32 (by decide +kernel) ?_
      refine sv_topI (y := nI (n / 10 ^ k % 10)) (nI_rem (Nat.lt_of_le_of_lt (Nat.div_le_self _ _) (by omega)) (by omega)) ?_
      refine sv_iaddN dX3_writeNumber_33 ?_
      refine sv_cvP _ (ct_write hn hJ (by omega) (by omega)) okX3_write kv_X3_522 (sx_rd_c (m_S_0 hn)) rfl dX3_writeNumber_34 rfl rfl (by decide) (Nat.le_of_ble_eq_true rfl) ?_
      intro v1 t1 hp1
      obtain ⟨rfl, M1, rfl, hJ1⟩ := hp1
      refine sv_iload_n dX3_writeNumber_37 rfl ?_
      refine sv_bipush (nI 10) dX3_writeNumber_38 (by decide +kernel) ?_
      refine sv_idiv dX3_writeNumber_40 (by decide +kernel) ?_
      refine sv_topI (y := nI (p_10 k)) (by rw [← hdv]; exact nI_div hpj (by omega)) ?_
      refine sv_istore_n dX3_writeNumber_41 (by decide) ?_
      refine sv_goto (tgt := 20) dX3_writeNumber_42 (by decide) ?_
      have hih := ih k M1 _ (by omega) (by omega) hJ1 (by rw [wr_l, List.length_singleton]; omega)
      rw [wr_wr] at hih
      exact hih
  have loop1 : ∀ q k, k ≤ d_l n 7 → d_l n 7 + 1 ≤ k + q → sx_V G 1 YX3_writeNumber 2 [some (.ref h), some (.int (nI n)), some (.int (nI (10 ^ k))), none] [] (m_S G h M σ) (fun o τ => ∃ v, o = .inl v ∧ v = none ∧ ∃ M2, τ = m_S G h M2 σ ∧ m_J M2 (s_wr A (d_n n))) := by
    have hD := d_l_le 7 n
    obtain ⟨hD1, hD2⟩ := d_l_s 7 n (Nat.lt_of_lt_of_eq hn9 rfl)
    intro q
    induction q with
    | zero => intro k h1 h2; exact absurd h2 (by omega)
    | succ q ih =>
    intro k h1 h2
    have hpk : 10 ^ k ≤ 10 ^ 7 := Nat.pow_le_pow_right (by omega) (by omega)
    have hp7 : 10 ^ 7 = 10000000 := rfl
    have hpp : 0 < 10 ^ k := Nat.pow_pos (by omega)
    have hdl : n / 10 ^ k ≤ n := Nat.div_le_self _ _
    refine sv_iload_n dX3_writeNumber_2 rfl ?_
    refine sv_iload_n dX3_writeNumber_3 rfl ?_
    refine sv_idiv dX3_writeNumber_4 (fun z => by rw [nI_e0 (by omega)] at z; omega) ?_
    refine sv_topI (y := nI (n / 10 ^ k)) (nI_div (by omega) (by omega)) ?_
    refine sv_bipush (nI 10) dX3_writeNumber_5 (by decide +kernel) ?_
    refine sv_icmp_ltN (tgt := 18) dX3_writeNumber_7 (by decide) (by omega) (by omega) (fun c7 => ?_) (fun c7 => ?_)
    · refine sv_iload_n dX3_writeNumber_18 rfl ?_
      refine sv_istore_n dX3_writeNumber_19 (by decide) ?_
      have hkD : k = d_l n 7 := by rcases Nat.lt_or_ge k (d_l n 7) with q | q; exact absurd (Nat.div_lt_iff_lt_mul (Nat.pow_pos (by omega)) |>.mp c7) (by have := hD2 k q; rw [Nat.pow_succ] at this; omega); omega
      subst hkD
      exact sx_loc [some (.ref h), some (.int (nI n)), none, some (.int (nI (10 ^ d_l n 7)))] ⟨rfl, rfl, rfl, trivial⟩ (loop2 9 (d_l n 7 + 1) M A (by omega) (by omega) hJ (by omega))
    · have hlt : k < d_l n 7 := by rcases Nat.lt_or_ge k (d_l n 7) with q | q; exact q; exact absurd (Nat.div_lt_iff_lt_mul hpp |>.mpr (show n < 10 * 10 ^ k by have := Nat.lt_of_lt_of_eq hD1 (Nat.pow_succ _ _); have hk2 : k = d_l n 7 := (by omega); rw [← hk2] at this; omega)) c7
      refine sv_iload_n dX3_writeNumber_10 rfl ?_
      refine sv_bipush (nI 10) dX3_writeNumber_11 (by decide +kernel) ?_
      refine sv_imulN dX3_writeNumber_13 ?_
      refine sv_istore_n dX3_writeNumber_14 (by decide) ?_
      refine sv_goto (tgt := 2) dX3_writeNumber_15 (by decide) ?_
      exact ih (k + 1) (by omega) (by omega)
  refine sx_body (by decide) (Nat.le_of_ble_eq_true rfl) ?_
  have hD := d_l_le 7 n
  obtain ⟨hD1, hD2⟩ := d_l_s 7 n (Nat.lt_of_lt_of_eq hn9 rfl)
  refine sv_iconst (nI 1) dX3_writeNumber_0 (by decide +kernel) ?_
  refine sv_istore_n dX3_writeNumber_1 (by decide) ?_
  exact loop1 9 0 (by omega) (by omega)
def a_has (f : Int32) (k : Nat) : Bool := decide (f >>> (nI k &&& 31) &&& 1 = 1)
def w_k (k : Nat) : Nat := match k with
  | 0 => 115
  | 1 => 97
  | 2 => 102
  | 3 => 100
  | _ => 114
def w_f (f : Int32) (k : Nat) : List Int32 := if a_has f k then [nI (w_k k)] else []
def w_fs (f : Int32) : List Int32 := w_f f 0 ++ (w_f f 1 ++ (w_f f 2 ++ (w_f f 3 ++ w_f f 4)))
theorem w_f_l (f : Int32) (k : Nat) : (w_f f k).length ≤ 1 := by unfold w_f; split <;> simp
theorem w_fs_l (f : Int32) : (w_fs f).length ≤ 5 := by
  unfold w_fs
  simp only [List.length_append]
  have h0 := w_f_l f 0
  have h1 := w_f_l f 1
  have h2 := w_f_l f 2
  have h3 := w_f_l f 3
  have h4 := w_f_l f 4
  omega
theorem w_f_t {f : Int32} {k : Nat} (h : a_has f k = true) : w_f f k = [nI (w_k k)] := if_pos h
theorem w_f_n {f : Int32} {k : Nat} (h : a_has f k = false) : w_f f k = [] := if_neg (by rw [h]; decide)
theorem ct_writeFlags (hn : h + 11 < sx_n σ) (hJ : m_J M A) {f : Int32} (hl : (A_o A).length + 5 ≤ 12000) : sx_Cp G 1 YX3_writeFlags [.ref h, .int f] (m_S G h M σ) (fun v τ => v = none ∧ ∃ M2, τ = m_S G h M2 σ ∧ m_J M2 (s_wr A (w_fs f))) := by
  have tail4 : ∀ M A, m_J M A → (A_o A).length + 1 ≤ 12000 → sx_V G 1 YX3_writeFlags 56 [some (.ref h), some (.int f)] [] (m_S G h M σ) (fun o τ => ∃ v, o = .inl v ∧ v = none ∧ ∃ M2, τ = m_S G h M2 σ ∧ m_J M2 (s_wr A (w_f f 4))) := by
    intro M A hJ hl
    refine sv_iload_n dX3_writeFlags_56 rfl ?_
    refine sv_iconst (nI 4) dX3_writeFlags_57 (by decide +kernel) ?_
    refine sv_csR _ ct_has okX3_has ks_X3_407 dX3_writeFlags_58 rfl rfl (by decide) (Nat.le_of_ble_eq_true rfl) ?_
    refine sv_if_eqB (tgt := 70) dX3_writeFlags_61 (by decide) (fun c61 => ?_) (fun c61 => ?_)
    · rw [w_f_n (k := 4) c61]
      rw [wr_nil]
      have hJ1 := hJ
      refine sv_vret rfl dX3_writeFlags_70 ?_
      exact ⟨_, rfl, rfl, _, rfl, hJ1⟩
    · rw [w_f_t (k := 4) c61]
      refine sv_aload_n dX3_writeFlags_64 rfl ?_
      refine sv_bipush (nI 114) dX3_writeFlags_65 (by decide +kernel) ?_
      refine sv_cvP _ (ct_write hn hJ (by omega) (by omega)) okX3_write kv_X3_522 (sx_rd_c (m_S_0 hn)) rfl dX3_writeFlags_67 rfl rfl (by decide) (Nat.le_of_ble_eq_true rfl) ?_
      intro v1 t1 hp1
      obtain ⟨rfl, M1, rfl, hJ1⟩ := hp1
      refine sv_vret rfl dX3_writeFlags_70 ?_
      exact ⟨_, rfl, rfl, _, rfl, hJ1⟩
  have tail3 : ∀ M A, m_J M A → (A_o A).length + 2 ≤ 12000 → sx_V G 1 YX3_writeFlags 42 [some (.ref h), some (.int f)] [] (m_S G h M σ) (fun o τ => ∃ v, o = .inl v ∧ v = none ∧ ∃ M2, τ = m_S G h M2 σ ∧ m_J M2 (s_wr A (w_f f 3 ++ w_f f 4))) := by
    intro M A hJ hl
    refine sv_iload_n dX3_writeFlags_42 rfl ?_
    refine sv_iconst (nI 3) dX3_writeFlags_43 (by decide +kernel) ?_
    refine sv_csR _ ct_has okX3_has ks_X3_407 dX3_writeFlags_44 rfl rfl (by decide) (Nat.le_of_ble_eq_true rfl) ?_
    refine sv_if_eqB (tgt := 56) dX3_writeFlags_47 (by decide) (fun c47 => ?_) (fun c47 => ?_)
    · rw [w_f_n (k := 3) c47]
      rw [List.nil_append]
      have hJ1 := hJ
      have hl1 : (A_o A).length + 1 ≤ 12000 := by omega
      first | exact tail4 _ _ hJ1 hl1 | (have ht := tail4 _ _ hJ1 (by rw [wr_l, List.length_singleton]; omega); rw [wr_wr] at ht; exact ht)
    · rw [w_f_t (k := 3) c47]
      refine sv_aload_n dX3_writeFlags_50 rfl ?_
      refine sv_bipush (nI 100) dX3_writeFlags_51 (by decide +kernel) ?_
      refine sv_cvP _ (ct_write hn hJ (by omega) (by omega)) okX3_write kv_X3_522 (sx_rd_c (m_S_0 hn)) rfl dX3_writeFlags_53 rfl rfl (by decide) (Nat.le_of_ble_eq_true rfl) ?_
      intro v1 t1 hp1
      obtain ⟨rfl, M1, rfl, hJ1⟩ := hp1
      first | exact tail4 _ _ hJ1 hl1 | (have ht := tail4 _ _ hJ1 (by rw [wr_l, List.length_singleton]; omega); rw [wr_wr] at ht; exact ht)
  have tail2 : ∀ M A, m_J M A → (A_o A).length + 3 ≤ 12000 → sx_V G 1 YX3_writeFlags 28 [some (.ref h), some (.int f)] [] (m_S G h M σ) (fun o τ => ∃ v, o = .inl v ∧ v = none ∧ ∃ M2, τ = m_S G h M2 σ ∧ m_J M2 (s_wr A (w_f f 2 ++ (w_f f 3 ++ w_f f 4)))) := by
    intro M A hJ hl
    refine sv_iload_n dX3_writeFlags_28 rfl ?_
    refine sv_iconst (nI 2) dX3_writeFlags_29 (by decide +kernel) ?_
    refine sv_csR _ ct_has okX3_has ks_X3_407 dX3_writeFlags_30 rfl rfl (by decide) (Nat.le_of_ble_eq_true rfl) ?_
    refine sv_if_eqB (tgt := 42) dX3_writeFlags_33 (by decide) (fun c33 => ?_) (fun c33 => ?_)
    · rw [w_f_n (k := 2) c33]
      rw [List.nil_append]
      have hJ1 := hJ
      have hl1 : (A_o A).length + 2 ≤ 12000 := by omega
      first | exact tail3 _ _ hJ1 hl1 | (have ht := tail3 _ _ hJ1 (by rw [wr_l, List.length_singleton]; omega); rw [wr_wr] at ht; exact ht)
    · rw [w_f_t (k := 2) c33]
      refine sv_aload_n dX3_writeFlags_36 rfl ?_
      refine sv_bipush (nI 102) dX3_writeFlags_37 (by decide +kernel) ?_
      refine sv_cvP _ (ct_write hn hJ (by omega) (by omega)) okX3_write kv_X3_522 (sx_rd_c (m_S_0 hn)) rfl dX3_writeFlags_39 rfl rfl (by decide) (Nat.le_of_ble_eq_true rfl) ?_
      intro v1 t1 hp1
      obtain ⟨rfl, M1, rfl, hJ1⟩ := hp1
      first | exact tail3 _ _ hJ1 hl1 | (have ht := tail3 _ _ hJ1 (by rw [wr_l, List.length_singleton]; omega); rw [wr_wr] at ht; exact ht)
  have tail1 : ∀ M A, m_J M A → (A_o A).length + 4 ≤ 12000 → sx_V G 1 YX3_writeFlags 14 [some (.ref h), some (.int f)] [] (m_S G h M σ) (fun o τ => ∃ v, o = .inl v ∧ v = none ∧ ∃ M2, τ = m_S G h M2 σ ∧ m_J M2 (s_wr A (w_f f 1 ++ (w_f f 2 ++ (w_f f 3 ++ w_f f 4))))) := by
    intro M A hJ hl
    refine sv_iload_n dX3_writeFlags_14 rfl ?_
    refine sv_iconst (nI 1) dX3_writeFlags_15 (by decide +kernel) ?_
    refine sv_csR _ ct_has okX3_has ks_X3_407 dX3_writeFlags_16 rfl rfl (by decide) (Nat.le_of_ble_eq_true rfl) ?_
    refine sv_if_eqB (tgt := 28) dX3_writeFlags_19 (by decide) (fun c19 => ?_) (fun c19 => ?_)
    · rw [w_f_n (k := 1) c19]
      rw [List.nil_append]
      have hJ1 := hJ
      have hl1 : (A_o A).length + 3 ≤ 12000 := by omega
      first | exact tail2 _ _ hJ1 hl1 | (have ht := tail2 _ _ hJ1 (by rw [wr_l, List.length_singleton]; omega); rw [wr_wr] at ht; exact ht)
    · rw [w_f_t (k := 1) c19]
      refine sv_aload_n dX3_writeFlags_22 rfl ?_
      refine sv_bipush (nI 97) dX3_writeFlags_23 (by decide +kernel) ?_
      refine sv_cvP _ (ct_write hn hJ (by omega) (by omega)) okX3_write kv_X3_522 (sx_rd_c (m_S_0 hn)) rfl dX3_writeFlags_25 rfl rfl (by decide) (Nat.le_of_ble_eq_true rfl) ?_
      intro v1 t1 hp1
      obtain ⟨rfl, M1, rfl, hJ1⟩ := hp1
      first | exact tail2 _ _ hJ1 hl1 | (have ht := tail2 _ _ hJ1 (by rw [wr_l, List.length_singleton]; omega); rw [wr_wr] at ht; exact ht)
  refine sx_body (by decide) (Nat.le_of_ble_eq_true rfl) ?_
  unfold w_fs
  refine sv_iload_n dX3_writeFlags_0 rfl ?_
  refine sv_iconst (nI 0) dX3_writeFlags_1 (by decide +kernel) ?_
  refine sv_csR _ ct_has okX3_has ks_X3_407 dX3_writeFlags_2 rfl rfl (by decide) (Nat.le_of_ble_eq_true rfl) ?_
  refine sv_if_eqB (tgt := 14) dX3_writeFlags_5 (by decide) (fun c5 => ?_) (fun c5 => ?_)
  · rw [w_f_n (k := 0) c5]
    rw [List.nil_append]
    have hJ1 := hJ
    have hl1 : (A_o A).length + 4 ≤ 12000 := by omega
    first | exact tail1 _ _ hJ1 hl1 | (have ht := tail1 _ _ hJ1 (by rw [wr_l, List.length_singleton]; omega); rw [wr_wr] at ht; exact ht)
  · rw [w_f_t (k := 0) c5]
    refine sv_aload_n dX3_writeFlags_8 rfl ?_
    refine sv_bipush (nI 115) dX3_writeFlags_9 (by decide +kernel) ?_
    refine sv_cvP _ (ct_write hn hJ (by omega) (by omega)) okX3_write kv_X3_522 (sx_rd_c (m_S_0 hn)) rfl dX3_writeFlags_11 rfl rfl (by decide) (Nat.le_of_ble_eq_true rfl) ?_
    intro v1 t1 hp1
    obtain ⟨rfl, M1, rfl, hJ1⟩ := hp1
    first | exact tail1 _ _ hJ1 hl1 | (have ht := tail1 _ _ hJ1 (by rw [wr_l, List.length_singleton]; omega); rw [wr_wr] at ht; exact ht)
def w_g (A : a_A) : List Int32 := if 0 < (A_o A).length then [nI 32] else []
theorem ct_writeGap (hn : h + 11 < sx_n σ) (hJ : m_J M A) (hl : (A_o A).length + 1 ≤ 12000) : sx_Cp G 1 YX3_writeGap [.ref h] (m_S G h M σ) (fun v τ => v = none ∧ ∃ M2, τ = m_S G h M2 σ ∧ m_J M2 (s_wr A (w_g A))) := by
  refine sx_body (by decide) (Nat.le_of_ble_eq_true rfl) ?_
  have hc : M.1 27 = nI (A_o A).length := hJ.2.2.2.2.2.2.2.2.2.1.2.1
  refine sv_aload_n dX3_writeGap_0 rfl ?_
  refine sm_get hn fg_X3_519 dX3_writeGap_1 rfl ?_
  refine sv_topI hc ?_
  refine sv_if_leN (tgt := 13) dX3_writeGap_4 (by decide) (by omega) (fun c4 => ?_) (fun c4 => ?_)
  · rw [show w_g A = [] from if_neg (by omega), wr_nil]
    have hJ1 := hJ
    refine sv_vret rfl dX3_writeGap_13 ?_
    exact ⟨_, rfl, rfl, _, rfl, hJ1⟩
  · rw [show w_g A = [nI 32] from if_pos c4]
    refine sv_aload_n dX3_writeGap_7 rfl ?_
    refine sv_bipush (nI 32) dX3_writeGap_8 (by decide +kernel) ?_
    refine sv_cvP _ (ct_write hn hJ (by omega) (by omega)) okX3_write kv_X3_522 (sx_rd_c (m_S_0 hn)) rfl dX3_writeGap_10 rfl rfl (by decide) (Nat.le_of_ble_eq_true rfl) ?_
    intro v1 t1 hp1
    obtain ⟨rfl, M1, rfl, hJ1⟩ := hp1
    refine sv_vret rfl dX3_writeGap_13 ?_
    exact ⟨_, rfl, rfl, _, rfl, hJ1⟩
end MRW
