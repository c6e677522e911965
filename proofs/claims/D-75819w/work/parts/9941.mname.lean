set_option maxRecDepth 100000
section MPN
variable {G : sx_G} {h : Nat} {M : m_M} {σ : sx_St} {V : a_V} {A : a_A} {t : Nat}
theorem l_snoc {α : Type} (l : List α) : l = [] ∨ ∃ l' c, l = l' ++ [c] := by
  induction l with
  | nil => exact Or.inl rfl
  | cons a l ih =>
    rcases ih with h | ⟨l', c, h⟩
    · exact Or.inr ⟨[], a, by rw [h]; rfl⟩
    · exact Or.inr ⟨a :: l', c, by rw [h]; rfl⟩
def N_code (l : List Nat) : Nat := l.foldl (fun n c => 27 * n + (c - 96)) 0
theorem N_code_ap (l : List Nat) (c : Nat) : N_code (l ++ [c]) = 27 * N_code l + (c - 96) := by
  unfold N_code
  rw [List.foldl_append]
  rfl
theorem n_code_ap (l : List Nat) (c : Nat) : n_code (l ++ [c]) = 27 * n_code l + lN c - 96 := by
  unfold n_code
  rw [List.foldl_append]
  rfl
def n_lt (l : List Nat) : Prop := ∀ c ∈ l, 97 ≤ c ∧ c ≤ 122
theorem n_lt_l {l : List Nat} {c : Nat} (h : n_lt (l ++ [c])) : n_lt l ∧ 97 ≤ c ∧ c ≤ 122 := ⟨fun x hx => h x (List.mem_append_left _ hx), h c (List.mem_append_right _ (List.mem_singleton.mpr rfl))⟩
theorem N_code_lt : ∀ n l, l.length = n → n_lt l → N_code l < 27 ^ n := by
  intro n
  induction n with
  | zero =>
    intro l hl _
    rw [List.length_eq_zero_iff.mp hl]
    decide
  | succ n ih =>
    intro l hl hc
    rcases l_snoc l with h | ⟨l', c, rfl⟩
    · rw [h] at hl; cases hl
    · rw [List.length_append, List.length_singleton] at hl
      obtain ⟨g1, g2, g3⟩ := n_lt_l hc
      have h1 := ih l' (by omega) g1
      rw [N_code_ap, Nat.pow_succ]
      omega
theorem n_code_N : ∀ n l, l.length = n → n_lt l → n_code l = lN (N_code l) := by
  intro n
  induction n with
  | zero =>
    intro l hl _
    rw [List.length_eq_zero_iff.mp hl]
    rfl
  | succ n ih =>
    intro l hl hc
    rcases l_snoc l with h | ⟨l', c, rfl⟩
    · rw [h] at hl; cases hl
    · rw [List.length_append, List.length_singleton] at hl
      obtain ⟨g1, g2, g3⟩ := n_lt_l hc
      rw [n_code_ap, N_code_ap, ih l' (by omega) g1, show (27 : Int64) = lN 27 from rfl, show (96 : Int64) = lN 96 from rfl, lN_mul, lN_add, lN_sub (by omega), show 27 * N_code l' + c - 96 = 27 * N_code l' + (c - 96) by omega]
theorem N_code_inj : ∀ n l l', l.length = n → n_lt l → n_lt l' → N_code l = N_code l' → l = l' := by
  intro n
  induction n with
  | zero =>
    intro l l' hl _ hc' e
    have h0 := List.length_eq_zero_iff.mp hl
    subst h0
    rcases l_snoc l' with h | ⟨k', c', rfl⟩
    · exact h.symm
    · obtain ⟨g1, g2, g3⟩ := n_lt_l hc'
      rw [N_code_ap, show N_code [] = 0 from rfl] at e
      omega
  | succ n ih =>
    intro l l' hl hc hc' e
    rcases l_snoc l with h | ⟨k, c, rfl⟩
    · rw [h] at hl; cases hl
    · rw [List.length_append, List.length_singleton] at hl
      obtain ⟨g1, g2, g3⟩ := n_lt_l hc
      rcases l_snoc l' with h | ⟨k', c', rfl⟩
      · rw [h, N_code_ap, show N_code [] = 0 from rfl] at e
        omega
      · obtain ⟨g1', g2', g3'⟩ := n_lt_l hc'
        rw [N_code_ap, N_code_ap] at e
        have e1 : N_code k = N_code k' := by omega
        have e2 : c = c' := by omega
        rw [ih k k' (by omega) g1 g1' e1, e2]
theorem N_code_31 {l : List Nat} (h : o_N l) : N_code l < 2 ^ 31 := by
  have h1 := N_code_lt l.length l rfl h.2.2
  have h2 : 27 ^ l.length ≤ 27 ^ 6 := Nat.pow_le_pow_right (by decide) h.2.1
  omega
theorem n_code_inj {l l' : List Nat} (h : o_N l) (h' : o_N l') (e : n_code l = n_code l') : l = l' := by
  rw [n_code_N _ l rfl h.2.2, n_code_N _ l' rfl h'.2.2, lN_eq (N_code_31 h) (N_code_31 h')] at e
  exact N_code_inj _ l l' rfl h.2.2 h'.2.2 e
theorem n_code_0 {l : List Nat} (h : o_N l) : n_code l ≠ 0 := by
  intro e
  rw [n_code_N _ l rfl h.2.2, show (0 : Int64) = lN 0 from rfl, lN_eq (N_code_31 h) (by decide)] at e
  have h1 := h.1
  rcases l_snoc l with z | ⟨k, c, rfl⟩
  · rw [z] at h1; exact absurd h1 (by decide)
  · obtain ⟨g1, g2, g3⟩ := n_lt_l h.2.2
    rw [N_code_ap] at e
    omega
theorem gdn_mem {l : List Nat} {k : Nat} (h : k < l.length) : l.getD k 0 ∈ l := by
  rw [List.getD_eq_getElem?_getD, List.getElem?_eq_getElem h]
  exact List.getElem_mem h
theorem fix_c {α : Type} {l : List α} {p q : α → Bool} (h : ∀ x ∈ l, p x = q x) : l.findIdx? p = l.findIdx? q := by
  induction l with
  | nil => rfl
  | cons a l ih => rw [List.findIdx?_cons, List.findIdx?_cons, h a List.mem_cons_self, ih (fun x hx => h x (List.mem_cons_of_mem _ hx))]
theorem o_V_nb (ho : o_V t V) : ∀ b ∈ V.2.1, o_N b.1 := by
  intro b hb
  obtain ⟨i, hi, rfl⟩ := List.getElem_of_mem hb
  have := (ho.2.1 i hi).2.2.2
  unfold a_b at this
  rw [List.getD_eq_getElem?_getD, List.getElem?_eq_getElem hi] at this
  exact this
theorem o_V_ns (ho : o_V t V) : ∀ b ∈ V.2.2, o_N b.1 := by
  intro b hb
  obtain ⟨i, hi, rfl⟩ := List.getElem_of_mem hb
  have := (ho.2.2 i hi).2.2
  unfold a_s at this
  rw [List.getD_eq_getElem?_getD, List.getElem?_eq_getElem hi] at this
  exact this
theorem ct_nameOf (hn : h + 11 < sx_n σ) {a : Nat} {cs : List Nat} (ha : a + cs.length ≤ 700) (hcs : ∀ i, i < cs.length → M.2.2.2 2 (a + i) = nI (cs.getD i 0)) (hc9 : ∀ c ∈ cs, c < 200) : sx_Cr G 0 YX3_nameOf [.ref (h + 5), .int (nI a), .int (nI (a + cs.length))] (m_S G h M σ) (some (.long (n_code cs))) (m_S G h M σ) := by
  have loop : ∀ q j, j ≤ cs.length → cs.length + 1 ≤ j + q → sx_V G 0 YX3_nameOf 5 [some (.ref (h + 5)), some (.int (nI a)), some (.int (nI (a + cs.length))), some (.long (n_code (cs.take j))), none, some (.int (nI (a + j)))] [] (m_S G h M σ) (fun o τ => ∃ v, o = .inl v ∧ v = some (.long (n_code cs)) ∧ τ = m_S G h M σ) := by
    intro q
    induction q with
    | zero => intro j h1 h2; exact absurd h2 (by omega)
    | succ q ih =>
    intro j g1 g2
    refine sv_iload dX3_nameOf_5 rfl ?_
    refine sv_iload_n dX3_nameOf_7 rfl ?_
    refine sv_icmp_geN (tgt := 33) dX3_nameOf_8 (by decide) (by omega) (by omega) (fun c8 => ?_) (fun c8 => ?_)
    · obtain rfl : j = cs.length := by omega
      rw [List.take_length]
      refine sv_lload_n dX3_nameOf_33 rfl ?_
      refine sv_lret rfl dX3_nameOf_34 ?_
      exact ⟨_, rfl, rfl, rfl⟩
    · have hj : j < cs.length := by omega
      have hm := hc9 _ (gdn_mem hj)
      have e26 : 27 * n_code (cs.take j) + (nI (cs.getD j 0)).toInt64 - 96 = n_code (cs.take (j + 1)) := by rw [tk_s 0 hj, n_code_ap, nI_l (by omega)]
      refine sv_ldc2 q2509 dX3_nameOf_11 ?_
      refine sv_lload_n dX3_nameOf_14 rfl ?_
      refine sv_lmul dX3_nameOf_15 ?_
      refine sv_aload_n dX3_nameOf_16 rfl ?_
      refine sv_iload dX3_nameOf_17 rfl ?_
      first | refine sm_b2ld hn dX3_nameOf_19 (by omega) ?_ | refine sm_b4ld hn dX3_nameOf_19 (by omega) ?_ | refine sm_b5ld hn dX3_nameOf_19 (by omega) ?_ | refine sm_b6ld hn dX3_nameOf_19 (by omega) ?_
      refine sv_topI (y := nI (cs.getD j 0)) (hcs j hj) ?_
      refine sv_i2l dX3_nameOf_20 ?_
      refine sv_ladd dX3_nameOf_21 ?_
      refine sv_ldc2 q2510 dX3_nameOf_22 ?_
      refine sv_lsub dX3_nameOf_25 ?_
      refine sv_top (congrArg Value.long e26) ?_
      refine sv_lstore_n dX3_nameOf_26 (by decide) ?_
      refine sv_iincN dX3_nameOf_27 rfl (by decide) ?_
      refine sv_goto (tgt := 5) dX3_nameOf_30 (by decide) ?_
      exact ih (j + 1) (by omega) (by omega)
  refine sx_body (by decide) (Nat.le_of_ble_eq_true rfl) ?_
  refine sv_lconst 0 dX3_nameOf_0 (by decide) ?_
  refine sv_lstore_n dX3_nameOf_1 (by decide) ?_
  refine sv_iload_n dX3_nameOf_2 rfl ?_
  refine sv_istore dX3_nameOf_3 (by decide) ?_
  exact loop 701 0 (Nat.zero_le _) (by omega)
theorem ct_boxNamed (hn : h + 11 < sx_n σ) (hE : e_Vb (m_w M) V) (hw : w_Vb V) {x : Int64} {n : List Nat} (hx : x = n_code n) (hno : o_N n) (hbo : ∀ b, b < V.2.1.length → o_N (a_b V b).1) : sx_Cr G 2 YX3_boxNamed [.ref h, .long x] (m_S G h M σ) (some (.int (o_I (p_fb V n)))) (m_S G h M σ) := by
  have loop : ∀ q b, b ≤ V.2.1.length → V.2.1.length + 1 ≤ b + q → (∀ j, j < b → decide ((a_b V j).1 = n) = false) → sx_V G 2 YX3_boxNamed 2 [some (.ref h), some (.long x), none, some (.int (nI b))] [] (m_S G h M σ) (fun o τ => ∃ v, o = .inl v ∧ v = some (.int (o_I (p_fb V n))) ∧ τ = m_S G h M σ) := by
    intro q
    induction q with
    | zero => intro b h1 h2; exact absurd h2 (by omega)
    | succ q ih =>
    intro b g1 g2 hno2
    have hb3 := hw.1
    have hb4 := hw.2.1
    refine sv_iload_n dX3_boxNamed_2 rfl ?_
    refine sv_aload_n dX3_boxNamed_3 rfl ?_
    refine sv_cvR _ (ct_boxes hn hE hw) okX3_boxes kv_X3_66 (sx_rd_c (m_S_0 hn)) rfl dX3_boxNamed_4 rfl rfl (by decide) (Nat.le_of_ble_eq_true rfl) ?_
    refine sv_icmp_geN (tgt := 34) dX3_boxNamed_7 (by decide) (by omega) (by omega) (fun c7 => ?_) (fun c7 => ?_)
    · obtain rfl : b = V.2.1.length := by omega
      refine sv_iconst (-1) dX3_boxNamed_34 (by decide +kernel) ?_
      refine sv_iret rfl rfl dX3_boxNamed_35 ?_
      exact ⟨_, rfl, r_I (by unfold p_fb; rw [fi_n ([], 0, []) (fun j hj => hno2 j hj)]; rfl), rfl⟩
    · have hb : b < V.2.1.length := by omega
      refine sv_aload_n dX3_boxNamed_10 rfl ?_
      refine sm_get hn fg_X3_24 dX3_boxNamed_11 rfl ?_
      refine sv_iload_n dX3_boxNamed_14 rfl ?_
      refine sv_csR _ ct_boxAt okX3_boxAt ks_X3_77 dX3_boxNamed_15 rfl rfl (by decide) (Nat.le_of_ble_eq_true rfl) ?_
      refine sv_iconst (nI 0) dX3_boxNamed_18 (by decide +kernel) ?_
      refine sv_iaddN dX3_boxNamed_19 ?_
      refine sm_wld hn dX3_boxNamed_20 (by omega) ?_
      refine sv_lload_n dX3_boxNamed_21 rfl ?_
      refine sv_lcmp dX3_boxNamed_22 ?_
      refine sv_if_ne (tgt := 28) dX3_boxNamed_23 (by decide) (fun c23 => ?_) (fun c23 => ?_)
      · have hne9 : ¬ (a_b V b).1 = n := fun z => c23 ((lg_cmp_eq _ _).mpr (by rw [hx, ← z]; exact (hE.2.2.2 b hb).1))
        refine sv_iincN dX3_boxNamed_28 rfl (by decide) ?_
        refine sv_goto (tgt := 2) dX3_boxNamed_31 (by decide) ?_
        refine ih (b + 1) (by omega) (by omega) (fun j hj => ?_)
        by_cases hjb : j = b
        · rw [hjb]; exact decide_eq_false hne9
        · exact hno2 j (by omega)
      · have heq : (a_b V b).1 = n := n_code_inj (hbo b hb) hno ((hE.2.2.2 b hb).1.symm.trans (((lg_cmp_eq _ _).mp c23).trans hx))
        refine sv_iload_n dX3_boxNamed_26 rfl ?_
        refine sv_iret rfl rfl dX3_boxNamed_27 ?_
        exact ⟨_, rfl, r_I (by unfold p_fb; rw [fi_s ([], 0, []) (k := b) hb (fun j hj => hno2 j hj) (decide_eq_true heq)]; rfl), rfl⟩
  refine sx_body (by decide) (Nat.le_of_ble_eq_true rfl) ?_
  refine sv_iconst (nI 0) dX3_boxNamed_0 (by decide +kernel) ?_
  refine sv_istore_n dX3_boxNamed_1 (by decide) ?_
  exact loop 6 0 (Nat.zero_le _) (by have := hw.1; have := hw.2.1; omega) (fun j hj => absurd hj (Nat.not_lt_zero j))
theorem ct_sessionNamed (hn : h + 11 < sx_n σ) (hE : e_Vb (m_w M) V) (hw : w_Vb V) {x : Int64} {n : List Nat} (hx : x = n_code n) (hno : o_N n) (hbo : ∀ b, b < V.2.2.length → o_N (a_s V b).1) (hsn : ∀ b, b < V.2.2.length → m_w M (282 + 131 * b) = n_code (a_s V b).1) : sx_Cr G 2 YX3_sessionNamed [.ref h, .long x] (m_S G h M σ) (some (.int (o_I (p_fs V n)))) (m_S G h M σ) := by
  have loop : ∀ q b, b ≤ V.2.2.length → V.2.2.length + 1 ≤ b + q → (∀ j, j < b → decide ((a_s V j).1 = n) = false) → sx_V G 2 YX3_sessionNamed 2 [some (.ref h), some (.long x), none, some (.int (nI b))] [] (m_S G h M σ) (fun o τ => ∃ v, o = .inl v ∧ v = some (.int (o_I (p_fs V n))) ∧ τ = m_S G h M σ) := by
    intro q
    induction q with
    | zero => intro b h1 h2; exact absurd h2 (by omega)
    | succ q ih =>
    intro b g1 g2 hno2
    have hb3 := hw.1
    have hb4 := hw.2.1
    refine sv_iload_n dX3_sessionNamed_2 rfl ?_
    refine sv_aload_n dX3_sessionNamed_3 rfl ?_
    refine sv_cvR _ (ct_sessions hn hE hw) okX3_sessions kv_X3_74 (sx_rd_c (m_S_0 hn)) rfl dX3_sessionNamed_4 rfl rfl (by decide) (Nat.le_of_ble_eq_true rfl) ?_
    refine sv_icmp_geN (tgt := 34) dX3_sessionNamed_7 (by decide) (by omega) (by omega) (fun c7 => ?_) (fun c7 => ?_)
    · obtain rfl : b = V.2.2.length := by omega
      refine sv_iconst (-1) dX3_sessionNamed_34 (by decide +kernel) ?_
      refine sv_iret rfl rfl dX3_sessionNamed_35 ?_
      exact ⟨_, rfl, r_I (by unfold p_fs; rw [fi_n ([], none, false, false, 0, fun _ => 0, []) (fun j hj => hno2 j hj)]; rfl), rfl⟩
    · have hb : b < V.2.2.length := by omega
      refine sv_aload_n dX3_sessionNamed_10 rfl ?_
      refine sm_get hn fg_X3_24 dX3_sessionNamed_11 rfl ?_
      refine sv_iload_n dX3_sessionNamed_14 rfl ?_
      refine sv_csR _ ct_sessionAt okX3_sessionAt ks_X3_84 dX3_sessionNamed_15 rfl rfl (by decide) (Nat.le_of_ble_eq_true rfl) ?_
      refine sv_iconst (nI 0) dX3_sessionNamed_18 (by decide +kernel) ?_
      refine sv_iaddN dX3_sessionNamed_19 ?_
      refine sm_wld hn dX3_sessionNamed_20 (by omega) ?_
      refine sv_lload_n dX3_sessionNamed_21 rfl ?_
      refine sv_lcmp dX3_sessionNamed_22 ?_
      refine sv_if_ne (tgt := 28) dX3_sessionNamed_23 (by decide) (fun c23 => ?_) (fun c23 => ?_)
      · have hne9 : ¬ (a_s V b).1 = n := fun z => c23 ((lg_cmp_eq _ _).mpr (by rw [hx, ← z]; exact (hsn b hb)))
        refine sv_iincN dX3_sessionNamed_28 rfl (by decide) ?_
        refine sv_goto (tgt := 2) dX3_sessionNamed_31 (by decide) ?_
        refine ih (b + 1) (by omega) (by omega) (fun j hj => ?_)
        by_cases hjb : j = b
        · rw [hjb]; exact decide_eq_false hne9
        · exact hno2 j (by omega)
      · have heq : (a_s V b).1 = n := n_code_inj (hbo b hb) hno ((hsn b hb).symm.trans (((lg_cmp_eq _ _).mp c23).trans hx))
        refine sv_iload_n dX3_sessionNamed_26 rfl ?_
        refine sv_iret rfl rfl dX3_sessionNamed_27 ?_
        exact ⟨_, rfl, r_I (by unfold p_fs; rw [fi_s ([], none, false, false, 0, fun _ => 0, []) (k := b) hb (fun j hj => hno2 j hj) (decide_eq_true heq)]; rfl), rfl⟩
  refine sx_body (by decide) (Nat.le_of_ble_eq_true rfl) ?_
  refine sv_iconst (nI 0) dX3_sessionNamed_0 (by decide +kernel) ?_
  refine sv_istore_n dX3_sessionNamed_1 (by decide) ?_
  exact loop 6 0 (Nat.zero_le _) (by have := hw.1; have := hw.2.1; omega) (fun j hj => absurd hj (Nat.not_lt_zero j))
/-- a text as a name -/
def i_nm (I : List Int32) : Bool := decide (1 ≤ I.length) && decide (I.length ≤ 6) && I.all (fun x => a_in x 97 122)
def i_nt (I : List Int32) : List Nat := I.map (fun x => x.toNatClampNeg)
theorem ain_n {x : Int32} (h : a_in x 97 122 = true) : x = nI x.toNatClampNeg ∧ 97 ≤ x.toNatClampNeg ∧ x.toNatClampNeg ≤ 122 := by
  unfold a_in at h
  have := of_decide_eq_true h
  rw [i64_le, i64_le, Int32.le_iff_toInt_le, Int32.le_iff_toInt_le, show (97 : Int32).toInt = 97 from rfl, show (122 : Int32).toInt = 122 from rfl] at this
  obtain ⟨e1, e2⟩ := i32_nat (x := x) (by omega)
  exact ⟨e1, by omega, by omega⟩
theorem i_nm_o {I : List Int32} (h : i_nm I = true) : o_N (i_nt I) ∧ (i_nt I).map nI = I := by
  unfold i_nm at h
  rw [Bool.and_eq_true, Bool.and_eq_true] at h
  obtain ⟨⟨h1, h2⟩, h3⟩ := h
  have h1 := of_decide_eq_true h1
  have h2 := of_decide_eq_true h2
  have h3 := List.all_eq_true.mp h3
  refine ⟨⟨by unfold i_nt; rw [List.length_map]; exact h1, by unfold i_nt; rw [List.length_map]; exact h2, fun c hc => ?_⟩, ?_⟩
  · unfold i_nt at hc
    obtain ⟨x, hx, rfl⟩ := List.mem_map.mp hc
    exact (ain_n (h3 x hx)).2
  · unfold i_nt
    rw [List.map_map]
    have : ∀ l : List Int32, (∀ x ∈ l, a_in x 97 122 = true) → l.map (nI ∘ fun x => x.toNatClampNeg) = l := by
      intro l
      induction l with
      | nil => intro _; rfl
      | cons a l ih =>
        intro hl
        rw [List.map_cons, ih (fun x hx => hl x (List.mem_cons_of_mem _ hx))]
        show nI a.toNatClampNeg :: l = a :: l
        rw [← (ain_n (hl a List.mem_cons_self)).1]
    exact this I h3
theorem i_nm_n {l : List Nat} (h : o_N l) : i_nm (l.map nI) = true := by
  unfold i_nm
  rw [Bool.and_eq_true, Bool.and_eq_true, List.length_map]
  refine ⟨⟨decide_eq_true h.1, decide_eq_true h.2.1⟩, List.all_eq_true.mpr (fun x hx => ?_)⟩
  obtain ⟨c, hc, rfl⟩ := List.mem_map.mp hx
  have := h.2.2 c hc
  unfold a_in
  refine decide_eq_true ?_
  rw [i64_le, i64_le, Int32.le_iff_toInt_le, Int32.le_iff_toInt_le, nI_toInt (by omega), show (97 : Int32).toInt = 97 from rfl, show (122 : Int32).toInt = 122 from rfl]
  omega
theorem mapnI_inj {l l' : List Nat} (h : o_N l) (h' : o_N l') (e : l.map nI = l'.map nI) : l = l' := by
  have : ∀ l l' : List Nat, n_lt l → n_lt l' → l.map nI = l'.map nI → l = l' := by
    intro l
    induction l with
    | nil =>
      intro l' _ _ e
      cases l' with
      | nil => rfl
      | cons => cases e
    | cons a l ih =>
      intro l' hl hl' e
      cases l' with
      | nil => cases e
      | cons b l' =>
        rw [List.map_cons, List.map_cons] at e
        injection e with e1 e2
        have g1 := hl a List.mem_cons_self
        have g2 := hl' b List.mem_cons_self
        rw [(nI_eq (by omega) (by omega)).mp e1, ih l' (fun x hx => hl x (List.mem_cons_of_mem _ hx)) (fun x hx => hl' x (List.mem_cons_of_mem _ hx)) e2]
  exact this l l' h.2.2 h'.2.2 e
theorem f_p {α : Type} {l : List α} {f : α → List Nat} {I : List Int32} (ho : ∀ b ∈ l, o_N (f b)) : l.findIdx? (fun b => decide ((f b).map nI = I)) = if i_nm I = true then l.findIdx? (fun b => decide (f b = i_nt I)) else none := by
  by_cases h : i_nm I = true
  · rw [if_pos h]
    obtain ⟨g1, g2⟩ := i_nm_o h
    refine fix_c (fun b hb => decide_eq_decide.mpr ⟨fun e => mapnI_inj (ho b hb) g1 (e.trans g2.symm), fun e => by rw [e]; exact g2⟩)
  · rw [if_neg h, fix_c (q := fun _ => false) (fun b hb => decide_eq_false (fun e => h (by rw [← e]; exact i_nm_n (ho b hb))))]
    exact List.findIdx?_eq_none_iff.mpr (fun _ _ => rfl)
theorem f_bx_p {I : List Int32} (ho : o_V t V) : f_bx V I = if i_nm I = true then p_fb V (i_nt I) else none := f_p (f := fun b : a_B => b.1) (o_V_nb ho)
theorem f_se_p {I : List Int32} (ho : o_V t V) : f_se V I = if i_nm I = true then p_fs V (i_nt I) else none := f_p (f := fun b : a_S => b.1) (o_V_ns ho)
def w_nm (I : List Int32) : Int64 := if i_nm I = true then n_code (i_nt I) else 0
theorem i_nt_l (I : List Int32) : (i_nt I).length = I.length := by unfold i_nt; rw [List.length_map]
theorem i_nt_g {I : List Int32} (h : i_nm I = true) {k : Nat} (hk : k < I.length) : I.getD k 0 = nI ((i_nt I).getD k 0) := by
  have e := (i_nm_o h).2
  have : ((i_nt I).map nI).getD k 0 = nI ((i_nt I).getD k 0) := by
    rw [List.getD_eq_getElem?_getD, List.getD_eq_getElem?_getD, List.getElem?_map, List.getElem?_eq_getElem (by rw [i_nt_l]; exact hk)]
    rfl
  rw [e] at this
  exact this
theorem w_no {I : List Int32} {k : Nat} {c : Bool} (hc : c = (decide (1 ≤ I.length) && decide (I.length ≤ 6) && (I.take k).all (fun x => a_in x 97 122))) (h : c = false) : i_nm I = c := by
  have e : I.all (fun x => a_in x 97 122) = ((I.take k).all (fun x => a_in x 97 122) && (I.drop k).all (fun x => a_in x 97 122)) := by rw [← List.all_append, List.take_append_drop]
  unfold i_nm
  rw [e, ← Bool.and_assoc, ← hc, h, Bool.false_and]
theorem w_1 (n : Nat) (h : n ≤ 700) : decide ((1 : Int64) ≤ (nI n).toInt64 ∧ (nI n).toInt64 ≤ 6) = (decide (1 ≤ n) && decide (n ≤ 6)) := by
  rw [← Bool.decide_and, decide_eq_decide, nI_l (by omega), show (1 : Int64) = lN 1 from rfl, show (6 : Int64) = lN 6 from rfl, lN_le (by decide) (by omega), lN_le (by omega) (by decide)]
theorem w_s {I : List Int32} {k : Nat} (hk : k < I.length) {a b : Bool} (h : (a && b && (I.take k).all (fun x => a_in x 97 122)) = true) : a_in (I.getD k 0) 97 122 = (a && b && (I.take (k + 1)).all (fun x => a_in x 97 122)) := by
  rw [tk_s 0 hk, List.all_append, ← Bool.and_assoc, h, Bool.true_and, List.all_cons, List.all_nil, Bool.and_true]
theorem ct_wholeName (hn : h + 11 < sx_n σ) (hJ : m_J M A) : sx_Cr G 1 YX3_wholeName [.ref h] (m_S G h M σ) (some (.long (w_nm (A_i A)))) (m_S G h (m_i M 8 (nI 0)) σ) := by
  have mid : ∀ c k, i_nm (A_i A) = c → sx_V G 1 YX3_wholeName 50 [some (.ref h), some (.int (b_I c)), some (.int (nI k)), none] [] (m_S G h M σ) (fun o τ => ∃ v, o = .inl v ∧ v = some (.long (w_nm (A_i A))) ∧ τ = m_S G h (m_i M 8 (nI 0)) σ) := by
    have h8 : M.1 8 = nI (A_i A).length := hJ.2.2.2.2.2.2.1.2.1
    have hi7 := hJ.2.2.2.2.2.2.1.1
    have hig := hJ.2.2.2.2.2.2.1.2.2
    intro c k hc
    refine sv_iload_n dX3_wholeName_50 rfl ?_
    refine sv_if_eqB (tgt := 69) dX3_wholeName_51 (by decide) (fun c51 => ?_) (fun c51 => ?_)
    · have hv : (0 : Int64) = w_nm (A_i A) := by unfold w_nm; rw [if_neg (by rw [hc, c51]; decide)]
      refine sv_lconst 0 dX3_wholeName_69 (by decide) ?_
      refine sv_lstore_n dX3_wholeName_70 (by decide) ?_
      refine sv_aload_n dX3_wholeName_71 rfl ?_
      refine sv_iconst (nI 0) dX3_wholeName_72 (by decide +kernel) ?_
      refine sm_put hn fp_X3_270 dX3_wholeName_73 rfl (by decide) ?_
      refine sv_lload_n dX3_wholeName_76 rfl ?_
      refine sv_lret rfl dX3_wholeName_77 ?_
      exact ⟨_, rfl, congrArg (fun x => some (Value.long x)) hv, rfl⟩
    · have hnm : i_nm (A_i A) = true := hc.trans c51
      have hv : n_code (i_nt (A_i A)) = w_nm (A_i A) := by unfold w_nm; rw [if_pos hnm]
      refine sv_aload_n dX3_wholeName_54 rfl ?_
      refine sm_get hn fg_X3_34 dX3_wholeName_55 rfl ?_
      refine sv_iconst (nI 0) dX3_wholeName_58 (by decide +kernel) ?_
      refine sv_aload_n dX3_wholeName_59 rfl ?_
      refine sm_get hn fg_X3_270 dX3_wholeName_60 rfl ?_
      refine sv_topI (y := nI (0 + (i_nt (A_i A)).length)) (by rw [Nat.zero_add, i_nt_l]; exact h8) ?_
      refine sv_csR _ (ct_nameOf (a := 0) (cs := i_nt (A_i A)) hn (by rw [i_nt_l]; omega) (fun i hi => by rw [i_nt_l] at hi; rw [Nat.zero_add, hig i hi]; exact i_nt_g hnm hi) (fun c hc => by have := (i_nm_o hnm).1.2.2 c hc; omega)) okX3_nameOf ks_X3_385 dX3_wholeName_63 rfl rfl (by decide) (Nat.le_of_ble_eq_true rfl) ?_
      refine sv_goto (tgt := 70) dX3_wholeName_66 (by decide) ?_
      refine sv_lstore_n dX3_wholeName_70 (by decide) ?_
      refine sv_aload_n dX3_wholeName_71 rfl ?_
      refine sv_iconst (nI 0) dX3_wholeName_72 (by decide +kernel) ?_
      refine sm_put hn fp_X3_270 dX3_wholeName_73 rfl (by decide) ?_
      refine sv_lload_n dX3_wholeName_76 rfl ?_
      refine sv_lret rfl dX3_wholeName_77 ?_
      exact ⟨_, rfl, congrArg (fun x => some (Value.long x)) hv, rfl⟩
  have loop : ∀ q k c, k ≤ (A_i A).length → (A_i A).length + 1 ≤ k + q → c = (decide (1 ≤ (A_i A).length) && decide ((A_i A).length ≤ 6) && ((A_i A).take k).all (fun x => a_in x 97 122)) → sx_V G 1 YX3_wholeName 15 [some (.ref h), some (.int (b_I c)), some (.int (nI k)), none] [] (m_S G h M σ) (fun o τ => ∃ v, o = .inl v ∧ v = some (.long (w_nm (A_i A))) ∧ τ = m_S G h (m_i M 8 (nI 0)) σ) := by
    have h8 : M.1 8 = nI (A_i A).length := hJ.2.2.2.2.2.2.1.2.1
    have hi7 := hJ.2.2.2.2.2.2.1.1
    have hig := hJ.2.2.2.2.2.2.1.2.2
    intro q
    induction q with
    | zero => intro k c h1 h2; exact absurd h2 (by omega)
    | succ q ih =>
    intro k c g1 g2 hc
    refine sv_iload_n dX3_wholeName_15 rfl ?_
    refine sv_aload_n dX3_wholeName_16 rfl ?_
    refine sm_get hn fg_X3_270 dX3_wholeName_17 rfl ?_
    refine sv_topI h8 ?_
    refine sv_icmp_geN (tgt := 50) dX3_wholeName_20 (by decide) (by omega) (by omega) (fun c20 => ?_) (fun c20 => ?_)
    · obtain rfl : k = (A_i A).length := by omega
      rw [List.take_length] at hc
      have hfin : i_nm (A_i A) = c := hc.symm
      exact mid _ _ hfin
    · have hk : k < (A_i A).length := by omega
      refine sv_iload_n dX3_wholeName_23 rfl ?_
      refine sv_if_eqB (tgt := 50) dX3_wholeName_24 (by decide) (fun c24 => ?_) (fun c24 => ?_)
      · have hfin := w_no hc c24
        exact mid _ _ hfin
      · have hstep := w_s hk (hc.symm.trans c24)
        refine sv_aload_n dX3_wholeName_27 rfl ?_
        refine sm_get hn fg_X3_34 dX3_wholeName_28 rfl ?_
        refine sv_iload_n dX3_wholeName_31 rfl ?_
        refine sm_b2ld hn dX3_wholeName_32 (by omega) ?_
        refine sv_topI (y := (A_i A).getD k 0) (hig k hk) ?_
        refine sv_i2l dX3_wholeName_33 ?_
        refine sv_ldc2 q2435 dX3_wholeName_34 ?_
        refine sv_ldc2 q2436 dX3_wholeName_37 ?_
        refine sv_csR _ ct_in okX3_in ks_X3_70 dX3_wholeName_40 rfl rfl (by decide) (Nat.le_of_ble_eq_true rfl) ?_
        refine sv_istore_n dX3_wholeName_43 (by decide) ?_
        refine sv_iincN dX3_wholeName_44 rfl (by decide) ?_
        refine sv_goto (tgt := 15) dX3_wholeName_47 (by decide) ?_
        exact ih (k + 1) _ (by omega) (by omega) hstep
  refine sx_body (by decide) (Nat.le_of_ble_eq_true rfl) ?_
  have h8 : M.1 8 = nI (A_i A).length := hJ.2.2.2.2.2.2.1.2.1
  have hi7 := hJ.2.2.2.2.2.2.1.1
  have hig := hJ.2.2.2.2.2.2.1.2.2
  refine sv_aload_n dX3_wholeName_0 rfl ?_
  refine sm_get hn fg_X3_270 dX3_wholeName_1 rfl ?_
  refine sv_topI h8 ?_
  refine sv_i2l dX3_wholeName_4 ?_
  refine sv_lconst 1 dX3_wholeName_5 (by decide) ?_
  refine sv_ldc2 q2574 dX3_wholeName_6 ?_
  refine sv_csR _ ct_in okX3_in ks_X3_70 dX3_wholeName_9 rfl rfl (by decide) (Nat.le_of_ble_eq_true rfl) ?_
  refine sv_istore_n dX3_wholeName_12 (by decide) ?_
  refine sv_iconst (nI 0) dX3_wholeName_13 (by decide +kernel) ?_
  refine sv_istore_n dX3_wholeName_14 (by decide) ?_
  exact loop 701 0 _ (Nat.zero_le _) (by omega) (by rw [w_1 _ hi7]; rw [List.take_zero, List.all_nil, Bool.and_true])
theorem m_J_i0 (hJ : m_J M A) : m_J (m_i M 8 (nI 0)) (A_si A []) := m_J_il (n := 0) hJ (Nat.zero_le _)
theorem ct_findBox (hn : h + 11 < sx_n σ) (hJ : m_J M A) (ho : o_V t (A_v A)) : sx_Cp G 3 YX3_findBox [.ref h] (m_S G h M σ) (fun v τ => v = some (.int ((sp_fbx A).1)) ∧ ∃ M2, τ = m_S G h M2 σ ∧ m_J M2 ((sp_fbx A).2)) := by
  refine sx_body (by decide) (Nat.le_of_ble_eq_true rfl) ?_
  refine sv_aload_n dX3_findBox_0 rfl ?_
  refine sv_iconst (nI 0) dX3_findBox_1 (by decide +kernel) ?_
  refine sm_put hn fp_X3_3 dX3_findBox_2 rfl (by decide) ?_
  rw [nI_0]
  have hJ0 := m_J_t hJ 0
  refine sv_aload_n dX3_findBox_5 rfl ?_
  refine sv_cvR _ (ct_wholeName hn hJ0) okX3_wholeName kv_X3_448 (sx_rd_c (m_S_0 hn)) rfl dX3_findBox_6 rfl rfl (by decide) (Nat.le_of_ble_eq_true rfl) ?_
  have hJ1 := m_J_i0 hJ0
  refine sv_lstore_n dX3_findBox_9 (by decide) ?_
  refine sv_lload_n dX3_findBox_10 rfl ?_
  refine sv_lconst 0 dX3_findBox_11 (by decide) ?_
  refine sv_lcmp dX3_findBox_12 ?_
  refine sv_if_ne (tgt := 20) dX3_findBox_13 (by decide) (fun c13 => ?_) (fun c13 => ?_)
  · have hnm : i_nm (A_i A) = true := by
      cases hz : i_nm (A_i A) with
      | true => rfl
      | false => exact absurd ((lg_cmp_eq _ _).mpr (show w_nm (A_i A) = 0 by unfold w_nm; rw [if_neg (by rw [hz]; decide)])) c13
    have hv : o_I (p_fb (A_v A) (i_nt (A_i A))) = (sp_fbx A).1 := by show _ = o_I _; rw [f_bx_p ho, if_pos hnm]
    refine sv_aload_n dX3_findBox_20 rfl ?_
    refine sv_lload_n dX3_findBox_21 rfl ?_
    refine sv_cvR _ (ct_boxNamed (V := A_v A) (n := i_nt (A_i A)) hn (m_J_e hJ1).1 hJ1.2.2.1.1 (if_pos hnm) (i_nm_o hnm).1 (fun b hb => (ho.2.1 b hb).2.2.2)) okX3_boxNamed kv_X3_403 (sx_rd_c (m_S_0 hn)) rfl dX3_findBox_22 rfl rfl (by decide) (Nat.le_of_ble_eq_true rfl) ?_
    refine sv_iret rfl rfl dX3_findBox_25 ?_
    exact ⟨_, rfl, r_I hv, _, rfl, hJ1⟩
  · have hnm : ¬ i_nm (A_i A) = true := fun hz => n_code_0 (i_nm_o hz).1 (((if_pos hz).symm.trans ((lg_cmp_eq (w_nm (A_i A)) 0).mp c13)))
    have hv : (-1 : Int32) = (sp_fbx A).1 := by show _ = o_I _; rw [f_bx_p ho, if_neg hnm]; rfl
    refine sv_iconst (-1) dX3_findBox_16 (by decide +kernel) ?_
    refine sv_goto (tgt := 25) dX3_findBox_17 (by decide) ?_
    refine sv_iret rfl rfl dX3_findBox_25 ?_
    exact ⟨_, rfl, r_I hv, _, rfl, hJ1⟩
theorem ct_findSession (hn : h + 11 < sx_n σ) (hJ : m_J M A) (ho : o_V t (A_v A)) : sx_Cp G 3 YX3_findSession [.ref h] (m_S G h M σ) (fun v τ => v = some (.int ((sp_fse A).1)) ∧ ∃ M2, τ = m_S G h M2 σ ∧ m_J M2 ((sp_fse A).2)) := by
  refine sx_body (by decide) (Nat.le_of_ble_eq_true rfl) ?_
  refine sv_aload_n dX3_findSession_0 rfl ?_
  refine sv_iconst (nI 0) dX3_findSession_1 (by decide +kernel) ?_
  refine sm_put hn fp_X3_3 dX3_findSession_2 rfl (by decide) ?_
  rw [nI_0]
  have hJ0 := m_J_t hJ 0
  refine sv_aload_n dX3_findSession_5 rfl ?_
  refine sv_cvR _ (ct_wholeName hn hJ0) okX3_wholeName kv_X3_448 (sx_rd_c (m_S_0 hn)) rfl dX3_findSession_6 rfl rfl (by decide) (Nat.le_of_ble_eq_true rfl) ?_
  have hJ1 := m_J_i0 hJ0
  refine sv_lstore_n dX3_findSession_9 (by decide) ?_
  refine sv_lload_n dX3_findSession_10 rfl ?_
  refine sv_lconst 0 dX3_findSession_11 (by decide) ?_
  refine sv_lcmp dX3_findSession_12 ?_
  refine sv_if_ne (tgt := 20) dX3_findSession_13 (by decide) (fun c13 => ?_) (fun c13 => ?_)
  · have hnm : i_nm (A_i A) = true := by
      cases hz : i_nm (A_i A) with
      | true => rfl
      | false => exact absurd ((lg_cmp_eq _ _).mpr (show w_nm (A_i A) = 0 by unfold w_nm; rw [if_neg (by rw [hz]; decide)])) c13
    have hv : o_I (p_fs (A_v A) (i_nt (A_i A))) = (sp_fse A).1 := by show _ = o_I _; rw [f_se_p ho, if_pos hnm]
    refine sv_aload_n dX3_findSession_20 rfl ?_
    refine sv_lload_n dX3_findSession_21 rfl ?_
    refine sv_cvR _ (ct_sessionNamed (V := A_v A) (n := i_nt (A_i A)) hn (m_J_e hJ1).1 hJ1.2.2.1.1 (if_pos hnm) (i_nm_o hnm).1 (fun b hb => (ho.2.2 b hb).2.2) (fun b hb => ((m_J_e hJ1).2.1 b hb).1)) okX3_sessionNamed kv_X3_419 (sx_rd_c (m_S_0 hn)) rfl dX3_findSession_22 rfl rfl (by decide) (Nat.le_of_ble_eq_true rfl) ?_
    refine sv_iret rfl rfl dX3_findSession_25 ?_
    exact ⟨_, rfl, r_I hv, _, rfl, hJ1⟩
  · have hnm : ¬ i_nm (A_i A) = true := fun hz => n_code_0 (i_nm_o hz).1 (((if_pos hz).symm.trans ((lg_cmp_eq (w_nm (A_i A)) 0).mp c13)))
    have hv : (-1 : Int32) = (sp_fse A).1 := by show _ = o_I _; rw [f_se_p ho, if_neg hnm]; rfl
    refine sv_iconst (-1) dX3_findSession_16 (by decide +kernel) ?_
    refine sv_goto (tgt := 25) dX3_findSession_17 (by decide) ?_
    refine sv_iret rfl rfl dX3_findSession_25 ?_
    exact ⟨_, rfl, r_I hv, _, rfl, hJ1⟩
end MPN
