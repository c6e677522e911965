set_option maxRecDepth 100000
section MPK
variable {G : sx_G} {h : Nat} {M M' : m_M} {σ : sx_St} {V : a_V} {A : a_A} {t : List Int32} {r : r_T} {k : k_T} {f o : Nat} {q : p_T}
/-- what a part of a query answers -/
def q_O (G : sx_G) (h : Nat) (σ : sx_St) (t : List Int32) (ms : List a_M) (x : p_E ⊕ (p_T × k_T)) (k : k_T) (o : Nat) (M : m_M) (v : Option Value) (τ : sx_St) : Prop := ∃ z, v = some (.int z) ∧ ∃ M2, τ = m_S G h M2 σ ∧ m_Yq M M2 ∧ M2.1 21 = nI o ∧ m_Z t (q_r x) M2 ∧ ∀ y, x = .inr y → z = s_b ms y.1 ∧ k.2.1 < y.2.2.1
def q_F (G : sx_G) (h : Nat) (σ : sx_St) (t : List Int32) (V : a_V) (b m c : Nat) (Y : sx_Y) (d0 f : Nat) : Prop := ∀ (o : Nat) (k : k_T) (q : p_T) (M : m_M), o ≤ 5 → m_Q t k 0 M → M.1 20 = nI b → M.1 21 = nI o → e_Vb (m_w M) V → 4 * (t.length + 1) + c ≤ 4 * k.2.1 + f → sx_Cp G (d0 + 4 * (5 - o)) Y [.ref h] (m_S G h M σ) (q_O G h σ t (a_ms V b) (p_Q t f m o q k) k o M)
theorem pq_0 : p_Q t (f + 1) 0 o q k = (match p_fl t k with
    | some x => .inr (fun m => a_has m.2.2 x, p_nx t k)
    | none => if p_is t k 7 then .inr (fun _ => true, p_nx t k)
      else if p_is t k 5 then p_cmp t (p_nx t k) (fun m => m.2.1)
      else if p_is t k 8 then p_cmp t (p_nx t k) (fun m => m.1)
      else if p_is t k 9 then (if o < 5 then p_bind (p_Q t f 0 (o + 1) q (p_nx t k)) (fun x => .inr (fun m => !(x.1 m), x.2)) else .inl (p_er 5 k))
      else if p_sy t k 40 then (if o < 5 then p_bind (p_Q t f 4 (o + 1) q (p_nx t k)) (fun x => if p_sy t x.2 41 then .inr (x.1, p_nx t x.2) else .inl (p_er 1 x.2)) else .inl (p_er 5 k))
      else .inl (p_er 1 k)) := rfl
theorem pq_1 : p_Q t (f + 1) 1 o q k = if p_bf t k then p_bind (p_Q t f 0 o q k) (fun x => p_Q t f 1 o (fun m => q m && x.1 m) x.2) else .inr (q, k) := rfl
theorem pq_2 : p_Q t (f + 1) 2 o q k = if p_is t k 10 then p_bind (p_Q t f 3 o q (p_nx t k)) (fun x => p_Q t f 2 o (fun m => q m || x.1 m) x.2) else .inr (q, k) := rfl
theorem pq_3 : p_Q t (f + 1) 3 o q k = p_bind (p_Q t f 0 o q k) (fun x => p_Q t f 1 o x.1 x.2) := rfl
theorem pq_4 : p_Q t (f + 1) 4 o q k = p_bind (p_Q t f 3 o q k) (fun x => p_Q t f 2 o x.1 x.2) := rfl
theorem pq_f {x : Nat} (h : p_fl t k = some x) : p_Q t (f + 1) 0 o q k = .inr (fun m => a_has m.2.2 x, p_nx t k) := by rw [pq_0, h]
theorem pq_7 (h : p_is t k 7 = true) : p_Q t (f + 1) 0 o q k = .inr (fun _ => true, p_nx t k) := by rw [pq_0, p_fl_i h (by decide)]; exact if_pos h
theorem pq_5 (h : p_is t k 5 = true) : p_Q t (f + 1) 0 o q k = p_cmp t (p_nx t k) (q_g 1) := by
  rw [pq_0, p_fl_i h (by decide)]
  show (if p_is t k 7 = true then _ else if p_is t k 5 = true then _ else _) = _
  rw [if_neg (bf_n (p_is_1 h (by decide) (by decide) (by decide))), if_pos h]
  rfl
theorem pq_8 (h : p_is t k 8 = true) : p_Q t (f + 1) 0 o q k = p_cmp t (p_nx t k) (q_g 0) := by
  rw [pq_0, p_fl_i h (by decide)]
  show (if p_is t k 7 = true then _ else if p_is t k 5 = true then _ else if p_is t k 8 = true then _ else _) = _
  rw [if_neg (bf_n (p_is_1 h (by decide) (by decide) (by decide))), if_neg (bf_n (p_is_1 h (by decide) (by decide) (by decide))), if_pos h]
  rfl
theorem pq_9 (h : p_is t k 9 = true) : p_Q t (f + 1) 0 o q k = if o < 5 then p_bind (p_Q t f 0 (o + 1) q (p_nx t k)) (fun x => .inr (fun m => !(x.1 m), x.2)) else .inl (p_er 5 k) := by
  rw [pq_0, p_fl_i h (by decide)]
  show (if p_is t k 7 = true then _ else if p_is t k 5 = true then _ else if p_is t k 8 = true then _ else if p_is t k 9 = true then _ else _) = _
  rw [if_neg (bf_n (p_is_1 h (by decide) (by decide) (by decide))), if_neg (bf_n (p_is_1 h (by decide) (by decide) (by decide))), if_neg (bf_n (p_is_1 h (by decide) (by decide) (by decide))), if_pos h]
theorem pq_40 (h : p_sy t k 40 = true) : p_Q t (f + 1) 0 o q k = if o < 5 then p_bind (p_Q t f 4 (o + 1) q (p_nx t k)) (fun x => if p_sy t x.2 41 then .inr (x.1, p_nx t x.2) else .inl (p_er 1 x.2)) else .inl (p_er 5 k) := by
  rw [pq_0, p_fl_s h]
  show (if p_is t k 7 = true then _ else if p_is t k 5 = true then _ else if p_is t k 8 = true then _ else if p_is t k 9 = true then _ else if p_sy t k 40 = true then _ else _) = _
  rw [if_neg (bf_n (p_is_s h (by decide) (by decide))), if_neg (bf_n (p_is_s h (by decide) (by decide))), if_neg (bf_n (p_is_s h (by decide) (by decide))), if_neg (bf_n (p_is_s h (by decide) (by decide))), if_pos h]
theorem pq_no (h9 : p_is t k 9 = false) (h40 : p_sy t k 40 = false) (hf : p_fl t k = none) (h7 : p_is t k 7 = false) (h5 : p_is t k 5 = false) (h8 : p_is t k 8 = false) : p_Q t (f + 1) 0 o q k = .inl (p_er 1 k) := by
  rw [pq_0, hf]
  show (if p_is t k 7 = true then _ else if p_is t k 5 = true then _ else if p_is t k 8 = true then _ else if p_is t k 9 = true then _ else if p_sy t k 40 = true then _ else _) = _
  rw [if_neg (bf_n h7), if_neg (bf_n h5), if_neg (bf_n h8), if_neg (bf_n h9), if_neg (bf_n h40)]
theorem m_O_21 {v : Int32} : (m_O h M).set 21 (.int v) = m_O h (m_i M 21 v) := rfl
theorem q_not {rr : p_E ⊕ (p_T × k_T)} (hZ : m_Z t (q_r rr) M) : m_Z t (q_r (p_bind rr (fun y => .inr (fun m => !(y.1 m), y.2)))) M := by
  cases rr with
  | inl e => exact hZ
  | inr y => exact hZ
theorem q_par {rr : p_E ⊕ (p_T × k_T)} (hZ : m_Z t (if r_sy t (q_r rr) (nI 41) = true then r_nx t (q_r rr) else r_er (q_r rr) 1) M) : m_Z t (q_r (p_bind rr (fun y => if p_sy t y.2 41 then .inr (y.1, p_nx t y.2) else .inl (p_er 1 y.2)))) M := by
  cases rr with
  | inl e => exact hZ
  | inr y =>
    have hZ : m_Z t (if p_sy t y.2 (nI 41) = true then .inr (p_nx t y.2) else .inl (p_er 1 y.2)) M := hZ
    show m_Z t (q_r (if p_sy t y.2 41 = true then .inr (y.1, p_nx t y.2) else .inl (p_er 1 y.2))) M
    rw [show (41 : Int32) = nI 41 from rfl]
    by_cases h1 : p_sy t y.2 (nI 41) = true
    · rw [if_pos h1] at hZ ⊢; exact hZ
    · rw [if_neg h1] at hZ ⊢; exact hZ
theorem q_nx {rr : p_E ⊕ (p_T × k_T)} {y : p_T × k_T} (hZ : m_Z t (q_r rr) M) (h : rr = .inr y) (hk : k.2.1 < y.2.2.1) : k.2.1 < (p_nx t y.2).2.1 := by
  rw [h] at hZ
  have hZ : m_Q t y.2 0 M := hZ
  have g6 := (k_ok_s hZ.2.2.1).1
  have g7 := hZ.2.2.1.1
  omega
theorem q_par_y {rr : p_E ⊕ (p_T × k_T)} {y : p_T × k_T} (h : p_bind rr (fun y => if p_sy t y.2 41 then .inr (y.1, p_nx t y.2) else .inl (p_er 1 y.2)) = .inr y) : ∃ y', rr = .inr y' ∧ y = (y'.1, p_nx t y'.2) ∧ p_sy t y'.2 41 = true := by
  obtain ⟨y', g1, g2⟩ := p_bind_r h
  by_cases h1 : p_sy t y'.2 41 = true
  · rw [if_pos h1] at g2
    exact ⟨y', g1, (Sum.inr.inj g2).symm, h1⟩
  · rw [if_neg h1] at g2; cases g2
theorem ct_factor_s (hn : h + 11 < sx_n σ) (hW : g_S G) (hw : w_Vb V) {b : Nat} (hb : b < V.2.1.length) (IHF : q_F G h σ t V b 0 0 YX3_factor 20 f) (IHQ : q_F G h σ t V b 4 2 YX3_query 22 f) (ho : o ≤ 5) (hZ : m_Q t k 0 M) (h20 : M.1 20 = nI b) (h21 : M.1 21 = nI o) (hE : e_Vb (m_w M) V) (hf : 4 * (t.length + 1) ≤ 4 * k.2.1 + (f + 1)) : sx_Cp G (20 + 4 * (5 - o)) YX3_factor [.ref h] (m_S G h M σ) (q_O G h σ t (a_ms V b) (p_Q t (f + 1) 0 o q k) k o M) := by
  have mid30 : ∀ x M2 rr, m_Yq M M2 → M2.1 21 = nI (o + 1) → m_Z t (q_r rr) M2 → (∀ y, rr = .inr y → x = s_b (a_ms V b) y.1 ∧ k.2.1 < y.2.2.1) → p_Q t (f + 1) 0 o q k = p_bind rr (fun y => .inr (fun m => !(y.1 m), y.2)) → sx_V G (20 + 4 * (5 - o)) YX3_factor 30 [some (.ref h), some (.int x)] [] (m_S G h M2 σ) (fun oo τ => ∃ v, oo = .inl v ∧ q_O G h σ t (a_ms V b) (p_Q t (f + 1) 0 o q k) k o M v τ) := by
    have hZ0 : m_Z t (.inr k) M := hZ
    have hko : k_ok t k := hZ.2.2.1
    have hkt := hko.2.1
    have hk1 := hko.1
    have hl : (a_ms V b).length ≤ 31 := by have : (a_ms V b).length ≤ 30 := hw.2.2 b hb; omega
    intro x M2 rr hY2 h212 hZ2 hy2 e2
    have hE2 : e_Vb (m_w M2) V := by rw [m_w_Yq hY2]; exact hE
    have h202 : M2.1 20 = nI b := (hY2.2 20 (by decide) (by decide)).trans h20
    refine sv_aload_n dX3_factor_30 rfl ?_
    refine sv_dup dX3_factor_31 rfl ?_
    refine sm_get hn fg_X3_454 dX3_factor_32 rfl ?_
    refine sv_topI (y := nI (o + 1)) h212 ?_
    refine sv_iconst (nI 1) dX3_factor_35 (by decide +kernel) ?_
    refine sv_isubN dX3_factor_36 (by omega) ?_
    refine sm_put hn fp_X3_454 dX3_factor_37 m_O_21 (by decide) ?_
    have hY3 := m_Yq_t hY2 (m_Yq_i (M := M2) (x := nI (o + 1 - 1)))
    have hE3 : e_Vb (m_w (m_i M2 21 (nI (o + 1 - 1)))) V := hE2
    have h203 : (m_i M2 21 (nI (o + 1 - 1))).1 20 = nI b := h202
    refine sv_aload_n dX3_factor_40 rfl ?_
    refine sv_cvR _ (ct_allOf (M := m_i M2 21 (nI (o + 1 - 1))) (V := V) (b := b) hn hE3 hw hb h203) okX3_allOf kv_X3_463 (sx_rd_c (m_S_0 hn)) rfl dX3_factor_41 rfl rfl (by omega) (Nat.le_of_ble_eq_true rfl) ?_
    refine sv_iload_n dX3_factor_44 rfl ?_
    refine sv_iconst (-1) dX3_factor_45 (by decide +kernel) ?_
    refine sv_ixor dX3_factor_46 ?_
    refine sv_iand dX3_factor_47 ?_
    refine sv_iret rfl rfl dX3_factor_48 ?_
    exact ⟨_, rfl, _, rfl, _, rfl, hY3, congrArg nI (Nat.add_sub_cancel o 1), by rw [e2]; exact m_Z_i (q_not hZ2), fun y hy => by rw [e2] at hy; obtain ⟨y2, g1, g2⟩ := p_bind_r hy; have g2 := Sum.inr.inj g2; subst g2; obtain ⟨g3, g4⟩ := hy2 y2 g1; exact ⟨by rw [g3]; exact s_b_not hl, g4⟩⟩
  have mid78 : ∀ x M2 rr, m_Yq M M2 → M2.1 21 = nI (o + 1) → m_Z t (q_r rr) M2 → (∀ y, rr = .inr y → x = s_b (a_ms V b) y.1 ∧ k.2.1 < y.2.2.1) → p_Q t (f + 1) 0 o q k = p_bind rr (fun y => if p_sy t y.2 41 then .inr (y.1, p_nx t y.2) else .inl (p_er 1 y.2)) → sx_V G (20 + 4 * (5 - o)) YX3_factor 78 [some (.ref h), some (.int x)] [] (m_S G h M2 σ) (fun oo τ => ∃ v, oo = .inl v ∧ q_O G h σ t (a_ms V b) (p_Q t (f + 1) 0 o q k) k o M v τ) := by
    have hZ0 : m_Z t (.inr k) M := hZ
    have hko : k_ok t k := hZ.2.2.1
    have hkt := hko.2.1
    have hk1 := hko.1
    have hl : (a_ms V b).length ≤ 31 := by have : (a_ms V b).length ≤ 30 := hw.2.2 b hb; omega
    intro x M2 rr hY2 h212 hZ2 hy2 e2
    refine sv_aload_n dX3_factor_78 rfl ?_
    refine sv_bipush (nI 41) dX3_factor_79 (by decide +kernel) ?_
    refine sv_cvP _ (ct_need (x := 41) hn hZ2 (by decide)) okX3_need kv_X3_434 (sx_rd_c (m_S_0 hn)) rfl dX3_factor_81 rfl rfl (by omega) (Nat.le_of_ble_eq_true rfl) ?_
    intro v4 t4 hp4
    obtain ⟨rfl, M4, rfl, hY4, hZ4⟩ := hp4
    refine sv_aload_n dX3_factor_84 rfl ?_
    refine sv_dup dX3_factor_85 rfl ?_
    refine sm_get hn fg_X3_454 dX3_factor_86 rfl ?_
    refine sv_topI (y := nI (o + 1)) ((hY4.2 21 (by decide)).trans h212) ?_
    refine sv_iconst (nI 1) dX3_factor_89 (by decide +kernel) ?_
    refine sv_isubN dX3_factor_90 (by omega) ?_
    refine sm_put hn fp_X3_454 dX3_factor_91 m_O_21 (by decide) ?_
    have hY3 := m_Yq_t hY2 (m_Yq_t (m_Yq_Y hY4) (m_Yq_i (M := M4) (x := nI (o + 1 - 1))))
    refine sv_iload_n dX3_factor_94 rfl ?_
    refine sv_iret rfl rfl dX3_factor_95 ?_
    exact ⟨_, rfl, _, rfl, _, rfl, hY3, congrArg nI (Nat.add_sub_cancel o 1), by rw [e2]; exact m_Z_i (q_par hZ4), fun y hy => by rw [e2] at hy; obtain ⟨y2, g1, g2, g5⟩ := q_par_y hy; subst g2; obtain ⟨g3, g4⟩ := hy2 y2 g1; exact ⟨g3, q_nx hZ2 g1 g4⟩⟩
  refine sx_body (by decide) (Nat.le_of_ble_eq_true rfl) ?_
  have hZ0 : m_Z t (.inr k) M := hZ
  have hko : k_ok t k := hZ.2.2.1
  have hkt := hko.2.1
  have hk1 := hko.1
  have hl : (a_ms V b).length ≤ 31 := by have : (a_ms V b).length ≤ 30 := hw.2.2 b hb; omega
  refine sv_aload_n dX3_factor_0 rfl ?_
  refine sv_ldcSw 25 rfl dX3_factor_1 ?_
  refine sv_cvR _ (ct_isWord (i := 9) (j := 25) hn hZ0 hW (by decide) (by decide) rfl) okX3_isWord kv_X3_327 (sx_rd_c (m_S_0 hn)) rfl dX3_factor_4 rfl rfl (by omega) (Nat.le_of_ble_eq_true rfl) ?_
  refine sv_if_eqB (tgt := 49) dX3_factor_7 (by decide) (fun c7 => ?_) (fun c7 => ?_)
  · have c7k : p_is t k 9 = false := c7
    refine sv_aload_n dX3_factor_49 rfl ?_
    refine sv_bipush (nI 40) dX3_factor_50 (by decide +kernel) ?_
    refine sv_cvR _ (ct_isSym (x := 40) hn hZ0 (by decide)) okX3_isSymbol kv_X3_331 (sx_rd_c (m_S_0 hn)) rfl dX3_factor_52 rfl rfl (by omega) (Nat.le_of_ble_eq_true rfl) ?_
    refine sv_if_eqB (tgt := 96) dX3_factor_55 (by decide) (fun c55 => ?_) (fun c55 => ?_)
    · have c55k : p_sy t k 40 = false := c55
      refine sv_aload_n dX3_factor_96 rfl ?_
      refine sv_cvR _ (ct_flagHere hn hZ0 hW) okX3_flagHere kv_X3_372 (sx_rd_c (m_S_0 hn)) rfl dX3_factor_97 rfl rfl (by omega) (Nat.le_of_ble_eq_true rfl) ?_
      refine sv_istore_n dX3_factor_100 (by decide) ?_
      refine sv_iload_n dX3_factor_101 rfl ?_
      refine sv_iconst (-1) dX3_factor_102 (by decide +kernel) ?_
      refine sv_icmp_eq (tgt := 116) dX3_factor_103 (by decide) (fun c103 => ?_) (fun c103 => ?_)
      · have hfn : p_fl t k = none := (o_I_m1 _ (r_fl_k (t := t) (r := .inr k))).mp c103
        refine sv_aload_n dX3_factor_116 rfl ?_
        refine sv_ldcSw 23 rfl dX3_factor_117 ?_
        refine sv_cvP _ (ct_takesWord (i := 7) (j := 23) hn hZ0 hW (by decide) (by decide) rfl) okX3_takesWord kv_X3_413 (sx_rd_c (m_S_0 hn)) rfl dX3_factor_120 rfl rfl (by omega) (Nat.le_of_ble_eq_true rfl) ?_
        intro v1 t1 hp1
        obtain ⟨rfl, M1, rfl, hY1, hZ1⟩ := hp1
        have hY1q := m_Yq_Y hY1
        have hE1 : e_Vb (m_w M1) V := by rw [m_w_Yq hY1q]; exact hE
        have h201 : M1.1 20 = nI b := (hY1q.2 20 (by decide) (by decide)).trans h20
        refine sv_if_eqB (tgt := 131) dX3_factor_123 (by decide) (fun c123 => ?_) (fun c123 => ?_)
        · have c123k : p_is t k 7 = false := c123
          have hZ1k : m_Z t (.inr k) M1 := by rw [if_neg (bf_n c123)] at hZ1; exact hZ1
          refine sv_aload_n dX3_factor_131 rfl ?_
          refine sv_ldcSw 20 rfl dX3_factor_132 ?_
          refine sv_cvP _ (ct_takesWord (i := 5) (j := 20) hn hZ1k hW (by decide) (by decide) rfl) okX3_takesWord kv_X3_413 (sx_rd_c (m_S_0 hn)) rfl dX3_factor_135 rfl rfl (by omega) (Nat.le_of_ble_eq_true rfl) ?_
          intro v2 t2 hp2
          obtain ⟨rfl, M2, rfl, hY2, hZ2⟩ := hp2
          have hY2q := m_Yq_t hY1q (m_Yq_Y hY2)
          have hE2 : e_Vb (m_w M2) V := by rw [m_w_Yq hY2q]; exact hE
          have h202 : M2.1 20 = nI b := (hY2q.2 20 (by decide) (by decide)).trans h20
          refine sv_if_eqB (tgt := 147) dX3_factor_138 (by decide) (fun c138 => ?_) (fun c138 => ?_)
          · have c138k : p_is t k 5 = false := c138
            have hZ2k : m_Z t (.inr k) M2 := by rw [if_neg (bf_n c138)] at hZ2; exact hZ2
            refine sv_aload_n dX3_factor_147 rfl ?_
            refine sv_ldcSw 24 rfl dX3_factor_148 ?_
            refine sv_cvP _ (ct_takesWord (i := 8) (j := 24) hn hZ2k hW (by decide) (by decide) rfl) okX3_takesWord kv_X3_413 (sx_rd_c (m_S_0 hn)) rfl dX3_factor_151 rfl rfl (by omega) (Nat.le_of_ble_eq_true rfl) ?_
            intro v3 t3 hp3
            obtain ⟨rfl, M3, rfl, hY3, hZ3⟩ := hp3
            have hY3q := m_Yq_t hY2q (m_Yq_Y hY3)
            have hE3 : e_Vb (m_w M3) V := by rw [m_w_Yq hY3q]; exact hE
            have h203 : M3.1 20 = nI b := (hY3q.2 20 (by decide) (by decide)).trans h20
            refine sv_if_eqB (tgt := 163) dX3_factor_154 (by decide) (fun c154 => ?_) (fun c154 => ?_)
            · have c154k : p_is t k 8 = false := c154
              have hZ3k : m_Z t (.inr k) M3 := by rw [if_neg (bf_n c154)] at hZ3; exact hZ3
              refine sv_aload_n dX3_factor_163 rfl ?_
              refine sv_iconst (nI 1) dX3_factor_164 (by decide +kernel) ?_
              refine sv_cvP _ (ct_er (c := 1) hn hZ3k (by decide) (by decide)) okX3_errs kv_X3_337 (sx_rd_c (m_S_0 hn)) rfl dX3_factor_165 rfl rfl (by omega) (Nat.le_of_ble_eq_true rfl) ?_
              intro v4 t4 hp4
              obtain ⟨rfl, M4, rfl, hY4, hZ4⟩ := hp4
              have hY4q := m_Yq_t hY3q (m_Yq_Y hY4)
              have e9 := pq_no (f := f) (o := o) (q := q) c7k c55k hfn c123k c138k c154k
              refine sv_iconst (nI 0) dX3_factor_168 (by decide +kernel) ?_
              refine sv_iret rfl rfl dX3_factor_169 ?_
              exact ⟨_, rfl, _, rfl, _, rfl, hY4q, (hY4.2 21 (by decide)).trans ((hY3.2 21 (by decide)).trans ((hY2.2 21 (by decide)).trans ((hY1.2 21 (by decide)).trans h21))), by rw [e9]; exact hZ4, fun y hy => by rw [e9] at hy; cases hy⟩
            · have c154k : p_is t k 8 = true := c154
              have hZ3k : m_Q t (p_nx t k) 0 M3 := by rw [if_pos c154] at hZ3; exact hZ3
              have hk0 : k.1 ≠ 0 := by rw [p_is_k (by decide) (by decide) c154k]; decide
              refine sv_aload_n dX3_factor_157 rfl ?_
              refine sv_iconst (nI 0) dX3_factor_158 (by decide +kernel) ?_
              refine sv_cvP _ (ct_compared0 (V := V) (b := b) (k := p_nx t k) hn hE3 hw hb h203 hZ3k) okX3_compared kv_X3_472 (sx_rd_c (m_S_0 hn)) rfl dX3_factor_159 rfl rfl (by omega) (Nat.le_of_ble_eq_true rfl) ?_
              intro v4 t4 hp4
              obtain ⟨x4, rfl, M4, rfl, hY4, hZ4, hy4⟩ := hp4
              have hY4q := m_Yq_t hY3q (m_Yq_Y hY4)
              have hkx := (k_ok_s hko).2 hk0
              have e9 := pq_8 (f := f) (o := o) (q := q) c154k
              refine sv_iret rfl rfl dX3_factor_162 ?_
              exact ⟨_, rfl, _, rfl, _, rfl, hY4q, (hY4.2 21 (by decide)).trans ((hY3.2 21 (by decide)).trans ((hY2.2 21 (by decide)).trans ((hY1.2 21 (by decide)).trans h21))), by rw [e9]; exact hZ4, fun y hy => by rw [e9] at hy; have := hy4 y hy; exact ⟨this.1, by omega⟩⟩
          · have c138k : p_is t k 5 = true := c138
            have hZ2k : m_Q t (p_nx t k) 0 M2 := by rw [if_pos c138] at hZ2; exact hZ2
            have hk0 : k.1 ≠ 0 := by rw [p_is_k (by decide) (by decide) c138k]; decide
            refine sv_aload_n dX3_factor_141 rfl ?_
            refine sv_iconst (nI 1) dX3_factor_142 (by decide +kernel) ?_
            refine sv_cvP _ (ct_compared1 (V := V) (b := b) (k := p_nx t k) hn hE2 hw hb h202 hZ2k) okX3_compared kv_X3_472 (sx_rd_c (m_S_0 hn)) rfl dX3_factor_143 rfl rfl (by omega) (Nat.le_of_ble_eq_true rfl) ?_
            intro v4 t4 hp4
            obtain ⟨x4, rfl, M4, rfl, hY4, hZ4, hy4⟩ := hp4
            have hY4q := m_Yq_t hY2q (m_Yq_Y hY4)
            have hkx := (k_ok_s hko).2 hk0
            have e9 := pq_5 (f := f) (o := o) (q := q) c138k
            refine sv_iret rfl rfl dX3_factor_146 ?_
            exact ⟨_, rfl, _, rfl, _, rfl, hY4q, (hY4.2 21 (by decide)).trans ((hY2.2 21 (by decide)).trans ((hY1.2 21 (by decide)).trans h21)), by rw [e9]; exact hZ4, fun y hy => by rw [e9] at hy; have := hy4 y hy; exact ⟨this.1, by omega⟩⟩
        · have c123k : p_is t k 7 = true := c123
          have e9 := pq_7 (f := f) (o := o) (q := q) c123k
          rw [if_pos c123] at hZ1
          have hkx := (k_ok_s hko).2 (by rw [p_is_k (by decide) (by decide) c123k]; decide)
          refine sv_aload_n dX3_factor_126 rfl ?_
          refine sv_cvR _ (ct_allOf (V := V) (b := b) hn hE1 hw hb h201) okX3_allOf kv_X3_463 (sx_rd_c (m_S_0 hn)) rfl dX3_factor_127 rfl rfl (by omega) (Nat.le_of_ble_eq_true rfl) ?_
          refine sv_iret rfl rfl dX3_factor_130 ?_
          exact ⟨_, rfl, _, rfl, _, rfl, hY1q, (hY1.2 21 (by decide)).trans h21, by rw [e9]; exact hZ1, fun y hy => by rw [e9] at hy; have hy := Sum.inr.inj hy; subst hy; exact ⟨rfl, hkx⟩⟩
      · obtain ⟨x, hfl⟩ : ∃ x, p_fl t k = some x := by
          cases hz : p_fl t k with
          | none => exact absurd (show o_I (r_fl t (.inr k)) = -1 by show o_I (p_fl t k) = -1; rw [hz]; rfl) c103
          | some x => exact ⟨x, rfl⟩
        have e9 := pq_f (f := f) (o := o) (q := q) hfl
        have hkx := (k_ok_s hko).2 (by rw [(p_fl_5 hfl).2]; decide)
        refine sv_aload_n dX3_factor_106 rfl ?_
        refine sv_cvP _ (ct_goOn hn hZ0) okX3_goOn kv_X3_340 (sx_rd_c (m_S_0 hn)) rfl dX3_factor_107 rfl rfl (by omega) (Nat.le_of_ble_eq_true rfl) ?_
        intro v3 t3 hp3
        obtain ⟨rfl, M3, rfl, hY3, hZ3⟩ := hp3
        have hY3q := m_Yq_Y hY3
        have hE3 : e_Vb (m_w M3) V := by rw [m_w_Yq hY3q]; exact hE
        have h203 : M3.1 20 = nI b := (hY3q.2 20 (by decide) (by decide)).trans h20
        refine sv_aload_n dX3_factor_110 rfl ?_
        refine sv_iload_n dX3_factor_111 rfl ?_
        refine sv_topI (y := nI x) (by show o_I (p_fl t k) = nI x; rw [hfl]; rfl) ?_
        refine sv_cvR _ (ct_withFlag (V := V) (b := b) (x := x) hn hE3 hw hb h203 (p_fl_5 hfl).1) okX3_withFlag kv_X3_469 (sx_rd_c (m_S_0 hn)) rfl dX3_factor_112 rfl rfl (by omega) (Nat.le_of_ble_eq_true rfl) ?_
        refine sv_iret rfl rfl dX3_factor_115 ?_
        exact ⟨_, rfl, _, rfl, _, rfl, hY3q, (hY3.2 21 (by decide)).trans h21, by rw [e9]; exact hZ3, fun y hy => by rw [e9] at hy; have hy := Sum.inr.inj hy; subst hy; exact ⟨rfl, hkx⟩⟩
    · have c55k : p_sy t k 40 = true := c55
      have hk0 : k.1 ≠ 0 := by rw [p_sy_k c55k]; decide
      refine sv_aload_n dX3_factor_58 rfl ?_
      refine sv_cvP _ (ct_opens hn hZ ho h21) okX3_opens kv_X3_457 (sx_rd_c (m_S_0 hn)) rfl dX3_factor_59 rfl rfl (by omega) (Nat.le_of_ble_eq_true rfl) ?_
      intro v1 t1 hp1
      obtain ⟨rfl, M1, rfl, hY1, h211, hZ1⟩ := hp1
      have hE1 : e_Vb (m_w M1) V := by rw [m_w_Yq hY1]; exact hE
      have h201 : M1.1 20 = nI b := (hY1.2 20 (by decide) (by decide)).trans h20
      refine sv_aload_n dX3_factor_62 rfl ?_
      refine sv_cvR _ (ct_gd hn hZ1) okX3_good kv_X3_279 (sx_rd_c (m_S_0 hn)) rfl dX3_factor_63 rfl rfl (by omega) (Nat.le_of_ble_eq_true rfl) ?_
      refine sv_if_eqB (tgt := 76) dX3_factor_66 (by decide) (fun c66 => ?_) (fun c66 => ?_)
      · obtain ⟨e, ek⟩ := r_g_f c66
        have ho5 : ¬ o < 5 := fun z => by rw [if_pos z] at ek; cases ek
        rw [if_neg ho5] at hZ1
        have hY9 := hY1
        have h219 := h211
        have hZ9 : m_Z t (q_r (.inl (p_er 5 k))) M1 := hZ1
        have hy9 : ∀ y, (Sum.inl (p_er 5 k) : p_E ⊕ (p_T × k_T)) = .inr y → nI 0 = s_b (a_ms V b) y.1 ∧ k.2.1 < y.2.2.1 := fun y z => by cases z
        have e9 : p_Q t (f + 1) 0 o q k = p_bind (.inl (p_er 5 k) : p_E ⊕ (p_T × k_T)) (fun y => if p_sy t y.2 41 then .inr (y.1, p_nx t y.2) else .inl (p_er 1 y.2)) := by rw [pq_40 c55k, if_neg ho5]; rfl
        refine sv_iconst (nI 0) dX3_factor_76 (by decide +kernel) ?_
        refine sv_istore_n dX3_factor_77 (by decide) ?_
        exact mid78 _ _ _ hY9 h219 hZ9 hy9 e9
      · have ho5 : o < 5 := by
          obtain ⟨e, ek⟩ := r_g_t c66
          by_cases z : o < 5
          · exact z
          · rw [if_neg z] at ek; cases ek
        have hZk : m_Q t (p_nx t k) 0 M1 := by rw [if_pos ho5] at hZ1; exact hZ1
        have hkx0 := (k_ok_s hko).2 hk0
        have e9 : p_Q t (f + 1) 0 o q k = p_bind (p_Q t f 4 (o + 1) q (p_nx t k)) (fun y => if p_sy t y.2 41 then .inr (y.1, p_nx t y.2) else .inl (p_er 1 y.2)) := by rw [pq_40 c55k, if_pos ho5]
        refine sv_aload_n dX3_factor_69 rfl ?_
        refine sv_cvP _ (IHQ (o + 1) (p_nx t k) q M1 (by omega) hZk h201 h211 hE1 (by omega)) okX3_query kv_X3_466 (sx_rd_c (m_S_0 hn)) rfl dX3_factor_70 rfl rfl (by omega) (Nat.le_of_ble_eq_true rfl) ?_
        intro v2 t2 hp2
        obtain ⟨x2, rfl, M2, rfl, hY2, h219, hZ9, hy2⟩ := hp2
        have hY9 := m_Yq_t hY1 hY2
        have hkx := (k_ok_s hko).2 hk0
        have hy9 : ∀ y, p_Q t f 4 (o + 1) q (p_nx t k) = .inr y → x2 = s_b (a_ms V b) y.1 ∧ k.2.1 < y.2.2.1 := fun y hy => ⟨(hy2 y hy).1, by have := (hy2 y hy).2; omega⟩
        refine sv_goto (tgt := 77) dX3_factor_73 (by decide) ?_
        refine sv_istore_n dX3_factor_77 (by decide) ?_
        exact mid78 _ _ _ hY9 h219 hZ9 hy9 e9
  · have c7k : p_is t k 9 = true := c7
    have hk0 : k.1 ≠ 0 := by rw [p_is_k (by decide) (by decide) c7k]; decide
    refine sv_aload_n dX3_factor_10 rfl ?_
    refine sv_cvP _ (ct_opens hn hZ ho h21) okX3_opens kv_X3_457 (sx_rd_c (m_S_0 hn)) rfl dX3_factor_11 rfl rfl (by omega) (Nat.le_of_ble_eq_true rfl) ?_
    intro v1 t1 hp1
    obtain ⟨rfl, M1, rfl, hY1, h211, hZ1⟩ := hp1
    have hE1 : e_Vb (m_w M1) V := by rw [m_w_Yq hY1]; exact hE
    have h201 : M1.1 20 = nI b := (hY1.2 20 (by decide) (by decide)).trans h20
    refine sv_aload_n dX3_factor_14 rfl ?_
    refine sv_cvR _ (ct_gd hn hZ1) okX3_good kv_X3_279 (sx_rd_c (m_S_0 hn)) rfl dX3_factor_15 rfl rfl (by omega) (Nat.le_of_ble_eq_true rfl) ?_
    refine sv_if_eqB (tgt := 28) dX3_factor_18 (by decide) (fun c18 => ?_) (fun c18 => ?_)
    · obtain ⟨e, ek⟩ := r_g_f c18
      have ho5 : ¬ o < 5 := fun z => by rw [if_pos z] at ek; cases ek
      rw [if_neg ho5] at hZ1
      have hY9 := hY1
      have h219 := h211
      have hZ9 : m_Z t (q_r (.inl (p_er 5 k))) M1 := hZ1
      have hy9 : ∀ y, (Sum.inl (p_er 5 k) : p_E ⊕ (p_T × k_T)) = .inr y → nI 0 = s_b (a_ms V b) y.1 ∧ k.2.1 < y.2.2.1 := fun y z => by cases z
      have e9 : p_Q t (f + 1) 0 o q k = p_bind (.inl (p_er 5 k) : p_E ⊕ (p_T × k_T)) (fun y => .inr (fun m => !(y.1 m), y.2)) := by rw [pq_9 c7k, if_neg ho5]; rfl
      refine sv_iconst (nI 0) dX3_factor_28 (by decide +kernel) ?_
      refine sv_istore_n dX3_factor_29 (by decide) ?_
      exact mid30 _ _ _ hY9 h219 hZ9 hy9 e9
    · have ho5 : o < 5 := by
        obtain ⟨e, ek⟩ := r_g_t c18
        by_cases z : o < 5
        · exact z
        · rw [if_neg z] at ek; cases ek
      have hZk : m_Q t (p_nx t k) 0 M1 := by rw [if_pos ho5] at hZ1; exact hZ1
      have hkx0 := (k_ok_s hko).2 hk0
      have e9 : p_Q t (f + 1) 0 o q k = p_bind (p_Q t f 0 (o + 1) q (p_nx t k)) (fun y => .inr (fun m => !(y.1 m), y.2)) := by rw [pq_9 c7k, if_pos ho5]
      refine sv_aload_n dX3_factor_21 rfl ?_
      refine sv_cvP _ (IHF (o + 1) (p_nx t k) q M1 (by omega) hZk h201 h211 hE1 (by omega)) okX3_factor kv_X3_460 (sx_rd_c (m_S_0 hn)) rfl dX3_factor_22 rfl rfl (by omega) (Nat.le_of_ble_eq_true rfl) ?_
      intro v2 t2 hp2
      obtain ⟨x2, rfl, M2, rfl, hY2, h219, hZ9, hy2⟩ := hp2
      have hY9 := m_Yq_t hY1 hY2
      have hkx := (k_ok_s hko).2 hk0
      have hy9 : ∀ y, p_Q t f 0 (o + 1) q (p_nx t k) = .inr y → x2 = s_b (a_ms V b) y.1 ∧ k.2.1 < y.2.2.1 := fun y hy => ⟨(hy2 y hy).1, by have := (hy2 y hy).2; omega⟩
      refine sv_goto (tgt := 29) dX3_factor_25 (by decide) ?_
      refine sv_istore_n dX3_factor_29 (by decide) ?_
      exact mid30 _ _ _ hY9 h219 hZ9 hy9 e9
theorem ct_term_s (hn : h + 11 < sx_n σ) (hW : g_S G) (hw : w_Vb V) {b : Nat} (hb : b < V.2.1.length) (IH : ∀ g, g ≤ f → q_F G h σ t V b 0 0 YX3_factor 20 g) (ho : o ≤ 5) (hZ : m_Q t k 0 M) (h20 : M.1 20 = nI b) (h21 : M.1 21 = nI o) (hE : e_Vb (m_w M) V) (hf : 4 * (t.length + 1) + 1 ≤ 4 * k.2.1 + (f + 1)) : sx_Cp G (21 + 4 * (5 - o)) YX3_term [.ref h] (m_S G h M σ) (q_O G h σ t (a_ms V b) (p_Q t (f + 1) 3 o q k) k o M) := by
  have loop : ∀ g z1 M1 rr, g ≤ f → m_Yq M M1 → M1.1 21 = nI o → m_Z t (q_r rr) M1 → (∀ y, rr = .inr y → z1 = s_b (a_ms V b) y.1 ∧ k.2.1 < y.2.2.1 ∧ 4 * (t.length + 1) + 1 ≤ 4 * y.2.2.1 + g) → p_bind rr (fun y => p_Q t g 1 o y.1 y.2) = p_Q t (f + 1) 3 o q k → 0 < g → sx_V G (21 + 4 * (5 - o)) YX3_term 5 [some (.ref h), some (.int z1)] [] (m_S G h M1 σ) (fun oo τ => ∃ v, oo = .inl v ∧ q_O G h σ t (a_ms V b) (p_Q t (f + 1) 3 o q k) k o M v τ) := by
    have hZ0 : m_Z t (.inr k) M := hZ
    have hko : k_ok t k := hZ.2.2.1
    have hkt := hko.2.1
    have hk1 := hko.1
    have hl : (a_ms V b).length ≤ 31 := by have : (a_ms V b).length ≤ 30 := hw.2.2 b hb; omega
    intro g
    induction g with
    | zero => intro z1 M1 rr a1 a2 a3 a4 a5 a6 a7; exact absurd a7 (by decide)
    | succ g ih =>
    intro z1 M1 rr hg hY1 h211 hZ1 hy1 e1 h0
    have hE1 : e_Vb (m_w M1) V := by rw [m_w_Yq hY1]; exact hE
    have h201 : M1.1 20 = nI b := (hY1.2 20 (by decide) (by decide)).trans h20
    refine sv_aload_n dX3_term_5 rfl ?_
    refine sv_cvR _ (ct_gd hn hZ1) okX3_good kv_X3_279 (sx_rd_c (m_S_0 hn)) rfl dX3_term_6 rfl rfl (by omega) (Nat.le_of_ble_eq_true rfl) ?_
    refine sv_if_eqB (tgt := 29) dX3_term_9 (by decide) (fun c9 => ?_) (fun c9 => ?_)
    · obtain ⟨e, ek⟩ := r_g_f c9
      obtain ⟨e0, rfl⟩ : ∃ e0, rr = .inl e0 := by
        cases rr with
        | inl e0 => exact ⟨e0, rfl⟩
        | inr y => cases ek
      have hY8 := hY1
      have h218 := h211
      have hZ8 : m_Z t (q_r (p_Q t (f + 1) 3 o q k)) M1 := by rw [← e1]; exact hZ1
      have hy8 : ∀ y, p_Q t (f + 1) 3 o q k = .inr y → z1 = s_b (a_ms V b) y.1 ∧ k.2.1 < y.2.2.1 := fun y hy => by rw [← e1] at hy; cases hy
      refine sv_iload_n dX3_term_29 rfl ?_
      refine sv_iret rfl rfl dX3_term_30 ?_
      exact ⟨_, rfl, _, rfl, _, rfl, hY8, h218, hZ8, hy8⟩
    · obtain ⟨k9, ek⟩ := r_g_t c9
      obtain ⟨y, rfl⟩ : ∃ y, rr = .inr y := by
        cases rr with
        | inl e0 => cases ek
        | inr y => exact ⟨y, rfl⟩
      have hZy : m_Q t y.2 0 M1 := hZ1
      have hkoy : k_ok t y.2 := hZy.2.2.1
      have hky := hkoy.1
      have hky2 := hkoy.2.1
      have hyy := hy1 y rfl
      refine sv_aload_n dX3_term_12 rfl ?_
      refine sv_cvR _ (ct_isFactor hn hZy hW) okX3_isFactor kv_X3_475 (sx_rd_c (m_S_0 hn)) rfl dX3_term_13 rfl rfl (by omega) (Nat.le_of_ble_eq_true rfl) ?_
      refine sv_if_eqB (tgt := 29) dX3_term_16 (by decide) (fun c16 => ?_) (fun c16 => ?_)
      · have cbf : p_bf t y.2 = false := c16
        have e8 : p_Q t (f + 1) 3 o q k = .inr y := by rw [← e1]; show p_Q t (g + 1) 1 o y.1 y.2 = _; rw [pq_1, if_neg (bf_n cbf)]
        have hY8 := hY1
        have h218 := h211
        have hZ8 : m_Z t (q_r (p_Q t (f + 1) 3 o q k)) M1 := by rw [e8]; exact hZy
        have hy8 : ∀ z, p_Q t (f + 1) 3 o q k = .inr z → z1 = s_b (a_ms V b) z.1 ∧ k.2.1 < z.2.2.1 := fun z hz => by rw [e8] at hz; have hz := Sum.inr.inj hz; subst hz; exact ⟨hyy.1, hyy.2.1⟩
        refine sv_iload_n dX3_term_29 rfl ?_
        refine sv_iret rfl rfl dX3_term_30 ?_
        exact ⟨_, rfl, _, rfl, _, rfl, hY8, h218, hZ8, hy8⟩
      · have cbf : p_bf t y.2 = true := c16
        refine sv_iload_n dX3_term_19 rfl ?_
        refine sv_aload_n dX3_term_20 rfl ?_
        refine sv_cvP _ (IH g (by omega) o y.2 y.1 M1 ho hZy h201 h211 hE1 (by omega)) okX3_factor kv_X3_460 (sx_rd_c (m_S_0 hn)) rfl dX3_term_21 rfl rfl (by omega) (Nat.le_of_ble_eq_true rfl) ?_
        intro v2 t2 hp2
        obtain ⟨z2, rfl, M2, rfl, hY2, h212, hZ2, hy2⟩ := hp2
        have hY9 := m_Yq_t hY1 hY2
        have h219 := h212
        have hZ9 : m_Z t (q_r (p_bind (p_Q t g 0 o y.1 y.2) (fun x => .inr (fun m => y.1 m && x.1 m, x.2)))) M2 := by
          revert hZ2
          cases p_Q t g 0 o y.1 y.2 with
          | inl e => exact fun z => z
          | inr x => exact fun z => z
        have hy9 : ∀ z, (p_bind (p_Q t g 0 o y.1 y.2) (fun x => .inr (fun m => y.1 m && x.1 m, x.2))) = .inr z → z1 &&& z2 = s_b (a_ms V b) z.1 ∧ k.2.1 < z.2.2.1 ∧ 4 * (t.length + 1) + 1 ≤ 4 * z.2.2.1 + g := by
          intro z hz
          obtain ⟨x, g1, g2⟩ := p_bind_r hz
          have g2 := Sum.inr.inj g2
          subst g2
          obtain ⟨g3, g4⟩ := hy2 x g1
          obtain ⟨g5, g6, g7⟩ := hyy
          refine ⟨by rw [g5, g3]; exact s_b_and hl, ?_, ?_⟩
          · show k.2.1 < x.2.2.1; omega
          · show 4 * (t.length + 1) + 1 ≤ 4 * x.2.2.1 + g; omega
        have e9 : p_bind (p_bind (p_Q t g 0 o y.1 y.2) (fun x => .inr (fun m => y.1 m && x.1 m, x.2))) (fun y => p_Q t g 1 o y.1 y.2) = p_Q t (f + 1) 3 o q k := by
          rw [← e1]
          show _ = p_Q t (g + 1) 1 o y.1 y.2
          rw [pq_1, if_pos cbf]
          cases p_Q t g 0 o y.1 y.2 with
          | inl e => rfl
          | inr x => rfl
        refine sv_iand dX3_term_24 ?_
        refine sv_istore_n dX3_term_25 (by decide) ?_
        refine sv_goto (tgt := 5) dX3_term_26 (by decide) ?_
        exact ih _ _ _ (by omega) hY9 h219 hZ9 hy9 e9 (by omega)
  refine sx_body (by decide) (Nat.le_of_ble_eq_true rfl) ?_
  have hZ0 : m_Z t (.inr k) M := hZ
  have hko : k_ok t k := hZ.2.2.1
  have hkt := hko.2.1
  have hk1 := hko.1
  have hl : (a_ms V b).length ≤ 31 := by have : (a_ms V b).length ≤ 30 := hw.2.2 b hb; omega
  have h200 := h20
  have h210 := h21
  have hE0 := hE
  refine sv_aload_n dX3_term_0 rfl ?_
  refine sv_cvP _ (IH f (Nat.le_refl _) o k q M ho hZ h20 h21 hE (by omega)) okX3_factor kv_X3_460 (sx_rd_c (m_S_0 hn)) rfl dX3_term_1 rfl rfl (by omega) (Nat.le_of_ble_eq_true rfl) ?_
  intro v9 t9 hp9
  obtain ⟨z9, rfl, M9, rfl, hY9, h219, hZ9, hy0⟩ := hp9
  have hy9 : ∀ y, p_Q t f 0 o q k = .inr y → z9 = s_b (a_ms V b) y.1 ∧ k.2.1 < y.2.2.1 ∧ 4 * (t.length + 1) + 1 ≤ 4 * y.2.2.1 + f := fun y hy => ⟨(hy0 y hy).1, (hy0 y hy).2, by have := (hy0 y hy).2; omega⟩
  have e9 : p_bind (p_Q t f 0 o q k) (fun y => p_Q t f 1 o y.1 y.2) = p_Q t (f + 1) 3 o q k := pq_3.symm
  refine sv_istore_n dX3_term_4 (by decide) ?_
  exact loop f _ M9 _ (Nat.le_refl _) hY9 h219 hZ9 hy9 e9 (by omega)
theorem ct_query_s (hn : h + 11 < sx_n σ) (hW : g_S G) (hw : w_Vb V) {b : Nat} (hb : b < V.2.1.length) (IH : ∀ g, g ≤ f → q_F G h σ t V b 3 1 YX3_term 21 g) (ho : o ≤ 5) (hZ : m_Q t k 0 M) (h20 : M.1 20 = nI b) (h21 : M.1 21 = nI o) (hE : e_Vb (m_w M) V) (hf : 4 * (t.length + 1) + 2 ≤ 4 * k.2.1 + (f + 1)) : sx_Cp G (22 + 4 * (5 - o)) YX3_query [.ref h] (m_S G h M σ) (q_O G h σ t (a_ms V b) (p_Q t (f + 1) 4 o q k) k o M) := by
  have loop : ∀ g z1 M1 rr, g ≤ f → m_Yq M M1 → M1.1 21 = nI o → m_Z t (q_r rr) M1 → (∀ y, rr = .inr y → z1 = s_b (a_ms V b) y.1 ∧ k.2.1 < y.2.2.1 ∧ 4 * (t.length + 1) + 0 ≤ 4 * y.2.2.1 + g) → p_bind rr (fun y => p_Q t g 2 o y.1 y.2) = p_Q t (f + 1) 4 o q k → 0 < g → sx_V G (22 + 4 * (5 - o)) YX3_query 5 [some (.ref h), some (.int z1)] [] (m_S G h M1 σ) (fun oo τ => ∃ v, oo = .inl v ∧ q_O G h σ t (a_ms V b) (p_Q t (f + 1) 4 o q k) k o M v τ) := by
    have hZ0 : m_Z t (.inr k) M := hZ
    have hko : k_ok t k := hZ.2.2.1
    have hkt := hko.2.1
    have hk1 := hko.1
    have hl : (a_ms V b).length ≤ 31 := by have : (a_ms V b).length ≤ 30 := hw.2.2 b hb; omega
    intro g
    induction g with
    | zero => intro z1 M1 rr a1 a2 a3 a4 a5 a6 a7; exact absurd a7 (by decide)
    | succ g ih =>
    intro z1 M1 rr hg hY1 h211 hZ1 hy1 e1 h0
    have hE1 : e_Vb (m_w M1) V := by rw [m_w_Yq hY1]; exact hE
    have h201 : M1.1 20 = nI b := (hY1.2 20 (by decide) (by decide)).trans h20
    refine sv_aload_n dX3_query_5 rfl ?_
    refine sv_cvR _ (ct_gd hn hZ1) okX3_good kv_X3_279 (sx_rd_c (m_S_0 hn)) rfl dX3_query_6 rfl rfl (by omega) (Nat.le_of_ble_eq_true rfl) ?_
    refine sv_if_eqB (tgt := 32) dX3_query_9 (by decide) (fun c9 => ?_) (fun c9 => ?_)
    · obtain ⟨e, ek⟩ := r_g_f c9
      obtain ⟨e0, rfl⟩ : ∃ e0, rr = .inl e0 := by
        cases rr with
        | inl e0 => exact ⟨e0, rfl⟩
        | inr y => cases ek
      have hY8 := hY1
      have h218 := h211
      have hZ8 : m_Z t (q_r (p_Q t (f + 1) 4 o q k)) M1 := by rw [← e1]; exact hZ1
      have hy8 : ∀ y, p_Q t (f + 1) 4 o q k = .inr y → z1 = s_b (a_ms V b) y.1 ∧ k.2.1 < y.2.2.1 := fun y hy => by rw [← e1] at hy; cases hy
      refine sv_iload_n dX3_query_32 rfl ?_
      refine sv_iret rfl rfl dX3_query_33 ?_
      exact ⟨_, rfl, _, rfl, _, rfl, hY8, h218, hZ8, hy8⟩
    · obtain ⟨k9, ek⟩ := r_g_t c9
      obtain ⟨y, rfl⟩ : ∃ y, rr = .inr y := by
        cases rr with
        | inl e0 => cases ek
        | inr y => exact ⟨y, rfl⟩
      have hZy : m_Q t y.2 0 M1 := hZ1
      have hkoy : k_ok t y.2 := hZy.2.2.1
      have hky := hkoy.1
      have hky2 := hkoy.2.1
      have hyy := hy1 y rfl
      refine sv_aload_n dX3_query_12 rfl ?_
      refine sv_ldcSw 26 rfl dX3_query_13 ?_
      refine sv_cvP _ (ct_takesWord (i := 10) (j := 26) hn (show m_Z t (.inr y.2) M1 from hZy) hW (by decide) (by decide) rfl) okX3_takesWord kv_X3_413 (sx_rd_c (m_S_0 hn)) rfl dX3_query_16 rfl rfl (by omega) (Nat.le_of_ble_eq_true rfl) ?_
      intro v3 t3 hp3
      obtain ⟨rfl, M3, rfl, hY3, hZ3⟩ := hp3
      have hY13 := m_Yq_t hY1 (m_Yq_Y hY3)
      have hE3 : e_Vb (m_w M3) V := by rw [m_w_Yq hY13]; exact hE
      have h203 : M3.1 20 = nI b := (hY13.2 20 (by decide) (by decide)).trans h20
      have h213 : M3.1 21 = nI o := (hY3.2 21 (by decide)).trans h211
      refine sv_if_eqB (tgt := 32) dX3_query_19 (by decide) (fun c19 => ?_) (fun c19 => ?_)
      · have cor : p_is t y.2 10 = false := c19
        have hZ3k : m_Q t y.2 0 M3 := by rw [if_neg (bf_n c19)] at hZ3; exact hZ3
        have e8 : p_Q t (f + 1) 4 o q k = .inr y := by rw [← e1]; show p_Q t (g + 1) 2 o y.1 y.2 = _; rw [pq_2, if_neg (bf_n cor)]
        have hY8 := hY13
        have h218 := h213
        have hZ8 : m_Z t (q_r (p_Q t (f + 1) 4 o q k)) M3 := by rw [e8]; exact hZ3k
        have hy8 : ∀ z, p_Q t (f + 1) 4 o q k = .inr z → z1 = s_b (a_ms V b) z.1 ∧ k.2.1 < z.2.2.1 := fun z hz => by rw [e8] at hz; have hz := Sum.inr.inj hz; subst hz; exact ⟨hyy.1, hyy.2.1⟩
        refine sv_iload_n dX3_query_32 rfl ?_
        refine sv_iret rfl rfl dX3_query_33 ?_
        exact ⟨_, rfl, _, rfl, _, rfl, hY8, h218, hZ8, hy8⟩
      · have cor : p_is t y.2 10 = true := c19
        have hZ3k : m_Q t (p_nx t y.2) 0 M3 := by rw [if_pos c19] at hZ3; exact hZ3
        have hkx := (k_ok_s hkoy).2 (by rw [p_is_k (by decide) (by decide) cor]; decide)
        refine sv_iload_n dX3_query_22 rfl ?_
        refine sv_aload_n dX3_query_23 rfl ?_
        refine sv_cvP _ (IH g (by omega) o (p_nx t y.2) y.1 M3 ho hZ3k h203 h213 hE3 (by omega)) okX3_term kv_X3_478 (sx_rd_c (m_S_0 hn)) rfl dX3_query_24 rfl rfl (by omega) (Nat.le_of_ble_eq_true rfl) ?_
        intro v2 t2 hp2
        obtain ⟨z2, rfl, M2, rfl, hY2, h212, hZ2, hy2⟩ := hp2
        have hY9 := m_Yq_t hY13 hY2
        have h219 := h212
        have hZ9 : m_Z t (q_r (p_bind (p_Q t g 3 o y.1 (p_nx t y.2)) (fun x => .inr (fun m => y.1 m || x.1 m, x.2)))) M2 := by
          revert hZ2
          cases p_Q t g 3 o y.1 (p_nx t y.2) with
          | inl e => exact fun z => z
          | inr x => exact fun z => z
        have hy9 : ∀ z, (p_bind (p_Q t g 3 o y.1 (p_nx t y.2)) (fun x => .inr (fun m => y.1 m || x.1 m, x.2))) = .inr z → z1 ||| z2 = s_b (a_ms V b) z.1 ∧ k.2.1 < z.2.2.1 ∧ 4 * (t.length + 1) + 0 ≤ 4 * z.2.2.1 + g := by
          intro z hz
          obtain ⟨x, g1, g2⟩ := p_bind_r hz
          have g2 := Sum.inr.inj g2
          subst g2
          obtain ⟨g3, g4⟩ := hy2 x g1
          obtain ⟨g5, g6, g7⟩ := hyy
          refine ⟨by rw [g5, g3]; exact s_b_or hl, ?_, ?_⟩
          · show k.2.1 < x.2.2.1; omega
          · show 4 * (t.length + 1) + 0 ≤ 4 * x.2.2.1 + g; omega
        have e9 : p_bind (p_bind (p_Q t g 3 o y.1 (p_nx t y.2)) (fun x => .inr (fun m => y.1 m || x.1 m, x.2))) (fun y => p_Q t g 2 o y.1 y.2) = p_Q t (f + 1) 4 o q k := by
          rw [← e1]
          show _ = p_Q t (g + 1) 2 o y.1 y.2
          rw [pq_2, if_pos cor]
          cases p_Q t g 3 o y.1 (p_nx t y.2) with
          | inl e => rfl
          | inr x => rfl
        refine sv_ior dX3_query_27 ?_
        refine sv_istore_n dX3_query_28 (by decide) ?_
        refine sv_goto (tgt := 5) dX3_query_29 (by decide) ?_
        exact ih _ _ _ (by omega) hY9 h219 hZ9 hy9 e9 (by omega)
  refine sx_body (by decide) (Nat.le_of_ble_eq_true rfl) ?_
  have hZ0 : m_Z t (.inr k) M := hZ
  have hko : k_ok t k := hZ.2.2.1
  have hkt := hko.2.1
  have hk1 := hko.1
  have hl : (a_ms V b).length ≤ 31 := by have : (a_ms V b).length ≤ 30 := hw.2.2 b hb; omega
  have h200 := h20
  have h210 := h21
  have hE0 := hE
  refine sv_aload_n dX3_query_0 rfl ?_
  refine sv_cvP _ (IH f (Nat.le_refl _) o k q M ho hZ h20 h21 hE (by omega)) okX3_term kv_X3_478 (sx_rd_c (m_S_0 hn)) rfl dX3_query_1 rfl rfl (by omega) (Nat.le_of_ble_eq_true rfl) ?_
  intro v9 t9 hp9
  obtain ⟨z9, rfl, M9, rfl, hY9, h219, hZ9, hy0⟩ := hp9
  have hy9 : ∀ y, p_Q t f 3 o q k = .inr y → z9 = s_b (a_ms V b) y.1 ∧ k.2.1 < y.2.2.1 ∧ 4 * (t.length + 1) + 0 ≤ 4 * y.2.2.1 + f := fun y hy => ⟨(hy0 y hy).1, (hy0 y hy).2, by have := (hy0 y hy).2; omega⟩
  have e9 : p_bind (p_Q t f 3 o q k) (fun y => p_Q t f 2 o y.1 y.2) = p_Q t (f + 1) 4 o q k := pq_4.symm
  refine sv_istore_n dX3_query_4 (by decide) ?_
  exact loop f _ M9 _ (Nat.le_refl _) hY9 h219 hZ9 hy9 e9 (by omega)
theorem q_all (hn : h + 11 < sx_n σ) (hW : g_S G) (hw : w_Vb V) {b : Nat} (hb : b < V.2.1.length) : ∀ n f, f < n → q_F G h σ t V b 0 0 YX3_factor 20 f ∧ q_F G h σ t V b 3 1 YX3_term 21 f ∧ q_F G h σ t V b 4 2 YX3_query 22 f := by
  intro n
  induction n with
  | zero => intro f hf; exact absurd hf (Nat.not_lt_zero f)
  | succ n ih =>
    intro f hf
    cases f with
    | zero =>
      have key : ∀ m c Y d0, q_F G h σ t V b m c Y d0 0 := fun m c Y d0 o k q M ho hZ h20 h21 hE hz => by
        have g1 := hZ.2.2.1.1
        have g2 := hZ.2.2.1.2.1
        omega
      exact ⟨key _ _ _ _, key _ _ _ _, key _ _ _ _⟩
    | succ f =>
      refine ⟨fun o k q M ho hZ h20 h21 hE hz => ct_factor_s hn hW hw hb (ih f (by omega)).1 (ih f (by omega)).2.2 ho hZ h20 h21 hE hz, fun o k q M ho hZ h20 h21 hE hz => ct_term_s hn hW hw hb (fun g hg => (ih g (by omega)).1) ho hZ h20 h21 hE hz, fun o k q M ho hZ h20 h21 hE hz => ct_query_s hn hW hw hb (fun g hg => (ih g (by omega)).2.1) ho hZ h20 h21 hE hz⟩
end MPK
