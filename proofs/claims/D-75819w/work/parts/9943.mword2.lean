set_option maxRecDepth 100000
section MPX
variable {G : sx_G} {h : Nat} {M : m_M} {σ : sx_St} {V : a_V} {A : a_A} {t : List Int32} {r : r_T}
theorem ct_isSym (hn : h + 11 < sx_n σ) (hZ : m_Z t r M) {x : Nat} (hx : x < 128) : sx_Cr G 1 YX3_isSymbol [.ref h, .int (nI x)] (m_S G h M σ) (some (.int (b_I (r_sy t r (nI x))))) (m_S G h M σ) := by
  refine sx_body (by decide) (Nat.le_of_ble_eq_true rfl) ?_
  refine sv_aload_n dX3_isSymbol_0 rfl ?_
  refine sv_cvR _ (ct_gd hn hZ) okX3_good kv_X3_279 (sx_rd_c (m_S_0 hn)) rfl dX3_isSymbol_1 rfl rfl (by decide) (Nat.le_of_ble_eq_true rfl) ?_
  refine sv_if_eqB (tgt := 27) dX3_isSymbol_4 (by decide) (fun c4 => ?_) (fun c4 => ?_)
  · obtain ⟨e, rfl⟩ := r_g_f c4
    have hv : nI 0 = b_I (r_sy t (.inl e) (nI x)) := rfl
    refine sv_iconst (nI 0) dX3_isSymbol_27 (by decide +kernel) ?_
    refine sv_iret (by first | exact b_I_nar _ | rfl) rfl dX3_isSymbol_28 ?_
    exact ⟨_, rfl, r_I hv, rfl⟩
  · obtain ⟨k, rfl⟩ := r_g_t c4
    have hko : k_ok t k := hZ.2.2.1
    have hk1 := hko.1
    have hk2 := hko.2.1
    have hk3 := hko.2.2.1
    have ht7 := hZ.1.1
    refine sv_aload_n dX3_isSymbol_7 rfl ?_
    refine sm_get hn fg_X3_295 dX3_isSymbol_8 rfl ?_
    refine sv_topI (y := nI k.1) hZ.2.1.2.2.2.2.1 ?_
    refine sv_iconst (nI 3) dX3_isSymbol_11 (by decide +kernel) ?_
    refine sv_icmp_neN (tgt := 27) dX3_isSymbol_12 (by decide) (by omega) (by omega) (fun c12 => ?_) (fun c12 => ?_)
    · have hv : nI 0 = b_I (r_sy t (.inr k) (nI x)) := by show nI 0 = b_I (decide (k.1 = 3) && decide (k_b t k.2.1 = nI x)); rw [decide_eq_false c12]; rfl
      refine sv_iconst (nI 0) dX3_isSymbol_27 (by decide +kernel) ?_
      refine sv_iret (by first | exact b_I_nar _ | rfl) rfl dX3_isSymbol_28 ?_
      exact ⟨_, rfl, r_I hv, rfl⟩
    · refine sv_aload_n dX3_isSymbol_15 rfl ?_
      refine sm_get hn fg_X3_306 dX3_isSymbol_16 rfl ?_
      refine sv_topI (y := k_b t k.2.1) (hZ.2.1.2.2.2.2.2.2 c12) ?_
      refine sv_iload_n dX3_isSymbol_19 rfl ?_
      refine sv_icmp_ne (tgt := 27) dX3_isSymbol_20 (by decide) (fun c20 => ?_) (fun c20 => ?_)
      · have hv : nI 0 = b_I (r_sy t (.inr k) (nI x)) := by show nI 0 = b_I (decide (k.1 = 3) && decide (k_b t k.2.1 = nI x)); rw [decide_eq_true c12, decide_eq_false c20]; rfl
        refine sv_iconst (nI 0) dX3_isSymbol_27 (by decide +kernel) ?_
        refine sv_iret (by first | exact b_I_nar _ | rfl) rfl dX3_isSymbol_28 ?_
        exact ⟨_, rfl, r_I hv, rfl⟩
      · have hv : nI 1 = b_I (r_sy t (.inr k) (nI x)) := by show nI 1 = b_I (decide (k.1 = 3) && decide (k_b t k.2.1 = nI x)); rw [decide_eq_true c12, decide_eq_true c20]; rfl
        refine sv_iconst (nI 1) dX3_isSymbol_23 (by decide +kernel) ?_
        refine sv_goto (tgt := 28) dX3_isSymbol_24 (by decide) ?_
        refine sv_iret (by first | exact b_I_nar _ | rfl) rfl dX3_isSymbol_28 ?_
        exact ⟨_, rfl, r_I hv, rfl⟩
theorem r_is_k {i : Nat} (h : r_is t r i = true) : ∃ k, r = .inr k := by
  cases r with
  | inr k => exact ⟨k, rfl⟩
  | inl e => cases h
theorem r_sy_k {c : Int32} (h : r_sy t r c = true) : ∃ k, r = .inr k := by
  cases r with
  | inr k => exact ⟨k, rfl⟩
  | inl e => cases h
theorem r_if_t {c : Bool} {a b : r_T} (h : c = true) (hz : m_Z t a M) : m_Z t (if c = true then a else b) M := by rw [if_pos h]; exact hz
theorem r_if_f {c : Bool} {a b : r_T} (h : c = false) (hz : m_Z t b M) : m_Z t (if c = true then a else b) M := by rw [if_neg (by rw [h]; decide)]; exact hz
theorem ct_takesWord (hn : h + 11 < sx_n σ) (hZ : m_Z t r M) (hW : g_S G) {i j : Nat} (h1 : 1 ≤ i) (hi : i < 16) (hj : m_ts i = j) : sx_Cp G 5 YX3_takesWord [.ref h, .ref (sg_t G j)] (m_S G h M σ) (fun v τ => v = some (.int (b_I (r_is t r i))) ∧ ∃ M2, τ = m_S G h M2 σ ∧ m_Y M M2 ∧ m_Z t (if r_is t r i = true then r_nx t r else r) M2) := by
  refine sx_body (by decide) (Nat.le_of_ble_eq_true rfl) ?_
  refine sv_aload_n dX3_takesWord_0 rfl ?_
  refine sv_aload_n dX3_takesWord_1 rfl ?_
  refine sv_cvR _ (ct_isWord hn hZ hW h1 hi hj) okX3_isWord kv_X3_327 (sx_rd_c (m_S_0 hn)) rfl dX3_takesWord_2 rfl rfl (by decide) (Nat.le_of_ble_eq_true rfl) ?_
  refine sv_istore_n dX3_takesWord_5 (by decide) ?_
  refine sv_iload_n dX3_takesWord_6 rfl ?_
  refine sv_if_eqB (tgt := 14) dX3_takesWord_7 (by decide) (fun c7 => ?_) (fun c7 => ?_)
  · have hY9 := m_Y_r (M := M)
    have hZ9 := r_if_f (a := r_nx t r) c7 hZ
    refine sv_iload_n dX3_takesWord_14 rfl ?_
    refine sv_iret (by first | exact b_I_nar _ | rfl) rfl dX3_takesWord_15 ?_
    exact ⟨_, rfl, rfl, _, rfl, hY9, hZ9⟩
  · obtain ⟨k, rfl⟩ := r_is_k c7
    refine sv_aload_n dX3_takesWord_10 rfl ?_
    refine sv_cvP _ (ct_sc hn hZ) okX3_scan kv_X3_315 (sx_rd_c (m_S_0 hn)) rfl dX3_takesWord_11 rfl rfl (by decide) (Nat.le_of_ble_eq_true rfl) ?_
    intro v1 t1 hp1
    obtain ⟨rfl, M1, rfl, hY1, hZ1⟩ := hp1
    have hY9 := hY1
    have hZ9 := r_if_t (b := .inr k) c7 (show m_Z t (r_nx t (.inr k)) M1 from hZ1)
    refine sv_iload_n dX3_takesWord_14 rfl ?_
    refine sv_iret (by first | exact b_I_nar _ | rfl) rfl dX3_takesWord_15 ?_
    exact ⟨_, rfl, rfl, _, rfl, hY9, hZ9⟩
theorem ct_takes (hn : h + 11 < sx_n σ) (hZ : m_Z t r M) {x : Nat} (hx : x < 128) : sx_Cp G 5 YX3_takes [.ref h, .int (nI x)] (m_S G h M σ) (fun v τ => v = some (.int (b_I (r_sy t r (nI x)))) ∧ ∃ M2, τ = m_S G h M2 σ ∧ m_Y M M2 ∧ m_Z t (if r_sy t r (nI x) = true then r_nx t r else r) M2) := by
  refine sx_body (by decide) (Nat.le_of_ble_eq_true rfl) ?_
  refine sv_aload_n dX3_takes_0 rfl ?_
  refine sv_iload_n dX3_takes_1 rfl ?_
  refine sv_cvR _ (ct_isSym hn hZ hx) okX3_isSymbol kv_X3_331 (sx_rd_c (m_S_0 hn)) rfl dX3_takes_2 rfl rfl (by decide) (Nat.le_of_ble_eq_true rfl) ?_
  refine sv_istore_n dX3_takes_5 (by decide) ?_
  refine sv_iload_n dX3_takes_6 rfl ?_
  refine sv_if_eqB (tgt := 14) dX3_takes_7 (by decide) (fun c7 => ?_) (fun c7 => ?_)
  · have hY9 := m_Y_r (M := M)
    have hZ9 := r_if_f (a := r_nx t r) c7 hZ
    refine sv_iload_n dX3_takes_14 rfl ?_
    refine sv_iret (by first | exact b_I_nar _ | rfl) rfl dX3_takes_15 ?_
    exact ⟨_, rfl, rfl, _, rfl, hY9, hZ9⟩
  · obtain ⟨k, rfl⟩ := r_sy_k c7
    refine sv_aload_n dX3_takes_10 rfl ?_
    refine sv_cvP _ (ct_sc hn hZ) okX3_scan kv_X3_315 (sx_rd_c (m_S_0 hn)) rfl dX3_takes_11 rfl rfl (by decide) (Nat.le_of_ble_eq_true rfl) ?_
    intro v1 t1 hp1
    obtain ⟨rfl, M1, rfl, hY1, hZ1⟩ := hp1
    have hY9 := hY1
    have hZ9 := r_if_t (b := .inr k) c7 (show m_Z t (r_nx t (.inr k)) M1 from hZ1)
    refine sv_iload_n dX3_takes_14 rfl ?_
    refine sv_iret (by first | exact b_I_nar _ | rfl) rfl dX3_takes_15 ?_
    exact ⟨_, rfl, rfl, _, rfl, hY9, hZ9⟩
theorem ct_need (hn : h + 11 < sx_n σ) (hZ : m_Z t r M) {x : Nat} (hx : x < 128) : sx_Cp G 6 YX3_need [.ref h, .int (nI x)] (m_S G h M σ) (fun v τ => v = none ∧ ∃ M2, τ = m_S G h M2 σ ∧ m_Y M M2 ∧ m_Z t (if r_sy t r (nI x) = true then r_nx t r else r_er r 1) M2) := by
  refine sx_body (by decide) (Nat.le_of_ble_eq_true rfl) ?_
  refine sv_aload_n dX3_need_0 rfl ?_
  refine sv_iload_n dX3_need_1 rfl ?_
  refine sv_cvP _ (ct_takes hn hZ hx) okX3_takes kv_X3_334 (sx_rd_c (m_S_0 hn)) rfl dX3_need_2 rfl rfl (by decide) (Nat.le_of_ble_eq_true rfl) ?_
  intro v1 t1 hp1
  obtain ⟨rfl, M1, rfl, hY1, hZ1⟩ := hp1
  refine sv_if_neB (tgt := 13) dX3_need_5 (by decide) (fun c5 => ?_) (fun c5 => ?_)
  · have hY9 := hY1
    rw [if_pos c5] at hZ1
    have hZ9 := r_if_t (b := r_er r 1) c5 hZ1
    refine sv_vret rfl dX3_need_13 ?_
    exact ⟨_, rfl, rfl, _, rfl, hY9, hZ9⟩
  · have hZ2 : m_Z t r M1 := by rw [if_neg (by rw [c5]; decide)] at hZ1; exact hZ1
    refine sv_aload_n dX3_need_8 rfl ?_
    refine sv_iconst (nI 1) dX3_need_9 (by decide +kernel) ?_
    refine sv_cvP _ (ct_er (c := 1) hn hZ2 (by decide) (by decide)) okX3_errs kv_X3_337 (sx_rd_c (m_S_0 hn)) rfl dX3_need_10 rfl rfl (by decide) (Nat.le_of_ble_eq_true rfl) ?_
    intro v3 t3 hp3
    obtain ⟨rfl, M3, rfl, hY3, hZ3⟩ := hp3
    have hY9 := m_Y_t hY1 hY3
    have hZ9 := r_if_f (a := r_nx t r) c5 hZ3
    refine sv_vret rfl dX3_need_13 ?_
    exact ⟨_, rfl, rfl, _, rfl, hY9, hZ9⟩
def r_n1 (r : r_T) : r_T := p_bind r (fun k => if k.1 = 2 then .inr k else .inl (p_er 1 k))
def r_n2 (lo hi : Nat) (r : r_T) : r_T := p_bind r (fun k => if lo ≤ k.2.2.2 ∧ k.2.2.2 ≤ hi then .inr k else .inl (p_er 2 k))
def r_nv (r : r_T) (lo : Nat) : Nat := match r with
  | .inr k => k.2.2.2
  | .inl _ => lo
theorem r_num (k : k_T) (lo hi : Nat) : p_num t k lo hi = p_bind (r_n2 lo hi (r_n1 (.inr k))) (fun k => .inr (k.2.2.2, p_nx t k)) := by
  unfold p_num r_n1
  by_cases h1 : k.1 = 2
  · rw [if_pos h1]
    show _ = p_bind (r_n2 lo hi (if k.1 = 2 then .inr k else .inl (p_er 1 k))) _
    rw [if_pos h1]
    unfold r_n2
    by_cases h2 : lo ≤ k.2.2.2 ∧ k.2.2.2 ≤ hi
    · rw [if_pos h2]
      show _ = p_bind (if lo ≤ k.2.2.2 ∧ k.2.2.2 ≤ hi then .inr k else .inl (p_er 2 k)) _
      rw [if_pos h2]
      rfl
    · rw [if_neg h2]
      show _ = p_bind (if lo ≤ k.2.2.2 ∧ k.2.2.2 ≤ hi then .inr k else .inl (p_er 2 k)) _
      rw [if_neg h2]
      rfl
  · rw [if_neg h1]
    show _ = p_bind (r_n2 lo hi (if k.1 = 2 then .inr k else .inl (p_er 1 k))) _
    rw [if_neg h1]
    rfl
theorem num_in {v lo hi : Nat} (hl : lo ≤ hi) (hh : hi ≤ 9999) : decide ((nI lo).toInt64 ≤ (nI (min 99999 v)).toInt64 ∧ (nI (min 99999 v)).toInt64 ≤ (nI hi).toInt64) = decide (lo ≤ v ∧ v ≤ hi) := by
  rw [decide_eq_decide, nI_l (by omega), nI_l (by omega), nI_l (by omega), lN_le (by omega) (by omega), lN_le (by omega) (by omega)]
  omega
theorem r_n1_k {k : k_T} (h : r_n1 r = .inr k) : r = .inr k ∧ k.1 = 2 := by
  cases r with
  | inl e => cases h
  | inr k' =>
    have h : (if k'.1 = 2 then (Sum.inr k' : r_T) else .inl (p_er 1 k')) = .inr k := h
    by_cases h2 : k'.1 = 2
    · rw [if_pos h2] at h; cases h; exact ⟨rfl, h2⟩
    · rw [if_neg h2] at h; cases h
theorem r_n2_k {lo hi : Nat} {k : k_T} (h : r_n2 lo hi r = .inr k) : r = .inr k ∧ lo ≤ k.2.2.2 ∧ k.2.2.2 ≤ hi := by
  cases r with
  | inl e => cases h
  | inr k' =>
    have h : (if lo ≤ k'.2.2.2 ∧ k'.2.2.2 ≤ hi then (Sum.inr k' : r_T) else .inl (p_er 2 k')) = .inr k := h
    by_cases h2 : lo ≤ k'.2.2.2 ∧ k'.2.2.2 ≤ hi
    · rw [if_pos h2] at h; cases h; exact ⟨rfl, h2⟩
    · rw [if_neg h2] at h; cases h
theorem ct_number (hn : h + 11 < sx_n σ) (hZ : m_Z t r M) {lo hi : Nat} (hlh : lo ≤ hi) (hh9 : hi ≤ 9999) : sx_Cp G 5 YX3_number [.ref h, .int (nI lo), .int (nI hi)] (m_S G h M σ) (fun v τ => v = some (.int (nI (r_nv (r_n2 lo hi (r_n1 r)) lo))) ∧ ∃ M2, τ = m_S G h M2 σ ∧ m_Y M M2 ∧ m_Z t (r_nx t (r_n2 lo hi (r_n1 r))) M2) := by
  have mid2 : ∀ r2 M2, m_Y M M2 → m_Z t r2 M2 → r2 = r_n2 lo hi (r_n1 r) → sx_V G 5 YX3_number 47 [some (.ref h), some (.int (nI lo)), some (.int (nI hi)), none] [] (m_S G h M2 σ) (fun o τ => ∃ v, o = .inl v ∧ v = some (.int (nI (r_nv (r_n2 lo hi (r_n1 r)) lo))) ∧ ∃ M2, τ = m_S G h M2 σ ∧ m_Y M M2 ∧ m_Z t (r_nx t (r_n2 lo hi (r_n1 r))) M2) := by
    intro r2 M2 hY2 hZ2 e2
    refine sv_aload_n dX3_number_47 rfl ?_
    refine sv_cvR _ (ct_gd hn hZ2) okX3_good kv_X3_279 (sx_rd_c (m_S_0 hn)) rfl dX3_number_48 rfl rfl (by decide) (Nat.le_of_ble_eq_true rfl) ?_
    refine sv_if_eqB (tgt := 61) dX3_number_51 (by decide) (fun c51 => ?_) (fun c51 => ?_)
    · obtain ⟨e, rfl⟩ := r_g_f c51
      have hv : nI lo = nI (r_nv (r_n2 lo hi (r_n1 r)) lo) := by rw [← e2]; rfl
      refine sv_iload_n dX3_number_61 rfl ?_
      refine sv_istore_n dX3_number_62 (by decide) ?_
      refine sv_aload_n dX3_number_63 rfl ?_
      refine sv_cvP _ (ct_goOn hn hZ2) okX3_goOn kv_X3_340 (sx_rd_c (m_S_0 hn)) rfl dX3_number_64 rfl rfl (by decide) (Nat.le_of_ble_eq_true rfl) ?_
      intro v5 t5 hp5
      obtain ⟨rfl, M5, rfl, hY5, hZ5⟩ := hp5
      refine sv_iload_n dX3_number_67 rfl ?_
      refine sv_iret rfl rfl dX3_number_68 ?_
      exact ⟨_, rfl, r_I hv, _, rfl, m_Y_t hY2 hY5, by rw [← e2]; exact hZ5⟩
    · obtain ⟨k, rfl⟩ := r_g_t c51
      have e3 := r_n2_k e2.symm
      have e4 := r_n1_k e3.1
      have hv : nI k.2.2.2 = nI (r_nv (r_n2 lo hi (r_n1 r)) lo) := by rw [← e2]; rfl
      refine sv_aload_n dX3_number_54 rfl ?_
      refine sm_get hn fg_X3_306 dX3_number_55 rfl ?_
      refine sv_topI (y := nI k.2.2.2) (by rw [hZ2.2.1.2.2.2.2.2.1 e4.2, Nat.min_eq_right (by omega)]) ?_
      refine sv_goto (tgt := 62) dX3_number_58 (by decide) ?_
      refine sv_istore_n dX3_number_62 (by decide) ?_
      refine sv_aload_n dX3_number_63 rfl ?_
      refine sv_cvP _ (ct_goOn hn hZ2) okX3_goOn kv_X3_340 (sx_rd_c (m_S_0 hn)) rfl dX3_number_64 rfl rfl (by decide) (Nat.le_of_ble_eq_true rfl) ?_
      intro v5 t5 hp5
      obtain ⟨rfl, M5, rfl, hY5, hZ5⟩ := hp5
      refine sv_iload_n dX3_number_67 rfl ?_
      refine sv_iret rfl rfl dX3_number_68 ?_
      exact ⟨_, rfl, r_I hv, _, rfl, m_Y_t hY2 hY5, by rw [← e2]; exact hZ5⟩
  have mid1 : ∀ r1 M1, m_Y M M1 → m_Z t r1 M1 → r1 = r_n1 r → sx_V G 5 YX3_number 20 [some (.ref h), some (.int (nI lo)), some (.int (nI hi)), none] [] (m_S G h M1 σ) (fun o τ => ∃ v, o = .inl v ∧ v = some (.int (nI (r_nv (r_n2 lo hi (r_n1 r)) lo))) ∧ ∃ M2, τ = m_S G h M2 σ ∧ m_Y M M2 ∧ m_Z t (r_nx t (r_n2 lo hi (r_n1 r))) M2) := by
    intro r1 M1 hY1 hZ1 e1
    refine sv_aload_n dX3_number_20 rfl ?_
    refine sv_cvR _ (ct_gd hn hZ1) okX3_good kv_X3_279 (sx_rd_c (m_S_0 hn)) rfl dX3_number_21 rfl rfl (by decide) (Nat.le_of_ble_eq_true rfl) ?_
    refine sv_if_eqB (tgt := 47) dX3_number_24 (by decide) (fun c24 => ?_) (fun c24 => ?_)
    · obtain ⟨e, rfl⟩ := r_g_f c24
      have hY9 := hY1
      have hZ9 := hZ1
      have e9 : (Sum.inl e : r_T) = r_n2 lo hi (r_n1 r) := by rw [← e1]; rfl
      exact mid2 _ _ hY9 hZ9 e9
    · obtain ⟨k, rfl⟩ := r_g_t c24
      have e3 := r_n1_k e1.symm
      refine sv_aload_n dX3_number_27 rfl ?_
      refine sm_get hn fg_X3_306 dX3_number_28 rfl ?_
      refine sv_topI (y := nI (min 99999 k.2.2.2)) (hZ1.2.1.2.2.2.2.2.1 e3.2) ?_
      refine sv_i2l dX3_number_31 ?_
      refine sv_iload_n dX3_number_32 rfl ?_
      refine sv_i2l dX3_number_33 ?_
      refine sv_iload_n dX3_number_34 rfl ?_
      refine sv_i2l dX3_number_35 ?_
      refine sv_csR _ ct_in okX3_in ks_X3_70 dX3_number_36 rfl rfl (by decide) (Nat.le_of_ble_eq_true rfl) ?_
      rw [num_in hlh hh9]
      refine sv_if_neB (tgt := 47) dX3_number_39 (by decide) (fun c39 => ?_) (fun c39 => ?_)
      · have hY9 := hY1
        have hZ9 := hZ1
        have e9 : (Sum.inr k : r_T) = r_n2 lo hi (r_n1 r) := by rw [← e1]; show _ = (if lo ≤ k.2.2.2 ∧ k.2.2.2 ≤ hi then (Sum.inr k : r_T) else .inl (p_er 2 k)); rw [if_pos (of_decide_eq_true c39)]
        exact mid2 _ _ hY9 hZ9 e9
      · refine sv_aload_n dX3_number_42 rfl ?_
        refine sv_iconst (nI 2) dX3_number_43 (by decide +kernel) ?_
        refine sv_cvP _ (ct_er (c := 2) hn hZ1 (by decide) (by decide)) okX3_errs kv_X3_337 (sx_rd_c (m_S_0 hn)) rfl dX3_number_44 rfl rfl (by decide) (Nat.le_of_ble_eq_true rfl) ?_
        intro v6 t6 hp6
        obtain ⟨rfl, M6, rfl, hY6, hZ6⟩ := hp6
        have hY9 := m_Y_t hY1 hY6
        have hZ9 := hZ6
        have e9 : r_er (.inr k) 2 = r_n2 lo hi (r_n1 r) := by rw [← e1]; show _ = (if lo ≤ k.2.2.2 ∧ k.2.2.2 ≤ hi then (Sum.inr k : r_T) else .inl (p_er 2 k)); rw [if_neg (of_decide_eq_false c39)]; rfl
        exact mid2 _ _ hY9 hZ9 e9
  refine sx_body (by decide) (Nat.le_of_ble_eq_true rfl) ?_
  refine sv_aload_n dX3_number_0 rfl ?_
  refine sv_cvR _ (ct_gd hn hZ) okX3_good kv_X3_279 (sx_rd_c (m_S_0 hn)) rfl dX3_number_1 rfl rfl (by decide) (Nat.le_of_ble_eq_true rfl) ?_
  refine sv_if_eqB (tgt := 20) dX3_number_4 (by decide) (fun c4 => ?_) (fun c4 => ?_)
  · obtain ⟨e, rfl⟩ := r_g_f c4
    have hY9 := m_Y_r (M := M)
    have hZ9 := hZ
    have e9 : (Sum.inl e : r_T) = r_n1 (.inl e) := rfl
    exact mid1 _ _ hY9 hZ9 e9
  · obtain ⟨k, rfl⟩ := r_g_t c4
    have hko : k_ok t k := hZ.2.2.1
    have hk1 := hko.1
    have hk2 := hko.2.1
    have hk3 := hko.2.2.1
    have ht7 := hZ.1.1
    refine sv_aload_n dX3_number_7 rfl ?_
    refine sm_get hn fg_X3_295 dX3_number_8 rfl ?_
    refine sv_topI (y := nI k.1) hZ.2.1.2.2.2.2.1 ?_
    refine sv_iconst (nI 2) dX3_number_11 (by decide +kernel) ?_
    refine sv_icmp_eqN (tgt := 20) dX3_number_12 (by decide) (by omega) (by omega) (fun c12 => ?_) (fun c12 => ?_)
    · have hY9 := m_Y_r (M := M)
      have hZ9 := hZ
      have e9 : (Sum.inr k : r_T) = r_n1 (.inr k) := by show _ = (if k.1 = 2 then (Sum.inr k : r_T) else .inl (p_er 1 k)); rw [if_pos c12]
      exact mid1 _ _ hY9 hZ9 e9
    · refine sv_aload_n dX3_number_15 rfl ?_
      refine sv_iconst (nI 1) dX3_number_16 (by decide +kernel) ?_
      refine sv_cvP _ (ct_er (c := 1) hn hZ (by decide) (by decide)) okX3_errs kv_X3_337 (sx_rd_c (m_S_0 hn)) rfl dX3_number_17 rfl rfl (by decide) (Nat.le_of_ble_eq_true rfl) ?_
      intro v3 t3 hp3
      obtain ⟨rfl, M3, rfl, hY3, hZ3⟩ := hp3
      have hY9 := hY3
      have hZ9 := hZ3
      have e9 : r_er (.inr k) 1 = r_n1 (.inr k) := by show _ = (if k.1 = 2 then (Sum.inr k : r_T) else .inl (p_er 1 k)); rw [if_neg c12]; rfl
      exact mid1 _ _ hY9 hZ9 e9
theorem r_fl_e : r_fl t r = if r_is t r 11 then some 0 else if r_is t r 12 then some 1 else if r_is t r 13 then some 2 else if r_is t r 14 then some 3 else if r_is t r 15 then some 4 else none := by
  cases r with
  | inl e => rfl
  | inr k => rfl
theorem bf_n {c : Bool} (h : c = false) : ¬ c = true := by rw [h]; decide
theorem ct_flagHere (hn : h + 11 < sx_n σ) (hZ : m_Z t r M) (hW : g_S G) : sx_Cr G 5 YX3_flagHere [.ref h] (m_S G h M σ) (some (.int (o_I (r_fl t r)))) (m_S G h M σ) := by
  refine sx_body (by decide) (Nat.le_of_ble_eq_true rfl) ?_
  refine sv_aload_n dX3_flagHere_0 rfl ?_
  refine sv_ldcSw 27 rfl dX3_flagHere_1 ?_
  refine sv_cvR _ (ct_isWord (i := 11) (j := 27) hn hZ hW (by decide) (by decide) rfl) okX3_isWord kv_X3_327 (sx_rd_c (m_S_0 hn)) rfl dX3_flagHere_4 rfl rfl (by decide) (Nat.le_of_ble_eq_true rfl) ?_
  refine sv_if_eqB (tgt := 12) dX3_flagHere_7 (by decide) (fun c7 => ?_) (fun c7 => ?_)
  · refine sv_aload_n dX3_flagHere_12 rfl ?_
    refine sv_ldcSw 28 rfl dX3_flagHere_13 ?_
    refine sv_cvR _ (ct_isWord (i := 12) (j := 28) hn hZ hW (by decide) (by decide) rfl) okX3_isWord kv_X3_327 (sx_rd_c (m_S_0 hn)) rfl dX3_flagHere_16 rfl rfl (by decide) (Nat.le_of_ble_eq_true rfl) ?_
    refine sv_if_eqB (tgt := 24) dX3_flagHere_19 (by decide) (fun c19 => ?_) (fun c19 => ?_)
    · refine sv_aload_n dX3_flagHere_24 rfl ?_
      refine sv_ldcSw 29 rfl dX3_flagHere_25 ?_
      refine sv_cvR _ (ct_isWord (i := 13) (j := 29) hn hZ hW (by decide) (by decide) rfl) okX3_isWord kv_X3_327 (sx_rd_c (m_S_0 hn)) rfl dX3_flagHere_28 rfl rfl (by decide) (Nat.le_of_ble_eq_true rfl) ?_
      refine sv_if_eqB (tgt := 36) dX3_flagHere_31 (by decide) (fun c31 => ?_) (fun c31 => ?_)
      · refine sv_aload_n dX3_flagHere_36 rfl ?_
        refine sv_ldcSw 30 rfl dX3_flagHere_37 ?_
        refine sv_cvR _ (ct_isWord (i := 14) (j := 30) hn hZ hW (by decide) (by decide) rfl) okX3_isWord kv_X3_327 (sx_rd_c (m_S_0 hn)) rfl dX3_flagHere_40 rfl rfl (by decide) (Nat.le_of_ble_eq_true rfl) ?_
        refine sv_if_eqB (tgt := 48) dX3_flagHere_43 (by decide) (fun c43 => ?_) (fun c43 => ?_)
        · refine sv_aload_n dX3_flagHere_48 rfl ?_
          refine sv_ldcSw 31 rfl dX3_flagHere_49 ?_
          refine sv_cvR _ (ct_isWord (i := 15) (j := 31) hn hZ hW (by decide) (by decide) rfl) okX3_isWord kv_X3_327 (sx_rd_c (m_S_0 hn)) rfl dX3_flagHere_52 rfl rfl (by decide) (Nat.le_of_ble_eq_true rfl) ?_
          refine sv_if_eqB (tgt := 62) dX3_flagHere_55 (by decide) (fun c55 => ?_) (fun c55 => ?_)
          · have hv : (-1) = o_I (r_fl t r) := by rw [r_fl_e, if_neg (bf_n c7), if_neg (bf_n c19), if_neg (bf_n c31), if_neg (bf_n c43), if_neg (bf_n c55)]; rfl
            refine sv_iconst (-1) dX3_flagHere_62 (by decide +kernel) ?_
            refine sv_iret rfl rfl dX3_flagHere_63 ?_
            exact ⟨_, rfl, r_I hv, rfl⟩
          · have hv : nI 4 = o_I (r_fl t r) := by rw [r_fl_e, if_neg (bf_n c7), if_neg (bf_n c19), if_neg (bf_n c31), if_neg (bf_n c43), if_pos c55]; rfl
            refine sv_iconst (nI 4) dX3_flagHere_58 (by decide +kernel) ?_
            refine sv_goto (tgt := 63) dX3_flagHere_59 (by decide) ?_
            refine sv_iret rfl rfl dX3_flagHere_63 ?_
            exact ⟨_, rfl, r_I hv, rfl⟩
        · have hv : nI 3 = o_I (r_fl t r) := by rw [r_fl_e, if_neg (bf_n c7), if_neg (bf_n c19), if_neg (bf_n c31), if_pos c43]; rfl
          refine sv_iconst (nI 3) dX3_flagHere_46 (by decide +kernel) ?_
          refine sv_iret rfl rfl dX3_flagHere_47 ?_
          exact ⟨_, rfl, r_I hv, rfl⟩
      · have hv : nI 2 = o_I (r_fl t r) := by rw [r_fl_e, if_neg (bf_n c7), if_neg (bf_n c19), if_pos c31]; rfl
        refine sv_iconst (nI 2) dX3_flagHere_34 (by decide +kernel) ?_
        refine sv_iret rfl rfl dX3_flagHere_35 ?_
        exact ⟨_, rfl, r_I hv, rfl⟩
    · have hv : nI 1 = o_I (r_fl t r) := by rw [r_fl_e, if_neg (bf_n c7), if_pos c19]; rfl
      refine sv_iconst (nI 1) dX3_flagHere_22 (by decide +kernel) ?_
      refine sv_iret rfl rfl dX3_flagHere_23 ?_
      exact ⟨_, rfl, r_I hv, rfl⟩
  · have hv : nI 0 = o_I (r_fl t r) := by rw [r_fl_e, if_pos c7]; rfl
    refine sv_iconst (nI 0) dX3_flagHere_10 (by decide +kernel) ?_
    refine sv_iret rfl rfl dX3_flagHere_11 ?_
    exact ⟨_, rfl, r_I hv, rfl⟩
def r_kw (t : List Int32) (r : r_T) : Bool := match r with
  | .inr k => p_kw t k
  | .inl _ => false
def r_k6 (t : List Int32) (r : r_T) : Bool := r_is t r 1 || r_is t r 2 || r_is t r 3 || r_is t r 5 || r_is t r 4 || r_is t r 6
theorem r_kw_e : r_kw t r = (r_k6 t r || r_is t r 7 || r_is t r 8 || r_is t r 9 || r_is t r 10 || (r_fl t r).isSome) := by
  cases r with
  | inl e => rfl
  | inr k => rfl
theorem r_fl_k : ∀ k, r_fl t r = some k → k < 2 ^ 31 := by
  intro k hk
  cases r with
  | inl e => cases hk
  | inr x => have := (p_fl_5 hk).1; omega
theorem ct_isKeyword (hn : h + 11 < sx_n σ) (hZ : m_Z t r M) (hW : g_S G) : sx_Cr G 6 YX3_isKeyword [.ref h] (m_S G h M σ) (some (.int (b_I (r_kw t r)))) (m_S G h M σ) := by
  have mid : ∀ c, c = r_k6 t r → sx_V G 6 YX3_isKeyword 66 [some (.ref h), some (.int (b_I c))] [] (m_S G h M σ) (fun o τ => ∃ v, o = .inl v ∧ v = some (.int (b_I (r_kw t r))) ∧ τ = m_S G h M σ) := by
    intro c hc
    refine sv_iload_n dX3_isKeyword_66 rfl ?_
    refine sv_if_neB (tgt := 118) dX3_isKeyword_67 (by decide) (fun c67 => ?_) (fun c67 => ?_)
    · have hv : nI 1 = b_I (r_kw t r) := by rw [r_kw_e]; simp [← hc, c67]; rfl
      refine sv_iconst (nI 1) dX3_isKeyword_118 (by decide +kernel) ?_
      refine sv_goto (tgt := 123) dX3_isKeyword_119 (by decide) ?_
      refine sv_iret (by first | exact b_I_nar _ | rfl) rfl dX3_isKeyword_123 ?_
      exact ⟨_, rfl, r_I hv, rfl⟩
    · refine sv_aload_n dX3_isKeyword_70 rfl ?_
      refine sv_ldcSw 23 rfl dX3_isKeyword_71 ?_
      refine sv_cvR _ (ct_isWord (i := 7) (j := 23) hn hZ hW (by decide) (by decide) rfl) okX3_isWord kv_X3_327 (sx_rd_c (m_S_0 hn)) rfl dX3_isKeyword_74 rfl rfl (by decide) (Nat.le_of_ble_eq_true rfl) ?_
      refine sv_if_neB (tgt := 118) dX3_isKeyword_77 (by decide) (fun c77 => ?_) (fun c77 => ?_)
      · have hv : nI 1 = b_I (r_kw t r) := by rw [r_kw_e]; simp [c77]; rfl
        refine sv_iconst (nI 1) dX3_isKeyword_118 (by decide +kernel) ?_
        refine sv_goto (tgt := 123) dX3_isKeyword_119 (by decide) ?_
        refine sv_iret (by first | exact b_I_nar _ | rfl) rfl dX3_isKeyword_123 ?_
        exact ⟨_, rfl, r_I hv, rfl⟩
      · refine sv_aload_n dX3_isKeyword_80 rfl ?_
        refine sv_ldcSw 24 rfl dX3_isKeyword_81 ?_
        refine sv_cvR _ (ct_isWord (i := 8) (j := 24) hn hZ hW (by decide) (by decide) rfl) okX3_isWord kv_X3_327 (sx_rd_c (m_S_0 hn)) rfl dX3_isKeyword_84 rfl rfl (by decide) (Nat.le_of_ble_eq_true rfl) ?_
        refine sv_if_neB (tgt := 118) dX3_isKeyword_87 (by decide) (fun c87 => ?_) (fun c87 => ?_)
        · have hv : nI 1 = b_I (r_kw t r) := by rw [r_kw_e]; simp [c87]; rfl
          refine sv_iconst (nI 1) dX3_isKeyword_118 (by decide +kernel) ?_
          refine sv_goto (tgt := 123) dX3_isKeyword_119 (by decide) ?_
          refine sv_iret (by first | exact b_I_nar _ | rfl) rfl dX3_isKeyword_123 ?_
          exact ⟨_, rfl, r_I hv, rfl⟩
        · refine sv_aload_n dX3_isKeyword_90 rfl ?_
          refine sv_ldcSw 25 rfl dX3_isKeyword_91 ?_
          refine sv_cvR _ (ct_isWord (i := 9) (j := 25) hn hZ hW (by decide) (by decide) rfl) okX3_isWord kv_X3_327 (sx_rd_c (m_S_0 hn)) rfl dX3_isKeyword_94 rfl rfl (by decide) (Nat.le_of_ble_eq_true rfl) ?_
          refine sv_if_neB (tgt := 118) dX3_isKeyword_97 (by decide) (fun c97 => ?_) (fun c97 => ?_)
          · have hv : nI 1 = b_I (r_kw t r) := by rw [r_kw_e]; simp [c97]; rfl
            refine sv_iconst (nI 1) dX3_isKeyword_118 (by decide +kernel) ?_
            refine sv_goto (tgt := 123) dX3_isKeyword_119 (by decide) ?_
            refine sv_iret (by first | exact b_I_nar _ | rfl) rfl dX3_isKeyword_123 ?_
            exact ⟨_, rfl, r_I hv, rfl⟩
          · refine sv_aload_n dX3_isKeyword_100 rfl ?_
            refine sv_ldcSw 26 rfl dX3_isKeyword_101 ?_
            refine sv_cvR _ (ct_isWord (i := 10) (j := 26) hn hZ hW (by decide) (by decide) rfl) okX3_isWord kv_X3_327 (sx_rd_c (m_S_0 hn)) rfl dX3_isKeyword_104 rfl rfl (by decide) (Nat.le_of_ble_eq_true rfl) ?_
            refine sv_if_neB (tgt := 118) dX3_isKeyword_107 (by decide) (fun c107 => ?_) (fun c107 => ?_)
            · have hv : nI 1 = b_I (r_kw t r) := by rw [r_kw_e]; simp [c107]; rfl
              refine sv_iconst (nI 1) dX3_isKeyword_118 (by decide +kernel) ?_
              refine sv_goto (tgt := 123) dX3_isKeyword_119 (by decide) ?_
              refine sv_iret (by first | exact b_I_nar _ | rfl) rfl dX3_isKeyword_123 ?_
              exact ⟨_, rfl, r_I hv, rfl⟩
            · refine sv_aload_n dX3_isKeyword_110 rfl ?_
              refine sv_cvR _ (ct_flagHere hn hZ hW) okX3_flagHere kv_X3_372 (sx_rd_c (m_S_0 hn)) rfl dX3_isKeyword_111 rfl rfl (by decide) (Nat.le_of_ble_eq_true rfl) ?_
              refine sv_iconst (-1) dX3_isKeyword_114 (by decide +kernel) ?_
              refine sv_icmp_eq (tgt := 122) dX3_isKeyword_115 (by decide) (fun c115 => ?_) (fun c115 => ?_)
              · have hfn := (o_I_m1 _ (r_fl_k (t := t) (r := r))).mp c115
                have hv : nI 0 = b_I (r_kw t r) := by rw [r_kw_e]; simp [← hc, c67, c77, c87, c97, c107, hfn]; rfl
                refine sv_iconst (nI 0) dX3_isKeyword_122 (by decide +kernel) ?_
                refine sv_iret (by first | exact b_I_nar _ | rfl) rfl dX3_isKeyword_123 ?_
                exact ⟨_, rfl, r_I hv, rfl⟩
              · have hfn : (r_fl t r).isSome = true := by
                  cases hz : r_fl t r with
                  | none => exact absurd (by rw [hz]; rfl) c115
                  | some z => rfl
                have hv : nI 1 = b_I (r_kw t r) := by rw [r_kw_e]; simp [hfn]; rfl
                refine sv_iconst (nI 1) dX3_isKeyword_118 (by decide +kernel) ?_
                refine sv_goto (tgt := 123) dX3_isKeyword_119 (by decide) ?_
                refine sv_iret (by first | exact b_I_nar _ | rfl) rfl dX3_isKeyword_123 ?_
                exact ⟨_, rfl, r_I hv, rfl⟩
  refine sx_body (by decide) (Nat.le_of_ble_eq_true rfl) ?_
  refine sv_aload_n dX3_isKeyword_0 rfl ?_
  refine sv_ldcSw 17 rfl dX3_isKeyword_1 ?_
  refine sv_cvR _ (ct_isWord (i := 1) (j := 17) hn hZ hW (by decide) (by decide) rfl) okX3_isWord kv_X3_327 (sx_rd_c (m_S_0 hn)) rfl dX3_isKeyword_4 rfl rfl (by decide) (Nat.le_of_ble_eq_true rfl) ?_
  refine sv_if_neB (tgt := 60) dX3_isKeyword_7 (by decide) (fun c7 => ?_) (fun c7 => ?_)
  · have hq : true = r_k6 t r := by unfold r_k6; simp [c7]
    refine sv_iconst (nI 1) dX3_isKeyword_60 (by decide +kernel) ?_
    refine sv_goto (tgt := 65) dX3_isKeyword_61 (by decide) ?_
    first | refine sv_topI b0_I ?_ | refine sv_topI b1_I ?_
    refine sv_istore_n dX3_isKeyword_65 (by decide) ?_
    exact mid _ hq
  · refine sv_aload_n dX3_isKeyword_10 rfl ?_
    refine sv_ldcSw 18 rfl dX3_isKeyword_11 ?_
    refine sv_cvR _ (ct_isWord (i := 2) (j := 18) hn hZ hW (by decide) (by decide) rfl) okX3_isWord kv_X3_327 (sx_rd_c (m_S_0 hn)) rfl dX3_isKeyword_14 rfl rfl (by decide) (Nat.le_of_ble_eq_true rfl) ?_
    refine sv_if_neB (tgt := 60) dX3_isKeyword_17 (by decide) (fun c17 => ?_) (fun c17 => ?_)
    · have hq : true = r_k6 t r := by unfold r_k6; simp [c17]
      refine sv_iconst (nI 1) dX3_isKeyword_60 (by decide +kernel) ?_
      refine sv_goto (tgt := 65) dX3_isKeyword_61 (by decide) ?_
      first | refine sv_topI b0_I ?_ | refine sv_topI b1_I ?_
      refine sv_istore_n dX3_isKeyword_65 (by decide) ?_
      exact mid _ hq
    · refine sv_aload_n dX3_isKeyword_20 rfl ?_
      refine sv_ldcSw 19 rfl dX3_isKeyword_21 ?_
      refine sv_cvR _ (ct_isWord (i := 3) (j := 19) hn hZ hW (by decide) (by decide) rfl) okX3_isWord kv_X3_327 (sx_rd_c (m_S_0 hn)) rfl dX3_isKeyword_24 rfl rfl (by decide) (Nat.le_of_ble_eq_true rfl) ?_
      refine sv_if_neB (tgt := 60) dX3_isKeyword_27 (by decide) (fun c27 => ?_) (fun c27 => ?_)
      · have hq : true = r_k6 t r := by unfold r_k6; simp [c27]
        refine sv_iconst (nI 1) dX3_isKeyword_60 (by decide +kernel) ?_
        refine sv_goto (tgt := 65) dX3_isKeyword_61 (by decide) ?_
        first | refine sv_topI b0_I ?_ | refine sv_topI b1_I ?_
        refine sv_istore_n dX3_isKeyword_65 (by decide) ?_
        exact mid _ hq
      · refine sv_aload_n dX3_isKeyword_30 rfl ?_
        refine sv_ldcSw 20 rfl dX3_isKeyword_31 ?_
        refine sv_cvR _ (ct_isWord (i := 5) (j := 20) hn hZ hW (by decide) (by decide) rfl) okX3_isWord kv_X3_327 (sx_rd_c (m_S_0 hn)) rfl dX3_isKeyword_34 rfl rfl (by decide) (Nat.le_of_ble_eq_true rfl) ?_
        refine sv_if_neB (tgt := 60) dX3_isKeyword_37 (by decide) (fun c37 => ?_) (fun c37 => ?_)
        · have hq : true = r_k6 t r := by unfold r_k6; simp [c37]
          refine sv_iconst (nI 1) dX3_isKeyword_60 (by decide +kernel) ?_
          refine sv_goto (tgt := 65) dX3_isKeyword_61 (by decide) ?_
          first | refine sv_topI b0_I ?_ | refine sv_topI b1_I ?_
          refine sv_istore_n dX3_isKeyword_65 (by decide) ?_
          exact mid _ hq
        · refine sv_aload_n dX3_isKeyword_40 rfl ?_
          refine sv_ldcSw 21 rfl dX3_isKeyword_41 ?_
          refine sv_cvR _ (ct_isWord (i := 4) (j := 21) hn hZ hW (by decide) (by decide) rfl) okX3_isWord kv_X3_327 (sx_rd_c (m_S_0 hn)) rfl dX3_isKeyword_44 rfl rfl (by decide) (Nat.le_of_ble_eq_true rfl) ?_
          refine sv_if_neB (tgt := 60) dX3_isKeyword_47 (by decide) (fun c47 => ?_) (fun c47 => ?_)
          · have hq : true = r_k6 t r := by unfold r_k6; simp [c47]
            refine sv_iconst (nI 1) dX3_isKeyword_60 (by decide +kernel) ?_
            refine sv_goto (tgt := 65) dX3_isKeyword_61 (by decide) ?_
            first | refine sv_topI b0_I ?_ | refine sv_topI b1_I ?_
            refine sv_istore_n dX3_isKeyword_65 (by decide) ?_
            exact mid _ hq
          · refine sv_aload_n dX3_isKeyword_50 rfl ?_
            refine sv_ldcSw 22 rfl dX3_isKeyword_51 ?_
            refine sv_cvR _ (ct_isWord (i := 6) (j := 22) hn hZ hW (by decide) (by decide) rfl) okX3_isWord kv_X3_327 (sx_rd_c (m_S_0 hn)) rfl dX3_isKeyword_54 rfl rfl (by decide) (Nat.le_of_ble_eq_true rfl) ?_
            refine sv_if_eqB (tgt := 64) dX3_isKeyword_57 (by decide) (fun c57 => ?_) (fun c57 => ?_)
            · have hq : false = r_k6 t r := by unfold r_k6; simp [c7, c17, c27, c37, c47, c57]
              refine sv_iconst (nI 0) dX3_isKeyword_64 (by decide +kernel) ?_
              first | refine sv_topI b0_I ?_ | refine sv_topI b1_I ?_
              refine sv_istore_n dX3_isKeyword_65 (by decide) ?_
              exact mid _ hq
            · have hq : true = r_k6 t r := by unfold r_k6; simp [c57]
              refine sv_iconst (nI 1) dX3_isKeyword_60 (by decide +kernel) ?_
              refine sv_goto (tgt := 65) dX3_isKeyword_61 (by decide) ?_
              first | refine sv_topI b0_I ?_ | refine sv_topI b1_I ?_
              refine sv_istore_n dX3_isKeyword_65 (by decide) ?_
              exact mid _ hq
def r_nm (t : List Int32) (r : r_T) : Bool := match r with
  | .inr k => p_nm t k
  | .inl _ => false
theorem ct_isName (hn : h + 11 < sx_n σ) (hZ : m_Z t r M) (hW : g_S G) : sx_Cr G 7 YX3_isName [.ref h] (m_S G h M σ) (some (.int (b_I (r_nm t r)))) (m_S G h M σ) := by
  refine sx_body (by decide) (Nat.le_of_ble_eq_true rfl) ?_
  refine sv_aload_n dX3_isName_0 rfl ?_
  refine sv_cvR _ (ct_gd hn hZ) okX3_good kv_X3_279 (sx_rd_c (m_S_0 hn)) rfl dX3_isName_1 rfl rfl (by decide) (Nat.le_of_ble_eq_true rfl) ?_
  refine sv_if_eqB (tgt := 40) dX3_isName_4 (by decide) (fun c4 => ?_) (fun c4 => ?_)
  · obtain ⟨e, rfl⟩ := r_g_f c4
    have hv : nI 0 = b_I (r_nm t (.inl e)) := rfl
    refine sv_iconst (nI 0) dX3_isName_40 (by decide +kernel) ?_
    refine sv_iret (by first | exact b_I_nar _ | rfl) rfl dX3_isName_41 ?_
    exact ⟨_, rfl, r_I hv, rfl⟩
  · obtain ⟨k, rfl⟩ := r_g_t c4
    have hko : k_ok t k := hZ.2.2.1
    have hk1 := hko.1
    have hk2 := hko.2.1
    have hk3 := hko.2.2.1
    have ht7 := hZ.1.1
    refine sv_aload_n dX3_isName_7 rfl ?_
    refine sm_get hn fg_X3_295 dX3_isName_8 rfl ?_
    refine sv_topI (y := nI k.1) hZ.2.1.2.2.2.2.1 ?_
    refine sv_iconst (nI 1) dX3_isName_11 (by decide +kernel) ?_
    refine sv_icmp_neN (tgt := 40) dX3_isName_12 (by decide) (by omega) (by omega) (fun c12 => ?_) (fun c12 => ?_)
    · have hv : nI 0 = b_I (r_nm t (.inr k)) := by show _ = b_I (decide (k.1 = 1) && decide (k.2.2.1 - k.2.1 ≤ 6) && !(p_kw t k)); rw [decide_eq_false c12]; rfl
      refine sv_iconst (nI 0) dX3_isName_40 (by decide +kernel) ?_
      refine sv_iret (by first | exact b_I_nar _ | rfl) rfl dX3_isName_41 ?_
      exact ⟨_, rfl, r_I hv, rfl⟩
    · refine sv_aload_n dX3_isName_15 rfl ?_
      refine sm_get hn fg_X3_289 dX3_isName_16 rfl ?_
      refine sv_topI (y := nI k.2.2.1) hZ.2.1.2.2.1 ?_
      refine sv_aload_n dX3_isName_19 rfl ?_
      refine sm_get hn fg_X3_283 dX3_isName_20 rfl ?_
      refine sv_topI (y := nI k.2.1) hZ.2.1.2.2.2.1 ?_
      refine sv_isubN dX3_isName_23 (by omega) ?_
      refine sv_bipush (nI 6) dX3_isName_24 (by decide +kernel) ?_
      refine sv_icmp_gtN (tgt := 40) dX3_isName_26 (by decide) (by omega) (by omega) (fun c26 => ?_) (fun c26 => ?_)
      · have hv : nI 0 = b_I (r_nm t (.inr k)) := by show _ = b_I (decide (k.1 = 1) && decide (k.2.2.1 - k.2.1 ≤ 6) && !(p_kw t k)); rw [decide_eq_true c12, decide_eq_false (show ¬ k.2.2.1 - k.2.1 ≤ 6 by omega)]; rfl
        refine sv_iconst (nI 0) dX3_isName_40 (by decide +kernel) ?_
        refine sv_iret (by first | exact b_I_nar _ | rfl) rfl dX3_isName_41 ?_
        exact ⟨_, rfl, r_I hv, rfl⟩
      · refine sv_aload_n dX3_isName_29 rfl ?_
        refine sv_cvR _ (ct_isKeyword hn hZ hW) okX3_isKeyword kv_X3_379 (sx_rd_c (m_S_0 hn)) rfl dX3_isName_30 rfl rfl (by decide) (Nat.le_of_ble_eq_true rfl) ?_
        refine sv_if_neB (tgt := 40) dX3_isName_33 (by decide) (fun c33 => ?_) (fun c33 => ?_)
        · have c33 : p_kw t k = true := c33
          have hv : nI 0 = b_I (r_nm t (.inr k)) := by show _ = b_I (decide (k.1 = 1) && decide (k.2.2.1 - k.2.1 ≤ 6) && !(p_kw t k)); rw [decide_eq_true c12, decide_eq_true (show k.2.2.1 - k.2.1 ≤ 6 by omega), c33]; rfl
          refine sv_iconst (nI 0) dX3_isName_40 (by decide +kernel) ?_
          refine sv_iret (by first | exact b_I_nar _ | rfl) rfl dX3_isName_41 ?_
          exact ⟨_, rfl, r_I hv, rfl⟩
        · have c33 : p_kw t k = false := c33
          have hv : nI 1 = b_I (r_nm t (.inr k)) := by show _ = b_I (decide (k.1 = 1) && decide (k.2.2.1 - k.2.1 ≤ 6) && !(p_kw t k)); rw [decide_eq_true c12, decide_eq_true (show k.2.2.1 - k.2.1 ≤ 6 by omega), c33]; rfl
          refine sv_iconst (nI 1) dX3_isName_36 (by decide +kernel) ?_
          refine sv_goto (tgt := 41) dX3_isName_37 (by decide) ?_
          refine sv_iret (by first | exact b_I_nar _ | rfl) rfl dX3_isName_41 ?_
          exact ⟨_, rfl, r_I hv, rfl⟩
def r_nh (t : List Int32) (r : r_T) : r_T := p_bind r (fun k => if p_nm t k = true then .inr k else .inl (p_er 1 k))
def r_nc (t : List Int32) (r : r_T) : Int64 := match r with
  | .inr k => n_code (p_w t k)
  | .inl _ => 0
theorem r_nh_k {k : k_T} (h : r_nh t r = .inr k) : r = .inr k ∧ p_nm t k = true := by
  cases r with
  | inl e => cases h
  | inr k' =>
    have h : (if p_nm t k' = true then (Sum.inr k' : r_T) else .inl (p_er 1 k')) = .inr k := h
    by_cases h2 : p_nm t k' = true
    · rw [if_pos h2] at h; cases h; exact ⟨rfl, h2⟩
    · rw [if_neg h2] at h; cases h
theorem p_nm_o (hb : b_B t) {k : k_T} (hk : k_ok t k) (h : p_nm t k = true) : o_N (p_w t k) ∧ k.1 = 1 := by
  unfold p_nm at h
  rw [Bool.and_eq_true, Bool.and_eq_true] at h
  have h1 := of_decide_eq_true h.1.1
  have h2 := of_decide_eq_true h.1.2
  have h3 := hk.2.2.2.2.1 (by omega)
  exact ⟨⟨by rw [p_w_l hk h1]; omega, by rw [p_w_l hk h1]; exact h2, p_w_lt hb hk⟩, h1⟩
theorem ct_nameHere (hn : h + 11 < sx_n σ) (hZ : m_Z t r M) (hW : g_S G) : sx_Cp G 8 YX3_nameHere [.ref h] (m_S G h M σ) (fun v τ => v = some (.long (r_nc t (r_nh t r))) ∧ ∃ M2, τ = m_S G h M2 σ ∧ m_Y M M2 ∧ m_Z t (r_nh t r) M2) := by
  have mid : ∀ r1 M1, m_Y M M1 → m_Z t r1 M1 → r1 = r_nh t r → sx_V G 8 YX3_nameHere 12 [some (.ref h)] [] (m_S G h M1 σ) (fun o τ => ∃ v, o = .inl v ∧ v = some (.long (r_nc t (r_nh t r))) ∧ ∃ M2, τ = m_S G h M2 σ ∧ m_Y M M2 ∧ m_Z t (r_nh t r) M2) := by
    intro r1 M1 hY1 hZ1 e1
    refine sv_aload_n dX3_nameHere_12 rfl ?_
    refine sv_cvR _ (ct_gd hn hZ1) okX3_good kv_X3_279 (sx_rd_c (m_S_0 hn)) rfl dX3_nameHere_13 rfl rfl (by decide) (Nat.le_of_ble_eq_true rfl) ?_
    refine sv_if_eqB (tgt := 37) dX3_nameHere_16 (by decide) (fun c16 => ?_) (fun c16 => ?_)
    · obtain ⟨e, rfl⟩ := r_g_f c16
      have hv : (0 : Int64) = r_nc t (r_nh t r) := by rw [← e1]; rfl
      refine sv_lconst 0 dX3_nameHere_37 (by decide) ?_
      refine sv_lret rfl dX3_nameHere_38 ?_
      exact ⟨_, rfl, congrArg (fun x => some (Value.long x)) hv, _, rfl, hY1, by rw [← e1]; exact hZ1⟩
    · obtain ⟨k, rfl⟩ := r_g_t c16
      have e3 := r_nh_k e1.symm
      have hko : k_ok t k := hZ1.2.2.1
      have hk1 := hko.1
      have hk2 := hko.2.1
      have ht7 := hZ1.1.1
      have e4 := p_nm_o hZ1.2.2.2.1 hko e3.2
      have hpl := p_w_l hko e4.2
      have hv : n_code (p_w t k) = r_nc t (r_nh t r) := by rw [← e1]; rfl
      refine sv_aload_n dX3_nameHere_19 rfl ?_
      refine sm_get hn fg_X3_34 dX3_nameHere_20 rfl ?_
      refine sv_aload_n dX3_nameHere_23 rfl ?_
      refine sm_get hn fg_X3_283 dX3_nameHere_24 rfl ?_
      refine sv_topI (y := nI k.2.1) hZ1.2.1.2.2.2.1 ?_
      refine sv_aload_n dX3_nameHere_27 rfl ?_
      refine sm_get hn fg_X3_289 dX3_nameHere_28 rfl ?_
      refine sv_topI (y := nI (k.2.1 + (p_w t k).length)) (by rw [hZ1.2.1.2.2.1, hpl]; congr 1; omega) ?_
      refine sv_csR _ (ct_nameOf (a := k.2.1) (cs := p_w t k) hn (by omega) (fun i hi => by rw [hZ1.1.2.2 _ (by omega)]; exact (p_w_g hZ1.2.2.2.1 hko e4.2 (by omega)).1) (fun c hc => by have := e4.1.2.2 c hc; omega)) okX3_nameOf ks_X3_385 dX3_nameHere_31 rfl rfl (by decide) (Nat.le_of_ble_eq_true rfl) ?_
      refine sv_goto (tgt := 38) dX3_nameHere_34 (by decide) ?_
      refine sv_lret rfl dX3_nameHere_38 ?_
      exact ⟨_, rfl, congrArg (fun x => some (Value.long x)) hv, _, rfl, hY1, by rw [← e1]; exact hZ1⟩
  refine sx_body (by decide) (Nat.le_of_ble_eq_true rfl) ?_
  refine sv_aload_n dX3_nameHere_0 rfl ?_
  refine sv_cvR _ (ct_isName hn hZ hW) okX3_isName kv_X3_382 (sx_rd_c (m_S_0 hn)) rfl dX3_nameHere_1 rfl rfl (by decide) (Nat.le_of_ble_eq_true rfl) ?_
  refine sv_if_neB (tgt := 12) dX3_nameHere_4 (by decide) (fun c4 => ?_) (fun c4 => ?_)
  · have hY9 := m_Y_r (M := M)
    have hZ9 := hZ
    have e9 : r = r_nh t r := by
      cases r with
      | inl e => rfl
      | inr k => show _ = (if p_nm t k = true then (Sum.inr k : r_T) else .inl (p_er 1 k)); rw [if_pos (show p_nm t k = true from c4)]
    exact mid _ _ hY9 hZ9 e9
  · refine sv_aload_n dX3_nameHere_7 rfl ?_
    refine sv_iconst (nI 1) dX3_nameHere_8 (by decide +kernel) ?_
    refine sv_cvP _ (ct_er (c := 1) hn hZ (by decide) (by decide)) okX3_errs kv_X3_337 (sx_rd_c (m_S_0 hn)) rfl dX3_nameHere_9 rfl rfl (by decide) (Nat.le_of_ble_eq_true rfl) ?_
    intro v3 t3 hp3
    obtain ⟨rfl, M3, rfl, hY3, hZ3⟩ := hp3
    have hY9 := hY3
    have hZ9 := hZ3
    have e9 : r_er r 1 = r_nh t r := by
      cases r with
      | inl e => rfl
      | inr k => show _ = (if p_nm t k = true then (Sum.inr k : r_T) else .inl (p_er 1 k)); rw [if_neg (show ¬ p_nm t k = true from bf_n c4)]; rfl
    exact mid _ _ hY9 hZ9 e9
end MPX
