set_option maxRecDepth 100000
section MPL
variable {G : sx_G} {h : Nat} {M M' : m_M} {σ : sx_St} {V : a_V} {A : a_A} {t : List Int32} {r : r_T} {k : k_T}
def r_w0 (x : p_E ⊕ (p_T × k_T)) : r_T := p_bind x (fun y => if y.2.1 = 0 then .inr y.2 else .inl (p_er 1 y.2))
def p_w0 (x : p_E ⊕ (p_T × k_T)) : p_E ⊕ p_T := p_bind x (fun y => if y.2.1 = 0 then .inr y.1 else .inl (p_er 1 y.2))
theorem p_wh_0 : p_wh t = p_w0 (p_Q t 8000 4 0 (fun _ => false) (k_n t 0)) := rfl
def r_wh (t : List Int32) : r_T := r_w0 (p_Q t 8000 4 0 (fun _ => false) (k_n t 0))
theorem w0_e (x : p_E ⊕ (p_T × k_T)) : (∀ e, r_w0 x = .inl e → p_w0 x = .inl e) ∧ ∀ k, r_w0 x = .inr k → ∃ q, p_w0 x = .inr q := by
  cases x with
  | inl e => exact ⟨fun e' h => (by cases h; rfl), fun k h => (by cases h)⟩
  | inr y =>
    unfold r_w0 p_w0
    show (∀ e, (if y.2.1 = 0 then (Sum.inr y.2 : r_T) else .inl (p_er 1 y.2)) = .inl e → (if y.2.1 = 0 then (Sum.inr y.1 : p_E ⊕ p_T) else .inl (p_er 1 y.2)) = .inl e) ∧ ∀ k, (if y.2.1 = 0 then (Sum.inr y.2 : r_T) else .inl (p_er 1 y.2)) = .inr k → ∃ q, (if y.2.1 = 0 then (Sum.inr y.1 : p_E ⊕ p_T) else .inl (p_er 1 y.2)) = .inr q
    by_cases h : y.2.1 = 0
    · rw [if_pos h, if_pos h]
      exact ⟨fun e z => (by cases z), fun k _ => ⟨_, rfl⟩⟩
    · rw [if_neg h, if_neg h]
      exact ⟨fun e z => (by cases z; rfl), fun k z => (by cases z)⟩
theorem m_O_20 {v : Int32} : (m_O h M).set 20 (.int v) = m_O h (m_i M 20 v) := rfl
theorem ct_wholeQuery (hn : h + 11 < sx_n σ) (hJ : m_J M A) (hb : b_B (A_i A)) (hW : g_S G) {b : Nat} (hbl : b < (A_v A).2.1.length) : sx_Cp G 50 YX3_wholeQuery [.ref h, .int (nI b)] (m_S G h M σ) (fun v τ => ∃ z, v = some (.int z) ∧ ∃ M2, τ = m_S G h M2 σ ∧ M2.2 = M.2 ∧ (∀ k, k = 0 ∨ k = 5 ∨ k = 25 ∨ k = 27 → M2.1 k = M.1 k) ∧ M2.1 8 = nI 0 ∧ m_Z (A_i A) (r_wh (A_i A)) M2 ∧ ∀ q, p_wh (A_i A) = .inr q → z = s_b (a_ms (A_v A) b) q) := by
  refine sx_body (by decide) (Nat.le_of_ble_eq_true rfl) ?_
  have h8 : M.1 8 = nI (A_i A).length := hJ.2.2.2.2.2.2.1.2.1
  have hi7 := hJ.2.2.2.2.2.2.1.1
  have hig := hJ.2.2.2.2.2.2.1.2.2
  have hE := (m_J_e hJ).1
  have hw := hJ.2.2.1.1
  refine sv_aload_n dX3_wholeQuery_0 rfl ?_
  refine sv_iload_n dX3_wholeQuery_1 rfl ?_
  refine sm_put hn fp_X3_451 dX3_wholeQuery_2 m_O_20 (by decide) ?_
  refine sv_aload_n dX3_wholeQuery_5 rfl ?_
  refine sv_iconst (nI 0) dX3_wholeQuery_6 (by decide +kernel) ?_
  refine sm_put hn fp_X3_454 dX3_wholeQuery_7 m_O_21 (by decide) ?_
  refine sv_aload_n dX3_wholeQuery_10 rfl ?_
  refine sv_cvP _ (ct_beginText (M := m_i (m_i M 20 (nI b)) 21 (nI 0)) (t := A_i A) hn h8 hi7 hig hb) okX3_beginText kv_X3_437 (sx_rd_c (m_S_0 hn)) rfl dX3_wholeQuery_11 rfl rfl (by decide) (Nat.le_of_ble_eq_true rfl) ?_
  intro v3 t3 hp3
  obtain ⟨rfl, M3, rfl, hQ3, h32, h38, h3k⟩ := hp3
  have h203 : M3.1 20 = nI b := (h3k 20 (by decide)).trans rfl
  have h213 : M3.1 21 = nI 0 := (h3k 21 (by decide)).trans rfl
  have hE3 : e_Vb (m_w M3) (A_v A) := by
   have e : m_w M3 = m_w M := by unfold m_w; rw [h32]; rfl
   rw [e]; exact hE
  refine sv_aload_n dX3_wholeQuery_14 rfl ?_
  refine sv_cvP _ ((q_all (t := A_i A) hn hW hw hbl 8001 8000 (Nat.lt_succ_self _)).2.2 0 (k_n (A_i A) 0) (fun _ => false) M3 (Nat.zero_le _) hQ3 h203 h213 hE3 (by omega)) okX3_query kv_X3_466 (sx_rd_c (m_S_0 hn)) rfl dX3_wholeQuery_15 rfl rfl (by decide) (Nat.le_of_ble_eq_true rfl) ?_
  intro v4 t4 hp4
  obtain ⟨z, rfl, M4, rfl, hY4, h214, hZ4, hy4⟩ := hp4
  unfold r_wh
  rw [p_wh_0]
  generalize p_Q (A_i A) 8000 4 0 (fun _ => false) (k_n (A_i A) 0) = X at hZ4 hy4 ⊢
  have hk3 : ∀ y, X = .inr y → m_Q (A_i A) y.2 0 M4 := fun y hy => by rw [hy] at hZ4; exact hZ4
  refine sv_istore_n dX3_wholeQuery_18 (by decide) ?_
  refine sv_aload_n dX3_wholeQuery_19 rfl ?_
  refine sv_cvR _ (ct_gd hn hZ4) okX3_good kv_X3_279 (sx_rd_c (m_S_0 hn)) rfl dX3_wholeQuery_20 rfl rfl (by decide) (Nat.le_of_ble_eq_true rfl) ?_
  refine sv_if_eqB (tgt := 38) dX3_wholeQuery_23 (by decide) (fun c23 => ?_) (fun c23 => ?_)
  · obtain ⟨e, ek⟩ := r_g_f c23
    obtain ⟨e0, rfl⟩ : ∃ e0, X = .inl e0 := by
      cases X with
      | inl e0 => exact ⟨e0, rfl⟩
      | inr y => cases ek
    have hYf := hY4
    have hZf : m_Z (A_i A) (r_w0 (.inl e0)) M4 := hZ4
    have hyf : ∀ q, p_w0 (.inl e0) = .inr q → z = s_b (a_ms (A_v A) b) q := fun q hq => by cases hq
    refine sv_iload_n dX3_wholeQuery_38 rfl ?_
    refine sv_iret rfl rfl dX3_wholeQuery_39 ?_
    exact ⟨_, rfl, _, rfl, _, rfl, hYf.1.trans h32, fun k hk => (hYf.2 k (by omega) (by omega)).trans ((h3k k (by omega)).trans (by rcases hk with rfl | rfl | rfl | rfl <;> rfl)), (hYf.2 8 (by decide) (by decide)).trans h38, hZf, hyf⟩
  · obtain ⟨k9, ek⟩ := r_g_t c23
    obtain ⟨y, rfl⟩ : ∃ y, X = .inr y := by
      cases X with
      | inl e0 => cases ek
      | inr y => exact ⟨y, rfl⟩
    have hk39 := (hk3 y rfl).2.2.1.2.2.1
    refine sv_aload_n dX3_wholeQuery_26 rfl ?_
    refine sm_get hn fg_X3_295 dX3_wholeQuery_27 rfl ?_
    refine sv_topI (y := nI y.2.1) (hk3 y rfl).2.1.2.2.2.2.1 ?_
    refine sv_if_eqN (tgt := 38) dX3_wholeQuery_30 (by decide) (by omega) (fun c30 => ?_) (fun c30 => ?_)
    · have hYf := hY4
      have hZf : m_Z (A_i A) (r_w0 (.inr y)) M4 := by unfold r_w0; show m_Z (A_i A) (if y.2.1 = 0 then (Sum.inr y.2 : r_T) else .inl (p_er 1 y.2)) M4; rw [if_pos c30]; exact hZ4
      have hyf : ∀ q, p_w0 (.inr y) = .inr q → z = s_b (a_ms (A_v A) b) q := fun q hq => by unfold p_w0 at hq; have hq : (if y.2.1 = 0 then (Sum.inr y.1 : p_E ⊕ p_T) else .inl (p_er 1 y.2)) = .inr q := hq; rw [if_pos c30] at hq; have hq := Sum.inr.inj hq; subst hq; exact (hy4 y rfl).1
      refine sv_iload_n dX3_wholeQuery_38 rfl ?_
      refine sv_iret rfl rfl dX3_wholeQuery_39 ?_
      exact ⟨_, rfl, _, rfl, _, rfl, hYf.1.trans h32, fun k hk => (hYf.2 k (by omega) (by omega)).trans ((h3k k (by omega)).trans (by rcases hk with rfl | rfl | rfl | rfl <;> rfl)), (hYf.2 8 (by decide) (by decide)).trans h38, hZf, hyf⟩
    · refine sv_aload_n dX3_wholeQuery_33 rfl ?_
      refine sv_iconst (nI 1) dX3_wholeQuery_34 (by decide +kernel) ?_
      refine sv_cvP _ (ct_er (c := 1) hn hZ4 (by decide) (by decide)) okX3_errs kv_X3_337 (sx_rd_c (m_S_0 hn)) rfl dX3_wholeQuery_35 rfl rfl (by decide) (Nat.le_of_ble_eq_true rfl) ?_
      intro v5 t5 hp5
      obtain ⟨rfl, M5, rfl, hY5, hZ5⟩ := hp5
      have hYf := m_Yq_t hY4 (m_Yq_Y hY5)
      have hZf : m_Z (A_i A) (r_w0 (.inr y)) M5 := by unfold r_w0; show m_Z (A_i A) (if y.2.1 = 0 then (Sum.inr y.2 : r_T) else .inl (p_er 1 y.2)) M5; rw [if_neg (by omega)]; exact hZ5
      have hyf : ∀ q, p_w0 (.inr y) = .inr q → z = s_b (a_ms (A_v A) b) q := fun q hq => by unfold p_w0 at hq; have hq : (if y.2.1 = 0 then (Sum.inr y.1 : p_E ⊕ p_T) else .inl (p_er 1 y.2)) = .inr q := hq; rw [if_neg (by omega)] at hq; cases hq
      refine sv_iload_n dX3_wholeQuery_38 rfl ?_
      refine sv_iret rfl rfl dX3_wholeQuery_39 ?_
      exact ⟨_, rfl, _, rfl, _, rfl, hYf.1.trans h32, fun k hk => (hYf.2 k (by omega) (by omega)).trans ((h3k k (by omega)).trans (by rcases hk with rfl | rfl | rfl | rfl <;> rfl)), (hYf.2 8 (by decide) (by decide)).trans h38, hZf, hyf⟩
def r_sbx (A : a_A) (b : Nat) : Int32 × a_A := match p_wh (A_i A) with
  | .inl e => (-4, A_er A (nI e.1) (nI e.2))
  | .inr q => (s_b (a_ms (A_v A) b) q, A_er A 0 (-1))
def sp_sbx (A : a_A) (x : Int32) : Int32 × a_A := g_1 (i_in x (A_v A).2.1.length) A (r_sbx (A_st A 0) x.toNatClampNeg)
theorem r_sbx_e {b : Nat} {e : p_E} (h : p_wh (A_i A) = .inl e) : r_sbx A b = (-4, A_er A (nI e.1) (nI e.2)) := by unfold r_sbx; rw [h]
theorem r_sbx_q {b : Nat} {q : p_T} (h : p_wh (A_i A) = .inr q) : r_sbx A b = (s_b (a_ms (A_v A) b) q, A_er A 0 (-1)) := by unfold r_sbx; rw [h]
/-- the state behind a query -/
theorem wh_J {M2 : m_M} (hJ : m_J M A) (h0 : A_t A = 0) (h2 : M2.2 = M.2) (hf : ∀ k, k = 0 ∨ k = 5 ∨ k = 25 ∨ k = 27 → M2.1 k = M.1 k) (h8 : M2.1 8 = nI 0) (hZ : m_Z (A_i A) (r_wh (A_i A)) M2) : (∀ e, r_wh (A_i A) = .inl e → p_wh (A_i A) = .inl e ∧ m_J M2 (A_er A (nI e.1) (nI e.2))) ∧ ∀ k, r_wh (A_i A) = .inr k → (∃ q, p_wh (A_i A) = .inr q) ∧ m_J M2 (A_er A 0 (-1)) := by
  have key : ∀ c p, M2.1 14 = c → M2.1 15 = p → m_J M2 (A_er A c p) := fun c p hc hp => m_J_P (M1 := M) hJ (by rw [h2]; exact hJ.1) (fun k hk => hf k (by omega)) ((hf 0 (Or.inl rfl)).trans (hJ.2.2.2.2.2.2.2.2.2.2.trans h0)) h8 (fun j _ => by rw [h2]) (fun j _ => by rw [h2]) hc hp
  refine ⟨fun e he => ?_, fun k hk => ?_⟩
  · rw [he] at hZ
    obtain ⟨ez, ke, hq, hpl⟩ := hZ
    exact ⟨(w0_e _).1 e he, key _ _ hq.2.2.2.2.2.1 (hq.2.2.2.2.2.2.trans (by rw [if_neg ez, hpl]))⟩
  · rw [hk] at hZ
    have hZ : m_Q (A_i A) k 0 M2 := hZ
    exact ⟨(w0_e _).2 k hk, key _ _ hZ.2.2.2.2.2.1 hZ.2.2.2.2.2.2⟩
theorem ct_searchBox (hn : h + 11 < sx_n σ) (hJ : m_J M A) (hb : b_B (A_i A)) (hW : g_S G) {x : Int32} : sx_Cp G 60 YX3_searchBox [.ref h, .int x] (m_S G h M σ) (fun v τ => v = some (.int ((sp_sbx A x).1)) ∧ ∃ M2, τ = m_S G h M2 σ ∧ m_J M2 ((sp_sbx A x).2)) := by
  refine sx_body (by decide) (Nat.le_of_ble_eq_true rfl) ?_
  refine sv_aload_n dX3_searchBox_0 rfl ?_
  refine sv_aload_n dX3_searchBox_1 rfl ?_
  refine sv_iload_n dX3_searchBox_2 rfl ?_
  refine sv_cvR _ (ct_isBox hn (m_J_e hJ).1 hJ.2.2.1.1) okX3_isBox kv_X3_189 (sx_rd_c (m_S_0 hn)) rfl dX3_searchBox_3 rfl rfl (by decide) (Nat.le_of_ble_eq_true rfl) ?_
  refine sv_cvR _ (ct_passes hn) okX3_passes kv_X3_266 (sx_rd_c (m_S_0 hn)) rfl dX3_searchBox_6 rfl rfl (by decide) (Nat.le_of_ble_eq_true rfl) ?_
  refine sv_if_neB (tgt := 14) dX3_searchBox_9 (by decide) (fun c9 => ?_) (fun c9 => ?_)
  · have hsp : sp_sbx A x = r_sbx (A_st A 0) x.toNatClampNeg := by unfold sp_sbx; rw [g_1t c9]
    rw [hsp]
    rw [t_hr_1 c9]
    have hJ0 := m_J_t hJ 0
    have hb3 := hJ.2.2.1.1.1
    obtain ⟨j, hj, rfl⟩ := i_in_of (by omega) c9
    have ej : (nI j).toNatClampNeg = j := nI_clamp (by omega)
    rw [ej]
    have hml := hJ.2.2.1.1.2.2 j hj
    refine sv_aload_n dX3_searchBox_14 rfl ?_
    refine sv_iload_n dX3_searchBox_15 rfl ?_
    refine sv_cvP _ (ct_wholeQuery (A := A_st A 0) (b := j) hn hJ0 hb hW hj) okX3_wholeQuery kv_X3_481 (sx_rd_c (m_S_0 hn)) rfl dX3_searchBox_16 rfl rfl (by decide) (Nat.le_of_ble_eq_true rfl) ?_
    intro v2 t2 hp2
    obtain ⟨z, rfl, M2, rfl, a1, a2, a3, hZ2, hz2⟩ := hp2
    obtain ⟨w1, w2⟩ := wh_J hJ0 rfl a1 a2 a3 hZ2
    refine sv_istore_n dX3_searchBox_19 (by decide) ?_
    refine sv_aload_n dX3_searchBox_20 rfl ?_
    refine sv_cvR _ (ct_gd hn hZ2) okX3_good kv_X3_279 (sx_rd_c (m_S_0 hn)) rfl dX3_searchBox_21 rfl rfl (by decide) (Nat.le_of_ble_eq_true rfl) ?_
    refine sv_if_eqB (tgt := 31) dX3_searchBox_24 (by decide) (fun c24 => ?_) (fun c24 => ?_)
    · obtain ⟨e, ek⟩ := r_g_f c24
      obtain ⟨g1, g2⟩ := w1 e ek
      have hv : (-4 : Int32) = (r_sbx (A_st A 0) j).1 := by rw [r_sbx_e g1]
      have hJ9 : m_J M2 (r_sbx (A_st A 0) j).2 := by rw [r_sbx_e g1]; exact g2
      refine sv_bipush (-4) dX3_searchBox_31 (by decide +kernel) ?_
      refine sv_iret rfl rfl dX3_searchBox_33 ?_
      exact ⟨_, rfl, r_I hv, _, rfl, hJ9⟩
    · obtain ⟨e, ek⟩ := r_g_t c24
      obtain ⟨⟨q, g1⟩, g2⟩ := w2 e ek
      have hv : z = (r_sbx (A_st A 0) j).1 := by rw [r_sbx_q g1]; exact hz2 q g1
      have hJ9 : m_J M2 (r_sbx (A_st A 0) j).2 := by rw [r_sbx_q g1]; exact g2
      refine sv_iload_n dX3_searchBox_27 rfl ?_
      refine sv_goto (tgt := 33) dX3_searchBox_28 (by decide) ?_
      refine sv_iret rfl rfl dX3_searchBox_33 ?_
      exact ⟨_, rfl, r_I hv, _, rfl, hJ9⟩
  · unfold sp_sbx
    rw [g_1f c9]
    refine sv_iconst (nI 0) dX3_searchBox_12 (by decide +kernel) ?_
    refine sv_iret rfl rfl dX3_searchBox_13 ?_
    exact ⟨_, rfl, r_I nI_0, _, rfl, m_J_t hJ _⟩
/-- sets of entries as bits -/
def lb (p : Nat → Bool) : Nat → Int64
  | 0 => 0
  | n + 1 => if p n = true then lb p n ||| ((1 : Int64) <<< ((nI (n + 1)).toInt64 &&& 63)) else lb p n
def e_q (V : a_V) (s : Nat) (q : p_T) (k : Nat) : Bool := match a_bx V s, a_mo V s k with
  | some b, some m => q (a_m V b m)
  | _, _ => false
def x_sea (A : a_A) (s : Nat) : Int64 × a_A := match p_wh (A_i A) with
  | .inl e => (-4, A_er A (nI e.1) (nI e.2))
  | .inr q => (lb (e_q (A_v A) s q) (a_es (A_v A) s).length, s_en (s_be (A_er A 0 (-1)) s) s false)
def sp_sea (A : a_A) (x : Int32) : Int64 × a_A := if (i_in x (A_v A).2.2.length && a_can (A_v A) x) = true then x_sea (A_st A 0) x.toNatClampNeg else (0, A_st A (nI (t_hr (i_in x (A_v A).2.2.length) (a_can (A_v A) x) true)))
theorem x_sea_e {b : Nat} {e : p_E} (h : p_wh (A_i A) = .inl e) : x_sea A b = (-4, A_er A (nI e.1) (nI e.2)) := by unfold x_sea; rw [h]
theorem x_sea_q {s : Nat} {q : p_T} (h : p_wh (A_i A) = .inr q) : x_sea A s = (lb (e_q (A_v A) s q) (a_es (A_v A) s).length, s_en (s_be (A_er A 0 (-1)) s) s false) := by unfold x_sea; rw [h]
theorem lb_e {p q : Nat → Bool} {n : Nat} (h : ∀ i, i < n → p i = q i) : lb p n = lb q n := by
  induction n with
  | zero => rfl
  | succ n ih =>
    show (if p n = true then lb p n ||| _ else lb p n) = (if q n = true then lb q n ||| _ else lb q n)
    rw [ih (fun i hi => h i (by omega)), h n (by omega)]
theorem be_es (A : a_A) (s : Nat) {u : Nat} (hs : s < (A_v A).2.2.length) : a_es (A_v (s_be A s)) u = a_es (A_v A) u := v_ac_es hs
theorem be_eq {s : Nat} (q : p_T) (hs : s < (A_v A).2.2.length) (k : Nat) : e_q (A_v (s_be A s)) s q k = e_q (A_v A) s q k := by
  have e1 := be_bx A s (t := s) hs
  have e2 : a_mo (A_v (s_be A s)) s k = a_mo (A_v A) s k := by
    unfold a_mo a_e
    rw [e1, be_es A s hs]
    rfl
  unfold e_q
  rw [e1, e2]
  rfl
theorem mo_lt {s b k m : Nat} (hbx : a_bx V s = some b) (h : a_mo V s k = some m) : m < (a_ms V b).length := by
  rw [a_mo_b hbx] at h
  exact a_find_lt h
theorem ct_search (hn : h + 11 < sx_n σ) (hJ : m_J M A) (hb9 : b_B (A_i A)) (hW : g_S G) {x : Int32} : sx_Cp G 60 YX3_search [.ref h, .int x] (m_S G h M σ) (fun v τ => v = some (.long (sp_sea A x).1) ∧ ∃ M2, τ = m_S G h M2 σ ∧ m_J M2 (sp_sea A x).2) := by
  have loop : ∀ j b z (q : p_T) (B : a_A) M3, m_J M3 B → j < (A_v B).2.2.length → a_bx (A_v B) j = some b → b < (A_v B).2.1.length → z = s_b (a_ms (A_v B) b) q → (A_n B).length + 700 ≤ 1000 → ∀ u n, n ≤ (a_es (A_v B) j).length → (a_es (A_v B) j).length + 1 ≤ n + u → sx_V G 60 YX3_search 50 [some (.ref h), some (.int (nI j)), some (.int z), some (.long (lb (e_q (A_v B) j q) n)), none, some (.int (nI (n + 1))), none] [] (m_S G h M3 σ) (fun o τ => ∃ v, o = .inl v ∧ v = some (.long (lb (e_q (A_v B) j q) (a_es (A_v B) j).length)) ∧ ∃ M2, τ = m_S G h M2 σ ∧ m_J M2 (s_en B j false)) := by
    intro j b z q B M3 hJ3 hj hbx hbl hz hln u
    induction u with
    | zero => intro n h1 h2; exact absurd h2 (by omega)
    | succ u ih =>
    intro n g1 g2
    have hel := hJ3.2.2.1.2.1 j hj
    have hml : (a_ms (A_v B) b).length ≤ 30 := hJ3.2.2.1.1.2.2 b hbl
    refine sv_iload dX3_search_50 rfl ?_
    refine sv_aload_n dX3_search_52 rfl ?_
    refine sv_iload_n dX3_search_53 rfl ?_
    refine sv_cvR _ (ct_entries hn (m_J_e hJ3) hJ3.2.2.1 hj) okX3_entries kv_X3_97 (sx_rd_c (m_S_0 hn)) rfl dX3_search_54 rfl rfl (by decide) (Nat.le_of_ble_eq_true rfl) ?_
    refine sv_icmp_gtN (tgt := 97) dX3_search_57 (by decide) (by omega) (by omega) (fun c57 => ?_) (fun c57 => ?_)
    · obtain rfl : n = (a_es (A_v B) j).length := by omega
      refine sv_aload_n dX3_search_97 rfl ?_
      refine sv_iload_n dX3_search_98 rfl ?_
      refine sv_iconst (nI 0) dX3_search_99 (by decide +kernel) ?_
      refine sv_topI b0_I ?_
      refine sv_cvP _ (ct_ends_f hn hJ3 hj hln) okX3_ends kv_X3_181 (sx_rd_c (m_S_0 hn)) rfl dX3_search_100 rfl rfl (by decide) (Nat.le_of_ble_eq_true rfl) ?_
      intro v8 t8 hp8
      obtain ⟨rfl, M8, rfl, hJ8⟩ := hp8
      refine sv_istore dX3_search_103 (by decide) ?_
      refine sv_lload_n dX3_search_105 rfl ?_
      refine sv_lret rfl dX3_search_106 ?_
      exact ⟨_, rfl, rfl, _, rfl, hJ8⟩
    · have hlt : n < (a_es (A_v B) j).length := by omega
      refine sv_aload_n dX3_search_60 rfl ?_
      refine sv_iload_n dX3_search_61 rfl ?_
      refine sv_iload dX3_search_62 rfl ?_
      refine sv_cvR _ (ct_messageOf hn (m_J_e hJ3) hJ3.2.2.1 hj hbx hlt) okX3_messageOf kv_X3_113 (sx_rd_c (m_S_0 hn)) rfl dX3_search_64 rfl rfl (by decide) (Nat.le_of_ble_eq_true rfl) ?_
      refine sv_istore dX3_search_67 (by decide) ?_
      refine sv_iload dX3_search_69 rfl ?_
      refine sv_iconst (-1) dX3_search_71 (by decide +kernel) ?_
      refine sv_icmp_eq (tgt := 91) dX3_search_72 (by decide) (fun c72 => ?_) (fun c72 => ?_)
      · have hno := (o_I_m1 _ (fun m hm => by have h9 := mo_lt hbx hm; omega)).mp c72
        have hq : e_q (A_v B) j q n = false := by unfold e_q; rw [hbx, hno]
        have hs : lb (e_q (A_v B) j q) (n + 1) = lb (e_q (A_v B) j q) n := by show (if e_q (A_v B) j q n = true then _ else _) = _; rw [if_neg (bf_n hq)]
        refine sv_iincN dX3_search_91 rfl (by decide) ?_
        refine sv_goto (tgt := 50) dX3_search_94 (by decide) ?_
        have hih := ih (n + 1) (by omega) (by omega)
        rw [hs] at hih
        exact sx_loc _ (by refine ⟨rfl, rfl, rfl, rfl, rfl, trivial⟩) hih
      · obtain ⟨mm, hmm⟩ : ∃ m, a_mo (A_v B) j n = some m := by
          cases hz9 : a_mo (A_v B) j n with
          | none => exact absurd (by rw [hz9]; rfl) c72
          | some m => exact ⟨m, rfl⟩
        have hmlt := mo_lt hbx hmm
        have hq : e_q (A_v B) j q n = q (a_m (A_v B) b mm) := by unfold e_q; rw [hbx, hmm]
        have hh : a_has z mm = q (a_m (A_v B) b mm) := by rw [hz, s_b_has (by omega) hmlt]; rfl
        refine sv_iload_n dX3_search_75 rfl ?_
        refine sv_iload dX3_search_76 rfl ?_
        refine sv_topI (y := nI mm) (by rw [hmm]; rfl) ?_
        refine sv_csR _ ct_has okX3_has ks_X3_407 dX3_search_78 rfl rfl (by decide) (Nat.le_of_ble_eq_true rfl) ?_
        refine sv_if_eqB (tgt := 91) dX3_search_81 (by decide) (fun c81 => ?_) (fun c81 => ?_)
        · have c81 : a_has z mm = false := c81
          have hs : lb (e_q (A_v B) j q) (n + 1) = lb (e_q (A_v B) j q) n := by show (if e_q (A_v B) j q n = true then _ else _) = _; rw [if_neg (bf_n (hq.trans (hh.symm.trans c81)))]
          refine sv_iincN dX3_search_91 rfl (by decide) ?_
          refine sv_goto (tgt := 50) dX3_search_94 (by decide) ?_
          have hih := ih (n + 1) (by omega) (by omega)
          rw [hs] at hih
          exact sx_loc _ (by refine ⟨rfl, rfl, rfl, rfl, rfl, trivial⟩) hih
        · have c81 : a_has z mm = true := c81
          have hs : lb (e_q (A_v B) j q) (n + 1) = lb (e_q (A_v B) j q) n ||| ((1 : Int64) <<< ((nI (n + 1)).toInt64 &&& 63)) := by show (if e_q (A_v B) j q n = true then _ else _) = _; rw [if_pos (hq.trans (hh.symm.trans c81))]
          refine sv_lload_n dX3_search_84 rfl ?_
          refine sv_lconst 1 dX3_search_85 (by decide) ?_
          refine sv_iload dX3_search_86 rfl ?_
          refine sv_lshl _ dX3_search_88 rfl ?_
          refine sv_lor dX3_search_89 ?_
          refine sv_lstore_n dX3_search_90 (by decide) ?_
          refine sv_iincN dX3_search_91 rfl (by decide) ?_
          refine sv_goto (tgt := 50) dX3_search_94 (by decide) ?_
          have hih := ih (n + 1) (by omega) (by omega)
          rw [hs] at hih
          exact sx_loc _ (by refine ⟨rfl, rfl, rfl, rfl, rfl, trivial⟩) hih
  refine sx_body (by decide) (Nat.le_of_ble_eq_true rfl) ?_
  refine sv_aload_n dX3_search_0 rfl ?_
  refine sv_aload_n dX3_search_1 rfl ?_
  refine sv_iload_n dX3_search_2 rfl ?_
  refine sv_cvR _ (ct_isSession hn (m_J_e hJ).1 hJ.2.2.1.1) okX3_isSession kv_X3_93 (sx_rd_c (m_S_0 hn)) rfl dX3_search_3 rfl rfl (by decide) (Nat.le_of_ble_eq_true rfl) ?_
  refine sv_aload_n dX3_search_6 rfl ?_
  refine sv_iload_n dX3_search_7 rfl ?_
  refine sv_cvR _ (ct_canDo hn (m_J_e hJ) hJ.2.2.1) okX3_canDo kv_X3_169 (sx_rd_c (m_S_0 hn)) rfl dX3_search_8 rfl rfl (by decide) (Nat.le_of_ble_eq_true rfl) ?_
  refine sv_cvR _ (ct_passes2 hn) okX3_passes2 kv_X3_192 (sx_rd_c (m_S_0 hn)) rfl dX3_search_11 rfl rfl (by decide) (Nat.le_of_ble_eq_true rfl) ?_
  refine sv_if_neB (tgt := 19) dX3_search_14 (by decide) (fun c14 => ?_) (fun c14 => ?_)
  · have hc2 := c14
    rw [Bool.and_eq_true] at hc2
    obtain ⟨j, b, hj, rfl, ej, hbx, hb, hid⟩ := a_can_of hJ.2.2.1 hc2.2
    have hsp : sp_sea A (nI j) = x_sea (A_st A 0) j := by unfold sp_sea; rw [if_pos c14, ej]
    rw [hsp]
    rw [t_hr_2 c14]
    have hJ0 := m_J_t hJ 0
    refine sv_aload_n dX3_search_19 rfl ?_
    refine sv_aload_n dX3_search_20 rfl ?_
    refine sv_iload_n dX3_search_21 rfl ?_
    refine sv_cvR _ (ct_boxOf hn (m_J_e hJ0) hJ0.2.2.1 hj) okX3_boxOf kv_X3_87 (sx_rd_c (m_S_0 hn)) rfl dX3_search_22 rfl rfl (by decide) (Nat.le_of_ble_eq_true rfl) ?_
    refine sv_topI (y := nI b) (by rw [show a_bx (A_v (A_st A 0)) j = some b from hbx]; rfl) ?_
    refine sv_cvP _ (ct_wholeQuery (A := A_st A 0) (b := b) hn hJ0 hb9 hW hb) okX3_wholeQuery kv_X3_481 (sx_rd_c (m_S_0 hn)) rfl dX3_search_25 rfl rfl (by decide) (Nat.le_of_ble_eq_true rfl) ?_
    intro v2 t2 hp2
    obtain ⟨z, rfl, M2, rfl, a1, a2, a3, hZ2, hz2⟩ := hp2
    obtain ⟨w1, w2⟩ := wh_J hJ0 rfl a1 a2 a3 hZ2
    refine sv_istore_n dX3_search_28 (by decide) ?_
    refine sv_aload_n dX3_search_29 rfl ?_
    refine sv_cvR _ (ct_gd hn hZ2) okX3_good kv_X3_279 (sx_rd_c (m_S_0 hn)) rfl dX3_search_30 rfl rfl (by decide) (Nat.le_of_ble_eq_true rfl) ?_
    refine sv_if_neB (tgt := 40) dX3_search_33 (by decide) (fun c33 => ?_) (fun c33 => ?_)
    · obtain ⟨e, ek⟩ := r_g_t c33
      obtain ⟨⟨q, gq1⟩, g2⟩ := w2 e ek
      have hjj : j < (A_v (A_er (A_st A 0) 0 (-1))).2.2.length := hj
      have hj1 : j < (A_v (s_be (A_er (A_st A 0) 0 (-1)) j)).2.2.length := by rw [be_len]; exact hj
      have hbx1 : a_bx (A_v (s_be (A_er (A_st A 0) 0 (-1)) j)) j = some b := (be_bx _ _ hjj).trans hbx
      have hz3 : z = s_b (a_ms (A_v (s_be (A_er (A_st A 0) 0 (-1)) j)) b) q := hz2 q gq1
      refine sv_aload_n dX3_search_40 rfl ?_
      refine sv_iload_n dX3_search_41 rfl ?_
      refine sv_cvP _ (ct_begins hn g2 hjj) okX3_begins kv_X3_196 (sx_rd_c (m_S_0 hn)) rfl dX3_search_42 rfl rfl (by decide) (Nat.le_of_ble_eq_true rfl) ?_
      intro v3 t3 hp3
      obtain ⟨rfl, M3, rfl, hJ3⟩ := hp3
      refine sv_lconst 0 dX3_search_45 (by decide) ?_
      refine sv_lstore_n dX3_search_46 (by decide) ?_
      refine sv_iconst (nI 1) dX3_search_47 (by decide +kernel) ?_
      refine sv_istore dX3_search_48 (by decide) ?_
      have hl9 := loop j b z q (s_be (A_er (A_st A 0) 0 (-1)) j) M3 hJ3 hj1 hbx1 hb hz3 (by rw [be_n]; decide) 61 0 (Nat.zero_le _) (by have := hJ3.2.2.1.2.1 j hj1; omega)
      refine sx_V_Q hl9 ?_
      rintro o9 t9 ⟨v9, rfl, rfl, M9, rfl, hJ9⟩
      exact ⟨_, rfl, by rw [x_sea_q gq1, be_es _ _ hjj]; exact congrArg (fun y => some (Value.long y)) (lb_e (fun i _ => be_eq (A := A_er (A_st A 0) 0 (-1)) q hjj i)), M9, rfl, by rw [x_sea_q gq1]; exact hJ9⟩
    · obtain ⟨e, ek⟩ := r_g_f c33
      obtain ⟨g1, g2⟩ := w1 e ek
      have hv : (-4 : Int64) = (x_sea (A_st A 0) j).1 := by rw [x_sea_e g1]
      have hJ9 : m_J M2 (x_sea (A_st A 0) j).2 := by rw [x_sea_e g1]; exact g2
      refine sv_ldc2 q2623 dX3_search_36 ?_
      refine sv_lret rfl dX3_search_39 ?_
      exact ⟨_, rfl, congrArg (fun y => some (Value.long y)) hv, _, rfl, hJ9⟩
  · have hsp : sp_sea A x = (0, A_st A (nI (t_hr (i_in x (A_v A).2.2.length) (a_can (A_v A) x) true))) := by unfold sp_sea; rw [if_neg (bf_n c14)]
    refine sv_lconst 0 dX3_search_17 (by decide) ?_
    refine sv_lret rfl dX3_search_18 ?_
    exact ⟨_, rfl, by rw [hsp], _, rfl, by rw [hsp]; exact m_J_t hJ _⟩
end MPL
