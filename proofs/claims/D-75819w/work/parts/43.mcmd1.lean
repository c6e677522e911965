set_option maxRecDepth 100000
section MRJ
variable {G : sx_G} {h : Nat} {M : m_M} {σ : sx_St} {V : a_V} {A : a_A} {r r' : Nat → Int64}
/-- a command begins -/
def s_be (A : a_A) (s : Nat) : a_A := A_sn (A_sv (s_rm A) (v_ac (A_v A) s 0 1)) []
/-- a command ends: its session is told, then the idle ones -/
def s_en (A : a_A) (s : Nat) (all : Bool) : a_A := s_ti 5 (s_te A s all) 0
theorem m_J_n0 {f : Nat → Int64} {V' : a_V} (hJ : m_J M A) (he : e_V f V') (hw : w_V V') : m_J (m_a (m_i M 5 (nI 0)) 0 f) (A_sn (A_sv A V') []) := by
  refine m_J_v hJ rfl (fun k hk => ?_) (fun t ht => ?_) (fun t _ _ => rfl) (by rw [m_a_0]; exact he) hw ⟨Nat.zero_le _, ?_, fun i hi => absurd hi (Nat.not_lt_zero i)⟩
  · show upd M.1 5 _ k = M.1 k
    exact pk_un hk
  · simp [m_a, ht, m_i]
  · show upd M.1 5 (nI 0) 5 = nI 0
    exact pk_us
theorem ct_begins (hn : h + 11 < sx_n σ) (hJ : m_J M A) {s : Nat} (hs : s < (A_v A).2.2.length) : sx_Cp G 1 YX3_begins [.ref h, .int (nI s)] (m_S G h M σ) (fun v τ => v = none ∧ ∃ M2, τ = m_S G h M2 σ ∧ m_J M2 (s_be A s)) := by
  refine sx_body (by decide) (Nat.le_of_ble_eq_true rfl) ?_
  have hs4 := hJ.2.2.1.1.2.1
  refine sv_aload_n dX3_begins_0 rfl ?_
  refine sv_cvP _ (ct_remember hn hJ) okX3_remember kv_X3_175 (sx_rd_c (m_S_0 hn)) rfl dX3_begins_1 rfl rfl (by decide) (Nat.le_of_ble_eq_true rfl) ?_
  intro v1 t1 hp1
  obtain ⟨rfl, M1, rfl, hJ1⟩ := hp1
  refine sv_aload_n dX3_begins_4 rfl ?_
  refine sv_iconst (nI 0) dX3_begins_5 (by decide +kernel) ?_
  refine sm_put hn fp_X3_138 dX3_begins_6 rfl (by decide) ?_
  refine sv_aload_n dX3_begins_9 rfl ?_
  refine sm_get hn fg_X3_17 dX3_begins_10 rfl ?_
  refine sv_iload_n dX3_begins_13 rfl ?_
  refine sv_csR _ ct_sessionAt okX3_sessionAt ks_X3_84 dX3_begins_14 rfl rfl (by decide) (Nat.le_of_ble_eq_true rfl) ?_
  refine sv_bipush (nI 6) dX3_begins_17 (by decide +kernel) ?_
  refine sv_iaddN dX3_begins_19 ?_
  refine sv_dup2 dX3_begins_20 rfl rfl ?_
  refine sm_nld hn dX3_begins_21 (by omega) ?_
  refine sv_lconst 1 dX3_begins_22 (by decide) ?_
  refine sv_ladd dX3_begins_23 ?_
  refine sm_nst hn dX3_begins_24 (by omega) ?_
  rw [m_n_e]
  refine sv_vret rfl dX3_begins_25 ?_
  exact ⟨_, rfl, rfl, _, rfl, m_J_n0 hJ1 (e_V_ac (k := 0) (x := 1) hJ1.2.2.1 hs (by decide) hJ1.2.1) (w_V_ac hJ1.2.2.1 hs)⟩
theorem ct_ends_t (hn : h + 11 < sx_n σ) (hJ : m_J M A) {s : Nat} (hs : s < (A_v A).2.2.length) (hl : (A_n A).length + 700 ≤ 1000) : sx_Cp G 10 YX3_ends [.ref h, .int (nI s), .int (b_I true)] (m_S G h M σ) (fun v τ => v = some (.int (nI ((A_n (s_te A s true)).length - (A_n A).length))) ∧ ∃ M2, τ = m_S G h M2 σ ∧ m_J M2 (s_en A s true)) := by
  refine sx_body (by decide) (Nat.le_of_ble_eq_true rfl) ?_
  refine sv_aload_n dX3_ends_0 rfl ?_
  refine sv_iload_n dX3_ends_1 rfl ?_
  refine sv_iload_n dX3_ends_2 rfl ?_
  refine sv_cvP _ (ct_tells_t hn hJ hs (by omega)) okX3_tells kv_X3_165 (sx_rd_c (m_S_0 hn)) rfl dX3_ends_3 rfl rfl (by decide) (Nat.le_of_ble_eq_true rfl) ?_
  intro v1 t1 hp1
  obtain ⟨rfl, M1, rfl, hJ1⟩ := hp1
  have k1 := (kp_te A s true).2.2.2.2.2.1
  refine sv_istore_n dX3_ends_6 (by decide) ?_
  refine sv_aload_n dX3_ends_7 rfl ?_
  refine sv_cvP _ (ct_tellsIdle hn hJ1 (by omega)) okX3_tellsIdle kv_X3_178 (sx_rd_c (m_S_0 hn)) rfl dX3_ends_8 rfl rfl (by decide) (Nat.le_of_ble_eq_true rfl) ?_
  intro v2 t2 hp2
  obtain ⟨rfl, M2, rfl, hJ2⟩ := hp2
  refine sv_iload_n dX3_ends_11 rfl ?_
  refine sv_iret rfl rfl dX3_ends_12 ?_
  exact ⟨_, rfl, rfl, M2, rfl, hJ2⟩
theorem ct_done_t (hn : h + 11 < sx_n σ) (hJ : m_J M A) {s : Nat} {x : Int32} (hs : s < (A_v A).2.2.length) (hl : (A_n A).length + 700 ≤ 1000) : sx_Cp G 11 YX3_done [.ref h, .int (nI s), .int (b_I true), .int x] (m_S G h M σ) (fun v τ => v = some (.int (x)) ∧ ∃ M2, τ = m_S G h M2 σ ∧ m_J M2 (s_en A s true)) := by
  refine sx_body (by decide) (Nat.le_of_ble_eq_true rfl) ?_
  refine sv_aload_n dX3_done_0 rfl ?_
  refine sv_iload_n dX3_done_1 rfl ?_
  refine sv_iload_n dX3_done_2 rfl ?_
  refine sv_cvP _ (ct_ends_t hn hJ hs (by omega)) okX3_ends kv_X3_181 (sx_rd_c (m_S_0 hn)) rfl dX3_done_3 rfl rfl (by decide) (Nat.le_of_ble_eq_true rfl) ?_
  intro v1 t1 hp1
  obtain ⟨rfl, M1, rfl, hJ1⟩ := hp1
  refine sv_istore dX3_done_6 (by decide) ?_
  refine sv_iload_n dX3_done_8 rfl ?_
  refine sv_iret rfl rfl dX3_done_9 ?_
  exact ⟨_, rfl, rfl, M1, rfl, hJ1⟩
theorem ct_ends_f (hn : h + 11 < sx_n σ) (hJ : m_J M A) {s : Nat} (hs : s < (A_v A).2.2.length) (hl : (A_n A).length + 700 ≤ 1000) : sx_Cp G 10 YX3_ends [.ref h, .int (nI s), .int (b_I false)] (m_S G h M σ) (fun v τ => v = some (.int (nI ((A_n (s_te A s false)).length - (A_n A).length))) ∧ ∃ M2, τ = m_S G h M2 σ ∧ m_J M2 (s_en A s false)) := by
  refine sx_body (by decide) (Nat.le_of_ble_eq_true rfl) ?_
  refine sv_aload_n dX3_ends_0 rfl ?_
  refine sv_iload_n dX3_ends_1 rfl ?_
  refine sv_iload_n dX3_ends_2 rfl ?_
  refine sv_cvP _ (ct_tells_f hn hJ hs (by omega)) okX3_tells kv_X3_165 (sx_rd_c (m_S_0 hn)) rfl dX3_ends_3 rfl rfl (by decide) (Nat.le_of_ble_eq_true rfl) ?_
  intro v1 t1 hp1
  obtain ⟨rfl, M1, rfl, hJ1⟩ := hp1
  have k1 := (kp_te A s false).2.2.2.2.2.1
  refine sv_istore_n dX3_ends_6 (by decide) ?_
  refine sv_aload_n dX3_ends_7 rfl ?_
  refine sv_cvP _ (ct_tellsIdle hn hJ1 (by omega)) okX3_tellsIdle kv_X3_178 (sx_rd_c (m_S_0 hn)) rfl dX3_ends_8 rfl rfl (by decide) (Nat.le_of_ble_eq_true rfl) ?_
  intro v2 t2 hp2
  obtain ⟨rfl, M2, rfl, hJ2⟩ := hp2
  refine sv_iload_n dX3_ends_11 rfl ?_
  refine sv_iret rfl rfl dX3_ends_12 ?_
  exact ⟨_, rfl, rfl, M2, rfl, hJ2⟩
theorem ct_done_f (hn : h + 11 < sx_n σ) (hJ : m_J M A) {s : Nat} {x : Int32} (hs : s < (A_v A).2.2.length) (hl : (A_n A).length + 700 ≤ 1000) : sx_Cp G 11 YX3_done [.ref h, .int (nI s), .int (b_I false), .int x] (m_S G h M σ) (fun v τ => v = some (.int (x)) ∧ ∃ M2, τ = m_S G h M2 σ ∧ m_J M2 (s_en A s false)) := by
  refine sx_body (by decide) (Nat.le_of_ble_eq_true rfl) ?_
  refine sv_aload_n dX3_done_0 rfl ?_
  refine sv_iload_n dX3_done_1 rfl ?_
  refine sv_iload_n dX3_done_2 rfl ?_
  refine sv_cvP _ (ct_ends_f hn hJ hs (by omega)) okX3_ends kv_X3_181 (sx_rd_c (m_S_0 hn)) rfl dX3_done_3 rfl rfl (by decide) (Nat.le_of_ble_eq_true rfl) ?_
  intro v1 t1 hp1
  obtain ⟨rfl, M1, rfl, hJ1⟩ := hp1
  refine sv_istore dX3_done_6 (by decide) ?_
  refine sv_iload_n dX3_done_8 rfl ?_
  refine sv_iret rfl rfl dX3_done_9 ?_
  exact ⟨_, rfl, rfl, M1, rfl, hJ1⟩
theorem be_n (A : a_A) (s : Nat) : A_n (s_be A s) = [] := rfl
theorem be_v (A : a_A) (s : Nat) : A_v (s_be A s) = v_ac (A_v A) s 0 1 := rfl
theorem be_len (A : a_A) (s : Nat) : (A_v (s_be A s)).2.2.length = (A_v A).2.2.length := v_ac_n
def sp_noop (A : a_A) (s : Int32) : Int32 × a_A := if i_in s (A_v A).2.2.length then (if a_can (A_v A) s then (nI (A_n (s_te (s_be (A_st A 0) s.toNatClampNeg) s.toNatClampNeg true)).length, s_en (s_be (A_st A 0) s.toNatClampNeg) s.toNatClampNeg true) else (0, A_st A 2)) else (0, A_st A 1)
def v_id (V : a_V) (s : Nat) (c : Bool) : a_V := a_us V s (S_id (a_s V s) c)
def s_id (A : a_A) (s : Nat) (c : Bool) : a_A := A_sv A (v_id (A_v A) s c)
def sp_idle (A : a_A) (s : Int32) : Int32 × a_A := if i_in s (A_v A).2.2.length then (if a_can (A_v A) s then (nI (A_n (s_te (s_id (s_be (A_st A 0) s.toNatClampNeg) s.toNatClampNeg true) s.toNatClampNeg true)).length, s_en (s_id (s_be (A_st A 0) s.toNatClampNeg) s.toNatClampNeg true) s.toNatClampNeg true) else (0, A_st A 2)) else (0, A_st A 1)
def sp_stop (A : a_A) (s : Int32) : Int32 × a_A := if i_in s (A_v A).2.2.length then (if a_id (A_v A) s.toNatClampNeg then (nI (A_n (s_te (s_id (s_be (A_st A 0) s.toNatClampNeg) s.toNatClampNeg false) s.toNatClampNeg true)).length, s_en (s_id (s_be (A_st A 0) s.toNatClampNeg) s.toNatClampNeg false) s.toNatClampNeg true) else (0, A_st A 2)) else (0, A_st A 1)
theorem e_V_id {s : Nat} {c : Bool} {x : Int64} (hw : w_V V) (hs : s < V.2.2.length) (hx : x.toInt32 = b_I c) (h : e_V r V) : e_V (vp_updL r (282 + 131 * s + 3) x) (v_id V s c) := by
  obtain ⟨h1, h2, h3, h4, h5, h6, h7⟩ := h.2.1 s hs
  refine e_V_s hw hs h (fun i hi => uL_n (by omega)) ⟨by rw [uL_n (by omega)]; exact h1, by rw [uL_n (by omega)]; exact h2, by rw [uL_n (by omega)]; exact h3, by rw [uL_s]; exact hx, by rw [uL_n (by omega)]; exact h5, fun j hj => by rw [uL_n (by omega)]; exact h6 j hj, fun j hj => by rw [uL_n (by omega), uL_n (by omega)]; exact h7 j hj⟩ ?_
  intro b hb m hm
  rw [a_us_bx hs] at hb
  rw [uL_n (by omega), a_us_ls hs]
  exact h.2.2 s hs b hb m hm
theorem w_V_id {s : Nat} {c : Bool} (hw : w_V V) (hs : s < V.2.2.length) : w_V (v_id V s c) := w_V_s hw (hw.2.1 s hs) (fun b hb => hw.2.2.1 s b hs hb) (fun hb => hw.2.2.2 s hs hb)
theorem can_in {s : Int32} (h : i_in s V.2.2.length = false) : a_can V s = false := by unfold a_can; rw [h]; rfl
theorem ct_noop (hn : h + 11 < sx_n σ) (hJ : m_J M A) {s : Int32} : sx_Cp G 12 YX3_noop [.ref h, .int s] (m_S G h M σ) (fun v τ => v = some (.int ((sp_noop A s).1)) ∧ ∃ M2, τ = m_S G h M2 σ ∧ m_J M2 ((sp_noop A s).2)) := by
  refine sx_body (by decide) (Nat.le_of_ble_eq_true rfl) ?_
  refine sv_aload_n dX3_noop_0 rfl ?_
  refine sv_aload_n dX3_noop_1 rfl ?_
  refine sv_iload_n dX3_noop_2 rfl ?_
  refine sv_cvR _ (ct_isSession hn (m_J_e hJ).1 hJ.2.2.1.1) okX3_isSession kv_X3_93 (sx_rd_c (m_S_0 hn)) rfl dX3_noop_3 rfl rfl (by decide) (Nat.le_of_ble_eq_true rfl) ?_
  refine sv_aload_n dX3_noop_6 rfl ?_
  refine sv_iload_n dX3_noop_7 rfl ?_
  refine sv_cvR _ (ct_canDo hn (m_J_e hJ) hJ.2.2.1) okX3_canDo kv_X3_169 (sx_rd_c (m_S_0 hn)) rfl dX3_noop_8 rfl rfl (by decide) (Nat.le_of_ble_eq_true rfl) ?_
  refine sv_cvR _ (ct_passes2 hn) okX3_passes2 kv_X3_192 (sx_rd_c (m_S_0 hn)) rfl dX3_noop_11 rfl rfl (by decide) (Nat.le_of_ble_eq_true rfl) ?_
  refine sv_if_neB (tgt := 19) dX3_noop_14 (by decide) (fun c14 => ?_) (fun c14 => ?_)
  · rw [Bool.and_eq_true] at c14
    obtain ⟨j, b, hj, rfl, ej, hbx, hb, hid⟩ := a_can_of hJ.2.2.1 c14.2
    have hJ0 := m_J_t hJ (nI (t_hr (i_in (nI j) (A_v A).2.2.length) (a_can (A_v A) (nI j)) true))
    rw [c14.1, c14.2, show nI (t_hr true true true) = 0 from rfl] at hJ0
    have hsp : sp_noop A (nI j) = (nI (A_n (s_te (s_be (A_st A 0) j) j true)).length, s_en (s_be (A_st A 0) j) j true) := by unfold sp_noop; rw [if_pos c14.1, if_pos c14.2, ej]
    rw [hsp]
    rw [c14.1, c14.2, show nI (t_hr true true true) = 0 from rfl]
    have hj0 : j < (A_v (A_st A 0)).2.2.length := hj
    refine sv_aload_n dX3_noop_19 rfl ?_
    refine sv_iload_n dX3_noop_20 rfl ?_
    refine sv_cvP _ (ct_begins hn hJ0 hj) okX3_begins kv_X3_196 (sx_rd_c (m_S_0 hn)) rfl dX3_noop_21 rfl rfl (by decide) (Nat.le_of_ble_eq_true rfl) ?_
    intro v1 t1 hp1
    obtain ⟨rfl, M1, rfl, hJ1⟩ := hp1
    have hj1 : j < (A_v (s_be (A_st A 0) j)).2.2.length := by rw [be_len]; exact hj
    refine sv_aload_n dX3_noop_24 rfl ?_
    refine sv_iload_n dX3_noop_25 rfl ?_
    refine sv_iconst (nI 1) dX3_noop_26 (by decide +kernel) ?_
    have hb1 : b_I true = nI 1 := rfl
    rw [← hb1]
    refine sv_cvP _ (ct_ends_t hn hJ1 hj1 (by show 0 + 700 ≤ 1000; omega)) okX3_ends kv_X3_181 (sx_rd_c (m_S_0 hn)) rfl dX3_noop_27 rfl rfl (by decide) (Nat.le_of_ble_eq_true rfl) ?_
    intro v2 t2 hp2
    obtain ⟨rfl, M3, rfl, hJ3⟩ := hp2
    refine sv_iret rfl rfl dX3_noop_30 ?_
    exact ⟨_, rfl, rfl, M3, rfl, hJ3⟩
  · have hsp : sp_noop A s = (0, A_st A (nI (t_hr (i_in s (A_v A).2.2.length) (a_can (A_v A) s) true))) := by
      unfold sp_noop
      by_cases hi : i_in s (A_v A).2.2.length = true
      · rw [hi, Bool.true_and] at c14
        rw [if_pos hi, if_neg (by rw [c14]; decide), hi, c14]
        rfl
      · rw [Bool.not_eq_true] at hi
        rw [if_neg (by rw [hi]; decide), hi, can_in hi]
        rfl
    rw [hsp]
    refine sv_iconst (nI 0) dX3_noop_17 (by decide +kernel) ?_
    refine sv_iret rfl rfl dX3_noop_18 ?_
    exact ⟨_, rfl, r_I nI_0, _, rfl, m_J_t hJ _⟩
theorem ct_startIdle (hn : h + 11 < sx_n σ) (hJ : m_J M A) {s : Int32} : sx_Cp G 12 YX3_startIdle [.ref h, .int s] (m_S G h M σ) (fun v τ => v = some (.int ((sp_idle A s).1)) ∧ ∃ M2, τ = m_S G h M2 σ ∧ m_J M2 ((sp_idle A s).2)) := by
  refine sx_body (by decide) (Nat.le_of_ble_eq_true rfl) ?_
  refine sv_aload_n dX3_startIdle_0 rfl ?_
  refine sv_aload_n dX3_startIdle_1 rfl ?_
  refine sv_iload_n dX3_startIdle_2 rfl ?_
  refine sv_cvR _ (ct_isSession hn (m_J_e hJ).1 hJ.2.2.1.1) okX3_isSession kv_X3_93 (sx_rd_c (m_S_0 hn)) rfl dX3_startIdle_3 rfl rfl (by decide) (Nat.le_of_ble_eq_true rfl) ?_
  refine sv_aload_n dX3_startIdle_6 rfl ?_
  refine sv_iload_n dX3_startIdle_7 rfl ?_
  refine sv_cvR _ (ct_canDo hn (m_J_e hJ) hJ.2.2.1) okX3_canDo kv_X3_169 (sx_rd_c (m_S_0 hn)) rfl dX3_startIdle_8 rfl rfl (by decide) (Nat.le_of_ble_eq_true rfl) ?_
  refine sv_cvR _ (ct_passes2 hn) okX3_passes2 kv_X3_192 (sx_rd_c (m_S_0 hn)) rfl dX3_startIdle_11 rfl rfl (by decide) (Nat.le_of_ble_eq_true rfl) ?_
  refine sv_if_neB (tgt := 19) dX3_startIdle_14 (by decide) (fun c14 => ?_) (fun c14 => ?_)
  · rw [Bool.and_eq_true] at c14
    obtain ⟨j, b, hj, rfl, ej, hbx, hb, hid⟩ := a_can_of hJ.2.2.1 c14.2
    have hJ0 := m_J_t hJ (nI (t_hr (i_in (nI j) (A_v A).2.2.length) (a_can (A_v A) (nI j)) true))
    rw [c14.1, c14.2, show nI (t_hr true true true) = 0 from rfl] at hJ0
    have hsp : sp_idle A (nI j) = (nI (A_n (s_te (s_id (s_be (A_st A 0) j) j true) j true)).length, s_en (s_id (s_be (A_st A 0) j) j true) j true) := by unfold sp_idle; rw [if_pos c14.1, if_pos c14.2, ej]
    rw [hsp]
    rw [c14.1, c14.2, show nI (t_hr true true true) = 0 from rfl]
    have hj0 : j < (A_v (A_st A 0)).2.2.length := hj
    refine sv_aload_n dX3_startIdle_19 rfl ?_
    refine sv_iload_n dX3_startIdle_20 rfl ?_
    refine sv_cvP _ (ct_begins hn hJ0 hj) okX3_begins kv_X3_196 (sx_rd_c (m_S_0 hn)) rfl dX3_startIdle_21 rfl rfl (by decide) (Nat.le_of_ble_eq_true rfl) ?_
    intro v1 t1 hp1
    obtain ⟨rfl, M1, rfl, hJ1⟩ := hp1
    have hj1 : j < (A_v (s_id (s_be (A_st A 0) j) j true)).2.2.length := by rw [show (A_v (s_id (s_be (A_st A 0) j) j true)).2.2.length = (A_v (s_be (A_st A 0) j)).2.2.length from a_us_n _ _ _, be_len]; exact hj
    have hjb : j < (A_v (s_be (A_st A 0) j)).2.2.length := by rw [be_len]; exact hj
    refine sv_aload_n dX3_startIdle_24 rfl ?_
    refine sm_get hn fg_X3_17 dX3_startIdle_25 rfl ?_
    refine sv_iload_n dX3_startIdle_28 rfl ?_
    refine sv_csR _ ct_sessionAt okX3_sessionAt ks_X3_84 dX3_startIdle_29 rfl rfl (by decide) (Nat.le_of_ble_eq_true rfl) ?_
    refine sv_iconst (nI 3) dX3_startIdle_32 (by decide +kernel) ?_
    refine sv_iaddN dX3_startIdle_33 ?_
    have hs4 := hJ.2.2.1.1.2.1
    refine sv_lconst 1 dX3_startIdle_34 (by decide) ?_
    refine sm_nst hn dX3_startIdle_35 (by omega) ?_
    rw [m_n_e]
    have hJ2 : m_J _ (s_id (s_be (A_st A 0) j) j true) := m_J_a hJ1 (e_V_id (c := true) (x := 1) hJ1.2.2.1 hjb rfl hJ1.2.1) (w_V_id hJ1.2.2.1 hjb)
    refine sv_aload_n dX3_startIdle_36 rfl ?_
    refine sv_iload_n dX3_startIdle_37 rfl ?_
    refine sv_iconst (nI 1) dX3_startIdle_38 (by decide +kernel) ?_
    have hb1 : b_I true = nI 1 := rfl
    rw [← hb1]
    refine sv_cvP _ (ct_ends_t hn hJ2 hj1 (by show 0 + 700 ≤ 1000; omega)) okX3_ends kv_X3_181 (sx_rd_c (m_S_0 hn)) rfl dX3_startIdle_39 rfl rfl (by decide) (Nat.le_of_ble_eq_true rfl) ?_
    intro v2 t2 hp2
    obtain ⟨rfl, M3, rfl, hJ3⟩ := hp2
    refine sv_iret rfl rfl dX3_startIdle_42 ?_
    exact ⟨_, rfl, rfl, M3, rfl, hJ3⟩
  · have hsp : sp_idle A s = (0, A_st A (nI (t_hr (i_in s (A_v A).2.2.length) (a_can (A_v A) s) true))) := by
      unfold sp_idle
      by_cases hi : i_in s (A_v A).2.2.length = true
      · rw [hi, Bool.true_and] at c14
        rw [if_pos hi, if_neg (by rw [c14]; decide), hi, c14]
        rfl
      · rw [Bool.not_eq_true] at hi
        rw [if_neg (by rw [hi]; decide), hi, can_in hi]
        rfl
    rw [hsp]
    refine sv_iconst (nI 0) dX3_startIdle_17 (by decide +kernel) ?_
    refine sv_iret rfl rfl dX3_startIdle_18 ?_
    exact ⟨_, rfl, r_I nI_0, _, rfl, m_J_t hJ _⟩
end MRJ
