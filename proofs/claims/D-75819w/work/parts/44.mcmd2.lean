set_option maxRecDepth 100000
section MRK
variable {G : sx_G} {h : Nat} {M : m_M} {σ : sx_St} {V : a_V} {A : a_A} {r r' : Nat → Int64}
theorem sp_stop_no {s : Int32} (hc : (i_in s (A_v A).2.2.length && (i_in s (A_v A).2.2.length && a_id (A_v A) s.toNatClampNeg)) = false) : sp_stop A s = (0, A_st A (nI (t_hr (i_in s (A_v A).2.2.length) (i_in s (A_v A).2.2.length && a_id (A_v A) s.toNatClampNeg) true))) := by
  unfold sp_stop
  by_cases hi : i_in s (A_v A).2.2.length = true
  · rw [hi, Bool.true_and, Bool.true_and] at hc
    rw [if_pos hi, if_neg (by rw [hc]; decide), hi, hc]
    rfl
  · rw [Bool.not_eq_true] at hi
    rw [if_neg (by rw [hi]; decide), hi]
    rfl
theorem ct_stopIdle (hn : h + 11 < sx_n σ) (hJ : m_J M A) {s : Int32} : sx_Cp G 12 YX3_stopIdle [.ref h, .int s] (m_S G h M σ) (fun v τ => v = some (.int ((sp_stop A s).1)) ∧ ∃ M2, τ = m_S G h M2 σ ∧ m_J M2 ((sp_stop A s).2)) := by
  have tail : ∀ (x : Int32) j, x = nI j → j < (A_v A).2.2.length → a_id (A_v A) j = true → sx_V G 12 YX3_stopIdle 33 [some (.ref h), some (.int x), none] [] (m_S G h (m_i M 0 0) σ) (fun o τ => ∃ v, o = .inl v ∧ v = some (.int (sp_stop A x).1) ∧ ∃ M2, τ = m_S G h M2 σ ∧ m_J M2 (sp_stop A x).2) := by
    have hs4 := hJ.2.2.1.1.2.1
    rintro x j rfl hj hid
    have ej : (nI j).toNatClampNeg = j := nI_clamp (by omega)
    have hsp : sp_stop A (nI j) = (nI (A_n (s_te (s_id (s_be (A_st A 0) j) j false) j true)).length, s_en (s_id (s_be (A_st A 0) j) j false) j true) := by unfold sp_stop; rw [if_pos (i_in_nI hj (by omega)), ej, if_pos hid]
    rw [hsp]
    have hJ0 := m_J_t hJ 0
    have hjb : j < (A_v (s_be (A_st A 0) j)).2.2.length := by rw [be_len]; exact hj
    have hj1 : j < (A_v (s_id (s_be (A_st A 0) j) j false)).2.2.length := by rw [show (A_v (s_id (s_be (A_st A 0) j) j false)).2.2.length = (A_v (s_be (A_st A 0) j)).2.2.length from a_us_n _ _ _]; exact hjb
    refine sv_aload_n dX3_stopIdle_33 rfl ?_
    refine sv_iload_n dX3_stopIdle_34 rfl ?_
    refine sv_cvP _ (ct_begins hn hJ0 hj) okX3_begins kv_X3_196 (sx_rd_c (m_S_0 hn)) rfl dX3_stopIdle_35 rfl rfl (by decide) (Nat.le_of_ble_eq_true rfl) ?_
    intro v1 t1 hp1
    obtain ⟨rfl, M1, rfl, hJ1⟩ := hp1
    refine sv_aload_n dX3_stopIdle_38 rfl ?_
    refine sm_get hn fg_X3_17 dX3_stopIdle_39 rfl ?_
    refine sv_iload_n dX3_stopIdle_42 rfl ?_
    refine sv_csR _ ct_sessionAt okX3_sessionAt ks_X3_84 dX3_stopIdle_43 rfl rfl (by decide) (Nat.le_of_ble_eq_true rfl) ?_
    refine sv_iconst (nI 3) dX3_stopIdle_46 (by decide +kernel) ?_
    refine sv_iaddN dX3_stopIdle_47 ?_
    refine sv_lconst 0 dX3_stopIdle_48 (by decide) ?_
    refine sm_nst hn dX3_stopIdle_49 (by omega) ?_
    rw [m_n_e]
    have hJ2 : m_J _ (s_id (s_be (A_st A 0) j) j false) := m_J_a hJ1 (e_V_id (c := false) (x := 0) hJ1.2.2.1 hjb rfl hJ1.2.1) (w_V_id hJ1.2.2.1 hjb)
    refine sv_aload_n dX3_stopIdle_50 rfl ?_
    refine sv_iload_n dX3_stopIdle_51 rfl ?_
    refine sv_iconst (nI 1) dX3_stopIdle_52 (by decide +kernel) ?_
    have hb1 : b_I true = nI 1 := rfl
    rw [← hb1]
    refine sv_cvP _ (ct_ends_t hn hJ2 hj1 (by show 0 + 700 ≤ 1000; omega)) okX3_ends kv_X3_181 (sx_rd_c (m_S_0 hn)) rfl dX3_stopIdle_53 rfl rfl (by decide) (Nat.le_of_ble_eq_true rfl) ?_
    intro v2 t2 hp2
    obtain ⟨rfl, M3, rfl, hJ3⟩ := hp2
    refine sv_iret rfl rfl dX3_stopIdle_56 ?_
    exact ⟨_, rfl, rfl, M3, rfl, hJ3⟩
  refine sx_body (by decide) (Nat.le_of_ble_eq_true rfl) ?_
  have hs4 := hJ.2.2.1.1.2.1
  refine sv_aload_n dX3_stopIdle_0 rfl ?_
  refine sv_iload_n dX3_stopIdle_1 rfl ?_
  refine sv_cvR _ (ct_isSession hn (m_J_e hJ).1 hJ.2.2.1.1) okX3_isSession kv_X3_93 (sx_rd_c (m_S_0 hn)) rfl dX3_stopIdle_2 rfl rfl (by decide) (Nat.le_of_ble_eq_true rfl) ?_
  refine sv_istore_n dX3_stopIdle_5 (by decide) ?_
  refine sv_aload_n dX3_stopIdle_6 rfl ?_
  refine sv_iload_n dX3_stopIdle_7 rfl ?_
  refine sv_iload_n dX3_stopIdle_8 rfl ?_
  refine sv_if_eqB (tgt := 24) dX3_stopIdle_9 (by decide) (fun c9 => ?_) (fun c9 => ?_)
  · have hjn : nI 0 = b_I (i_in s (A_v A).2.2.length && a_id (A_v A) s.toNatClampNeg) := by rw [c9]; rfl
    refine sv_iconst (nI 0) dX3_stopIdle_24 (by decide +kernel) ?_
    refine sv_topI hjn ?_
    refine sv_cvR _ (ct_passes2 hn) okX3_passes2 kv_X3_192 (sx_rd_c (m_S_0 hn)) rfl dX3_stopIdle_25 rfl rfl (by decide) (Nat.le_of_ble_eq_true rfl) ?_
    refine sv_if_neB (tgt := 33) dX3_stopIdle_28 (by decide) (fun c28 => ?_) (fun c28 => ?_)
    · rw [Bool.and_eq_true, Bool.and_eq_true] at c28
      obtain ⟨j2, hj2, e2⟩ := i_in_of (by omega) c28.1
      have e3 : (nI j2).toNatClampNeg = j2 := nI_clamp (by omega)
      rw [c28.1, c28.2.2, Bool.and_self, show nI (t_hr true true true) = 0 from rfl]
      exact sx_loc [some (.ref h), some (.int _), none] ⟨rfl, rfl, trivial⟩ (tail _ j2 e2 hj2 (by have := c28.2.2; rw [e2, e3] at this; exact this))
    · rw [sp_stop_no c28]
      refine sv_iconst (nI 0) dX3_stopIdle_31 (by decide +kernel) ?_
      refine sv_iret rfl rfl dX3_stopIdle_32 ?_
      exact ⟨_, rfl, r_I nI_0, _, rfl, m_J_t hJ _⟩
  · obtain ⟨j, hj, rfl⟩ := i_in_of (by omega) c9
    have ej : (nI j).toNatClampNeg = j := nI_clamp (by omega)
    refine sv_aload_n dX3_stopIdle_12 rfl ?_
    refine sv_iload_n dX3_stopIdle_13 rfl ?_
    refine sv_cvR _ (ct_isIdle hn (m_J_e hJ) hJ.2.2.1 hj) okX3_isIdle kv_X3_162 (sx_rd_c (m_S_0 hn)) rfl dX3_stopIdle_14 rfl rfl (by decide) (Nat.le_of_ble_eq_true rfl) ?_
    refine sv_if_eqB (tgt := 24) dX3_stopIdle_17 (by decide) (fun c17 => ?_) (fun c17 => ?_)
    · have hjn : nI 0 = b_I (i_in  (nI j) (A_v A).2.2.length && a_id (A_v A) (nI j).toNatClampNeg) := by rw [c9, ej, c17]; rfl
      refine sv_iconst (nI 0) dX3_stopIdle_24 (by decide +kernel) ?_
      refine sv_topI hjn ?_
      refine sv_cvR _ (ct_passes2 hn) okX3_passes2 kv_X3_192 (sx_rd_c (m_S_0 hn)) rfl dX3_stopIdle_25 rfl rfl (by decide) (Nat.le_of_ble_eq_true rfl) ?_
      refine sv_if_neB (tgt := 33) dX3_stopIdle_28 (by decide) (fun c28 => ?_) (fun c28 => ?_)
      · rw [Bool.and_eq_true, Bool.and_eq_true] at c28
        obtain ⟨j2, hj2, e2⟩ := i_in_of (by omega) c28.1
        have e3 : (nI j2).toNatClampNeg = j2 := nI_clamp (by omega)
        rw [c28.1, c28.2.2, Bool.and_self, show nI (t_hr true true true) = 0 from rfl]
        exact sx_loc [some (.ref h), some (.int _), none] ⟨rfl, rfl, trivial⟩ (tail _ j2 e2 hj2 (by have := c28.2.2; rw [e2, e3] at this; exact this))
      · rw [sp_stop_no c28]
        refine sv_iconst (nI 0) dX3_stopIdle_31 (by decide +kernel) ?_
        refine sv_iret rfl rfl dX3_stopIdle_32 ?_
        exact ⟨_, rfl, r_I nI_0, _, rfl, m_J_t hJ _⟩
    · have hjn : nI 1 = b_I (i_in  (nI j) (A_v A).2.2.length && a_id (A_v A) (nI j).toNatClampNeg) := by rw [c9, ej, c17]; rfl
      refine sv_iconst (nI 1) dX3_stopIdle_20 (by decide +kernel) ?_
      refine sv_goto (tgt := 25) dX3_stopIdle_21 (by decide) ?_
      refine sv_topI hjn ?_
      refine sv_cvR _ (ct_passes2 hn) okX3_passes2 kv_X3_192 (sx_rd_c (m_S_0 hn)) rfl dX3_stopIdle_25 rfl rfl (by decide) (Nat.le_of_ble_eq_true rfl) ?_
      refine sv_if_neB (tgt := 33) dX3_stopIdle_28 (by decide) (fun c28 => ?_) (fun c28 => ?_)
      · rw [Bool.and_eq_true, Bool.and_eq_true] at c28
        obtain ⟨j2, hj2, e2⟩ := i_in_of (by omega) c28.1
        have e3 : (nI j2).toNatClampNeg = j2 := nI_clamp (by omega)
        rw [c28.1, c28.2.2, Bool.and_self, show nI (t_hr true true true) = 0 from rfl]
        exact sx_loc [some (.ref h), some (.int _), none] ⟨rfl, rfl, trivial⟩ (tail _ j2 e2 hj2 (by have := c28.2.2; rw [e2, e3] at this; exact this))
      · rw [sp_stop_no c28]
        refine sv_iconst (nI 0) dX3_stopIdle_31 (by decide +kernel) ?_
        refine sv_iret rfl rfl dX3_stopIdle_32 ?_
        exact ⟨_, rfl, r_I nI_0, _, rfl, m_J_t hJ _⟩
/-- a session without a box -/
def m_lv (M : m_M) (s : Nat) : m_M := m_u (m_u (m_u (m_u M (282 + 131 * s + 1) (-1)) (282 + 131 * s + 2) 0) (282 + 131 * s + 4) 0) (282 + 131 * s + 5) 0
def r_lv (r : Nat → Int64) (s : Nat) : Nat → Int64 := vp_updL (vp_updL (vp_updL (vp_updL r (282 + 131 * s + 1) (-1)) (282 + 131 * s + 2) 0) (282 + 131 * s + 4) 0) (282 + 131 * s + 5) 0
theorem m_w_lv (s : Nat) : m_w (m_lv M s) = r_lv (m_w M) s := by
  unfold m_lv r_lv
  rw [m_w_u, m_w_u, m_w_u, m_w_u]
theorem ct_leaveBox (hn : h + 11 < sx_n σ) {s : Nat} (hs : s < 4) : sx_Cr G 1 YX3_leaveBox [.ref h, .int (nI s)] (m_S G h M σ) none (m_S G h (m_lv M s) σ) := by
  refine sx_body (by decide) (Nat.le_of_ble_eq_true rfl) ?_
  refine sv_iload_n dX3_leaveBox_0 rfl ?_
  refine sv_csR _ ct_sessionAt okX3_sessionAt ks_X3_84 dX3_leaveBox_1 rfl rfl (by decide) (Nat.le_of_ble_eq_true rfl) ?_
  refine sv_istore_n dX3_leaveBox_4 (by decide) ?_
  refine sv_aload_n dX3_leaveBox_5 rfl ?_
  refine sm_get hn fg_X3_24 dX3_leaveBox_6 rfl ?_
  refine sv_iload_n dX3_leaveBox_9 rfl ?_
  refine sv_iconst (nI 1) dX3_leaveBox_10 (by decide +kernel) ?_
  refine sv_iaddN dX3_leaveBox_11 ?_
  refine sv_ldc2 q2188 dX3_leaveBox_12 ?_
  refine sm_wst hn dX3_leaveBox_15 (by omega) ?_
  refine sv_aload_n dX3_leaveBox_16 rfl ?_
  refine sm_get hn fg_X3_24 dX3_leaveBox_17 rfl ?_
  refine sv_iload_n dX3_leaveBox_20 rfl ?_
  refine sv_iconst (nI 2) dX3_leaveBox_21 (by decide +kernel) ?_
  refine sv_iaddN dX3_leaveBox_22 ?_
  refine sv_lconst 0 dX3_leaveBox_23 (by decide) ?_
  refine sm_wst hn dX3_leaveBox_24 (by omega) ?_
  refine sv_aload_n dX3_leaveBox_25 rfl ?_
  refine sm_get hn fg_X3_24 dX3_leaveBox_26 rfl ?_
  refine sv_iload_n dX3_leaveBox_29 rfl ?_
  refine sv_iconst (nI 4) dX3_leaveBox_30 (by decide +kernel) ?_
  refine sv_iaddN dX3_leaveBox_31 ?_
  refine sv_lconst 0 dX3_leaveBox_32 (by decide) ?_
  refine sm_wst hn dX3_leaveBox_33 (by omega) ?_
  refine sv_aload_n dX3_leaveBox_34 rfl ?_
  refine sm_get hn fg_X3_24 dX3_leaveBox_35 rfl ?_
  refine sv_iload_n dX3_leaveBox_38 rfl ?_
  refine sv_iconst (nI 5) dX3_leaveBox_39 (by decide +kernel) ?_
  refine sv_iaddN dX3_leaveBox_40 ?_
  refine sv_lconst 0 dX3_leaveBox_41 (by decide) ?_
  refine sm_wst hn dX3_leaveBox_42 (by omega) ?_
  refine sv_vret rfl dX3_leaveBox_43 ?_
  exact ⟨_, rfl, rfl, rfl⟩
def m_tk0 (M : m_M) (s b : Nat) (rd : Bool) : m_M := m_u (m_u (m_lv M s) (282 + 131 * s + 1) (nI b).toInt64) (282 + 131 * s + 2) (if rd then 1 else 0)
def m_tk (M : m_M) (s b : Nat) : Nat → m_M
  | 0 => M
  | k + 1 => m_pe (m_tk M s b k) s k (m_w M (3 + 93 * b + 3 + 3 * k)).toInt32 (m_w M (3 + 93 * b + 3 + 3 * k + 2)).toInt32
theorem m_tk_w (s b : Nat) (hb : b < 3) (i : Nat) (hi : i < 282) : ∀ k, m_w (m_tk M s b k) i = m_w M i := by
  intro k
  induction k with
  | zero => rfl
  | succ k ih =>
    show m_w (m_pe _ _ _ _ _) i = _
    rw [m_w_pe]
    unfold r_pe
    rw [uL_n (by omega), uL_n (by omega), uL_n (by omega), uL_n (by omega), ih]
theorem m_tk_1 (s b : Nat) (h4 : (m_w M (282 + 131 * s + 4)).toInt32 = nI 0) : ∀ k, (m_w (m_tk M s b k) (282 + 131 * s + 4)).toInt32 = nI k ∧ m_w (m_tk M s b k) (282 + 131 * s + 1) = m_w M (282 + 131 * s + 1) := by
  intro k
  induction k with
  | zero => exact ⟨h4, rfl⟩
  | succ k ih =>
    show (m_w (m_pe _ _ _ _ _) _).toInt32 = _ ∧ m_w (m_pe _ _ _ _ _) _ = _
    rw [m_w_pe]
    unfold r_pe
    rw [uL_n (by omega), uL_n (by omega), uL_n (by omega), uL_s, i64_add, ih.1, uL_n (by omega), uL_n (by omega), uL_n (by omega), uL_n (by omega), ih.2]
    exact ⟨nI_1 k, rfl⟩
theorem ct_takeBox (hn : h + 11 < sx_n σ) {s b n : Nat} {rd : Bool} (hs : s < 4) (hb : b < 3) (hn3 : n ≤ 30) (hm : (m_w M (3 + 93 * b + 1)).toInt32 = nI n) : sx_Cr G 4 YX3_takeBox [.ref h, .int (nI s), .int (nI b), .int (b_I rd)] (m_S G h M σ) none (m_S G h (m_tk (m_tk0 M s b rd) s b n) σ) := by
  have loop : ∀ q k, k ≤ n → n + 1 ≤ k + q → sx_V G 4 YX3_takeBox 41 [some (.ref h), some (.int (nI s)), some (.int (nI b)), some (.int (b_I rd)), some (.int (nI k))] [] (m_S G h (m_tk (m_tk0 M s b rd) s b k) σ) (fun o τ => ∃ v, o = .inl v ∧ v = none ∧ τ = m_S G h (m_tk (m_tk0 M s b rd) s b n) σ) := by
    have hw0 : ∀ i, i < 282 → m_w (m_tk0 M s b rd) i = m_w M i := fun i hi => by unfold m_tk0; rw [m_w_u, uL_n (by omega), m_w_u, uL_n (by omega), m_w_lv]; unfold r_lv; rw [uL_n (by omega), uL_n (by omega), uL_n (by omega), uL_n (by omega)]
    have h4 : (m_w (m_tk0 M s b rd) (282 + 131 * s + 4)).toInt32 = nI 0 := by unfold m_tk0; rw [m_w_u, uL_n (by omega), m_w_u, uL_n (by omega), m_w_lv]; unfold r_lv; rw [uL_n (by omega), uL_s]; rfl
    have h1 : (m_w (m_tk0 M s b rd) (282 + 131 * s + 1)).toInt32 = nI b := by unfold m_tk0; rw [m_w_u, uL_n (by omega), m_w_u, uL_s, i64_back]
    intro q
    induction q with
    | zero => intro k g1 g2; exact absurd g2 (by omega)
    | succ q ih =>
    intro k g1 g2
    have ht := m_tk_1 (M := m_tk0 M s b rd) s b h4 k
    refine sv_iload dX3_takeBox_41 rfl ?_
    refine sv_aload_n dX3_takeBox_43 rfl ?_
    refine sv_iload_n dX3_takeBox_44 rfl ?_
    refine sv_cvR _ (ct_manyInR hn hb) okX3_manyIn kv_X3_100 (sx_rd_c (m_S_0 hn)) rfl dX3_takeBox_45 rfl rfl (by decide) (Nat.le_of_ble_eq_true rfl) ?_
    refine sv_topI (y := nI n) (by rw [m_tk_w s b hb _ (by omega), hw0 _ (by omega), hm]) ?_
    refine sv_icmp_geN (tgt := 64) dX3_takeBox_48 (by decide) (by omega) (by omega) (fun c48 => ?_) (fun c48 => ?_)
    · have hk : k = n := by omega
      subst hk
      refine sv_vret rfl dX3_takeBox_64 ?_
      exact ⟨_, rfl, rfl, rfl⟩
    · refine sv_aload_n dX3_takeBox_51 rfl ?_
      refine sv_iload_n dX3_takeBox_52 rfl ?_
      refine sv_iload dX3_takeBox_53 rfl ?_
      refine sv_cvR _ (ct_putEntry (b := b) (m := k) (n := k) hn hs hb (by omega) (by omega) ht.1 (by rw [ht.2]; exact h1) (by rw [Nat.add_zero, m_tk_w s b hb _ (by omega)]) (by rw [m_tk_w s b hb _ (by omega)])) okX3_putEntry kv_X3_149 (sx_rd_c (m_S_0 hn)) rfl dX3_takeBox_55 rfl rfl (by decide) (Nat.le_of_ble_eq_true rfl) ?_
      refine sv_iincN dX3_takeBox_58 rfl (by decide) ?_
      refine sv_goto (tgt := 41) dX3_takeBox_61 (by decide) ?_
      exact ih (k + 1) (by omega) (by omega)
  refine sx_body (by decide) (Nat.le_of_ble_eq_true rfl) ?_
  have hw0 : ∀ i, i < 282 → m_w (m_tk0 M s b rd) i = m_w M i := fun i hi => by unfold m_tk0; rw [m_w_u, uL_n (by omega), m_w_u, uL_n (by omega), m_w_lv]; unfold r_lv; rw [uL_n (by omega), uL_n (by omega), uL_n (by omega), uL_n (by omega)]
  refine sv_aload_n dX3_takeBox_0 rfl ?_
  refine sv_iload_n dX3_takeBox_1 rfl ?_
  refine sv_cvR _ (ct_leaveBox hn (by omega)) okX3_leaveBox kv_X3_186 (sx_rd_c (m_S_0 hn)) rfl dX3_takeBox_2 rfl rfl (by decide) (Nat.le_of_ble_eq_true rfl) ?_
  refine sv_aload_n dX3_takeBox_5 rfl ?_
  refine sm_get hn fg_X3_24 dX3_takeBox_6 rfl ?_
  refine sv_iload_n dX3_takeBox_9 rfl ?_
  refine sv_csR _ ct_sessionAt okX3_sessionAt ks_X3_84 dX3_takeBox_10 rfl rfl (by decide) (Nat.le_of_ble_eq_true rfl) ?_
  refine sv_iconst (nI 1) dX3_takeBox_13 (by decide +kernel) ?_
  refine sv_iaddN dX3_takeBox_14 ?_
  refine sv_iload_n dX3_takeBox_15 rfl ?_
  refine sv_i2l dX3_takeBox_16 ?_
  refine sm_wst hn dX3_takeBox_17 (by omega) ?_
  refine sv_aload_n dX3_takeBox_18 rfl ?_
  refine sm_get hn fg_X3_24 dX3_takeBox_19 rfl ?_
  refine sv_iload_n dX3_takeBox_22 rfl ?_
  refine sv_csR _ ct_sessionAt okX3_sessionAt ks_X3_84 dX3_takeBox_23 rfl rfl (by decide) (Nat.le_of_ble_eq_true rfl) ?_
  refine sv_iconst (nI 2) dX3_takeBox_26 (by decide +kernel) ?_
  refine sv_iaddN dX3_takeBox_27 ?_
  refine sv_iload_n dX3_takeBox_28 rfl ?_
  refine sv_if_eqB (tgt := 36) dX3_takeBox_29 (by decide) (fun c29 => ?_) (fun c29 => ?_)
  · have hjn : (0 : Int64) = (if rd then 1 else 0) := by rw [c29]; rfl
    refine sv_lconst 0 dX3_takeBox_36 (by decide) ?_
    refine sv_topL hjn ?_
    refine sm_wst hn dX3_takeBox_37 (by omega) ?_
    refine sv_iconst (nI 0) dX3_takeBox_38 (by decide +kernel) ?_
    refine sv_istore dX3_takeBox_39 (by decide) ?_
    exact loop (n + 1) 0 (by omega) (by omega)
  · have hjn : (1 : Int64) = (if rd then 1 else 0) := by rw [c29]; rfl
    refine sv_lconst 1 dX3_takeBox_32 (by decide) ?_
    refine sv_goto (tgt := 37) dX3_takeBox_33 (by decide) ?_
    refine sv_topL hjn ?_
    refine sm_wst hn dX3_takeBox_37 (by omega) ?_
    refine sv_iconst (nI 0) dX3_takeBox_38 (by decide +kernel) ?_
    refine sv_istore dX3_takeBox_39 (by decide) ?_
    exact loop (n + 1) 0 (by omega) (by omega)
end MRK
