set_option maxRecDepth 100000
section MRV
variable {G : sx_G} {h : Nat} {M : m_M} {σ : sx_St} {V : a_V} {A : a_A} {r r' : Nat → Int64} {t : Nat}
/-- slots, undo -/
def s_ke (A : a_A) (j : Nat) : a_A := A_sk A (fun i => if i = j then some (A_v A) else A_k A i)
def a_tot (V : a_V) : Int32 := nI (a_all V V.2.1.length)
def sp_kee (A : a_A) (x : Int32) : Int32 × a_A := g_1 (a_in x 0 1) A (a_tot (A_v A), s_ke (A_st A 0) x.toNatClampNeg)
def s_re (A : a_A) (V : a_V) : a_A := A_sv (A_sn (s_rm A) []) V
def a_kp (A : a_A) (x : Int32) : Bool := !(a_in x 0 1) || (A_k A x.toNatClampNeg).isSome
def sp_res (A : a_A) (x : Int32) : Int32 × a_A := g_2 (a_in x 0 1) (a_kp A x) A (a_tot ((A_k A x.toNatClampNeg).getD (0, [], [])), s_re (A_st A 0) ((A_k A x.toNatClampNeg).getD (0, [], [])))
def s_un (A : a_A) : a_A := A_sn (A_sv (A_sh A (A_h A).dropLast) ((A_h A).getD ((A_h A).length - 1) (0, [], []))) []
def sp_und (A : a_A) : Int32 × a_A := g_1 (decide (0 < (A_h A).length)) A (nI ((A_h A).length - 1), s_un (A_st A 0))
def r_ld (p q : Nat → Int64) (c k : Nat) : Nat → Int64 := fun j => if j < k then q (806 * c + j) else p j
theorem r_ld_s (p q : Nat → Int64) (c k : Nat) : vp_updL (r_ld p q c k) k (q (806 * c + k)) = r_ld p q c (k + 1) := by
  funext j
  by_cases hj : j = k
  · subst hj
    rw [uL_s]
    show _ = (if _ then _ else _)
    rw [if_pos (by omega)]
  · rw [uL_n hj]
    show (if _ then _ else _) = (if _ then _ else _)
    by_cases h : j < k
    · rw [if_pos h, if_pos (by omega)]
    · rw [if_neg h, if_neg (by omega)]
theorem r_ld_0 (p q : Nat → Int64) (c : Nat) : r_ld p q c 0 = p := by funext j; exact if_neg (by omega)
theorem e_V_ld {p q : Nat → Int64} {c : Nat} (hw : w_V V) (h : e_V (fun k => q (806 * c + k)) V) : e_V (r_ld p q c 806) V := by
  refine e_V_cg hw (fun k hk => ?_) h
  show (if _ then _ else _) = _
  rw [if_pos hk]
theorem m_J_ke {j : Nat} (hj : j < 2) (hJ : m_J M A) : m_J (m_b (m_a M 2 (r_cp (M.2.2.1 2) (M.2.2.1 0) j 806)) 5 (upd (M.2.2.2 5) j (vp_nar .boolean (nI 1)))) (s_ke A j) := by
  obtain ⟨g1, g2, g3, g4, g5, g6, g7, g8, g9, g10, g11⟩ := hJ
  refine ⟨g1, g2, g3, g4, fun i hi => ?_, ⟨g6.1, g6.2.1, g6.2.2⟩, ⟨g7.1, g7.2.1, g7.2.2⟩, g8, g9, ⟨g10.1, g10.2.1, g10.2.2⟩, g11⟩
  show upd (M.2.2.2 5) j _ i = b_I (if i = j then some (A_v A) else A_k A i).isSome ∧ ∀ V, (if i = j then some (A_v A) else A_k A i) = some V → e_V (fun k => r_cp (M.2.2.1 2) (M.2.2.1 0) j 806 (806 * i + k)) V ∧ w_V V
  by_cases hij : i = j
  · subst hij
    rw [pk_us, if_pos rfl]
    refine ⟨show vp_nar .boolean (nI 1) = b_I true by decide +kernel, fun V hV => ?_⟩
    cases hV
    refine ⟨e_V_cg g3 (fun k hk => ?_) g2, g3⟩
    show (if _ then _ else _) = _
    rw [if_pos (by omega), show 806 * i + k - 806 * i = k by omega]
  · rw [pk_un hij, if_neg hij]
    refine ⟨(g5 i hi).1, fun V hV => ?_⟩
    obtain ⟨q1, q2⟩ := (g5 i hi).2 V hV
    refine ⟨e_V_cg q2 (fun k hk => ?_) q1, q2⟩
    show (if _ then _ else _) = _
    rw [if_neg (by omega)]
theorem m_J_un (h0 : 0 < (A_h A).length) (hJ : m_J M A) : m_J (m_a (m_i (m_i M 25 (nI ((A_h A).length - 1))) 5 (nI 0)) 0 (r_ld (M.2.2.1 0) (M.2.2.1 3) ((A_h A).length - 1) 806)) (s_un A) := by
  obtain ⟨g1, g2, g3, g4, g5, g6, g7, g8, g9, g10, g11⟩ := hJ
  obtain ⟨q1, q2⟩ := g4.2.2 ((A_h A).length - 1) (by omega)
  refine ⟨g1, e_V_ld q2 q1, q2, ⟨?_, ?_, fun i hi => ?_⟩, g5, ⟨Nat.zero_le _, rfl, fun i hi => absurd hi (Nat.not_lt_zero i)⟩, ⟨g7.1, g7.2.1, g7.2.2⟩, g8, g9, ⟨g10.1, g10.2.1, g10.2.2⟩, g11⟩
  · show (A_h A).dropLast.length ≤ 6
    rw [List.length_dropLast]
    have := g4.1
    omega
  · show nI ((A_h A).length - 1) = nI (A_h A).dropLast.length
    rw [List.length_dropLast]
  · have hi : i < (A_h A).dropLast.length := hi
    rw [List.length_dropLast] at hi
    have := g4.2.2 i (by omega)
    show e_V (fun k => M.2.2.1 3 (806 * i + k)) ((A_h A).dropLast.getD i (0, [], [])) ∧ w_V ((A_h A).dropLast.getD i (0, [], []))
    rw [show (A_h A).dropLast.getD i (0, [], []) = (A_h A).getD i (0, [], []) from by rw [List.getD_eq_getElem?_getD, List.getD_eq_getElem?_getD, List.getElem?_dropLast, if_pos (by omega)]]
    exact this
theorem ct_isSlot {x : Int32} : sx_Cr G 1 YX3_isSlot [.int x] σ (some (.int (b_I (a_in x 0 1)))) σ := by
  refine sx_body (by decide) (Nat.le_of_ble_eq_true rfl) ?_
  refine sv_iload_n dX3_isSlot_0 rfl ?_
  refine sv_i2l dX3_isSlot_1 ?_
  refine sv_lconst 0 dX3_isSlot_2 (by decide) ?_
  refine sv_lconst 1 dX3_isSlot_3 (by decide) ?_
  refine sv_csR _ ct_in okX3_in ks_X3_70 dX3_isSlot_4 rfl rfl (by decide) (Nat.le_of_ble_eq_true rfl) ?_
  refine sv_iret (by first | exact b_I_nar _ | rfl) rfl dX3_isSlot_7 ?_
  exact ⟨_, rfl, rfl, rfl⟩
theorem ct_keep (hn : h + 11 < sx_n σ) (hJ : m_J M A) {x : Int32} : sx_Cp G 4 YX3_keep [.ref h, .int x] (m_S G h M σ) (fun v τ => v = some (.int ((sp_kee A x).1)) ∧ ∃ M2, τ = m_S G h M2 σ ∧ m_J M2 ((sp_kee A x).2)) := by
  have loop : ∀ (j : Nat), j < 2 → ∀ M A, m_J M A → ∀ q k, k ≤ 806 → 807 ≤ k + q → sx_V G 4 YX3_keep 15 [some (.ref h), some (.int (nI j)), some (.int (nI k))] [] (m_S G h (m_a M 2 (r_cp (M.2.2.1 2) (M.2.2.1 0) j k)) σ) (fun o τ => ∃ v, o = .inl v ∧ v = some (.int (a_tot (A_v A))) ∧ ∃ M2, τ = m_S G h M2 σ ∧ m_J M2 (s_ke A j)) := by
    intro j hj M A hJ q
    induction q with
    | zero => intro k h1 h2; exact absurd h2 (by omega)
    | succ q ih =>
    intro k h1 h2
    refine sv_iload_n dX3_keep_15 rfl ?_
    refine sv_sipush (nI 806) dX3_keep_16 (by decide +kernel) ?_
    refine sv_icmp_geN (tgt := 46) dX3_keep_19 (by decide) (by omega) (by omega) (fun c19 => ?_) (fun c19 => ?_)
    · have hk : k = 806 := by omega
      subst hk
      refine sv_aload_n dX3_keep_46 rfl ?_
      refine sm_get hn fg_X3_51 dX3_keep_47 rfl ?_
      refine sv_iload_n dX3_keep_50 rfl ?_
      refine sv_iconst (nI 1) dX3_keep_51 (by decide +kernel) ?_
      refine sm_b5st hn dX3_keep_52 (by omega) ?_
      have hJ2 : m_J _ (s_ke A j) := m_J_ke hj hJ
      refine sv_aload_n dX3_keep_53 rfl ?_
      refine sv_cvR _ (ct_allMessages hn (m_J_e hJ2).1 hJ2.2.2.1.1) okX3_allMessages kv_X3_488 (sx_rd_c (m_S_0 hn)) rfl dX3_keep_54 rfl rfl (by decide) (Nat.le_of_ble_eq_true rfl) ?_
      refine sv_iret rfl rfl dX3_keep_57 ?_
      exact ⟨_, rfl, rfl, _, rfl, hJ2⟩
    · refine sv_aload_n dX3_keep_22 rfl ?_
      refine sm_get hn fg_X3_48 dX3_keep_23 rfl ?_
      refine sv_sipush (nI 806) dX3_keep_26 (by decide +kernel) ?_
      refine sv_iload_n dX3_keep_29 rfl ?_
      refine sv_imulN dX3_keep_30 ?_
      refine sv_iload_n dX3_keep_31 rfl ?_
      refine sv_iaddN dX3_keep_32 ?_
      refine sv_aload_n dX3_keep_33 rfl ?_
      refine sm_get hn fg_X3_17 dX3_keep_34 rfl ?_
      refine sv_iload_n dX3_keep_37 rfl ?_
      refine sm_nld hn dX3_keep_38 (by omega) ?_
      refine sv_topL (y := M.2.2.1 0 k) rfl ?_
      refine sm_st 2 (by decide) hn dX3_keep_39 (by show _ < 1612; omega) ?_
      rw [m_a_0, m_a_a, r_cp_s]
      refine sv_iincN dX3_keep_40 rfl (by decide) ?_
      refine sv_goto (tgt := 15) dX3_keep_43 (by decide) ?_
      exact ih (k + 1) (by omega) (by omega)
  refine sx_body (by decide) (Nat.le_of_ble_eq_true rfl) ?_
  refine sv_aload_n dX3_keep_0 rfl ?_
  refine sv_iload_n dX3_keep_1 rfl ?_
  refine sv_csR _ ct_isSlot okX3_isSlot ks_X3_513 dX3_keep_2 rfl rfl (by decide) (Nat.le_of_ble_eq_true rfl) ?_
  refine sv_cvR _ (ct_passes hn) okX3_passes kv_X3_266 (sx_rd_c (m_S_0 hn)) rfl dX3_keep_5 rfl rfl (by decide) (Nat.le_of_ble_eq_true rfl) ?_
  refine sv_if_neB (tgt := 13) dX3_keep_8 (by decide) (fun c8 => ?_) (fun c8 => ?_)
  · have hsp : sp_kee A x = (a_tot (A_v A), s_ke (A_st A 0) x.toNatClampNeg) := by unfold sp_kee; rw [g_1t c8]
    rw [hsp]
    rw [t_hr_1 c8]
    have hJ0 := m_J_t hJ 0
    obtain ⟨j, rfl, ej, hj8⟩ := a_in_of c8
    have hj : j < 2 := by have hz : (j : Int) ≤ 1 := hj8; omega
    rw [ej]
    refine sv_iconst (nI 0) dX3_keep_13 (by decide +kernel) ?_
    refine sv_istore_n dX3_keep_14 (by decide) ?_
    have hlo := loop j hj _ _ hJ0 807 0 (by omega) (by omega)
    rw [r_cp_0, m_a_id] at hlo
    exact hlo
  · unfold sp_kee
    rw [g_1f c8]
    refine sv_iconst (nI 0) dX3_keep_11 (by decide +kernel) ?_
    refine sv_iret rfl rfl dX3_keep_12 ?_
    exact ⟨_, rfl, r_I nI_0, _, rfl, m_J_t hJ _⟩
theorem ct_restore (hn : h + 11 < sx_n σ) (hJ : m_J M A) {x : Int32} : sx_Cp G 4 YX3_restore [.ref h, .int x] (m_S G h M σ) (fun v τ => v = some (.int ((sp_res A x).1)) ∧ ∃ M2, τ = m_S G h M2 σ ∧ m_J M2 ((sp_res A x).2)) := by
  have loop : ∀ (j : Nat) V, j < 2 → ∀ M A, m_J M A → e_V (fun k => M.2.2.1 2 (806 * j + k)) V → w_V V → ∀ q k, k ≤ 806 → 807 ≤ k + q → sx_V G 4 YX3_restore 45 [some (.ref h), some (.int (nI j)), some (.int (nI k))] [] (m_S G h (m_a M 0 (r_ld (M.2.2.1 0) (M.2.2.1 2) j k)) σ) (fun o τ => ∃ v, o = .inl v ∧ v = some (.int (a_tot V)) ∧ ∃ M2, τ = m_S G h M2 σ ∧ m_J M2 (A_sv A V)) := by
    intro j V hj M A hJ he hw q
    induction q with
    | zero => intro k h1 h2; exact absurd h2 (by omega)
    | succ q ih =>
    intro k h1 h2
    refine sv_iload_n dX3_restore_45 rfl ?_
    refine sv_sipush (nI 806) dX3_restore_46 (by decide +kernel) ?_
    refine sv_icmp_geN (tgt := 76) dX3_restore_49 (by decide) (by omega) (by omega) (fun c49 => ?_) (fun c49 => ?_)
    · have hk : k = 806 := by omega
      subst hk
      have hJ2 : m_J _ (A_sv A V) := m_J_a hJ (e_V_ld (p := M.2.2.1 0) hw he) hw
      refine sv_aload_n dX3_restore_76 rfl ?_
      refine sv_cvR _ (ct_allMessages hn (m_J_e hJ2).1 hJ2.2.2.1.1) okX3_allMessages kv_X3_488 (sx_rd_c (m_S_0 hn)) rfl dX3_restore_77 rfl rfl (by decide) (Nat.le_of_ble_eq_true rfl) ?_
      refine sv_iret rfl rfl dX3_restore_80 ?_
      exact ⟨_, rfl, rfl, _, rfl, hJ2⟩
    · refine sv_aload_n dX3_restore_52 rfl ?_
      refine sm_get hn fg_X3_17 dX3_restore_53 rfl ?_
      refine sv_iload_n dX3_restore_56 rfl ?_
      refine sv_aload_n dX3_restore_57 rfl ?_
      refine sm_get hn fg_X3_48 dX3_restore_58 rfl ?_
      refine sv_sipush (nI 806) dX3_restore_61 (by decide +kernel) ?_
      refine sv_iload_n dX3_restore_64 rfl ?_
      refine sv_imulN dX3_restore_65 ?_
      refine sv_iload_n dX3_restore_66 rfl ?_
      refine sv_iaddN dX3_restore_67 ?_
      refine sm_ld 2 (by decide) hn dX3_restore_68 (by show _ < 1612; omega) ?_
      refine sv_topL (y := M.2.2.1 2 (806 * j + k)) rfl ?_
      refine sm_nst hn dX3_restore_69 (by omega) ?_
      rw [m_n_a, r_ld_s]
      refine sv_iincN dX3_restore_70 rfl (by decide) ?_
      refine sv_goto (tgt := 45) dX3_restore_73 (by decide) ?_
      exact ih (k + 1) (by omega) (by omega)
  refine sx_body (by decide) (Nat.le_of_ble_eq_true rfl) ?_
  refine sv_aload_n dX3_restore_0 rfl ?_
  refine sv_iload_n dX3_restore_1 rfl ?_
  refine sv_csR _ ct_isSlot okX3_isSlot ks_X3_513 dX3_restore_2 rfl rfl (by decide) (Nat.le_of_ble_eq_true rfl) ?_
  refine sv_iload_n dX3_restore_5 rfl ?_
  refine sv_csR _ ct_isSlot okX3_isSlot ks_X3_513 dX3_restore_6 rfl rfl (by decide) (Nat.le_of_ble_eq_true rfl) ?_
  refine sv_if_eqB (tgt := 21) dX3_restore_9 (by decide) (fun c9 => ?_) (fun c9 => ?_)
  · have hjn : nI 1 = b_I (a_kp A x) := by unfold a_kp; rw [c9]; rfl
    refine sv_iconst (nI 1) dX3_restore_21 (by decide +kernel) ?_
    refine sv_goto (tgt := 26) dX3_restore_22 (by decide) ?_
    refine sv_topI hjn ?_
    refine sv_cvR _ (ct_passes2 hn) okX3_passes2 kv_X3_192 (sx_rd_c (m_S_0 hn)) rfl dX3_restore_26 rfl rfl (by decide) (Nat.le_of_ble_eq_true rfl) ?_
    refine sv_if_neB (tgt := 34) dX3_restore_29 (by decide) (fun c29 => ?_) (fun c29 => ?_)
    · have hJ0 := m_J_t hJ 0
      have hc2 := c29
      rw [Bool.and_eq_true] at hc2
      unfold sp_res
      rw [g_2t c29, t_hr_2 c29]
      obtain ⟨j0, e0, ej0, hj80⟩ := a_in_of hc2.1
      have hj0 : j0 < 2 := by have hz : (j0 : Int) ≤ 1 := hj80; omega
      have hk0 := hc2.2
      unfold a_kp at hk0
      rw [hc2.1, Bool.not_true, Bool.false_or, ej0] at hk0
      obtain ⟨V, hV⟩ := Option.isSome_iff_exists.mp hk0
      rw [ej0, hV]
      show sx_V _ _ _ _ _ _ _ (fun o τ => ∃ v, o = .inl v ∧ v = some (.int (a_tot V)) ∧ ∃ M2, τ = m_S G h M2 σ ∧ m_J M2 (s_re (A_st A 0) V))
      try rw [e0]
      refine sv_aload_n dX3_restore_34 rfl ?_
      refine sv_cvP _ (ct_remember hn hJ0) okX3_remember kv_X3_175 (sx_rd_c (m_S_0 hn)) rfl dX3_restore_35 rfl rfl (by decide) (Nat.le_of_ble_eq_true rfl) ?_
      intro v1 t1 hp1
      obtain ⟨rfl, M1, rfl, hJ1⟩ := hp1
      refine sv_aload_n dX3_restore_38 rfl ?_
      refine sv_iconst (nI 0) dX3_restore_39 (by decide +kernel) ?_
      refine sm_put hn fp_X3_138 dX3_restore_40 rfl (by decide) ?_
      have hJ2 : m_J _ (A_sn (s_rm (A_st A 0)) []) := m_J_nz hJ1
      have hV2 := (hJ2.2.2.2.2.1 j0 hj0).2 V hV
      refine sv_iconst (nI 0) dX3_restore_43 (by decide +kernel) ?_
      refine sv_istore_n dX3_restore_44 (by decide) ?_
      have hlo := loop j0 V hj0 _ _ hJ2 hV2.1 hV2.2 807 0 (by omega) (by omega)
      rw [r_ld_0, m_a_id] at hlo
      exact hlo
    · unfold sp_res
      rw [g_2f c29]
      refine sv_iconst (nI 0) dX3_restore_32 (by decide +kernel) ?_
      refine sv_iret rfl rfl dX3_restore_33 ?_
      exact ⟨_, rfl, r_I nI_0, _, rfl, m_J_t hJ _⟩
  · obtain ⟨j, rfl, ej, hj8⟩ := a_in_of c9
    have hj : j < 2 := by have hz : (j : Int) ≤ 1 := hj8; omega
    refine sv_aload_n dX3_restore_12 rfl ?_
    refine sm_get hn fg_X3_51 dX3_restore_13 rfl ?_
    refine sv_iload_n dX3_restore_16 rfl ?_
    refine sm_b5ld hn dX3_restore_17 (by omega) ?_
    refine sv_topI (hJ.2.2.2.2.1 j hj).1 ?_
    refine sv_if_eqB (tgt := 25) dX3_restore_18 (by decide) (fun c18 => ?_) (fun c18 => ?_)
    · have hjn : nI 0 = b_I (a_kp A (nI j)) := by unfold a_kp; rw [c9, ej, c18]; rfl
      refine sv_iconst (nI 0) dX3_restore_25 (by decide +kernel) ?_
      refine sv_topI hjn ?_
      refine sv_cvR _ (ct_passes2 hn) okX3_passes2 kv_X3_192 (sx_rd_c (m_S_0 hn)) rfl dX3_restore_26 rfl rfl (by decide) (Nat.le_of_ble_eq_true rfl) ?_
      refine sv_if_neB (tgt := 34) dX3_restore_29 (by decide) (fun c29 => ?_) (fun c29 => ?_)
      · have hJ0 := m_J_t hJ 0
        have hc2 := c29
        rw [Bool.and_eq_true] at hc2
        unfold sp_res
        rw [g_2t c29, t_hr_2 c29]
        obtain ⟨j0, e0, ej0, hj80⟩ := a_in_of hc2.1
        have hj0 : j0 < 2 := by have hz : (j0 : Int) ≤ 1 := hj80; omega
        have hk0 := hc2.2
        unfold a_kp at hk0
        rw [hc2.1, Bool.not_true, Bool.false_or, ej0] at hk0
        obtain ⟨V, hV⟩ := Option.isSome_iff_exists.mp hk0
        rw [ej0, hV]
        show sx_V _ _ _ _ _ _ _ (fun o τ => ∃ v, o = .inl v ∧ v = some (.int (a_tot V)) ∧ ∃ M2, τ = m_S G h M2 σ ∧ m_J M2 (s_re (A_st A 0) V))
        try rw [e0]
        refine sv_aload_n dX3_restore_34 rfl ?_
        refine sv_cvP _ (ct_remember hn hJ0) okX3_remember kv_X3_175 (sx_rd_c (m_S_0 hn)) rfl dX3_restore_35 rfl rfl (by decide) (Nat.le_of_ble_eq_true rfl) ?_
        intro v1 t1 hp1
        obtain ⟨rfl, M1, rfl, hJ1⟩ := hp1
        refine sv_aload_n dX3_restore_38 rfl ?_
        refine sv_iconst (nI 0) dX3_restore_39 (by decide +kernel) ?_
        refine sm_put hn fp_X3_138 dX3_restore_40 rfl (by decide) ?_
        have hJ2 : m_J _ (A_sn (s_rm (A_st A 0)) []) := m_J_nz hJ1
        have hV2 := (hJ2.2.2.2.2.1 j0 hj0).2 V hV
        refine sv_iconst (nI 0) dX3_restore_43 (by decide +kernel) ?_
        refine sv_istore_n dX3_restore_44 (by decide) ?_
        have hlo := loop j0 V hj0 _ _ hJ2 hV2.1 hV2.2 807 0 (by omega) (by omega)
        rw [r_ld_0, m_a_id] at hlo
        exact hlo
      · unfold sp_res
        rw [g_2f c29]
        refine sv_iconst (nI 0) dX3_restore_32 (by decide +kernel) ?_
        refine sv_iret rfl rfl dX3_restore_33 ?_
        exact ⟨_, rfl, r_I nI_0, _, rfl, m_J_t hJ _⟩
    · have hjn : nI 1 = b_I (a_kp A (nI j)) := by unfold a_kp; rw [c9, ej, c18]; rfl
      refine sv_iconst (nI 1) dX3_restore_21 (by decide +kernel) ?_
      refine sv_goto (tgt := 26) dX3_restore_22 (by decide) ?_
      refine sv_topI hjn ?_
      refine sv_cvR _ (ct_passes2 hn) okX3_passes2 kv_X3_192 (sx_rd_c (m_S_0 hn)) rfl dX3_restore_26 rfl rfl (by decide) (Nat.le_of_ble_eq_true rfl) ?_
      refine sv_if_neB (tgt := 34) dX3_restore_29 (by decide) (fun c29 => ?_) (fun c29 => ?_)
      · have hJ0 := m_J_t hJ 0
        have hc2 := c29
        rw [Bool.and_eq_true] at hc2
        unfold sp_res
        rw [g_2t c29, t_hr_2 c29]
        obtain ⟨j0, e0, ej0, hj80⟩ := a_in_of hc2.1
        have hj0 : j0 < 2 := by have hz : (j0 : Int) ≤ 1 := hj80; omega
        have hk0 := hc2.2
        unfold a_kp at hk0
        rw [hc2.1, Bool.not_true, Bool.false_or, ej0] at hk0
        obtain ⟨V, hV⟩ := Option.isSome_iff_exists.mp hk0
        rw [ej0, hV]
        show sx_V _ _ _ _ _ _ _ (fun o τ => ∃ v, o = .inl v ∧ v = some (.int (a_tot V)) ∧ ∃ M2, τ = m_S G h M2 σ ∧ m_J M2 (s_re (A_st A 0) V))
        try rw [e0]
        refine sv_aload_n dX3_restore_34 rfl ?_
        refine sv_cvP _ (ct_remember hn hJ0) okX3_remember kv_X3_175 (sx_rd_c (m_S_0 hn)) rfl dX3_restore_35 rfl rfl (by decide) (Nat.le_of_ble_eq_true rfl) ?_
        intro v1 t1 hp1
        obtain ⟨rfl, M1, rfl, hJ1⟩ := hp1
        refine sv_aload_n dX3_restore_38 rfl ?_
        refine sv_iconst (nI 0) dX3_restore_39 (by decide +kernel) ?_
        refine sm_put hn fp_X3_138 dX3_restore_40 rfl (by decide) ?_
        have hJ2 : m_J _ (A_sn (s_rm (A_st A 0)) []) := m_J_nz hJ1
        have hV2 := (hJ2.2.2.2.2.1 j0 hj0).2 V hV
        refine sv_iconst (nI 0) dX3_restore_43 (by decide +kernel) ?_
        refine sv_istore_n dX3_restore_44 (by decide) ?_
        have hlo := loop j0 V hj0 _ _ hJ2 hV2.1 hV2.2 807 0 (by omega) (by omega)
        rw [r_ld_0, m_a_id] at hlo
        exact hlo
      · unfold sp_res
        rw [g_2f c29]
        refine sv_iconst (nI 0) dX3_restore_32 (by decide +kernel) ?_
        refine sv_iret rfl rfl dX3_restore_33 ?_
        exact ⟨_, rfl, r_I nI_0, _, rfl, m_J_t hJ _⟩
theorem ct_undo (hn : h + 11 < sx_n σ) (hJ : m_J M A) : sx_Cp G 2 YX3_undo [.ref h] (m_S G h M σ) (fun v τ => v = some (.int ((sp_und A).1)) ∧ ∃ M2, τ = m_S G h M2 σ ∧ m_J M2 ((sp_und A).2)) := by
  have loop : ∀ M A, m_J M A → 0 < (A_h A).length → (A_h A).length ≤ 6 → ∀ q k, k ≤ 806 → 807 ≤ k + q → sx_V G 2 YX3_undo 38 [some (.ref h), some (.int (nI k))] [] (m_S G h (m_a (m_i (m_i M 25 (nI ((A_h A).length - 1))) 5 (nI 0)) 0 (r_ld (M.2.2.1 0) (M.2.2.1 3) ((A_h A).length - 1) k)) σ) (fun o τ => ∃ v, o = .inl v ∧ v = some (.int (nI ((A_h A).length - 1))) ∧ ∃ M2, τ = m_S G h M2 σ ∧ m_J M2 (s_un A)) := by
    intro M A hJ hpos hh6 q
    induction q with
    | zero => intro k h1 h2; exact absurd h2 (by omega)
    | succ q ih =>
    intro k h1 h2
    refine sv_iload_n dX3_undo_38 rfl ?_
    refine sv_sipush (nI 806) dX3_undo_39 (by decide +kernel) ?_
    refine sv_icmp_geN (tgt := 72) dX3_undo_42 (by decide) (by omega) (by omega) (fun c42 => ?_) (fun c42 => ?_)
    · have hk : k = 806 := by omega
      subst hk
      refine sv_aload_n dX3_undo_72 rfl ?_
      refine sm_get hn fg_X3_516 dX3_undo_73 rfl ?_
      refine sv_iret rfl rfl dX3_undo_76 ?_
      exact ⟨_, rfl, rfl, _, rfl, m_J_un hpos hJ⟩
    · refine sv_aload_n dX3_undo_45 rfl ?_
      refine sm_get hn fg_X3_17 dX3_undo_46 rfl ?_
      refine sv_iload_n dX3_undo_49 rfl ?_
      refine sv_aload_n dX3_undo_50 rfl ?_
      refine sm_get hn fg_X3_54 dX3_undo_51 rfl ?_
      refine sv_sipush (nI 806) dX3_undo_54 (by decide +kernel) ?_
      refine sv_aload_n dX3_undo_57 rfl ?_
      refine sm_get hn fg_X3_516 dX3_undo_58 rfl ?_
      refine sv_topI (y := nI ((A_h A).length - 1)) rfl ?_
      refine sv_imulN dX3_undo_61 ?_
      refine sv_iload_n dX3_undo_62 rfl ?_
      refine sv_iaddN dX3_undo_63 ?_
      refine sm_ld 3 (by decide) hn dX3_undo_64 (by show _ < 4836; omega) ?_
      refine sv_topL (y := M.2.2.1 3 (806 * ((A_h A).length - 1) + k)) rfl ?_
      refine sm_nst hn dX3_undo_65 (by omega) ?_
      rw [m_n_a, r_ld_s]
      refine sv_iincN dX3_undo_66 rfl (by decide) ?_
      refine sv_goto (tgt := 38) dX3_undo_69 (by decide) ?_
      exact ih (k + 1) (by omega) (by omega)
  refine sx_body (by decide) (Nat.le_of_ble_eq_true rfl) ?_
  have hc : M.1 25 = nI (A_h A).length := hJ.2.2.2.1.2.1
  have hh6 := hJ.2.2.2.1.1
  refine sv_aload_n dX3_undo_0 rfl ?_
  refine sv_aload_n dX3_undo_1 rfl ?_
  refine sm_get hn fg_X3_516 dX3_undo_2 rfl ?_
  refine sv_topI hc ?_
  refine sv_if_leN (tgt := 12) dX3_undo_5 (by decide) (by omega) (fun c5 => ?_) (fun c5 => ?_)
  · have hjn : nI 0 = b_I (decide (0 < (A_h A).length)) := by rw [decide_eq_false (by omega)]; rfl
    refine sv_iconst (nI 0) dX3_undo_12 (by decide +kernel) ?_
    refine sv_topI hjn ?_
    refine sv_cvR _ (ct_passes hn) okX3_passes kv_X3_266 (sx_rd_c (m_S_0 hn)) rfl dX3_undo_13 rfl rfl (by decide) (Nat.le_of_ble_eq_true rfl) ?_
    refine sv_if_neB (tgt := 21) dX3_undo_16 (by decide) (fun c16 => ?_) (fun c16 => ?_)
    · have hsp : sp_und A = (nI ((A_h A).length - 1), s_un (A_st A 0)) := by unfold sp_und; rw [g_1t c16]
      rw [hsp, t_hr_1 c16]
      have hJ0 := m_J_t hJ 0
      have hpos := of_decide_eq_true c16
      refine sv_aload_n dX3_undo_21 rfl ?_
      refine sv_dup dX3_undo_22 rfl ?_
      refine sm_get hn fg_X3_516 dX3_undo_23 rfl ?_
      refine sv_topI hc ?_
      refine sv_iconst (nI 1) dX3_undo_26 (by decide +kernel) ?_
      refine sv_isubN dX3_undo_27 (by omega) ?_
      refine sm_put hn fp_X3_516 dX3_undo_28 rfl (by decide) ?_
      refine sv_aload_n dX3_undo_31 rfl ?_
      refine sv_iconst (nI 0) dX3_undo_32 (by decide +kernel) ?_
      refine sm_put hn fp_X3_138 dX3_undo_33 rfl (by decide) ?_
      refine sv_iconst (nI 0) dX3_undo_36 (by decide +kernel) ?_
      refine sv_istore_n dX3_undo_37 (by decide) ?_
      have hlo := loop _ _ hJ0 hpos hh6 807 0 (by omega) (by omega)
      rw [r_ld_0] at hlo
      exact hlo
    · unfold sp_und
      rw [g_1f c16]
      refine sv_iconst (nI 0) dX3_undo_19 (by decide +kernel) ?_
      refine sv_iret rfl rfl dX3_undo_20 ?_
      exact ⟨_, rfl, r_I nI_0, _, rfl, m_J_t hJ _⟩
  · have hjn : nI 1 = b_I (decide (0 < (A_h A).length)) := by rw [decide_eq_true c5]; rfl
    refine sv_iconst (nI 1) dX3_undo_8 (by decide +kernel) ?_
    refine sv_goto (tgt := 13) dX3_undo_9 (by decide) ?_
    refine sv_topI hjn ?_
    refine sv_cvR _ (ct_passes hn) okX3_passes kv_X3_266 (sx_rd_c (m_S_0 hn)) rfl dX3_undo_13 rfl rfl (by decide) (Nat.le_of_ble_eq_true rfl) ?_
    refine sv_if_neB (tgt := 21) dX3_undo_16 (by decide) (fun c16 => ?_) (fun c16 => ?_)
    · have hsp : sp_und A = (nI ((A_h A).length - 1), s_un (A_st A 0)) := by unfold sp_und; rw [g_1t c16]
      rw [hsp, t_hr_1 c16]
      have hJ0 := m_J_t hJ 0
      have hpos := of_decide_eq_true c16
      refine sv_aload_n dX3_undo_21 rfl ?_
      refine sv_dup dX3_undo_22 rfl ?_
      refine sm_get hn fg_X3_516 dX3_undo_23 rfl ?_
      refine sv_topI hc ?_
      refine sv_iconst (nI 1) dX3_undo_26 (by decide +kernel) ?_
      refine sv_isubN dX3_undo_27 (by omega) ?_
      refine sm_put hn fp_X3_516 dX3_undo_28 rfl (by decide) ?_
      refine sv_aload_n dX3_undo_31 rfl ?_
      refine sv_iconst (nI 0) dX3_undo_32 (by decide +kernel) ?_
      refine sm_put hn fp_X3_138 dX3_undo_33 rfl (by decide) ?_
      refine sv_iconst (nI 0) dX3_undo_36 (by decide +kernel) ?_
      refine sv_istore_n dX3_undo_37 (by decide) ?_
      have hlo := loop _ _ hJ0 hpos hh6 807 0 (by omega) (by omega)
      rw [r_ld_0] at hlo
      exact hlo
    · unfold sp_und
      rw [g_1f c16]
      refine sv_iconst (nI 0) dX3_undo_19 (by decide +kernel) ?_
      refine sv_iret rfl rfl dX3_undo_20 ?_
      exact ⟨_, rfl, r_I nI_0, _, rfl, m_J_t hJ _⟩
def sp_cnt (A : a_A) : Int32 × a_A := (nI (A_h A).length, A_st A 0)
def sp_erc (A : a_A) : Int32 × a_A := (A_c A, A_st A 0)
def sp_erp (A : a_A) : Int32 × a_A := (A_p A, A_st A 0)
theorem ct_undoCount (hn : h + 11 < sx_n σ) (hJ : m_J M A) : sx_Cp G 2 YX3_undoCount [.ref h] (m_S G h M σ) (fun v τ => v = some (.int ((sp_cnt A).1)) ∧ ∃ M2, τ = m_S G h M2 σ ∧ m_J M2 ((sp_cnt A).2)) := by
  refine sx_body (by decide) (Nat.le_of_ble_eq_true rfl) ?_
  refine sv_aload_n dX3_undoCount_0 rfl ?_
  refine sv_iconst (nI 0) dX3_undoCount_1 (by decide +kernel) ?_
  refine sm_put hn fp_X3_3 dX3_undoCount_2 rfl (by decide) ?_
  rw [nI_0]
  have hJ0 := m_J_t hJ 0
  refine sv_aload_n dX3_undoCount_5 rfl ?_
  refine sm_get hn fg_X3_516 dX3_undoCount_6 rfl ?_
  refine sv_iret rfl rfl dX3_undoCount_9 ?_
  exact ⟨_, rfl, r_I hJ0.2.2.2.1.2.1, _, rfl, hJ0⟩
theorem ct_errorCode (hn : h + 11 < sx_n σ) (hJ : m_J M A) : sx_Cp G 2 YX3_errorCode [.ref h] (m_S G h M σ) (fun v τ => v = some (.int ((sp_erc A).1)) ∧ ∃ M2, τ = m_S G h M2 σ ∧ m_J M2 ((sp_erc A).2)) := by
  refine sx_body (by decide) (Nat.le_of_ble_eq_true rfl) ?_
  refine sv_aload_n dX3_errorCode_0 rfl ?_
  refine sv_iconst (nI 0) dX3_errorCode_1 (by decide +kernel) ?_
  refine sm_put hn fp_X3_3 dX3_errorCode_2 rfl (by decide) ?_
  rw [nI_0]
  have hJ0 := m_J_t hJ 0
  refine sv_aload_n dX3_errorCode_5 rfl ?_
  refine sm_get hn fg_X3_276 dX3_errorCode_6 rfl ?_
  refine sv_iret rfl rfl dX3_errorCode_9 ?_
  exact ⟨_, rfl, r_I hJ0.2.2.2.2.2.2.2.1, _, rfl, hJ0⟩
theorem ct_errorPosition (hn : h + 11 < sx_n σ) (hJ : m_J M A) : sx_Cp G 2 YX3_errorPosition [.ref h] (m_S G h M σ) (fun v τ => v = some (.int ((sp_erp A).1)) ∧ ∃ M2, τ = m_S G h M2 σ ∧ m_J M2 ((sp_erp A).2)) := by
  refine sx_body (by decide) (Nat.le_of_ble_eq_true rfl) ?_
  refine sv_aload_n dX3_errorPosition_0 rfl ?_
  refine sv_iconst (nI 0) dX3_errorPosition_1 (by decide +kernel) ?_
  refine sm_put hn fp_X3_3 dX3_errorPosition_2 rfl (by decide) ?_
  rw [nI_0]
  have hJ0 := m_J_t hJ 0
  refine sv_aload_n dX3_errorPosition_5 rfl ?_
  refine sm_get hn fg_X3_38 dX3_errorPosition_6 rfl ?_
  refine sv_iret rfl rfl dX3_errorPosition_9 ?_
  exact ⟨_, rfl, r_I hJ0.2.2.2.2.2.2.2.2.1, _, rfl, hJ0⟩
end MRV
