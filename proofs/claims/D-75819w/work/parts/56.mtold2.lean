set_option maxRecDepth 100000
section MRT
variable {G : sx_G} {h : Nat} {M : m_M} {σ : sx_St} {V : a_V} {A : a_A} {r r' : Nat → Int64} {t : Nat}
theorem ct_message (hn : h + 11 < sx_n σ) (hJ : m_J M A) {b m x : Int32} : sx_Cp G 4 YX3_message [.ref h, .int b, .int m, .int x] (m_S G h M σ) (fun v τ => v = some (.int ((sp_msg A b m x).1)) ∧ ∃ M2, τ = m_S G h M2 σ ∧ m_J M2 ((sp_msg A b m x).2)) := by
  refine sx_body (by decide) (Nat.le_of_ble_eq_true rfl) ?_
  refine sv_aload_n dX3_message_0 rfl ?_
  refine sv_aload_n dX3_message_1 rfl ?_
  refine sv_iload_n dX3_message_2 rfl ?_
  refine sv_cvR _ (ct_isBox hn (m_J_e hJ).1 hJ.2.2.1.1) okX3_isBox kv_X3_189 (sx_rd_c (m_S_0 hn)) rfl dX3_message_3 rfl rfl (by decide) (Nat.le_of_ble_eq_true rfl) ?_
  refine sv_if_eqB (tgt := 30) dX3_message_6 (by decide) (fun c6 => ?_) (fun c6 => ?_)
  · have hjn : nI 0 = b_I (i_in b (A_v A).2.1.length && i_in m (a_ms (A_v A) b.toNatClampNeg).length) := by rw [c6]; rfl
    refine sv_iconst (nI 0) dX3_message_30 (by decide +kernel) ?_
    refine sv_topI hjn ?_
    refine sv_iload_n dX3_message_31 rfl ?_
    refine sv_i2l dX3_message_32 ?_
    refine sv_lconst 0 dX3_message_33 (by decide) ?_
    refine sv_ldc2 q2325 dX3_message_34 ?_
    refine sv_csR _ ct_in okX3_in ks_X3_70 dX3_message_37 rfl rfl (by decide) (Nat.le_of_ble_eq_true rfl) ?_
    refine sv_cvR _ (ct_passes2 (b := a_in x 0 2) hn) okX3_passes2 kv_X3_192 (sx_rd_c (m_S_0 hn)) rfl dX3_message_40 rfl rfl (by decide) (Nat.le_of_ble_eq_true rfl) ?_
    refine sv_if_eqB (tgt := 56) dX3_message_43 (by decide) (fun c43 => ?_) (fun c43 => ?_)
    · unfold sp_msg
      rw [g_2f c43]
      have hval : some (Value.int (nI 0)) = some (Value.int 0) := r_I nI_0
      refine sv_iconst (nI 0) dX3_message_56 (by decide +kernel) ?_
      refine sv_iret rfl rfl dX3_message_57 ?_
      first | exact ⟨_, rfl, hval, _, rfl, m_J_t hJ _⟩ | (rcases hw9 with rfl | rfl | rfl; exact ⟨_, rfl, r_I hg.1, _, rfl, hJ0⟩; exact ⟨_, rfl, r_I hg.2.1, _, rfl, hJ0⟩; exact ⟨_, rfl, r_I hg.2.2, _, rfl, hJ0⟩)
    · have hb3 := hJ.2.2.1.1.1
      have hc2 := c43
      simp only [Bool.and_eq_true] at hc2
      obtain ⟨c0, hb0, e0⟩ := i_in_of (by omega) hc2.1.1
      have ec0 := nI_clamp (show c0 < 2 ^ 31 by omega)
      have hml0 := hJ.2.2.1.1.2.2 c0 hb0
      have hc3 := hc2.1.2
      rw [e0, ec0] at hc3
      obtain ⟨m0, hm0, rfl⟩ := i_in_of (by omega) hc3
      have em0 := nI_clamp (show m0 < 2 ^ 31 by omega)
      unfold sp_msg
      rw [g_2t c43, t_hr_2 c43, e0, ec0, em0]
      have hJ0 := m_J_t hJ 0
      obtain ⟨w, rfl, ew, hw8⟩ := a_in_of hc2.2
      have hw9 : w = 0 ∨ w = 1 ∨ w = 2 := by have hz : (w : Int) ≤ 2 := hw8; omega
      rw [ew]
      have hg := e_Vb_m (m_J_e hJ0).1 hb0 hm0
      refine sv_aload_n dX3_message_46 rfl ?_
      refine sv_iload_n dX3_message_47 rfl ?_
      refine sv_iload_n dX3_message_48 rfl ?_
      refine sv_iload_n dX3_message_49 rfl ?_
      refine sv_cvR _ (ct_ofMessage hn (by omega)) okX3_ofMessage kv_X3_103 (sx_rd_c (m_S_0 hn)) rfl dX3_message_50 rfl rfl (by decide) (Nat.le_of_ble_eq_true rfl) ?_
      refine sv_goto (tgt := 57) dX3_message_53 (by decide) ?_
      refine sv_iret rfl rfl dX3_message_57 ?_
      first | exact ⟨_, rfl, hval, _, rfl, m_J_t hJ _⟩ | (rcases hw9 with rfl | rfl | rfl; exact ⟨_, rfl, r_I hg.1, _, rfl, hJ0⟩; exact ⟨_, rfl, r_I hg.2.1, _, rfl, hJ0⟩; exact ⟨_, rfl, r_I hg.2.2, _, rfl, hJ0⟩)
  · have hb3 := hJ.2.2.1.1.1
    obtain ⟨c, hb, rfl⟩ := i_in_of (by omega) c6
    have ec : (nI c).toNatClampNeg = c := nI_clamp (by omega)
    have hml := hJ.2.2.1.1.2.2 c hb
    refine sv_iload_n dX3_message_9 rfl ?_
    refine sv_i2l dX3_message_10 ?_
    refine sv_lconst 0 dX3_message_11 (by decide) ?_
    refine sv_aload_n dX3_message_12 rfl ?_
    refine sv_iload_n dX3_message_13 rfl ?_
    refine sv_cvR _ (ct_manyIn hn (m_J_e hJ).1 hJ.2.2.1.1 hb) okX3_manyIn kv_X3_100 (sx_rd_c (m_S_0 hn)) rfl dX3_message_14 rfl rfl (by decide) (Nat.le_of_ble_eq_true rfl) ?_
    refine sv_iconst (nI 1) dX3_message_17 (by decide +kernel) ?_
    refine sv_isub dX3_message_18 ?_
    refine sv_i2l dX3_message_19 ?_
    refine sv_csR _ ct_in okX3_in ks_X3_70 dX3_message_20 rfl rfl (by decide) (Nat.le_of_ble_eq_true rfl) ?_
    refine sv_if_eqB (tgt := 30) dX3_message_23 (by decide) (fun c23 => ?_) (fun c23 => ?_)
    · have hjn : nI 0 = b_I (i_in (nI c) (A_v A).2.1.length && i_in m (a_ms (A_v A) (nI c).toNatClampNeg).length) := by rw [c6, ec, show i_in m (a_ms (A_v A) c).length = false from (decide_eq_decide.mpr (in_I (by omega))).symm.trans c23]; rfl
      refine sv_iconst (nI 0) dX3_message_30 (by decide +kernel) ?_
      refine sv_topI hjn ?_
      refine sv_iload_n dX3_message_31 rfl ?_
      refine sv_i2l dX3_message_32 ?_
      refine sv_lconst 0 dX3_message_33 (by decide) ?_
      refine sv_ldc2 q2325 dX3_message_34 ?_
      refine sv_csR _ ct_in okX3_in ks_X3_70 dX3_message_37 rfl rfl (by decide) (Nat.le_of_ble_eq_true rfl) ?_
      refine sv_cvR _ (ct_passes2 (b := a_in x 0 2) hn) okX3_passes2 kv_X3_192 (sx_rd_c (m_S_0 hn)) rfl dX3_message_40 rfl rfl (by decide) (Nat.le_of_ble_eq_true rfl) ?_
      refine sv_if_eqB (tgt := 56) dX3_message_43 (by decide) (fun c43 => ?_) (fun c43 => ?_)
      · unfold sp_msg
        rw [g_2f c43]
        have hval : some (Value.int (nI 0)) = some (Value.int 0) := r_I nI_0
        refine sv_iconst (nI 0) dX3_message_56 (by decide +kernel) ?_
        refine sv_iret rfl rfl dX3_message_57 ?_
        first | exact ⟨_, rfl, hval, _, rfl, m_J_t hJ _⟩ | (rcases hw9 with rfl | rfl | rfl; exact ⟨_, rfl, r_I hg.1, _, rfl, hJ0⟩; exact ⟨_, rfl, r_I hg.2.1, _, rfl, hJ0⟩; exact ⟨_, rfl, r_I hg.2.2, _, rfl, hJ0⟩)
      · have hb3 := hJ.2.2.1.1.1
        have hc2 := c43
        simp only [Bool.and_eq_true] at hc2
        obtain ⟨c0, hb0, e0⟩ := i_in_of (by omega) hc2.1.1
        have ec0 := nI_clamp (show c0 < 2 ^ 31 by omega)
        have hml0 := hJ.2.2.1.1.2.2 c0 hb0
        have hc3 := hc2.1.2
        rw [e0, ec0] at hc3
        obtain ⟨m0, hm0, rfl⟩ := i_in_of (by omega) hc3
        have em0 := nI_clamp (show m0 < 2 ^ 31 by omega)
        unfold sp_msg
        rw [g_2t c43, t_hr_2 c43, e0, ec0, em0]
        have hJ0 := m_J_t hJ 0
        obtain ⟨w, rfl, ew, hw8⟩ := a_in_of hc2.2
        have hw9 : w = 0 ∨ w = 1 ∨ w = 2 := by have hz : (w : Int) ≤ 2 := hw8; omega
        rw [ew]
        have hg := e_Vb_m (m_J_e hJ0).1 hb0 hm0
        refine sv_aload_n dX3_message_46 rfl ?_
        refine sv_iload_n dX3_message_47 rfl ?_
        refine sv_iload_n dX3_message_48 rfl ?_
        refine sv_iload_n dX3_message_49 rfl ?_
        refine sv_cvR _ (ct_ofMessage hn (by omega)) okX3_ofMessage kv_X3_103 (sx_rd_c (m_S_0 hn)) rfl dX3_message_50 rfl rfl (by decide) (Nat.le_of_ble_eq_true rfl) ?_
        refine sv_goto (tgt := 57) dX3_message_53 (by decide) ?_
        refine sv_iret rfl rfl dX3_message_57 ?_
        first | exact ⟨_, rfl, hval, _, rfl, m_J_t hJ _⟩ | (rcases hw9 with rfl | rfl | rfl; exact ⟨_, rfl, r_I hg.1, _, rfl, hJ0⟩; exact ⟨_, rfl, r_I hg.2.1, _, rfl, hJ0⟩; exact ⟨_, rfl, r_I hg.2.2, _, rfl, hJ0⟩)
    · have hjn : nI 1 = b_I (i_in (nI c) (A_v A).2.1.length && i_in m (a_ms (A_v A) (nI c).toNatClampNeg).length) := by rw [c6, ec, show i_in m (a_ms (A_v A) c).length = true from (decide_eq_decide.mpr (in_I (by omega))).symm.trans c23]; rfl
      refine sv_iconst (nI 1) dX3_message_26 (by decide +kernel) ?_
      refine sv_goto (tgt := 31) dX3_message_27 (by decide) ?_
      refine sv_topI hjn ?_
      refine sv_iload_n dX3_message_31 rfl ?_
      refine sv_i2l dX3_message_32 ?_
      refine sv_lconst 0 dX3_message_33 (by decide) ?_
      refine sv_ldc2 q2325 dX3_message_34 ?_
      refine sv_csR _ ct_in okX3_in ks_X3_70 dX3_message_37 rfl rfl (by decide) (Nat.le_of_ble_eq_true rfl) ?_
      refine sv_cvR _ (ct_passes2 (b := a_in x 0 2) hn) okX3_passes2 kv_X3_192 (sx_rd_c (m_S_0 hn)) rfl dX3_message_40 rfl rfl (by decide) (Nat.le_of_ble_eq_true rfl) ?_
      refine sv_if_eqB (tgt := 56) dX3_message_43 (by decide) (fun c43 => ?_) (fun c43 => ?_)
      · unfold sp_msg
        rw [g_2f c43]
        have hval : some (Value.int (nI 0)) = some (Value.int 0) := r_I nI_0
        refine sv_iconst (nI 0) dX3_message_56 (by decide +kernel) ?_
        refine sv_iret rfl rfl dX3_message_57 ?_
        first | exact ⟨_, rfl, hval, _, rfl, m_J_t hJ _⟩ | (rcases hw9 with rfl | rfl | rfl; exact ⟨_, rfl, r_I hg.1, _, rfl, hJ0⟩; exact ⟨_, rfl, r_I hg.2.1, _, rfl, hJ0⟩; exact ⟨_, rfl, r_I hg.2.2, _, rfl, hJ0⟩)
      · have hb3 := hJ.2.2.1.1.1
        have hc2 := c43
        simp only [Bool.and_eq_true] at hc2
        obtain ⟨c0, hb0, e0⟩ := i_in_of (by omega) hc2.1.1
        have ec0 := nI_clamp (show c0 < 2 ^ 31 by omega)
        have hml0 := hJ.2.2.1.1.2.2 c0 hb0
        have hc3 := hc2.1.2
        rw [e0, ec0] at hc3
        obtain ⟨m0, hm0, rfl⟩ := i_in_of (by omega) hc3
        have em0 := nI_clamp (show m0 < 2 ^ 31 by omega)
        unfold sp_msg
        rw [g_2t c43, t_hr_2 c43, e0, ec0, em0]
        have hJ0 := m_J_t hJ 0
        obtain ⟨w, rfl, ew, hw8⟩ := a_in_of hc2.2
        have hw9 : w = 0 ∨ w = 1 ∨ w = 2 := by have hz : (w : Int) ≤ 2 := hw8; omega
        rw [ew]
        have hg := e_Vb_m (m_J_e hJ0).1 hb0 hm0
        refine sv_aload_n dX3_message_46 rfl ?_
        refine sv_iload_n dX3_message_47 rfl ?_
        refine sv_iload_n dX3_message_48 rfl ?_
        refine sv_iload_n dX3_message_49 rfl ?_
        refine sv_cvR _ (ct_ofMessage hn (by omega)) okX3_ofMessage kv_X3_103 (sx_rd_c (m_S_0 hn)) rfl dX3_message_50 rfl rfl (by decide) (Nat.le_of_ble_eq_true rfl) ?_
        refine sv_goto (tgt := 57) dX3_message_53 (by decide) ?_
        refine sv_iret rfl rfl dX3_message_57 ?_
        first | exact ⟨_, rfl, hval, _, rfl, m_J_t hJ _⟩ | (rcases hw9 with rfl | rfl | rfl; exact ⟨_, rfl, r_I hg.1, _, rfl, hJ0⟩; exact ⟨_, rfl, r_I hg.2.1, _, rfl, hJ0⟩; exact ⟨_, rfl, r_I hg.2.2, _, rfl, hJ0⟩)
theorem ct_indexOf (hn : h + 11 < sx_n σ) (hJ : m_J M A) {b u : Int32} : sx_Cp G 10 YX3_indexOf [.ref h, .int b, .int u] (m_S G h M σ) (fun v τ => v = some (.int ((sp_idx A b u).1)) ∧ ∃ M2, τ = m_S G h M2 σ ∧ m_J M2 ((sp_idx A b u).2)) := by
  refine sx_body (by decide) (Nat.le_of_ble_eq_true rfl) ?_
  refine sv_aload_n dX3_indexOf_0 rfl ?_
  refine sv_aload_n dX3_indexOf_1 rfl ?_
  refine sv_iload_n dX3_indexOf_2 rfl ?_
  refine sv_cvR _ (ct_isBox hn (m_J_e hJ).1 hJ.2.2.1.1) okX3_isBox kv_X3_189 (sx_rd_c (m_S_0 hn)) rfl dX3_indexOf_3 rfl rfl (by decide) (Nat.le_of_ble_eq_true rfl) ?_
  refine sv_cvR _ (ct_passes hn) okX3_passes kv_X3_266 (sx_rd_c (m_S_0 hn)) rfl dX3_indexOf_6 rfl rfl (by decide) (Nat.le_of_ble_eq_true rfl) ?_
  refine sv_if_eqB (tgt := 21) dX3_indexOf_9 (by decide) (fun c9 => ?_) (fun c9 => ?_)
  · unfold sp_idx
    rw [g_1f c9]
    have hval : some (Value.int (nI 0)) = some (Value.int 0) := r_I nI_0
    refine sv_iconst (nI 0) dX3_indexOf_21 (by decide +kernel) ?_
    refine sv_iret rfl rfl dX3_indexOf_22 ?_
    first | exact ⟨_, rfl, hval, _, rfl, m_J_t hJ _⟩ | exact ⟨_, rfl, rfl, _, rfl, hJ0⟩
  · have hsp : sp_idx A b u = (o_I (a_find (a_ms (A_v A) b.toNatClampNeg) u), A_st A 0) := by unfold sp_idx; rw [g_1t c9]
    rw [hsp]
    rw [t_hr_1 c9]
    have hJ0 := m_J_t hJ 0
    have hb3 := hJ.2.2.1.1.1
    obtain ⟨j, hj, rfl⟩ := i_in_of (by omega) c9
    have ej : (nI j).toNatClampNeg = j := nI_clamp (by omega)
    rw [ej]
    have hml := hJ.2.2.1.1.2.2 j hj
    refine sv_aload_n dX3_indexOf_12 rfl ?_
    refine sv_iload_n dX3_indexOf_13 rfl ?_
    refine sv_iload_n dX3_indexOf_14 rfl ?_
    refine sv_cvR _ (ct_withUid hn (m_J_e hJ0).1 hJ0.2.2.1.1 hj) okX3_withUid kv_X3_110 (sx_rd_c (m_S_0 hn)) rfl dX3_indexOf_15 rfl rfl (by decide) (Nat.le_of_ble_eq_true rfl) ?_
    refine sv_goto (tgt := 22) dX3_indexOf_18 (by decide) ?_
    refine sv_iret rfl rfl dX3_indexOf_22 ?_
    first | exact ⟨_, rfl, hval, _, rfl, m_J_t hJ _⟩ | exact ⟨_, rfl, rfl, _, rfl, hJ0⟩
theorem ct_numberOf (hn : h + 11 < sx_n σ) (hJ : m_J M A) {s u : Int32} : sx_Cp G 10 YX3_numberOf [.ref h, .int s, .int u] (m_S G h M σ) (fun v τ => v = some (.int ((sp_num A s u).1)) ∧ ∃ M2, τ = m_S G h M2 σ ∧ m_J M2 ((sp_num A s u).2)) := by
  refine sx_body (by decide) (Nat.le_of_ble_eq_true rfl) ?_
  refine sv_aload_n dX3_numberOf_0 rfl ?_
  refine sv_aload_n dX3_numberOf_1 rfl ?_
  refine sv_iload_n dX3_numberOf_2 rfl ?_
  refine sv_cvR _ (ct_isSession hn (m_J_e hJ).1 hJ.2.2.1.1) okX3_isSession kv_X3_93 (sx_rd_c (m_S_0 hn)) rfl dX3_numberOf_3 rfl rfl (by decide) (Nat.le_of_ble_eq_true rfl) ?_
  refine sv_cvR _ (ct_passes hn) okX3_passes kv_X3_266 (sx_rd_c (m_S_0 hn)) rfl dX3_numberOf_6 rfl rfl (by decide) (Nat.le_of_ble_eq_true rfl) ?_
  refine sv_if_eqB (tgt := 21) dX3_numberOf_9 (by decide) (fun c9 => ?_) (fun c9 => ?_)
  · unfold sp_num
    rw [g_1f c9]
    have hval : some (Value.int (nI 0)) = some (Value.int 0) := r_I nI_0
    refine sv_iconst (nI 0) dX3_numberOf_21 (by decide +kernel) ?_
    refine sv_iret rfl rfl dX3_numberOf_22 ?_
    first | exact ⟨_, rfl, hval, _, rfl, m_J_t hJ _⟩ | exact ⟨_, rfl, rfl, _, rfl, hJ0⟩
  · have hsp : sp_num A s u = (e_w (a_es (A_v A) s.toNatClampNeg) u, A_st A 0) := by unfold sp_num; rw [g_1t c9]
    rw [hsp]
    rw [t_hr_1 c9]
    have hJ0 := m_J_t hJ 0
    have hs4 := hJ.2.2.1.1.2.1
    obtain ⟨j, hj, rfl⟩ := i_in_of (by omega) c9
    have ej : (nI j).toNatClampNeg = j := nI_clamp (by omega)
    rw [ej]
    have hel := hJ.2.2.1.2.1 j hj
    refine sv_aload_n dX3_numberOf_12 rfl ?_
    refine sv_iload_n dX3_numberOf_13 rfl ?_
    refine sv_iload_n dX3_numberOf_14 rfl ?_
    refine sv_cvR _ (ct_entryWith hn (m_J_e hJ0) hJ0.2.2.1 hj) okX3_entryWith kv_X3_502 (sx_rd_c (m_S_0 hn)) rfl dX3_numberOf_15 rfl rfl (by decide) (Nat.le_of_ble_eq_true rfl) ?_
    refine sv_goto (tgt := 22) dX3_numberOf_18 (by decide) ?_
    refine sv_iret rfl rfl dX3_numberOf_22 ?_
    first | exact ⟨_, rfl, hval, _, rfl, m_J_t hJ _⟩ | exact ⟨_, rfl, rfl, _, rfl, hJ0⟩
theorem ct_pending (hn : h + 11 < sx_n σ) (hJ : m_J M A) {s : Int32} : sx_Cp G 10 YX3_pending [.ref h, .int s] (m_S G h M σ) (fun v τ => v = some (.int ((sp_pen A s).1)) ∧ ∃ M2, τ = m_S G h M2 σ ∧ m_J M2 ((sp_pen A s).2)) := by
  refine sx_body (by decide) (Nat.le_of_ble_eq_true rfl) ?_
  refine sv_aload_n dX3_pending_0 rfl ?_
  refine sv_aload_n dX3_pending_1 rfl ?_
  refine sv_iload_n dX3_pending_2 rfl ?_
  refine sv_cvR _ (ct_isSession hn (m_J_e hJ).1 hJ.2.2.1.1) okX3_isSession kv_X3_93 (sx_rd_c (m_S_0 hn)) rfl dX3_pending_3 rfl rfl (by decide) (Nat.le_of_ble_eq_true rfl) ?_
  refine sv_cvR _ (ct_passes hn) okX3_passes kv_X3_266 (sx_rd_c (m_S_0 hn)) rfl dX3_pending_6 rfl rfl (by decide) (Nat.le_of_ble_eq_true rfl) ?_
  refine sv_if_eqB (tgt := 20) dX3_pending_9 (by decide) (fun c9 => ?_) (fun c9 => ?_)
  · unfold sp_pen
    rw [g_1f c9]
    have hval : some (Value.int (nI 0)) = some (Value.int 0) := r_I nI_0
    refine sv_iconst (nI 0) dX3_pending_20 (by decide +kernel) ?_
    refine sv_iret rfl rfl dX3_pending_21 ?_
    first | exact ⟨_, rfl, hval, _, rfl, m_J_t hJ _⟩ | exact ⟨_, rfl, rfl, _, rfl, hJ0⟩
  · have hsp : sp_pen A s = (nI (a_pe (A_v A) s.toNatClampNeg), A_st A 0) := by unfold sp_pen; rw [g_1t c9]
    rw [hsp]
    rw [t_hr_1 c9]
    have hJ0 := m_J_t hJ 0
    have hs4 := hJ.2.2.1.1.2.1
    obtain ⟨j, hj, rfl⟩ := i_in_of (by omega) c9
    have ej : (nI j).toNatClampNeg = j := nI_clamp (by omega)
    rw [ej]
    have hel := hJ.2.2.1.2.1 j hj
    refine sv_aload_n dX3_pending_12 rfl ?_
    refine sv_iload_n dX3_pending_13 rfl ?_
    refine sv_cvR _ (ct_pendingOf hn (m_J_e hJ0) hJ0.2.2.1 hj) okX3_pendingOf kv_X3_505 (sx_rd_c (m_S_0 hn)) rfl dX3_pending_14 rfl rfl (by decide) (Nat.le_of_ble_eq_true rfl) ?_
    refine sv_goto (tgt := 21) dX3_pending_17 (by decide) ?_
    refine sv_iret rfl rfl dX3_pending_21 ?_
    first | exact ⟨_, rfl, hval, _, rfl, m_J_t hJ _⟩ | exact ⟨_, rfl, rfl, _, rfl, hJ0⟩
theorem ct_isCurrent (hn : h + 11 < sx_n σ) (hJ : m_J M A) {s : Int32} : sx_Cp G 11 YX3_isCurrent [.ref h, .int s] (m_S G h M σ) (fun v τ => v = some (.int ((sp_cur A s).1)) ∧ ∃ M2, τ = m_S G h M2 σ ∧ m_J M2 ((sp_cur A s).2)) := by
  refine sx_body (by decide) (Nat.le_of_ble_eq_true rfl) ?_
  refine sv_aload_n dX3_isCurrent_0 rfl ?_
  refine sv_aload_n dX3_isCurrent_1 rfl ?_
  refine sv_iload_n dX3_isCurrent_2 rfl ?_
  refine sv_cvR _ (ct_isSession hn (m_J_e hJ).1 hJ.2.2.1.1) okX3_isSession kv_X3_93 (sx_rd_c (m_S_0 hn)) rfl dX3_isCurrent_3 rfl rfl (by decide) (Nat.le_of_ble_eq_true rfl) ?_
  refine sv_cvR _ (ct_passes hn) okX3_passes kv_X3_266 (sx_rd_c (m_S_0 hn)) rfl dX3_isCurrent_6 rfl rfl (by decide) (Nat.le_of_ble_eq_true rfl) ?_
  refine sv_if_eqB (tgt := 24) dX3_isCurrent_9 (by decide) (fun c9 => ?_) (fun c9 => ?_)
  · unfold sp_cur
    rw [g_1f c9]
    have hval : some (Value.int (nI 0)) = some (Value.int 0) := r_I nI_0
    refine sv_iconst (nI 0) dX3_isCurrent_24 (by decide +kernel) ?_
    refine sv_iret (by first | exact b_I_nar _ | rfl) rfl dX3_isCurrent_25 ?_
    first | exact ⟨_, rfl, hval, _, rfl, m_J_t hJ _⟩ | exact ⟨_, rfl, hval, _, rfl, hJ0⟩
  · have hsp : sp_cur A s = (b_I (a_upd (A_v A) s.toNatClampNeg), A_st A 0) := by unfold sp_cur; rw [g_1t c9]
    rw [hsp]
    rw [t_hr_1 c9]
    have hJ0 := m_J_t hJ 0
    have hs4 := hJ.2.2.1.1.2.1
    obtain ⟨j, hj, rfl⟩ := i_in_of (by omega) c9
    have ej : (nI j).toNatClampNeg = j := nI_clamp (by omega)
    rw [ej]
    have hel := hJ.2.2.1.2.1 j hj
    refine sv_aload_n dX3_isCurrent_12 rfl ?_
    refine sv_iload_n dX3_isCurrent_13 rfl ?_
    refine sv_cvR _ (ct_isUpToDate hn (m_J_e hJ0) hJ0.2.2.1 hj) okX3_isUpToDate kv_X3_508 (sx_rd_c (m_S_0 hn)) rfl dX3_isCurrent_14 rfl rfl (by decide) (Nat.le_of_ble_eq_true rfl) ?_
    refine sv_if_eqB (tgt := 24) dX3_isCurrent_17 (by decide) (fun c17 => ?_) (fun c17 => ?_)
    · have hval : some (Value.int (nI 0)) = some (Value.int (b_I (a_upd (A_v A) j))) := by rw [show a_upd (A_v A) j = false from c17]; rfl
      refine sv_iconst (nI 0) dX3_isCurrent_24 (by decide +kernel) ?_
      refine sv_iret (by first | exact b_I_nar _ | rfl) rfl dX3_isCurrent_25 ?_
      first | exact ⟨_, rfl, hval, _, rfl, m_J_t hJ _⟩ | exact ⟨_, rfl, hval, _, rfl, hJ0⟩
    · have hval : some (Value.int (nI 1)) = some (Value.int (b_I (a_upd (A_v A) j))) := by rw [show a_upd (A_v A) j = true from c17]; rfl
      refine sv_iconst (nI 1) dX3_isCurrent_20 (by decide +kernel) ?_
      refine sv_goto (tgt := 25) dX3_isCurrent_21 (by decide) ?_
      refine sv_iret (by first | exact b_I_nar _ | rfl) rfl dX3_isCurrent_25 ?_
      first | exact ⟨_, rfl, hval, _, rfl, m_J_t hJ _⟩ | exact ⟨_, rfl, hval, _, rfl, hJ0⟩
theorem ct_session (hn : h + 11 < sx_n σ) (hJ : m_J M A) {s x : Int32} : sx_Cp G 9 YX3_session [.ref h, .int s, .int x] (m_S G h M σ) (fun v τ => v = some (.int ((sp_ses A s x).1)) ∧ ∃ M2, τ = m_S G h M2 σ ∧ m_J M2 ((sp_ses A s x).2)) := by
  refine sx_body (by decide) (Nat.le_of_ble_eq_true rfl) ?_
  refine sv_aload_n dX3_session_0 rfl ?_
  refine sv_aload_n dX3_session_1 rfl ?_
  refine sv_iload_n dX3_session_2 rfl ?_
  refine sv_cvR _ (ct_isSession hn (m_J_e hJ).1 hJ.2.2.1.1) okX3_isSession kv_X3_93 (sx_rd_c (m_S_0 hn)) rfl dX3_session_3 rfl rfl (by decide) (Nat.le_of_ble_eq_true rfl) ?_
  refine sv_iload_n dX3_session_6 rfl ?_
  refine sv_i2l dX3_session_7 ?_
  refine sv_lconst 0 dX3_session_8 (by decide) ?_
  refine sv_ldc2 q2574 dX3_session_9 ?_
  refine sv_csR _ ct_in okX3_in ks_X3_70 dX3_session_12 rfl rfl (by decide) (Nat.le_of_ble_eq_true rfl) ?_
  refine sv_cvR _ (ct_passes2 (b := a_in x 0 6) hn) okX3_passes2 kv_X3_192 (sx_rd_c (m_S_0 hn)) rfl dX3_session_15 rfl rfl (by decide) (Nat.le_of_ble_eq_true rfl) ?_
  refine sv_if_neB (tgt := 23) dX3_session_18 (by decide) (fun c18 => ?_) (fun c18 => ?_)
  · have hsp : sp_ses A s x = (p_ses (A_v A) s.toNatClampNeg x.toNatClampNeg, A_st A 0) := by unfold sp_ses; rw [g_2t c18]
    rw [hsp]
    rw [t_hr_2 c18]
    have hJ0 := m_J_t hJ 0
    have hc2 := c18
    rw [Bool.and_eq_true] at hc2
    have hs4 := hJ.2.2.1.1.2.1
    obtain ⟨j, hj, rfl⟩ := i_in_of (by omega) hc2.1
    have ej : (nI j).toNatClampNeg = j := nI_clamp (by omega)
    rw [ej]
    have hel := hJ.2.2.1.2.1 j hj
    obtain ⟨w, rfl, ew, hw8⟩ := a_in_of hc2.2
    have hw9 : w = 0 ∨ w = 1 ∨ w = 2 ∨ w = 3 ∨ w = 4 ∨ w = 5 ∨ w = 6 := by have hz : (w : Int) ≤ 6 := hw8; omega
    rw [ew]
    refine sv_iload_n dX3_session_23 rfl ?_
    rcases hw9 with rfl | rfl | rfl | rfl | rfl | rfl | rfl
    · refine sv_tableIn (off := 40) (tgt := 64) dX3_session_24 (by decide +kernel) (by decide +kernel) (by decide +kernel) (by decide) ?_
      refine sv_aload_n dX3_session_64 rfl ?_
      refine sv_iload_n dX3_session_65 rfl ?_
      refine sv_cvR _ (ct_boxOf hn (m_J_e hJ0) hJ0.2.2.1 hj) okX3_boxOf kv_X3_87 (sx_rd_c (m_S_0 hn)) rfl dX3_session_66 rfl rfl (by decide) (Nat.le_of_ble_eq_true rfl) ?_
      refine sv_iret rfl rfl dX3_session_69 ?_
      exact ⟨_, rfl, rfl, _, rfl, hJ0⟩
    · refine sv_tableIn (off := 46) (tgt := 70) dX3_session_24 (by decide +kernel) (by decide +kernel) (by decide +kernel) (by decide) ?_
      refine sv_aload_n dX3_session_70 rfl ?_
      refine sv_iload_n dX3_session_71 rfl ?_
      refine sv_cvR _ (ct_doesRead hn (m_J_e hJ0) hJ0.2.2.1 hj) okX3_doesRead kv_X3_172 (sx_rd_c (m_S_0 hn)) rfl dX3_session_72 rfl rfl (by decide) (Nat.le_of_ble_eq_true rfl) ?_
      refine sv_if_eqB (tgt := 82) dX3_session_75 (by decide) (fun c75 => ?_) (fun c75 => ?_)
      · have hval : some (Value.int (nI 0)) = some (Value.int (p_ses (A_v A) j 1)) := r_I (by show nI 0 = b_I ((a_bx (A_v (A_st A 0)) j).isSome && a_rd (A_v (A_st A 0)) j); rw [c75]; rfl)
        refine sv_iconst (nI 0) dX3_session_82 (by decide +kernel) ?_
        refine sv_iret rfl rfl dX3_session_83 ?_
        exact ⟨_, rfl, hval, _, rfl, hJ0⟩
      · have hval : some (Value.int (nI 1)) = some (Value.int (p_ses (A_v A) j 1)) := r_I (by show nI 1 = b_I ((a_bx (A_v (A_st A 0)) j).isSome && a_rd (A_v (A_st A 0)) j); rw [c75]; rfl)
        refine sv_iconst (nI 1) dX3_session_78 (by decide +kernel) ?_
        refine sv_goto (tgt := 83) dX3_session_79 (by decide) ?_
        refine sv_iret rfl rfl dX3_session_83 ?_
        exact ⟨_, rfl, hval, _, rfl, hJ0⟩
    · refine sv_tableIn (off := 60) (tgt := 84) dX3_session_24 (by decide +kernel) (by decide +kernel) (by decide +kernel) (by decide) ?_
      refine sv_aload_n dX3_session_84 rfl ?_
      refine sv_iload_n dX3_session_85 rfl ?_
      refine sv_cvR _ (ct_isIdle hn (m_J_e hJ0) hJ0.2.2.1 hj) okX3_isIdle kv_X3_162 (sx_rd_c (m_S_0 hn)) rfl dX3_session_86 rfl rfl (by decide) (Nat.le_of_ble_eq_true rfl) ?_
      refine sv_if_eqB (tgt := 96) dX3_session_89 (by decide) (fun c89 => ?_) (fun c89 => ?_)
      · have hval : some (Value.int (nI 0)) = some (Value.int (p_ses (A_v A) j 2)) := r_I (by show nI 0 = b_I (a_id (A_v (A_st A 0)) j); rw [c89]; rfl)
        refine sv_iconst (nI 0) dX3_session_96 (by decide +kernel) ?_
        refine sv_iret rfl rfl dX3_session_97 ?_
        exact ⟨_, rfl, hval, _, rfl, hJ0⟩
      · have hval : some (Value.int (nI 1)) = some (Value.int (p_ses (A_v A) j 2)) := r_I (by show nI 1 = b_I (a_id (A_v (A_st A 0)) j); rw [c89]; rfl)
        refine sv_iconst (nI 1) dX3_session_92 (by decide +kernel) ?_
        refine sv_goto (tgt := 97) dX3_session_93 (by decide) ?_
        refine sv_iret rfl rfl dX3_session_97 ?_
        exact ⟨_, rfl, hval, _, rfl, hJ0⟩
    · refine sv_tableIn (off := 74) (tgt := 98) dX3_session_24 (by decide +kernel) (by decide +kernel) (by decide +kernel) (by decide) ?_
      refine sv_aload_n dX3_session_98 rfl ?_
      refine sv_iload_n dX3_session_99 rfl ?_
      refine sv_cvR _ (ct_entries hn (m_J_e hJ0) hJ0.2.2.1 hj) okX3_entries kv_X3_97 (sx_rd_c (m_S_0 hn)) rfl dX3_session_100 rfl rfl (by decide) (Nat.le_of_ble_eq_true rfl) ?_
      refine sv_iret rfl rfl dX3_session_103 ?_
      exact ⟨_, rfl, rfl, _, rfl, hJ0⟩
    · refine sv_tableIn (off := 80) (tgt := 104) dX3_session_24 (by decide +kernel) (by decide +kernel) (by decide +kernel) (by decide) ?_
      refine sv_aload_n dX3_session_104 rfl ?_
      refine sv_iload_n dX3_session_105 rfl ?_
      refine sv_cvR _ (ct_goneMany hn (m_J_e hJ0) hJ0.2.2.1 hj) okX3_goneMany kv_X3_129 (sx_rd_c (m_S_0 hn)) rfl dX3_session_106 rfl rfl (by decide) (Nat.le_of_ble_eq_true rfl) ?_
      refine sv_iret rfl rfl dX3_session_109 ?_
      exact ⟨_, rfl, rfl, _, rfl, hJ0⟩
    · refine sv_tableIn (off := 86) (tgt := 110) dX3_session_24 (by decide +kernel) (by decide +kernel) (by decide +kernel) (by decide) ?_
      refine sv_aload_n dX3_session_110 rfl ?_
      refine sv_iload_n dX3_session_111 rfl ?_
      refine sv_cvR _ (ct_otherMany hn (m_J_e hJ0) hJ0.2.2.1 hj) okX3_otherMany kv_X3_132 (sx_rd_c (m_S_0 hn)) rfl dX3_session_112 rfl rfl (by decide) (Nat.le_of_ble_eq_true rfl) ?_
      refine sv_iret rfl rfl dX3_session_115 ?_
      exact ⟨_, rfl, rfl, _, rfl, hJ0⟩
    · refine sv_tableOut (tgt := 116) dX3_session_24 (by decide +kernel) (by decide) ?_
      refine sv_aload_n dX3_session_116 rfl ?_
      refine sv_iload_n dX3_session_117 rfl ?_
      refine sv_cvR _ (ct_newMany hn (m_J_e hJ0) hJ0.2.2.1 hj) okX3_newMany kv_X3_135 (sx_rd_c (m_S_0 hn)) rfl dX3_session_118 rfl rfl (by decide) (Nat.le_of_ble_eq_true rfl) ?_
      refine sv_iret rfl rfl dX3_session_121 ?_
      exact ⟨_, rfl, rfl, _, rfl, hJ0⟩
  · unfold sp_ses
    rw [g_2f c18]
    refine sv_iconst (nI 0) dX3_session_21 (by decide +kernel) ?_
    refine sv_iret rfl rfl dX3_session_22 ?_
    exact ⟨_, rfl, r_I nI_0, _, rfl, m_J_t hJ _⟩
theorem ct_account (hn : h + 11 < sx_n σ) (hJ : m_J M A) {s x : Int32} : sx_Cp G 4 YX3_account [.ref h, .int s, .int x] (m_S G h M σ) (fun v τ => v = some (.int ((sp_acc A s x).1)) ∧ ∃ M2, τ = m_S G h M2 σ ∧ m_J M2 ((sp_acc A s x).2)) := by
  refine sx_body (by decide) (Nat.le_of_ble_eq_true rfl) ?_
  refine sv_aload_n dX3_account_0 rfl ?_
  refine sv_aload_n dX3_account_1 rfl ?_
  refine sv_iload_n dX3_account_2 rfl ?_
  refine sv_cvR _ (ct_isSession hn (m_J_e hJ).1 hJ.2.2.1.1) okX3_isSession kv_X3_93 (sx_rd_c (m_S_0 hn)) rfl dX3_account_3 rfl rfl (by decide) (Nat.le_of_ble_eq_true rfl) ?_
  refine sv_iload_n dX3_account_6 rfl ?_
  refine sv_i2l dX3_account_7 ?_
  refine sv_lconst 0 dX3_account_8 (by decide) ?_
  refine sv_ldc2 q2628 dX3_account_9 ?_
  refine sv_csR _ ct_in okX3_in ks_X3_70 dX3_account_12 rfl rfl (by decide) (Nat.le_of_ble_eq_true rfl) ?_
  refine sv_cvR _ (ct_passes2 (b := a_in x 0 4) hn) okX3_passes2 kv_X3_192 (sx_rd_c (m_S_0 hn)) rfl dX3_account_15 rfl rfl (by decide) (Nat.le_of_ble_eq_true rfl) ?_
  refine sv_if_eqB (tgt := 37) dX3_account_18 (by decide) (fun c18 => ?_) (fun c18 => ?_)
  · unfold sp_acc
    rw [g_2f c18]
    have hval : some (Value.int (nI 0)) = some (Value.int 0) := r_I nI_0
    refine sv_iconst (nI 0) dX3_account_37 (by decide +kernel) ?_
    refine sv_iret rfl rfl dX3_account_38 ?_
    first | exact ⟨_, rfl, hval, _, rfl, m_J_t hJ _⟩ | exact ⟨_, rfl, hval, _, rfl, hJ0⟩
  · have hsp : sp_acc A s x = (a_ac (A_v A) s.toNatClampNeg x.toNatClampNeg, A_st A 0) := by unfold sp_acc; rw [g_2t c18]
    rw [hsp]
    rw [t_hr_2 c18]
    have hJ0 := m_J_t hJ 0
    have hc2 := c18
    rw [Bool.and_eq_true] at hc2
    have hs4 := hJ.2.2.1.1.2.1
    obtain ⟨j, hj, rfl⟩ := i_in_of (by omega) hc2.1
    have ej : (nI j).toNatClampNeg = j := nI_clamp (by omega)
    rw [ej]
    have hel := hJ.2.2.1.2.1 j hj
    obtain ⟨w, rfl, ew, hw8⟩ := a_in_of hc2.2
    have hw9 : w < 5 := by have hz : (w : Int) ≤ 4 := hw8; omega
    rw [ew]
    have hval : some (Value.int (m_w (m_i M 0 0) (282 + 131 * j + 6 + w)).toInt32) = some (Value.int (a_ac (A_v A) j w)) := r_I (((m_J_e hJ0).2.1 j hj).2.2.2.2.2.1 w hw9)
    refine sv_aload_n dX3_account_21 rfl ?_
    refine sv_iload_n dX3_account_22 rfl ?_
    refine sv_csR _ (ct_sessionAt (s := j)) okX3_sessionAt ks_X3_84 dX3_account_23 rfl rfl (by decide) (Nat.le_of_ble_eq_true rfl) ?_
    refine sv_bipush (nI 6) dX3_account_26 (by decide +kernel) ?_
    refine sv_iaddN dX3_account_28 ?_
    refine sv_iload_n dX3_account_29 rfl ?_
    refine sv_iaddN dX3_account_30 ?_
    refine sv_cvR _ (ct_get hn (by omega)) okX3_get kv_X3_62 (sx_rd_c (m_S_0 hn)) rfl dX3_account_31 rfl rfl (by decide) (Nat.le_of_ble_eq_true rfl) ?_
    refine sv_goto (tgt := 38) dX3_account_34 (by decide) ?_
    refine sv_iret rfl rfl dX3_account_38 ?_
    first | exact ⟨_, rfl, hval, _, rfl, m_J_t hJ _⟩ | exact ⟨_, rfl, hval, _, rfl, hJ0⟩
theorem ct_notice (hn : h + 11 < sx_n σ) (hJ : m_J M A) {i x : Int32} : sx_Cp G 4 YX3_notice [.ref h, .int i, .int x] (m_S G h M σ) (fun v τ => v = some (.int ((sp_not A i x).1)) ∧ ∃ M2, τ = m_S G h M2 σ ∧ m_J M2 ((sp_not A i x).2)) := by
  refine sx_body (by decide) (Nat.le_of_ble_eq_true rfl) ?_
  have hc : M.1 5 = nI (A_n A).length := hJ.2.2.2.2.2.1.2.1
  have hn1 := hJ.2.2.2.2.2.1.1
  have hin : decide ((0 : Int64) ≤ i.toInt64 ∧ i.toInt64 ≤ (nI (A_n A).length - 1).toInt64) = i_in i (A_n A).length := decide_eq_decide.mpr (in_I (by omega))
  refine sv_aload_n dX3_notice_0 rfl ?_
  refine sv_iload_n dX3_notice_1 rfl ?_
  refine sv_i2l dX3_notice_2 ?_
  refine sv_lconst 0 dX3_notice_3 (by decide) ?_
  refine sv_ldc2 q2742 dX3_notice_4 ?_
  refine sv_csR _ ct_in okX3_in ks_X3_70 dX3_notice_7 rfl rfl (by decide) (Nat.le_of_ble_eq_true rfl) ?_
  refine sv_iload_n dX3_notice_10 rfl ?_
  refine sv_i2l dX3_notice_11 ?_
  refine sv_lconst 0 dX3_notice_12 (by decide) ?_
  refine sv_aload_n dX3_notice_13 rfl ?_
  refine sm_get hn fg_X3_138 dX3_notice_14 rfl ?_
  refine sv_topI hc ?_
  refine sv_iconst (nI 1) dX3_notice_17 (by decide +kernel) ?_
  refine sv_isub dX3_notice_18 ?_
  refine sv_i2l dX3_notice_19 ?_
  refine sv_csR _ ct_in okX3_in ks_X3_70 dX3_notice_20 rfl rfl (by decide) (Nat.le_of_ble_eq_true rfl) ?_
  refine sv_topI (congrArg b_I hin) ?_
  refine sv_cvR _ (ct_passes2 (a := a_in x 0 3) (b := i_in i (A_n A).length) hn) okX3_passes2 kv_X3_192 (sx_rd_c (m_S_0 hn)) rfl dX3_notice_23 rfl rfl (by decide) (Nat.le_of_ble_eq_true rfl) ?_
  refine sv_if_eqB (tgt := 42) dX3_notice_26 (by decide) (fun c26 => ?_) (fun c26 => ?_)
  · unfold sp_not
    rw [g_2f c26]
    have hval : some (Value.int (nI 0)) = some (Value.int 0) := r_I nI_0
    refine sv_iconst (nI 0) dX3_notice_42 (by decide +kernel) ?_
    refine sv_iret rfl rfl dX3_notice_43 ?_
    first | exact ⟨_, rfl, hval, _, rfl, m_J_t hJ _⟩ | exact ⟨_, rfl, hval, _, rfl, hJ0⟩
  · have hsp : sp_not A i x = (nx_n ((A_n A).getD i.toNatClampNeg (0, 0, 0, 0)) x.toNatClampNeg, A_st A 0) := by unfold sp_not; rw [g_2t c26]
    rw [hsp]
    rw [t_hr_2 c26]
    have hJ0 := m_J_t hJ 0
    have hc2 := c26
    rw [Bool.and_eq_true] at hc2
    obtain ⟨w, rfl, ew, hw8⟩ := a_in_of hc2.1
    have hw9 : w < 4 := by have hz : (w : Int) ≤ 3 := hw8; omega
    obtain ⟨k, hk, rfl⟩ := i_in_of (by omega) hc2.2
    have ek : (nI k).toNatClampNeg = k := nI_clamp (by omega)
    rw [ew, ek]
    have hval : some (Value.int ((m_i M 0 0).2.2.2 0 (4 * k + w))) = some (Value.int (nx_n ((A_n A).getD k (0, 0, 0, 0)) w)) := r_I (hJ.2.2.2.2.2.1.2.2 k hk w hw9)
    refine sv_aload_n dX3_notice_29 rfl ?_
    refine sm_get hn fg_X3_27 dX3_notice_30 rfl ?_
    refine sv_iconst (nI 4) dX3_notice_33 (by decide +kernel) ?_
    refine sv_iload_n dX3_notice_34 rfl ?_
    refine sv_imulN dX3_notice_35 ?_
    refine sv_iload_n dX3_notice_36 rfl ?_
    refine sv_iaddN dX3_notice_37 ?_
    refine sm_b0ld hn dX3_notice_38 (by omega) ?_
    refine sv_goto (tgt := 43) dX3_notice_39 (by decide) ?_
    refine sv_iret rfl rfl dX3_notice_43 ?_
    first | exact ⟨_, rfl, hval, _, rfl, m_J_t hJ _⟩ | exact ⟨_, rfl, hval, _, rfl, hJ0⟩
end MRT
