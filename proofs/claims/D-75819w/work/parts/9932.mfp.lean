set_option maxRecDepth 100000
section MFP
variable {G : sx_G} {h : Nat} {M : m_M} {σ : sx_St} {V : a_V} {A : a_A}
theorem ct_unseen (hn : h + 11 < sx_n σ) (hJ : m_J M A) {b : Int32} : sx_Cp G 10 YX3_unseen [.ref h, .int b] (m_S G h M σ) (fun v τ => v = some (sp_uns A b).1 ∧ ∃ M2, τ = m_S G h M2 σ ∧ m_J M2 (sp_uns A b).2) := by
  refine sx_body (by decide) (Nat.le_of_ble_eq_true rfl) ?_
  refine sv_aload_n dX3_unseen_0 rfl ?_
  refine sv_aload_n dX3_unseen_1 rfl ?_
  refine sv_iload_n dX3_unseen_2 rfl ?_
  refine sv_cvR _ (ct_isBox hn (m_J_e hJ).1 hJ.2.2.1.1) okX3_isBox kv_X3_189 (sx_rd_c (m_S_0 hn)) rfl dX3_unseen_3 rfl rfl (by decide) (Nat.le_of_ble_eq_true rfl) ?_
  refine sv_cvR _ (ct_passes hn) okX3_passes kv_X3_266 (sx_rd_c (m_S_0 hn)) rfl dX3_unseen_6 rfl rfl (by decide) (Nat.le_of_ble_eq_true rfl) ?_
  refine sv_if_eqB (tgt := 20) dX3_unseen_9 (by decide) (fun c9 => ?_) (fun c9 => ?_)
  · have hsp : sp_uns A b = (.float FP.fconst0, A_st A 1) := if_neg (by rw [c9]; decide)
    rw [hsp, c9, show nI (t_hr false true true) = 1 from by decide +kernel]
    have hJ1 := m_J_t hJ 1
    refine sv_fconst0 dX3_unseen_20 ?_
    refine sv_fret rfl dX3_unseen_21 ?_
    first | exact ⟨_, rfl, rfl, _, rfl, hJ0⟩ | exact ⟨_, rfl, rfl, _, rfl, hJ1⟩
  · have hb3 := hJ.2.2.1.1.1
    obtain ⟨j, hj, rfl⟩ := i_in_of (by omega) c9
    have ej : (nI j).toNatClampNeg = j := nI_clamp (by omega)
    have hsp : sp_uns A (nI j) = (.float (f_uns (A_v A) j), A_st A 0) := by unfold sp_uns; rw [if_pos c9, ej]
    rw [hsp, t_hr_1 c9]
    have hJ0 := m_J_t hJ 0
    have hml := hJ.2.2.1.1.2.2 j hj
    have hfm : a_fm (A_v A) j 1 ≤ (a_ms (A_v A) j).length := List.countP_le_length
    refine sv_aload_n dX3_unseen_12 rfl ?_
    refine sv_iload_n dX3_unseen_13 rfl ?_
    refine sv_cvR _ (ct_manyIn hn (m_J_e hJ0).1 hJ0.2.2.1.1 hj) okX3_manyIn kv_X3_100 (sx_rd_c (m_S_0 hn)) rfl dX3_unseen_14 rfl rfl (by decide) (Nat.le_of_ble_eq_true rfl) ?_
    refine sv_topI (y := nI (a_ms (A_v A) j).length) rfl ?_
    refine sv_if_neN (tgt := 22) dX3_unseen_17 (by decide) (by omega) (fun c17 => ?_) (fun c17 => ?_)
    · have hv9 : f_uns (A_v A) j = FP.fdiv (FP.i2f (nI ((a_ms (A_v A) j).length - a_fm (A_v A) j 1))) (FP.i2f (nI (a_ms (A_v A) j).length)) := if_neg (by omega)
      rw [hv9]
      refine sv_aload_n dX3_unseen_22 rfl ?_
      refine sv_iload_n dX3_unseen_23 rfl ?_
      refine sv_cvR _ (ct_manyIn hn (m_J_e hJ0).1 hJ0.2.2.1.1 hj) okX3_manyIn kv_X3_100 (sx_rd_c (m_S_0 hn)) rfl dX3_unseen_24 rfl rfl (by decide) (Nat.le_of_ble_eq_true rfl) ?_
      refine sv_topI (y := nI (a_ms (A_v A) j).length) rfl ?_
      refine sv_aload_n dX3_unseen_27 rfl ?_
      refine sv_iload_n dX3_unseen_28 rfl ?_
      refine sv_iconst (nI 1) dX3_unseen_29 (by decide +kernel) ?_
      refine sv_topI (y := 1) (by decide +kernel) ?_
      refine sv_cvR _ (ct_flaggedMany hn (m_J_e hJ0).1 hJ0.2.2.1.1 hj) okX3_flaggedMany kv_X3_496 (sx_rd_c (m_S_0 hn)) rfl dX3_unseen_30 rfl rfl (by decide) (Nat.le_of_ble_eq_true rfl) ?_
      refine sv_topI (y := nI (a_fm (A_v A) j 1)) rfl ?_
      refine sv_isubN dX3_unseen_33 (by omega) ?_
      refine sv_i2f dX3_unseen_34 ?_
      refine sv_aload_n dX3_unseen_35 rfl ?_
      refine sv_iload_n dX3_unseen_36 rfl ?_
      refine sv_cvR _ (ct_manyIn hn (m_J_e hJ0).1 hJ0.2.2.1.1 hj) okX3_manyIn kv_X3_100 (sx_rd_c (m_S_0 hn)) rfl dX3_unseen_37 rfl rfl (by decide) (Nat.le_of_ble_eq_true rfl) ?_
      refine sv_topI (y := nI (a_ms (A_v A) j).length) rfl ?_
      refine sv_i2f dX3_unseen_40 ?_
      refine sv_fdiv dX3_unseen_41 (fp_fd _ (by omega) (by omega)) ?_
      refine sv_fret rfl dX3_unseen_42 ?_
      first | exact ⟨_, rfl, rfl, _, rfl, hJ0⟩ | exact ⟨_, rfl, rfl, _, rfl, hJ1⟩
    · have hv9 : f_uns (A_v A) j = FP.fconst0 := if_pos (by omega)
      rw [hv9]
      refine sv_fconst0 dX3_unseen_20 ?_
      refine sv_fret rfl dX3_unseen_21 ?_
      first | exact ⟨_, rfl, rfl, _, rfl, hJ0⟩ | exact ⟨_, rfl, rfl, _, rfl, hJ1⟩
theorem ct_mean (hn : h + 11 < sx_n σ) (hJ : m_J M A) {b : Int32} : sx_Cp G 10 YX3_mean [.ref h, .int b] (m_S G h M σ) (fun v τ => v = some (sp_mea A b).1 ∧ ∃ M2, τ = m_S G h M2 σ ∧ m_J M2 (sp_mea A b).2) := by
  refine sx_body (by decide) (Nat.le_of_ble_eq_true rfl) ?_
  refine sv_aload_n dX3_mean_0 rfl ?_
  refine sv_aload_n dX3_mean_1 rfl ?_
  refine sv_iload_n dX3_mean_2 rfl ?_
  refine sv_cvR _ (ct_isBox hn (m_J_e hJ).1 hJ.2.2.1.1) okX3_isBox kv_X3_189 (sx_rd_c (m_S_0 hn)) rfl dX3_mean_3 rfl rfl (by decide) (Nat.le_of_ble_eq_true rfl) ?_
  refine sv_cvR _ (ct_passes hn) okX3_passes kv_X3_266 (sx_rd_c (m_S_0 hn)) rfl dX3_mean_6 rfl rfl (by decide) (Nat.le_of_ble_eq_true rfl) ?_
  refine sv_if_eqB (tgt := 20) dX3_mean_9 (by decide) (fun c9 => ?_) (fun c9 => ?_)
  · have hsp : sp_mea A b = (.double FP.dconst0, A_st A 1) := if_neg (by rw [c9]; decide)
    rw [hsp, c9, show nI (t_hr false true true) = 1 from by decide +kernel]
    have hJ1 := m_J_t hJ 1
    refine sv_dconst0 dX3_mean_20 ?_
    refine sv_dret rfl dX3_mean_21 ?_
    first | exact ⟨_, rfl, rfl, _, rfl, hJ0⟩ | exact ⟨_, rfl, rfl, _, rfl, hJ1⟩
  · have hb3 := hJ.2.2.1.1.1
    obtain ⟨j, hj, rfl⟩ := i_in_of (by omega) c9
    have ej : (nI j).toNatClampNeg = j := nI_clamp (by omega)
    have hsp : sp_mea A (nI j) = (.double (f_mea (A_v A) j), A_st A 0) := by unfold sp_mea; rw [if_pos c9, ej]
    rw [hsp, t_hr_1 c9]
    have hJ0 := m_J_t hJ 0
    have hml := hJ.2.2.1.1.2.2 j hj
    refine sv_aload_n dX3_mean_12 rfl ?_
    refine sv_iload_n dX3_mean_13 rfl ?_
    refine sv_cvR _ (ct_manyIn hn (m_J_e hJ0).1 hJ0.2.2.1.1 hj) okX3_manyIn kv_X3_100 (sx_rd_c (m_S_0 hn)) rfl dX3_mean_14 rfl rfl (by decide) (Nat.le_of_ble_eq_true rfl) ?_
    refine sv_topI (y := nI (a_ms (A_v A) j).length) rfl ?_
    refine sv_if_neN (tgt := 22) dX3_mean_17 (by decide) (by omega) (fun c17 => ?_) (fun c17 => ?_)
    · have hv9 : f_mea (A_v A) j = FP.ddiv (FP.i2d (a_szs (A_v A) j)) (FP.i2d (nI (a_ms (A_v A) j).length)) := if_neg (by omega)
      rw [hv9]
      refine sv_aload_n dX3_mean_22 rfl ?_
      refine sv_iload_n dX3_mean_23 rfl ?_
      refine sv_cvR _ (ct_sizesOf hn (m_J_e hJ0).1 hJ0.2.2.1.1 hj) okX3_sizesOf kv_X3_493 (sx_rd_c (m_S_0 hn)) rfl dX3_mean_24 rfl rfl (by decide) (Nat.le_of_ble_eq_true rfl) ?_
      refine sv_topI (y := a_szs (A_v A) j) rfl ?_
      refine sv_i2d dX3_mean_27 ?_
      refine sv_aload_n dX3_mean_28 rfl ?_
      refine sv_iload_n dX3_mean_29 rfl ?_
      refine sv_cvR _ (ct_manyIn hn (m_J_e hJ0).1 hJ0.2.2.1.1 hj) okX3_manyIn kv_X3_100 (sx_rd_c (m_S_0 hn)) rfl dX3_mean_30 rfl rfl (by decide) (Nat.le_of_ble_eq_true rfl) ?_
      refine sv_topI (y := nI (a_ms (A_v A) j).length) rfl ?_
      refine sv_i2d dX3_mean_33 ?_
      refine sv_ddiv dX3_mean_34 (fp_dd _ (by omega) (by omega)) ?_
      refine sv_dret rfl dX3_mean_35 ?_
      first | exact ⟨_, rfl, rfl, _, rfl, hJ0⟩ | exact ⟨_, rfl, rfl, _, rfl, hJ1⟩
    · have hv9 : f_mea (A_v A) j = FP.dconst0 := if_pos (by omega)
      rw [hv9]
      refine sv_dconst0 dX3_mean_20 ?_
      refine sv_dret rfl dX3_mean_21 ?_
      first | exact ⟨_, rfl, rfl, _, rfl, hJ0⟩ | exact ⟨_, rfl, rfl, _, rfl, hJ1⟩
end MFP
