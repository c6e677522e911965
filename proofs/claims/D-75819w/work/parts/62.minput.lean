set_option maxRecDepth 100000
section MRZ
variable {G : sx_G} {h : Nat} {M : m_M} {σ : sx_St} {V : a_V} {A : a_A} {r r' : Nat → Int64} {t : Nat}
/-- input -/
def b_t (v k : Int32) : Int32 := vp_nar .byte (v >>> (k &&& 31)).toInt8.toInt32
def b_4 (v : Int32) : List Int32 := [b_t v 24, b_t v 16, b_t v 8, b_t v 0]
def s_in (A : a_A) (l : List Int32) : a_A := A_si A (A_i A ++ l)
theorem in_in (A : a_A) (l m : List Int32) : s_in (s_in A l) m = s_in A (l ++ m) := by
  show A_si (A_si A (A_i A ++ l)) ((A_i A ++ l) ++ m) = A_si A (A_i A ++ (l ++ m))
  rw [List.append_assoc]
  rfl
theorem in_l (A : a_A) (l : List Int32) : (A_i (s_in A l)).length = (A_i A).length + l.length := List.length_append
theorem m_J_in {x : Int32} (hJ : m_J M A) (hl : (A_i A).length < 700) : m_J (m_i (m_b M 2 (upd (M.2.2.2 2) (A_i A).length (vp_nar .byte x))) 8 (nI ((A_i A).length + 1))) (s_in A [vp_nar .byte x]) := by
  obtain ⟨g1, g2, g3, g4, g5, g6, g7, g8, g9, g10, g11⟩ := hJ
  refine ⟨g1, g2, g3, g4, g5, ⟨g6.1, g6.2.1, g6.2.2⟩, ⟨?_, ?_, fun i hi => ?_⟩, g8, g9, ⟨g10.1, g10.2.1, g10.2.2⟩, g11⟩
  · rw [in_l]
    exact hl
  · rw [in_l]
    show upd M.1 8 (nI ((A_i A).length + 1)) 8 = nI ((A_i A).length + 1)
    exact pk_us
  · rw [in_l, List.length_singleton] at hi
    show upd (M.2.2.2 2) (A_i A).length _ i = (A_i A ++ [vp_nar .byte x]).getD i 0
    rw [List.getD_eq_getElem?_getD]
    by_cases h : i < (A_i A).length
    · rw [pk_un (by omega), List.getElem?_append_left h, g7.2.2 i h, List.getD_eq_getElem?_getD]
    · rw [show i = (A_i A).length by omega, pk_us, List.getElem?_append_right (Nat.le_refl _), Nat.sub_self]
      rfl
theorem m_J_il {n : Nat} (hJ : m_J M A) (hl : n ≤ (A_i A).length) : m_J (m_i M 8 (nI n)) (A_si A ((A_i A).take n)) := by
  obtain ⟨g1, g2, g3, g4, g5, g6, g7, g8, g9, g10, g11⟩ := hJ
  have e : ((A_i A).take n).length = n := by rw [List.length_take]; omega
  refine ⟨g1, g2, g3, g4, g5, ⟨g6.1, g6.2.1, g6.2.2⟩, ⟨?_, ?_, fun i hi => ?_⟩, g8, g9, ⟨g10.1, g10.2.1, g10.2.2⟩, g11⟩
  · show ((A_i A).take n).length ≤ 700
    have := g7.1
    omega
  · show upd M.1 8 (nI n) 8 = nI ((A_i A).take n).length
    rw [e]
    exact pk_us
  · have hi : i < ((A_i A).take n).length := hi
    rw [e] at hi
    show M.2.2.2 2 i = ((A_i A).take n).getD i 0
    rw [g7.2.2 i (by omega), List.getD_eq_getElem?_getD, List.getD_eq_getElem?_getD, List.getElem?_take_of_lt hi]
theorem ct_appendFour (hn : h + 11 < sx_n σ) (hJ : m_J M A) {w : Int32} (hl : (A_i A).length + 4 ≤ 700) : sx_Cp G 0 YX3_appendFour [.ref h, .int w] (m_S G h M σ) (fun v τ => v = none ∧ ∃ M2, τ = m_S G h M2 σ ∧ m_J M2 (s_in A (b_4 w))) := by
  have t4 : ∀ M A, m_J M A → (A_i A).length + 0 ≤ 700 → sx_V G 0 YX3_appendFour 3 [some (.ref h), some (.int w), some (.int (-8))] [] (m_S G h M σ) (fun o τ => ∃ v, o = .inl v ∧ v = none ∧ ∃ M2, τ = m_S G h M2 σ ∧ m_J M2 (A)) := by
    intro M A hJ hl
    refine sv_iload_n dX3_appendFour_3 rfl ?_
    refine sv_if_lt (tgt := 36) dX3_appendFour_4 (by decide) (fun c4 => ?_) (fun c4 => ?_)
    · refine sv_vret rfl dX3_appendFour_36 ?_
      exact ⟨_, rfl, rfl, _, rfl, hJ⟩
    · exact absurd c4 (by decide)
  have t3 : ∀ M A, m_J M A → (A_i A).length + 1 ≤ 700 → sx_V G 0 YX3_appendFour 3 [some (.ref h), some (.int w), some (.int 0)] [] (m_S G h M σ) (fun o τ => ∃ v, o = .inl v ∧ v = none ∧ ∃ M2, τ = m_S G h M2 σ ∧ m_J M2 (s_in A [b_t w 0])) := by
    intro M A hJ hl
    refine sv_iload_n dX3_appendFour_3 rfl ?_
    refine sv_if_lt (tgt := 36) dX3_appendFour_4 (by decide) (fun c4 => ?_) (fun c4 => ?_)
    · exact absurd c4 (by decide)
    · refine sv_aload_n dX3_appendFour_7 rfl ?_
      refine sm_get hn fg_X3_34 dX3_appendFour_8 rfl ?_
      refine sv_aload_n dX3_appendFour_11 rfl ?_
      refine sm_get hn fg_X3_270 dX3_appendFour_12 rfl ?_
      have hc : M.1 8 = nI (A_i A).length := hJ.2.2.2.2.2.2.1.2.1
      refine sv_topI hc ?_
      refine sv_iload_n dX3_appendFour_15 rfl ?_
      refine sv_iload_n dX3_appendFour_16 rfl ?_
      refine sv_ishr dX3_appendFour_17 ?_
      refine sv_i2b dX3_appendFour_18 ?_
      refine sm_b2st hn dX3_appendFour_19 (by omega) ?_
      refine sv_aload_n dX3_appendFour_20 rfl ?_
      refine sv_dup dX3_appendFour_21 rfl ?_
      refine sm_get hn fg_X3_270 dX3_appendFour_22 rfl ?_
      refine sv_topI (y := nI (A_i A).length) (hJ.2.2.2.2.2.2.1.2.1) ?_
      refine sv_iconst (nI 1) dX3_appendFour_25 (by decide +kernel) ?_
      refine sv_iaddN dX3_appendFour_26 ?_
      refine sm_put hn fp_X3_270 dX3_appendFour_27 rfl (by decide) ?_
      refine sv_iinc _ dX3_appendFour_30 rfl rfl (by decide) ?_
      refine sv_goto (tgt := 3) dX3_appendFour_33 (by decide) ?_
      have hJ1 := m_J_in (x := (w >>> (0 &&& 31)).toInt8.toInt32) hJ (by omega)
      have ht := t4 _ _ hJ1 (by rw [in_l, List.length_singleton]; omega)
      exact ht
  have t2 : ∀ M A, m_J M A → (A_i A).length + 2 ≤ 700 → sx_V G 0 YX3_appendFour 3 [some (.ref h), some (.int w), some (.int 8)] [] (m_S G h M σ) (fun o τ => ∃ v, o = .inl v ∧ v = none ∧ ∃ M2, τ = m_S G h M2 σ ∧ m_J M2 (s_in A [b_t w 8, b_t w 0])) := by
    intro M A hJ hl
    refine sv_iload_n dX3_appendFour_3 rfl ?_
    refine sv_if_lt (tgt := 36) dX3_appendFour_4 (by decide) (fun c4 => ?_) (fun c4 => ?_)
    · exact absurd c4 (by decide)
    · refine sv_aload_n dX3_appendFour_7 rfl ?_
      refine sm_get hn fg_X3_34 dX3_appendFour_8 rfl ?_
      refine sv_aload_n dX3_appendFour_11 rfl ?_
      refine sm_get hn fg_X3_270 dX3_appendFour_12 rfl ?_
      have hc : M.1 8 = nI (A_i A).length := hJ.2.2.2.2.2.2.1.2.1
      refine sv_topI hc ?_
      refine sv_iload_n dX3_appendFour_15 rfl ?_
      refine sv_iload_n dX3_appendFour_16 rfl ?_
      refine sv_ishr dX3_appendFour_17 ?_
      refine sv_i2b dX3_appendFour_18 ?_
      refine sm_b2st hn dX3_appendFour_19 (by omega) ?_
      refine sv_aload_n dX3_appendFour_20 rfl ?_
      refine sv_dup dX3_appendFour_21 rfl ?_
      refine sm_get hn fg_X3_270 dX3_appendFour_22 rfl ?_
      refine sv_topI (y := nI (A_i A).length) (hJ.2.2.2.2.2.2.1.2.1) ?_
      refine sv_iconst (nI 1) dX3_appendFour_25 (by decide +kernel) ?_
      refine sv_iaddN dX3_appendFour_26 ?_
      refine sm_put hn fp_X3_270 dX3_appendFour_27 rfl (by decide) ?_
      refine sv_iinc _ dX3_appendFour_30 rfl rfl (by decide) ?_
      refine sv_goto (tgt := 3) dX3_appendFour_33 (by decide) ?_
      have hJ1 := m_J_in (x := (w >>> (8 &&& 31)).toInt8.toInt32) hJ (by omega)
      have ht := t3 _ _ hJ1 (by rw [in_l, List.length_singleton]; omega)
      rw [in_in] at ht
      exact ht
  have t1 : ∀ M A, m_J M A → (A_i A).length + 3 ≤ 700 → sx_V G 0 YX3_appendFour 3 [some (.ref h), some (.int w), some (.int 16)] [] (m_S G h M σ) (fun o τ => ∃ v, o = .inl v ∧ v = none ∧ ∃ M2, τ = m_S G h M2 σ ∧ m_J M2 (s_in A [b_t w 16, b_t w 8, b_t w 0])) := by
    intro M A hJ hl
    refine sv_iload_n dX3_appendFour_3 rfl ?_
    refine sv_if_lt (tgt := 36) dX3_appendFour_4 (by decide) (fun c4 => ?_) (fun c4 => ?_)
    · exact absurd c4 (by decide)
    · refine sv_aload_n dX3_appendFour_7 rfl ?_
      refine sm_get hn fg_X3_34 dX3_appendFour_8 rfl ?_
      refine sv_aload_n dX3_appendFour_11 rfl ?_
      refine sm_get hn fg_X3_270 dX3_appendFour_12 rfl ?_
      have hc : M.1 8 = nI (A_i A).length := hJ.2.2.2.2.2.2.1.2.1
      refine sv_topI hc ?_
      refine sv_iload_n dX3_appendFour_15 rfl ?_
      refine sv_iload_n dX3_appendFour_16 rfl ?_
      refine sv_ishr dX3_appendFour_17 ?_
      refine sv_i2b dX3_appendFour_18 ?_
      refine sm_b2st hn dX3_appendFour_19 (by omega) ?_
      refine sv_aload_n dX3_appendFour_20 rfl ?_
      refine sv_dup dX3_appendFour_21 rfl ?_
      refine sm_get hn fg_X3_270 dX3_appendFour_22 rfl ?_
      refine sv_topI (y := nI (A_i A).length) (hJ.2.2.2.2.2.2.1.2.1) ?_
      refine sv_iconst (nI 1) dX3_appendFour_25 (by decide +kernel) ?_
      refine sv_iaddN dX3_appendFour_26 ?_
      refine sm_put hn fp_X3_270 dX3_appendFour_27 rfl (by decide) ?_
      refine sv_iinc _ dX3_appendFour_30 rfl rfl (by decide) ?_
      refine sv_goto (tgt := 3) dX3_appendFour_33 (by decide) ?_
      have hJ1 := m_J_in (x := (w >>> (16 &&& 31)).toInt8.toInt32) hJ (by omega)
      have ht := t2 _ _ hJ1 (by rw [in_l, List.length_singleton]; omega)
      rw [in_in] at ht
      exact ht
  have t0 : ∀ M A, m_J M A → (A_i A).length + 4 ≤ 700 → sx_V G 0 YX3_appendFour 3 [some (.ref h), some (.int w), some (.int 24)] [] (m_S G h M σ) (fun o τ => ∃ v, o = .inl v ∧ v = none ∧ ∃ M2, τ = m_S G h M2 σ ∧ m_J M2 (s_in A [b_t w 24, b_t w 16, b_t w 8, b_t w 0])) := by
    intro M A hJ hl
    refine sv_iload_n dX3_appendFour_3 rfl ?_
    refine sv_if_lt (tgt := 36) dX3_appendFour_4 (by decide) (fun c4 => ?_) (fun c4 => ?_)
    · exact absurd c4 (by decide)
    · refine sv_aload_n dX3_appendFour_7 rfl ?_
      refine sm_get hn fg_X3_34 dX3_appendFour_8 rfl ?_
      refine sv_aload_n dX3_appendFour_11 rfl ?_
      refine sm_get hn fg_X3_270 dX3_appendFour_12 rfl ?_
      have hc : M.1 8 = nI (A_i A).length := hJ.2.2.2.2.2.2.1.2.1
      refine sv_topI hc ?_
      refine sv_iload_n dX3_appendFour_15 rfl ?_
      refine sv_iload_n dX3_appendFour_16 rfl ?_
      refine sv_ishr dX3_appendFour_17 ?_
      refine sv_i2b dX3_appendFour_18 ?_
      refine sm_b2st hn dX3_appendFour_19 (by omega) ?_
      refine sv_aload_n dX3_appendFour_20 rfl ?_
      refine sv_dup dX3_appendFour_21 rfl ?_
      refine sm_get hn fg_X3_270 dX3_appendFour_22 rfl ?_
      refine sv_topI (y := nI (A_i A).length) (hJ.2.2.2.2.2.2.1.2.1) ?_
      refine sv_iconst (nI 1) dX3_appendFour_25 (by decide +kernel) ?_
      refine sv_iaddN dX3_appendFour_26 ?_
      refine sm_put hn fp_X3_270 dX3_appendFour_27 rfl (by decide) ?_
      refine sv_iinc _ dX3_appendFour_30 rfl rfl (by decide) ?_
      refine sv_goto (tgt := 3) dX3_appendFour_33 (by decide) ?_
      have hJ1 := m_J_in (x := (w >>> (24 &&& 31)).toInt8.toInt32) hJ (by omega)
      have ht := t1 _ _ hJ1 (by rw [in_l, List.length_singleton]; omega)
      rw [in_in] at ht
      exact ht
  refine sx_body (by decide) (Nat.le_of_ble_eq_true rfl) ?_
  refine sv_bipush (nI 24) dX3_appendFour_0 (by decide +kernel) ?_
  refine sv_topI (y := 24) (by decide +kernel) ?_
  refine sv_istore_n dX3_appendFour_2 (by decide) ?_
  exact t0 M A hJ (by omega)
def sp_app (A : a_A) (a b c d e : Int32) : Int32 × a_A := g_1 (decide ((A_i A).length + 20 ≤ 700)) A (nI ((A_i A).length + 20), s_in (A_st A 0) (b_4 a ++ (b_4 b ++ (b_4 c ++ (b_4 d ++ b_4 e)))))
def sp_tru (A : a_A) (x : Int32) : a_A := if decide (0 ≤ x.toInt ∧ x.toInt ≤ (A_i A).length) = true then A_si (A_st A 0) ((A_i A).take x.toNatClampNeg) else A_st A 1
theorem b_4_l (v : Int32) : (b_4 v).length = 4 := rfl
theorem ct_append (hn : h + 11 < sx_n σ) (hJ : m_J M A) {a b c d e : Int32} : sx_Cp G 2 YX3_append [.ref h, .int a, .int b, .int c, .int d, .int e] (m_S G h M σ) (fun v τ => v = some (.int ((sp_app A a b c d e).1)) ∧ ∃ M2, τ = m_S G h M2 σ ∧ m_J M2 ((sp_app A a b c d e).2)) := by
  refine sx_body (by decide) (Nat.le_of_ble_eq_true rfl) ?_
  have hc : M.1 8 = nI (A_i A).length := hJ.2.2.2.2.2.2.1.2.1
  have hi7 := hJ.2.2.2.2.2.2.1.1
  refine sv_aload_n dX3_append_0 rfl ?_
  refine sv_aload_n dX3_append_1 rfl ?_
  refine sm_get hn fg_X3_270 dX3_append_2 rfl ?_
  refine sv_topI hc ?_
  refine sv_bipush (nI 20) dX3_append_5 (by decide +kernel) ?_
  refine sv_iaddN dX3_append_7 ?_
  refine sv_sipush (nI 700) dX3_append_8 (by decide +kernel) ?_
  refine sv_icmp_gtN (tgt := 18) dX3_append_11 (by decide) (by omega) (by omega) (fun c11 => ?_) (fun c11 => ?_)
  · have hjn : nI 0 = b_I (decide ((A_i A).length + 20 ≤ 700)) := by rw [decide_eq_false (by omega)]; rfl
    refine sv_iconst (nI 0) dX3_append_18 (by decide +kernel) ?_
    refine sv_topI hjn ?_
    refine sv_cvR _ (ct_passes hn) okX3_passes kv_X3_266 (sx_rd_c (m_S_0 hn)) rfl dX3_append_19 rfl rfl (by decide) (Nat.le_of_ble_eq_true rfl) ?_
    refine sv_if_neB (tgt := 27) dX3_append_22 (by decide) (fun c22 => ?_) (fun c22 => ?_)
    · have hsp : sp_app A a b c d e = (nI ((A_i A).length + 20), s_in (A_st A 0) (b_4 a ++ (b_4 b ++ (b_4 c ++ (b_4 d ++ b_4 e))))) := by unfold sp_app; rw [g_1t c22]
      rw [hsp, t_hr_1 c22]
      have hJ0 := m_J_t hJ 0
      have hl20 := of_decide_eq_true c22
      refine sv_aload_n dX3_append_27 rfl ?_
      refine sv_iload_n dX3_append_28 rfl ?_
      refine sv_cvP _ (ct_appendFour hn hJ0 (show (A_i A).length + 4 ≤ 700 by omega)) okX3_appendFour kv_X3_273 (sx_rd_c (m_S_0 hn)) rfl dX3_append_29 rfl rfl (by decide) (Nat.le_of_ble_eq_true rfl) ?_
      intro v1 t1 hp1
      obtain ⟨rfl, M1, rfl, hJ1⟩ := hp1
      refine sv_aload_n dX3_append_32 rfl ?_
      refine sv_iload_n dX3_append_33 rfl ?_
      refine sv_cvP _ (ct_appendFour hn hJ1 (by simp only [in_l, b_4_l]; have hz : (A_i (A_st A 0)).length = (A_i A).length := rfl; omega)) okX3_appendFour kv_X3_273 (sx_rd_c (m_S_0 hn)) rfl dX3_append_34 rfl rfl (by decide) (Nat.le_of_ble_eq_true rfl) ?_
      intro v2 t2 hp2
      obtain ⟨rfl, M2, rfl, hJ2⟩ := hp2
      refine sv_aload_n dX3_append_37 rfl ?_
      refine sv_iload_n dX3_append_38 rfl ?_
      refine sv_cvP _ (ct_appendFour hn hJ2 (by simp only [in_l, b_4_l]; have hz : (A_i (A_st A 0)).length = (A_i A).length := rfl; omega)) okX3_appendFour kv_X3_273 (sx_rd_c (m_S_0 hn)) rfl dX3_append_39 rfl rfl (by decide) (Nat.le_of_ble_eq_true rfl) ?_
      intro v3 t3 hp3
      obtain ⟨rfl, M3, rfl, hJ3⟩ := hp3
      refine sv_aload_n dX3_append_42 rfl ?_
      refine sv_iload dX3_append_43 rfl ?_
      refine sv_cvP _ (ct_appendFour hn hJ3 (by simp only [in_l, b_4_l]; have hz : (A_i (A_st A 0)).length = (A_i A).length := rfl; omega)) okX3_appendFour kv_X3_273 (sx_rd_c (m_S_0 hn)) rfl dX3_append_45 rfl rfl (by decide) (Nat.le_of_ble_eq_true rfl) ?_
      intro v4 t4 hp4
      obtain ⟨rfl, M4, rfl, hJ4⟩ := hp4
      refine sv_aload_n dX3_append_48 rfl ?_
      refine sv_iload dX3_append_49 rfl ?_
      refine sv_cvP _ (ct_appendFour hn hJ4 (by simp only [in_l, b_4_l]; have hz : (A_i (A_st A 0)).length = (A_i A).length := rfl; omega)) okX3_appendFour kv_X3_273 (sx_rd_c (m_S_0 hn)) rfl dX3_append_51 rfl rfl (by decide) (Nat.le_of_ble_eq_true rfl) ?_
      intro v5 t5 hp5
      obtain ⟨rfl, M5, rfl, hJ5⟩ := hp5
      rw [in_in, in_in, in_in, in_in] at hJ5
      try simp only [List.append_assoc] at hJ5
      have hv5 := hJ5.2.2.2.2.2.2.1.2.1
      rw [in_l] at hv5
      simp only [List.length_append, b_4_l] at hv5
      refine sv_aload_n dX3_append_54 rfl ?_
      refine sm_get hn fg_X3_270 dX3_append_55 rfl ?_
      refine sv_iret rfl rfl dX3_append_58 ?_
      exact ⟨_, rfl, r_I hv5, _, rfl, hJ5⟩
    · unfold sp_app
      rw [g_1f c22]
      refine sv_iconst (nI 0) dX3_append_25 (by decide +kernel) ?_
      refine sv_iret rfl rfl dX3_append_26 ?_
      exact ⟨_, rfl, r_I nI_0, _, rfl, m_J_t hJ _⟩
  · have hjn : nI 1 = b_I (decide ((A_i A).length + 20 ≤ 700)) := by rw [decide_eq_true (by omega)]; rfl
    refine sv_iconst (nI 1) dX3_append_14 (by decide +kernel) ?_
    refine sv_goto (tgt := 19) dX3_append_15 (by decide) ?_
    refine sv_topI hjn ?_
    refine sv_cvR _ (ct_passes hn) okX3_passes kv_X3_266 (sx_rd_c (m_S_0 hn)) rfl dX3_append_19 rfl rfl (by decide) (Nat.le_of_ble_eq_true rfl) ?_
    refine sv_if_neB (tgt := 27) dX3_append_22 (by decide) (fun c22 => ?_) (fun c22 => ?_)
    · have hsp : sp_app A a b c d e = (nI ((A_i A).length + 20), s_in (A_st A 0) (b_4 a ++ (b_4 b ++ (b_4 c ++ (b_4 d ++ b_4 e))))) := by unfold sp_app; rw [g_1t c22]
      rw [hsp, t_hr_1 c22]
      have hJ0 := m_J_t hJ 0
      have hl20 := of_decide_eq_true c22
      refine sv_aload_n dX3_append_27 rfl ?_
      refine sv_iload_n dX3_append_28 rfl ?_
      refine sv_cvP _ (ct_appendFour hn hJ0 (show (A_i A).length + 4 ≤ 700 by omega)) okX3_appendFour kv_X3_273 (sx_rd_c (m_S_0 hn)) rfl dX3_append_29 rfl rfl (by decide) (Nat.le_of_ble_eq_true rfl) ?_
      intro v1 t1 hp1
      obtain ⟨rfl, M1, rfl, hJ1⟩ := hp1
      refine sv_aload_n dX3_append_32 rfl ?_
      refine sv_iload_n dX3_append_33 rfl ?_
      refine sv_cvP _ (ct_appendFour hn hJ1 (by simp only [in_l, b_4_l]; have hz : (A_i (A_st A 0)).length = (A_i A).length := rfl; omega)) okX3_appendFour kv_X3_273 (sx_rd_c (m_S_0 hn)) rfl dX3_append_34 rfl rfl (by decide) (Nat.le_of_ble_eq_true rfl) ?_
      intro v2 t2 hp2
      obtain ⟨rfl, M2, rfl, hJ2⟩ := hp2
      refine sv_aload_n dX3_append_37 rfl ?_
      refine sv_iload_n dX3_append_38 rfl ?_
      refine sv_cvP _ (ct_appendFour hn hJ2 (by simp only [in_l, b_4_l]; have hz : (A_i (A_st A 0)).length = (A_i A).length := rfl; omega)) okX3_appendFour kv_X3_273 (sx_rd_c (m_S_0 hn)) rfl dX3_append_39 rfl rfl (by decide) (Nat.le_of_ble_eq_true rfl) ?_
      intro v3 t3 hp3
      obtain ⟨rfl, M3, rfl, hJ3⟩ := hp3
      refine sv_aload_n dX3_append_42 rfl ?_
      refine sv_iload dX3_append_43 rfl ?_
      refine sv_cvP _ (ct_appendFour hn hJ3 (by simp only [in_l, b_4_l]; have hz : (A_i (A_st A 0)).length = (A_i A).length := rfl; omega)) okX3_appendFour kv_X3_273 (sx_rd_c (m_S_0 hn)) rfl dX3_append_45 rfl rfl (by decide) (Nat.le_of_ble_eq_true rfl) ?_
      intro v4 t4 hp4
      obtain ⟨rfl, M4, rfl, hJ4⟩ := hp4
      refine sv_aload_n dX3_append_48 rfl ?_
      refine sv_iload dX3_append_49 rfl ?_
      refine sv_cvP _ (ct_appendFour hn hJ4 (by simp only [in_l, b_4_l]; have hz : (A_i (A_st A 0)).length = (A_i A).length := rfl; omega)) okX3_appendFour kv_X3_273 (sx_rd_c (m_S_0 hn)) rfl dX3_append_51 rfl rfl (by decide) (Nat.le_of_ble_eq_true rfl) ?_
      intro v5 t5 hp5
      obtain ⟨rfl, M5, rfl, hJ5⟩ := hp5
      rw [in_in, in_in, in_in, in_in] at hJ5
      try simp only [List.append_assoc] at hJ5
      have hv5 := hJ5.2.2.2.2.2.2.1.2.1
      rw [in_l] at hv5
      simp only [List.length_append, b_4_l] at hv5
      refine sv_aload_n dX3_append_54 rfl ?_
      refine sm_get hn fg_X3_270 dX3_append_55 rfl ?_
      refine sv_iret rfl rfl dX3_append_58 ?_
      exact ⟨_, rfl, r_I hv5, _, rfl, hJ5⟩
    · unfold sp_app
      rw [g_1f c22]
      refine sv_iconst (nI 0) dX3_append_25 (by decide +kernel) ?_
      refine sv_iret rfl rfl dX3_append_26 ?_
      exact ⟨_, rfl, r_I nI_0, _, rfl, m_J_t hJ _⟩
theorem ct_truncate (hn : h + 11 < sx_n σ) (hJ : m_J M A) {x : Int32} : sx_Cp G 2 YX3_truncate [.ref h, .int x] (m_S G h M σ) (fun v τ => v = none ∧ ∃ M2, τ = m_S G h M2 σ ∧ m_J M2 (sp_tru A x)) := by
  refine sx_body (by decide) (Nat.le_of_ble_eq_true rfl) ?_
  have hc : M.1 8 = nI (A_i A).length := hJ.2.2.2.2.2.2.1.2.1
  have hn1 := hJ.2.2.2.2.2.2.1.1
  have hin : decide ((0 : Int64) ≤ x.toInt64 ∧ x.toInt64 ≤ (nI (A_i A).length).toInt64) = decide (0 ≤ x.toInt ∧ x.toInt ≤ (A_i A).length) := decide_eq_decide.mpr (by rw [show (0 : Int64) = (0 : Int32).toInt64 from rfl, i64_le, i64_le, Int32.le_iff_toInt_le, Int32.le_iff_toInt_le, nI_toInt (by omega)]; rfl)
  refine sv_aload_n dX3_truncate_0 rfl ?_
  refine sv_iload_n dX3_truncate_1 rfl ?_
  refine sv_i2l dX3_truncate_2 ?_
  refine sv_lconst 0 dX3_truncate_3 (by decide) ?_
  refine sv_aload_n dX3_truncate_4 rfl ?_
  refine sm_get hn fg_X3_270 dX3_truncate_5 rfl ?_
  refine sv_topI hc ?_
  refine sv_i2l dX3_truncate_8 ?_
  refine sv_csR _ ct_in okX3_in ks_X3_70 dX3_truncate_9 rfl rfl (by decide) (Nat.le_of_ble_eq_true rfl) ?_
  refine sv_topI (congrArg b_I hin) ?_
  refine sv_cvR _ (ct_passes (a := decide (0 ≤ x.toInt ∧ x.toInt ≤ (A_i A).length)) hn) okX3_passes kv_X3_266 (sx_rd_c (m_S_0 hn)) rfl dX3_truncate_12 rfl rfl (by decide) (Nat.le_of_ble_eq_true rfl) ?_
  refine sv_if_eqB (tgt := 23) dX3_truncate_15 (by decide) (fun c15 => ?_) (fun c15 => ?_)
  · have hsp : sp_tru A x = A_st A 1 := if_neg (by rw [c15]; decide)
    rw [hsp, c15, show nI (t_hr false true true) = 1 from by decide +kernel]
    have hJ1 := m_J_t hJ 1
    refine sv_vret rfl dX3_truncate_23 ?_
    exact ⟨_, rfl, rfl, _, rfl, hJ1⟩
  · have hlt := of_decide_eq_true c15
    obtain ⟨e1, e2⟩ := i32_nat hlt.1
    have hsp : sp_tru A x = A_si (A_st A 0) ((A_i A).take x.toNatClampNeg) := if_pos c15
    rw [hsp, t_hr_1 c15]
    have hJ1 := m_J_il (n := x.toNatClampNeg) (m_J_t hJ 0) (show x.toNatClampNeg ≤ (A_i A).length by omega)
    rw [← e1] at hJ1
    refine sv_aload_n dX3_truncate_18 rfl ?_
    refine sv_iload_n dX3_truncate_19 rfl ?_
    refine sm_put hn fp_X3_270 dX3_truncate_20 rfl (by decide) ?_
    refine sv_vret rfl dX3_truncate_23 ?_
    exact ⟨_, rfl, rfl, _, rfl, hJ1⟩
end MRZ
