set_option maxRecDepth 100000
section MRY
variable {G : sx_G} {h : Nat} {M : m_M} {σ : sx_St} {V : a_V} {A : a_A} {r r' : Nat → Int64} {t : Nat}
theorem ct_writeView (hn : h + 11 < sx_n σ) (hJ : m_J M A) (ho : o_V t (A_v A)) (ht6 : t ≤ 1000) {s : Int32} : sx_Cp G 6 YX3_writeView [.ref h, .int s] (m_S G h M σ) (fun v τ => v = some (.int ((sp_wvw A s).1)) ∧ ∃ M2, τ = m_S G h M2 σ ∧ m_J M2 ((sp_wvw A s).2)) := by
  have loop : ∀ (j t : Nat) A, o_V t (A_v A) → t ≤ 1000 → j < (A_v A).2.2.length → (a_es (A_v A) j).length ≤ 60 → ∀ q k M, m_J M (A_so A (o_t (w_e (A_v A) j) k)) → k ≤ (a_es (A_v A) j).length → (a_es (A_v A) j).length + 1 ≤ k + q → sx_V G 6 YX3_writeView 21 [some (.ref h), some (.int (nI j)), some (.int (nI (k + 1)))] [] (m_S G h M σ) (fun o τ => ∃ v, o = .inl v ∧ v = some (.int (nI (o_t (w_e (A_v A) j) (a_es (A_v A) j).length).length)) ∧ ∃ M2, τ = m_S G h M2 σ ∧ m_J M2 (A_so A (o_t (w_e (A_v A) j) (a_es (A_v A) j).length))) := by
    intro j t A ho ht6 hj hel q
    induction q with
    | zero => intro k M hJ h1 h2; exact absurd h2 (by omega)
    | succ q ih =>
    intro k M hJ h1 h2
    have hs4 : (A_v A).2.2.length ≤ 4 := hJ.2.2.1.1.2.1
    have hol := o_t_l (w_e (A_v A) j) 23 k (fun k _ => by unfold w_e; simp only [List.length_append, List.length_cons]; have h1 := d_n_l (a_e (A_v A) j k).1.toNatClampNeg; have h2 := d_n_l (k + 1); have h3 := w_fs_l (a_e (A_v A) j k).2; split <;> simp <;> omega)
    have hgl := gl_le (o_t (w_e (A_v A) j) k)
    refine sv_iload_n dX3_writeView_21 rfl ?_
    refine sv_aload_n dX3_writeView_22 rfl ?_
    refine sv_iload_n dX3_writeView_23 rfl ?_
    refine sv_cvR _ (ct_entries (V := A_v A) hn ⟨(m_J_e hJ).1, (m_J_e hJ).2⟩ hJ.2.2.1 hj) okX3_entries kv_X3_97 (sx_rd_c (m_S_0 hn)) rfl dX3_writeView_24 rfl rfl (by decide) (Nat.le_of_ble_eq_true rfl) ?_
    refine sv_icmp_gtN (tgt := 88) dX3_writeView_27 (by decide) (by omega) (by omega) (fun c27 => ?_) (fun c27 => ?_)
    · have hke : k = (a_es (A_v A) j).length := by omega
      subst hke
      refine sv_aload_n dX3_writeView_88 rfl ?_
      refine sm_get hn fg_X3_519 dX3_writeView_89 rfl ?_
      refine sv_iret rfl rfl dX3_writeView_92 ?_
      exact ⟨_, rfl, r_I hJ.2.2.2.2.2.2.2.2.2.1.2.1, _, rfl, hJ⟩
    · have hk : k < (a_es (A_v A) j).length := by omega
      have hw : w_V (A_v A) := hJ.2.2.1
      obtain ⟨b, hbx⟩ := a_some hw hj hk
      have hb := hw.2.2.1 j b hj hbx
      have hu := o_uid ho hj hbx hk
      have hnx := (ho.2.1 b hb).1.2
      have he1 := (ho.2.2 j hj).1.1 (a_e (A_v A) j k) (by unfold a_e; rw [List.getD_eq_getElem?_getD, List.getElem?_eq_getElem hk]; exact List.getElem_mem hk)
      obtain ⟨u1, u2⟩ := i32_nat (x := (a_e (A_v A) j k).1) (by have := he1.1; omega)
      have hu9 : (a_e (A_v A) j k).1.toNatClampNeg < 100000000 := by rw [Int32.lt_iff_toInt_lt] at hu; omega
      have hd1 := d_n_l (a_e (A_v A) j k).1.toNatClampNeg
      have hd2 := d_n_l (k + 1)
      have hd3 := w_fs_l (a_e (A_v A) j k).2
      refine sv_aload_n dX3_writeView_30 rfl ?_
      refine sv_cvP _ (ct_writeGap hn hJ (by rw [A_o_so]; omega)) okX3_writeGap kv_X3_525 (sx_rd_c (m_S_0 hn)) rfl dX3_writeView_31 rfl rfl (by decide) (Nat.le_of_ble_eq_true rfl) ?_
      intro v1 t1 hp1
      obtain ⟨rfl, M1, rfl, hJ1⟩ := hp1
      rw [so_wr, so_g] at hJ1
      refine sv_aload_n dX3_writeView_34 rfl ?_
      refine sv_iload_n dX3_writeView_35 rfl ?_
      refine sv_cvP _ (ct_writeNumber (n := k + 1) hn hJ1 (by omega) (by rw [A_o_so]; simp only [List.length_append, List.length_cons, List.length_nil]; omega)) okX3_writeNumber kv_X3_528 (sx_rd_c (m_S_0 hn)) rfl dX3_writeView_36 rfl rfl (by decide) (Nat.le_of_ble_eq_true rfl) ?_
      intro v2 t2 hp2
      obtain ⟨rfl, M2, rfl, hJ2⟩ := hp2
      rw [so_wr] at hJ2
      refine sv_aload_n dX3_writeView_39 rfl ?_
      refine sv_bipush (nI 58) dX3_writeView_40 (by decide +kernel) ?_
      refine sv_cvP _ (ct_write hn hJ2 (by omega) (by rw [A_o_so]; simp only [List.length_append, List.length_cons, List.length_nil]; omega)) okX3_write kv_X3_522 (sx_rd_c (m_S_0 hn)) rfl dX3_writeView_42 rfl rfl (by decide) (Nat.le_of_ble_eq_true rfl) ?_
      intro v3 t3 hp3
      obtain ⟨rfl, M3, rfl, hJ3⟩ := hp3
      rw [so_wr] at hJ3
      refine sv_aload_n dX3_writeView_45 rfl ?_
      refine sv_aload_n dX3_writeView_46 rfl ?_
      refine sv_iload_n dX3_writeView_47 rfl ?_
      refine sv_iload_n dX3_writeView_48 rfl ?_
      refine sv_iconst (nI 0) dX3_writeView_49 (by decide +kernel) ?_
      refine sv_cvR _ (ct_euid (V := A_v A) hn ⟨(m_J_e hJ3).1, (m_J_e hJ3).2⟩ hJ3.2.2.1 hj hk) okX3_ofEntry kv_X3_107 (sx_rd_c (m_S_0 hn)) rfl dX3_writeView_50 rfl rfl (by decide) (Nat.le_of_ble_eq_true rfl) ?_
      refine sv_topI u1 ?_
      refine sv_cvP _ (ct_writeNumber hn hJ3 hu9 (by rw [A_o_so]; simp only [List.length_append, List.length_cons, List.length_nil]; omega)) okX3_writeNumber kv_X3_528 (sx_rd_c (m_S_0 hn)) rfl dX3_writeView_53 rfl rfl (by decide) (Nat.le_of_ble_eq_true rfl) ?_
      intro v4 t4 hp4
      obtain ⟨rfl, M4, rfl, hJ4⟩ := hp4
      rw [so_wr] at hJ4
      refine sv_aload_n dX3_writeView_56 rfl ?_
      refine sv_aload_n dX3_writeView_57 rfl ?_
      refine sv_iload_n dX3_writeView_58 rfl ?_
      refine sv_iload_n dX3_writeView_59 rfl ?_
      refine sv_iconst (nI 1) dX3_writeView_60 (by decide +kernel) ?_
      refine sv_cvR _ (ct_efl (V := A_v A) hn ⟨(m_J_e hJ4).1, (m_J_e hJ4).2⟩ hJ4.2.2.1 hj hk) okX3_ofEntry kv_X3_107 (sx_rd_c (m_S_0 hn)) rfl dX3_writeView_61 rfl rfl (by decide) (Nat.le_of_ble_eq_true rfl) ?_
      refine sv_cvP _ (ct_writeFlags hn hJ4 (by rw [A_o_so]; simp only [List.length_append, List.length_cons, List.length_nil]; omega)) okX3_writeFlags kv_X3_531 (sx_rd_c (m_S_0 hn)) rfl dX3_writeView_64 rfl rfl (by decide) (Nat.le_of_ble_eq_true rfl) ?_
      intro v5 t5 hp5
      obtain ⟨rfl, M5, rfl, hJ5⟩ := hp5
      rw [so_wr] at hJ5
      refine sv_aload_n dX3_writeView_67 rfl ?_
      refine sv_iload_n dX3_writeView_68 rfl ?_
      refine sv_iload_n dX3_writeView_69 rfl ?_
      refine sv_cvR _ (ct_isGone (V := A_v A) hn ⟨(m_J_e hJ5).1, (m_J_e hJ5).2⟩ hJ5.2.2.1 hj hbx hk) okX3_isGone kv_X3_116 (sx_rd_c (m_S_0 hn)) rfl dX3_writeView_70 rfl rfl (by decide) (Nat.le_of_ble_eq_true rfl) ?_
      refine sv_if_eqB (tgt := 82) dX3_writeView_73 (by decide) (fun c73 => ?_) (fun c73 => ?_)
      · have hJ6 := hJ5
        have hfin : (o_t (w_e (A_v A) j) k) ++ (if 0 < (o_t (w_e (A_v A) j) k).length then [nI 32] else []) ++ d_n (k + 1) ++ [nI 58] ++ d_n (a_e (A_v A) j k).1.toNatClampNeg ++ w_fs (a_e (A_v A) j k).2 = o_t (w_e (A_v A) j) (k + 1) := by show _ = o_j _ (w_e _ _ _); unfold o_j w_e; rw [c73]; simp only [List.append_assoc, List.cons_append, List.nil_append, List.append_nil, Bool.false_eq_true, if_false]
        rw [hfin] at hJ6
        have hih := ih (k + 1) _ hJ6 (by omega) (by omega)
        refine sv_iincN dX3_writeView_82 rfl (by decide) ?_
        refine sv_goto (tgt := 21) dX3_writeView_85 (by decide) ?_
        exact hih
      · refine sv_aload_n dX3_writeView_76 rfl ?_
        refine sv_bipush (nI 33) dX3_writeView_77 (by decide +kernel) ?_
        refine sv_cvP _ (ct_write hn hJ5 (by omega) (by rw [A_o_so]; simp only [List.length_append, List.length_cons, List.length_nil]; omega)) okX3_write kv_X3_522 (sx_rd_c (m_S_0 hn)) rfl dX3_writeView_79 rfl rfl (by decide) (Nat.le_of_ble_eq_true rfl) ?_
        intro v6 t6 hp6
        obtain ⟨rfl, M6, rfl, hJ6⟩ := hp6
        rw [so_wr] at hJ6
        have hfin : (o_t (w_e (A_v A) j) k) ++ (if 0 < (o_t (w_e (A_v A) j) k).length then [nI 32] else []) ++ d_n (k + 1) ++ [nI 58] ++ d_n (a_e (A_v A) j k).1.toNatClampNeg ++ w_fs (a_e (A_v A) j k).2 ++ [nI 33] = o_t (w_e (A_v A) j) (k + 1) := by show _ = o_j _ (w_e _ _ _); unfold o_j w_e; rw [c73]; simp only [List.append_assoc, List.cons_append, List.nil_append, if_true]
        rw [hfin] at hJ6
        have hih := ih (k + 1) _ hJ6 (by omega) (by omega)
        refine sv_iincN dX3_writeView_82 rfl (by decide) ?_
        refine sv_goto (tgt := 21) dX3_writeView_85 (by decide) ?_
        exact hih
  refine sx_body (by decide) (Nat.le_of_ble_eq_true rfl) ?_
  refine sv_aload_n dX3_writeView_0 rfl ?_
  refine sv_aload_n dX3_writeView_1 rfl ?_
  refine sv_iload_n dX3_writeView_2 rfl ?_
  refine sv_cvR _ (ct_isSession hn (m_J_e hJ).1 hJ.2.2.1.1) okX3_isSession kv_X3_93 (sx_rd_c (m_S_0 hn)) rfl dX3_writeView_3 rfl rfl (by decide) (Nat.le_of_ble_eq_true rfl) ?_
  refine sv_cvR _ (ct_passes hn) okX3_passes kv_X3_266 (sx_rd_c (m_S_0 hn)) rfl dX3_writeView_6 rfl rfl (by decide) (Nat.le_of_ble_eq_true rfl) ?_
  refine sv_if_neB (tgt := 14) dX3_writeView_9 (by decide) (fun c9 => ?_) (fun c9 => ?_)
  · have hJ0 := m_J_t hJ 0
    unfold sp_wvw
    rw [g_1t c9, t_hr_1 c9]
    have hs4 := hJ.2.2.1.1.2.1
    obtain ⟨j, hj, rfl⟩ := i_in_of (by omega) c9
    have ej : (nI j).toNatClampNeg = j := nI_clamp (by omega)
    rw [ej]
    have hel := hJ.2.2.1.2.1 j hj
    refine sv_aload_n dX3_writeView_14 rfl ?_
    refine sv_iconst (nI 0) dX3_writeView_15 (by decide +kernel) ?_
    refine sm_put hn fp_X3_519 dX3_writeView_16 rfl (by decide) ?_
    have hJ2 := m_J_o0 hJ0
    refine sv_iconst (nI 1) dX3_writeView_19 (by decide +kernel) ?_
    refine sv_istore_n dX3_writeView_20 (by decide) ?_
    exact loop j t (A_st A 0) ho ht6 hj hel 61 0 _ hJ2 (by omega) (by show (a_es (A_v A) j).length + 1 ≤ _; omega)
  · unfold sp_wvw
    rw [g_1f c9]
    refine sv_iconst (nI 0) dX3_writeView_12 (by decide +kernel) ?_
    refine sv_iret rfl rfl dX3_writeView_13 ?_
    exact ⟨_, rfl, r_I nI_0, _, rfl, m_J_t hJ _⟩
def o_n (n : a_N) : Prop := (0 ≤ n.1.toInt ∧ n.1.toInt < 10) ∧ (0 ≤ n.2.2.1.toInt ∧ n.2.2.1.toInt < 100) ∧ (n.2.1 ≠ 1 → n.2.2.2 = 0)
theorem w_n_l {n : a_N} (h : o_n n) : (w_n n).length ≤ 10 := by
  unfold w_n
  have h1 := d_n_1 (n := n.1.toNatClampNeg) (by have := (i32_nat h.1.1).2; have := h.1.2; omega)
  have h2 := d_n_2 (n := n.2.2.1.toNatClampNeg) (by have := (i32_nat h.2.1.1).2; have := h.2.1.2; omega)
  have h3 := w_fs_l n.2.2.2
  rw [List.length_append, List.length_cons, List.length_append]
  split
  · rw [List.length_cons]; omega
  · rw [List.length_nil]; omega
theorem ct_writeNotices (hn : h + 11 < sx_n σ) (hJ : m_J M A) (hnn : ∀ n ∈ A_n A, o_n n) : sx_Cp G 4 YX3_writeNotices [.ref h] (m_S G h M σ) (fun v τ => v = some (.int ((sp_wnt A).1)) ∧ ∃ M2, τ = m_S G h M2 σ ∧ m_J M2 ((sp_wnt A).2)) := by
  have loop : ∀ A, (∀ n ∈ A_n A, o_n n) → (A_n A).length ≤ 1000 → ∀ q k M, m_J M (A_so A (o_t (fun k => w_n ((A_n A).getD k (0, 0, 0, 0))) k)) → k ≤ (A_n A).length → (A_n A).length + 1 ≤ k + q → sx_V G 4 YX3_writeNotices 12 [some (.ref h), some (.int (nI k)), none] [] (m_S G h M σ) (fun o τ => ∃ v, o = .inl v ∧ v = some (.int (nI (o_t (fun k => w_n ((A_n A).getD k (0, 0, 0, 0))) (A_n A).length).length)) ∧ ∃ M2, τ = m_S G h M2 σ ∧ m_J M2 (A_so A (o_t (fun k => w_n ((A_n A).getD k (0, 0, 0, 0))) (A_n A).length))) := by
    intro A hnn hnl q
    have hmem : ∀ k, k < (A_n A).length → o_n ((A_n A).getD k (0, 0, 0, 0)) := fun k hk => hnn _ (by rw [List.getD_eq_getElem?_getD, List.getElem?_eq_getElem hk]; exact List.getElem_mem hk)
    induction q with
    | zero => intro k M hJ h1 h2; exact absurd h2 (by omega)
    | succ q ih =>
    intro k M hJ h1 h2
    have hol := o_t_l (fun k => w_n ((A_n A).getD k (0, 0, 0, 0))) 10 k (fun i hi => w_n_l (hmem i (by omega)))
    have hgl := gl_le (o_t (fun k => w_n ((A_n A).getD k (0, 0, 0, 0))) k)
    have hc : M.1 5 = nI (A_n A).length := hJ.2.2.2.2.2.1.2.1
    refine sv_iload_n dX3_writeNotices_12 rfl ?_
    refine sv_aload_n dX3_writeNotices_13 rfl ?_
    refine sm_get hn fg_X3_138 dX3_writeNotices_14 rfl ?_
    refine sv_topI hc ?_
    refine sv_icmp_geN (tgt := 120) dX3_writeNotices_17 (by decide) (by omega) (by omega) (fun c17 => ?_) (fun c17 => ?_)
    · have hke : k = (A_n A).length := by omega
      subst hke
      refine sv_aload_n dX3_writeNotices_120 rfl ?_
      refine sm_get hn fg_X3_519 dX3_writeNotices_121 rfl ?_
      refine sv_iret rfl rfl dX3_writeNotices_124 ?_
      exact ⟨_, rfl, r_I hJ.2.2.2.2.2.2.2.2.2.1.2.1, _, rfl, hJ⟩
    · have hk : k < (A_n A).length := by omega
      have hom := hmem k hk
      obtain ⟨u1, u2⟩ := i32_nat hom.1.1
      obtain ⟨z1, z2⟩ := i32_nat hom.2.1.1
      have hu9 : ((A_n A).getD k (0, 0, 0, 0)).1.toNatClampNeg < 10 := by have := hom.1.2; omega
      have hz9 : ((A_n A).getD k (0, 0, 0, 0)).2.2.1.toNatClampNeg < 100 := by have := hom.2.1.2; omega
      have hs128 : (if ((A_n A).getD k (0, 0, 0, 0)).2.1 = 0 then 45 else if ((A_n A).getD k (0, 0, 0, 0)).2.1 = 1 then 61 else 43) < 128 := by split; decide; split <;> decide
      have hd1 := d_n_1 (n := ((A_n A).getD k (0, 0, 0, 0)).1.toNatClampNeg) (by have := hom.1.2; omega)
      have hd2 := d_n_2 (n := ((A_n A).getD k (0, 0, 0, 0)).2.2.1.toNatClampNeg) (by have := hom.2.1.2; omega)
      refine sv_aload_n dX3_writeNotices_20 rfl ?_
      refine sv_cvP _ (ct_writeGap hn hJ (by rw [A_o_so]; omega)) okX3_writeGap kv_X3_525 (sx_rd_c (m_S_0 hn)) rfl dX3_writeNotices_21 rfl rfl (by decide) (Nat.le_of_ble_eq_true rfl) ?_
      intro v1 t1 hp1
      obtain ⟨rfl, M1, rfl, hJ1⟩ := hp1
      rw [so_wr, so_g] at hJ1
      refine sv_aload_n dX3_writeNotices_24 rfl ?_
      refine sv_aload_n dX3_writeNotices_25 rfl ?_
      refine sm_get hn fg_X3_27 dX3_writeNotices_26 rfl ?_
      refine sv_iconst (nI 4) dX3_writeNotices_29 (by decide +kernel) ?_
      refine sv_iload_n dX3_writeNotices_30 rfl ?_
      refine sv_imulN dX3_writeNotices_31 ?_
      refine sm_b0ld hn dX3_writeNotices_32 (by omega) ?_
      refine sv_topI (y := nI ((A_n A).getD k (0, 0, 0, 0)).1.toNatClampNeg) ((hJ1.2.2.2.2.2.1.2.2 k hk 0 (by omega)).trans u1) ?_
      refine sv_cvP _ (ct_writeNumber hn hJ1 (by omega) (by rw [A_o_so]; simp only [List.length_append, List.length_cons, List.length_nil]; omega)) okX3_writeNumber kv_X3_528 (sx_rd_c (m_S_0 hn)) rfl dX3_writeNotices_33 rfl rfl (by decide) (Nat.le_of_ble_eq_true rfl) ?_
      intro v2 t2 hp2
      obtain ⟨rfl, M2, rfl, hJ2⟩ := hp2
      rw [so_wr] at hJ2
      refine sv_aload_n dX3_writeNotices_36 rfl ?_
      refine sm_get hn fg_X3_27 dX3_writeNotices_37 rfl ?_
      refine sv_iconst (nI 4) dX3_writeNotices_40 (by decide +kernel) ?_
      refine sv_iload_n dX3_writeNotices_41 rfl ?_
      refine sv_imulN dX3_writeNotices_42 ?_
      refine sv_iconst (nI 1) dX3_writeNotices_43 (by decide +kernel) ?_
      refine sv_iaddN dX3_writeNotices_44 ?_
      refine sm_b0ld hn dX3_writeNotices_45 (by omega) ?_
      refine sv_topI (y := ((A_n A).getD k (0, 0, 0, 0)).2.1) (hJ2.2.2.2.2.2.1.2.2 k hk 1 (by omega)) ?_
      refine sv_istore_n dX3_writeNotices_46 (by decide) ?_
      refine sv_aload_n dX3_writeNotices_47 rfl ?_
      refine sv_iload_n dX3_writeNotices_48 rfl ?_
      refine sv_if_ne (tgt := 57) dX3_writeNotices_49 (by decide) (fun c49 => ?_) (fun c49 => ?_)
      · refine sv_iload_n dX3_writeNotices_57 rfl ?_
        refine sv_iconst (nI 1) dX3_writeNotices_58 (by decide +kernel) ?_
        refine sv_topI (y := 1) (by decide +kernel) ?_
        refine sv_icmp_ne (tgt := 67) dX3_writeNotices_59 (by decide) (fun c59 => ?_) (fun c59 => ?_)
        · have hsy : nI 43 = nI (if ((A_n A).getD k (0, 0, 0, 0)).2.1 = 0 then 45 else if ((A_n A).getD k (0, 0, 0, 0)).2.1 = 1 then 61 else 43) := by rw [if_neg c49, if_neg c59]
          refine sv_bipush (nI 43) dX3_writeNotices_67 (by decide +kernel) ?_
          refine sv_topI (y := nI (if ((A_n A).getD k (0, 0, 0, 0)).2.1 = 0 then 45 else if ((A_n A).getD k (0, 0, 0, 0)).2.1 = 1 then 61 else 43)) hsy ?_
          refine sv_cvP _ (ct_write hn hJ2 hs128 (by rw [A_o_so]; simp only [List.length_append, List.length_cons, List.length_nil]; omega)) okX3_write kv_X3_522 (sx_rd_c (m_S_0 hn)) rfl dX3_writeNotices_69 rfl rfl (by decide) (Nat.le_of_ble_eq_true rfl) ?_
          intro v3 t3 hp3
          obtain ⟨rfl, M3, rfl, hJ3⟩ := hp3
          rw [so_wr] at hJ3
          refine sv_aload_n dX3_writeNotices_72 rfl ?_
          refine sv_aload_n dX3_writeNotices_73 rfl ?_
          refine sm_get hn fg_X3_27 dX3_writeNotices_74 rfl ?_
          refine sv_iconst (nI 4) dX3_writeNotices_77 (by decide +kernel) ?_
          refine sv_iload_n dX3_writeNotices_78 rfl ?_
          refine sv_imulN dX3_writeNotices_79 ?_
          refine sv_iconst (nI 2) dX3_writeNotices_80 (by decide +kernel) ?_
          refine sv_iaddN dX3_writeNotices_81 ?_
          refine sm_b0ld hn dX3_writeNotices_82 (by omega) ?_
          refine sv_topI (y := nI ((A_n A).getD k (0, 0, 0, 0)).2.2.1.toNatClampNeg) ((hJ3.2.2.2.2.2.1.2.2 k hk 2 (by omega)).trans z1) ?_
          refine sv_cvP _ (ct_writeNumber hn hJ3 (by omega) (by rw [A_o_so]; simp only [List.length_append, List.length_cons, List.length_nil]; omega)) okX3_writeNumber kv_X3_528 (sx_rd_c (m_S_0 hn)) rfl dX3_writeNotices_83 rfl rfl (by decide) (Nat.le_of_ble_eq_true rfl) ?_
          intro v4 t4 hp4
          obtain ⟨rfl, M4, rfl, hJ4⟩ := hp4
          rw [so_wr] at hJ4
          refine sv_iload_n dX3_writeNotices_86 rfl ?_
          refine sv_iconst (nI 1) dX3_writeNotices_87 (by decide +kernel) ?_
          refine sv_topI (y := 1) (by decide +kernel) ?_
          refine sv_icmp_eq (tgt := 94) dX3_writeNotices_88 (by decide) (fun c88 => ?_) (fun c88 => ?_)
          · refine sv_aload_n dX3_writeNotices_94 rfl ?_
            refine sv_bipush (nI 58) dX3_writeNotices_95 (by decide +kernel) ?_
            refine sv_cvP _ (ct_write hn hJ4 (by omega) (by rw [A_o_so]; simp only [List.length_append, List.length_cons, List.length_nil]; omega)) okX3_write kv_X3_522 (sx_rd_c (m_S_0 hn)) rfl dX3_writeNotices_97 rfl rfl (by decide) (Nat.le_of_ble_eq_true rfl) ?_
            intro v5 t5 hp5
            obtain ⟨rfl, M5, rfl, hJ5⟩ := hp5
            rw [so_wr] at hJ5
            refine sv_aload_n dX3_writeNotices_100 rfl ?_
            refine sv_aload_n dX3_writeNotices_101 rfl ?_
            refine sm_get hn fg_X3_27 dX3_writeNotices_102 rfl ?_
            refine sv_iconst (nI 4) dX3_writeNotices_105 (by decide +kernel) ?_
            refine sv_iload_n dX3_writeNotices_106 rfl ?_
            refine sv_imulN dX3_writeNotices_107 ?_
            refine sv_iconst (nI 3) dX3_writeNotices_108 (by decide +kernel) ?_
            refine sv_iaddN dX3_writeNotices_109 ?_
            refine sm_b0ld hn dX3_writeNotices_110 (by omega) ?_
            refine sv_topI (y := ((A_n A).getD k (0, 0, 0, 0)).2.2.2) (hJ5.2.2.2.2.2.1.2.2 k hk 3 (by omega)) ?_
            refine sv_cvP _ (ct_writeFlags hn hJ5 (by rw [A_o_so]; simp only [List.length_append, List.length_cons, List.length_nil]; omega)) okX3_writeFlags kv_X3_531 (sx_rd_c (m_S_0 hn)) rfl dX3_writeNotices_111 rfl rfl (by decide) (Nat.le_of_ble_eq_true rfl) ?_
            intro v6 t6 hp6
            obtain ⟨rfl, M7, rfl, hJ7⟩ := hp6
            rw [so_wr] at hJ7
            have hw9 : w_n ((A_n A).getD k (0, 0, 0, 0)) = d_n ((A_n A).getD k (0, 0, 0, 0)).1.toNatClampNeg ++ (nI (if ((A_n A).getD k (0, 0, 0, 0)).2.1 = 0 then 45 else if ((A_n A).getD k (0, 0, 0, 0)).2.1 = 1 then 61 else 43) :: (d_n ((A_n A).getD k (0, 0, 0, 0)).2.2.1.toNatClampNeg ++ (nI 58 :: w_fs ((A_n A).getD k (0, 0, 0, 0)).2.2.2))) := by unfold w_n; rw [if_pos (c := ((A_n A).getD k (0, 0, 0, 0)).2.1 = 1) c88, if_pos (c := ((A_n A).getD k (0, 0, 0, 0)).2.1 = 1) c88]
            have hfin : (o_t (fun k => w_n ((A_n A).getD k (0, 0, 0, 0))) k) ++ (if 0 < (o_t (fun k => w_n ((A_n A).getD k (0, 0, 0, 0))) k).length then [nI 32] else []) ++ d_n ((A_n A).getD k (0, 0, 0, 0)).1.toNatClampNeg ++ [nI (if ((A_n A).getD k (0, 0, 0, 0)).2.1 = 0 then 45 else if ((A_n A).getD k (0, 0, 0, 0)).2.1 = 1 then 61 else 43)] ++ d_n ((A_n A).getD k (0, 0, 0, 0)).2.2.1.toNatClampNeg ++ [nI 58] ++ w_fs ((A_n A).getD k (0, 0, 0, 0)).2.2.2 = o_t (fun k => w_n ((A_n A).getD k (0, 0, 0, 0))) (k + 1) := by show _ = o_j _ (w_n _); rw [hw9]; unfold o_j; simp only [List.append_assoc, List.cons_append, List.nil_append]
            rw [hfin] at hJ7
            have hih := ih (k + 1) _ hJ7 (by omega) (by omega)
            refine sv_iincN dX3_writeNotices_114 rfl (by decide) ?_
            refine sv_goto (tgt := 12) dX3_writeNotices_117 (by decide) ?_
            exact sx_loc [some (.ref h), some (.int (nI (k + 1))), none] ⟨rfl, rfl, trivial⟩ hih
          · have hJ7 := hJ4
            have hw9 : w_n ((A_n A).getD k (0, 0, 0, 0)) = d_n ((A_n A).getD k (0, 0, 0, 0)).1.toNatClampNeg ++ (nI (if ((A_n A).getD k (0, 0, 0, 0)).2.1 = 0 then 45 else if ((A_n A).getD k (0, 0, 0, 0)).2.1 = 1 then 61 else 43) :: (d_n ((A_n A).getD k (0, 0, 0, 0)).2.2.1.toNatClampNeg ++ [])) := by unfold w_n; rw [if_neg (c := ((A_n A).getD k (0, 0, 0, 0)).2.1 = 1) c88, if_neg (c := ((A_n A).getD k (0, 0, 0, 0)).2.1 = 1) c88]
            have hfin : (o_t (fun k => w_n ((A_n A).getD k (0, 0, 0, 0))) k) ++ (if 0 < (o_t (fun k => w_n ((A_n A).getD k (0, 0, 0, 0))) k).length then [nI 32] else []) ++ d_n ((A_n A).getD k (0, 0, 0, 0)).1.toNatClampNeg ++ [nI (if ((A_n A).getD k (0, 0, 0, 0)).2.1 = 0 then 45 else if ((A_n A).getD k (0, 0, 0, 0)).2.1 = 1 then 61 else 43)] ++ d_n ((A_n A).getD k (0, 0, 0, 0)).2.2.1.toNatClampNeg = o_t (fun k => w_n ((A_n A).getD k (0, 0, 0, 0))) (k + 1) := by show _ = o_j _ (w_n _); rw [hw9]; unfold o_j; simp only [List.append_assoc, List.cons_append, List.nil_append, List.append_nil]
            rw [hfin] at hJ7
            refine sv_goto (tgt := 114) dX3_writeNotices_91 (by decide) ?_
            have hih := ih (k + 1) _ hJ7 (by omega) (by omega)
            refine sv_iincN dX3_writeNotices_114 rfl (by decide) ?_
            refine sv_goto (tgt := 12) dX3_writeNotices_117 (by decide) ?_
            exact sx_loc [some (.ref h), some (.int (nI (k + 1))), none] ⟨rfl, rfl, trivial⟩ hih
        · have hsy : nI 61 = nI (if ((A_n A).getD k (0, 0, 0, 0)).2.1 = 0 then 45 else if ((A_n A).getD k (0, 0, 0, 0)).2.1 = 1 then 61 else 43) := by rw [if_neg c49, if_pos c59]
          refine sv_bipush (nI 61) dX3_writeNotices_62 (by decide +kernel) ?_
          refine sv_goto (tgt := 69) dX3_writeNotices_64 (by decide) ?_
          refine sv_topI (y := nI (if ((A_n A).getD k (0, 0, 0, 0)).2.1 = 0 then 45 else if ((A_n A).getD k (0, 0, 0, 0)).2.1 = 1 then 61 else 43)) hsy ?_
          refine sv_cvP _ (ct_write hn hJ2 hs128 (by rw [A_o_so]; simp only [List.length_append, List.length_cons, List.length_nil]; omega)) okX3_write kv_X3_522 (sx_rd_c (m_S_0 hn)) rfl dX3_writeNotices_69 rfl rfl (by decide) (Nat.le_of_ble_eq_true rfl) ?_
          intro v3 t3 hp3
          obtain ⟨rfl, M3, rfl, hJ3⟩ := hp3
          rw [so_wr] at hJ3
          refine sv_aload_n dX3_writeNotices_72 rfl ?_
          refine sv_aload_n dX3_writeNotices_73 rfl ?_
          refine sm_get hn fg_X3_27 dX3_writeNotices_74 rfl ?_
          refine sv_iconst (nI 4) dX3_writeNotices_77 (by decide +kernel) ?_
          refine sv_iload_n dX3_writeNotices_78 rfl ?_
          refine sv_imulN dX3_writeNotices_79 ?_
          refine sv_iconst (nI 2) dX3_writeNotices_80 (by decide +kernel) ?_
          refine sv_iaddN dX3_writeNotices_81 ?_
          refine sm_b0ld hn dX3_writeNotices_82 (by omega) ?_
          refine sv_topI (y := nI ((A_n A).getD k (0, 0, 0, 0)).2.2.1.toNatClampNeg) ((hJ3.2.2.2.2.2.1.2.2 k hk 2 (by omega)).trans z1) ?_
          refine sv_cvP _ (ct_writeNumber hn hJ3 (by omega) (by rw [A_o_so]; simp only [List.length_append, List.length_cons, List.length_nil]; omega)) okX3_writeNumber kv_X3_528 (sx_rd_c (m_S_0 hn)) rfl dX3_writeNotices_83 rfl rfl (by decide) (Nat.le_of_ble_eq_true rfl) ?_
          intro v4 t4 hp4
          obtain ⟨rfl, M4, rfl, hJ4⟩ := hp4
          rw [so_wr] at hJ4
          refine sv_iload_n dX3_writeNotices_86 rfl ?_
          refine sv_iconst (nI 1) dX3_writeNotices_87 (by decide +kernel) ?_
          refine sv_topI (y := 1) (by decide +kernel) ?_
          refine sv_icmp_eq (tgt := 94) dX3_writeNotices_88 (by decide) (fun c88 => ?_) (fun c88 => ?_)
          · refine sv_aload_n dX3_writeNotices_94 rfl ?_
            refine sv_bipush (nI 58) dX3_writeNotices_95 (by decide +kernel) ?_
            refine sv_cvP _ (ct_write hn hJ4 (by omega) (by rw [A_o_so]; simp only [List.length_append, List.length_cons, List.length_nil]; omega)) okX3_write kv_X3_522 (sx_rd_c (m_S_0 hn)) rfl dX3_writeNotices_97 rfl rfl (by decide) (Nat.le_of_ble_eq_true rfl) ?_
            intro v5 t5 hp5
            obtain ⟨rfl, M5, rfl, hJ5⟩ := hp5
            rw [so_wr] at hJ5
            refine sv_aload_n dX3_writeNotices_100 rfl ?_
            refine sv_aload_n dX3_writeNotices_101 rfl ?_
            refine sm_get hn fg_X3_27 dX3_writeNotices_102 rfl ?_
            refine sv_iconst (nI 4) dX3_writeNotices_105 (by decide +kernel) ?_
            refine sv_iload_n dX3_writeNotices_106 rfl ?_
            refine sv_imulN dX3_writeNotices_107 ?_
            refine sv_iconst (nI 3) dX3_writeNotices_108 (by decide +kernel) ?_
            refine sv_iaddN dX3_writeNotices_109 ?_
            refine sm_b0ld hn dX3_writeNotices_110 (by omega) ?_
            refine sv_topI (y := ((A_n A).getD k (0, 0, 0, 0)).2.2.2) (hJ5.2.2.2.2.2.1.2.2 k hk 3 (by omega)) ?_
            refine sv_cvP _ (ct_writeFlags hn hJ5 (by rw [A_o_so]; simp only [List.length_append, List.length_cons, List.length_nil]; omega)) okX3_writeFlags kv_X3_531 (sx_rd_c (m_S_0 hn)) rfl dX3_writeNotices_111 rfl rfl (by decide) (Nat.le_of_ble_eq_true rfl) ?_
            intro v6 t6 hp6
            obtain ⟨rfl, M7, rfl, hJ7⟩ := hp6
            rw [so_wr] at hJ7
            have hw9 : w_n ((A_n A).getD k (0, 0, 0, 0)) = d_n ((A_n A).getD k (0, 0, 0, 0)).1.toNatClampNeg ++ (nI (if ((A_n A).getD k (0, 0, 0, 0)).2.1 = 0 then 45 else if ((A_n A).getD k (0, 0, 0, 0)).2.1 = 1 then 61 else 43) :: (d_n ((A_n A).getD k (0, 0, 0, 0)).2.2.1.toNatClampNeg ++ (nI 58 :: w_fs ((A_n A).getD k (0, 0, 0, 0)).2.2.2))) := by unfold w_n; rw [if_pos (c := ((A_n A).getD k (0, 0, 0, 0)).2.1 = 1) c88, if_pos (c := ((A_n A).getD k (0, 0, 0, 0)).2.1 = 1) c88]
            have hfin : (o_t (fun k => w_n ((A_n A).getD k (0, 0, 0, 0))) k) ++ (if 0 < (o_t (fun k => w_n ((A_n A).getD k (0, 0, 0, 0))) k).length then [nI 32] else []) ++ d_n ((A_n A).getD k (0, 0, 0, 0)).1.toNatClampNeg ++ [nI (if ((A_n A).getD k (0, 0, 0, 0)).2.1 = 0 then 45 else if ((A_n A).getD k (0, 0, 0, 0)).2.1 = 1 then 61 else 43)] ++ d_n ((A_n A).getD k (0, 0, 0, 0)).2.2.1.toNatClampNeg ++ [nI 58] ++ w_fs ((A_n A).getD k (0, 0, 0, 0)).2.2.2 = o_t (fun k => w_n ((A_n A).getD k (0, 0, 0, 0))) (k + 1) := by show _ = o_j _ (w_n _); rw [hw9]; unfold o_j; simp only [List.append_assoc, List.cons_append, List.nil_append]
            rw [hfin] at hJ7
            have hih := ih (k + 1) _ hJ7 (by omega) (by omega)
            refine sv_iincN dX3_writeNotices_114 rfl (by decide) ?_
            refine sv_goto (tgt := 12) dX3_writeNotices_117 (by decide) ?_
            exact sx_loc [some (.ref h), some (.int (nI (k + 1))), none] ⟨rfl, rfl, trivial⟩ hih
          · have hJ7 := hJ4
            have hw9 : w_n ((A_n A).getD k (0, 0, 0, 0)) = d_n ((A_n A).getD k (0, 0, 0, 0)).1.toNatClampNeg ++ (nI (if ((A_n A).getD k (0, 0, 0, 0)).2.1 = 0 then 45 else if ((A_n A).getD k (0, 0, 0, 0)).2.1 = 1 then 61 else 43) :: (d_n ((A_n A).getD k (0, 0, 0, 0)).2.2.1.toNatClampNeg ++ [])) := by unfold w_n; rw [if_neg (c := ((A_n A).getD k (0, 0, 0, 0)).2.1 = 1) c88, if_neg (c := ((A_n A).getD k (0, 0, 0, 0)).2.1 = 1) c88]
            have hfin : (o_t (fun k => w_n ((A_n A).getD k (0, 0, 0, 0))) k) ++ (if 0 < (o_t (fun k => w_n ((A_n A).getD k (0, 0, 0, 0))) k).length then [nI 32] else []) ++ d_n ((A_n A).getD k (0, 0, 0, 0)).1.toNatClampNeg ++ [nI (if ((A_n A).getD k (0, 0, 0, 0)).2.1 = 0 then 45 else if ((A_n A).getD k (0, 0, 0, 0)).2.1 = 1 then 61 else 43)] ++ d_n ((A_n A).getD k (0, 0, 0, 0)).2.2.1.toNatClampNeg = o_t (fun k => w_n ((A_n A).getD k (0, 0, 0, 0))) (k + 1) := by show _ = o_j _ (w_n _); rw [hw9]; unfold o_j; simp only [List.append_assoc, List.cons_append, List.nil_append, List.append_nil]
            rw [hfin] at hJ7
            refine sv_goto (tgt := 114) dX3_writeNotices_91 (by decide) ?_
            have hih := ih (k + 1) _ hJ7 (by omega) (by omega)
            refine sv_iincN dX3_writeNotices_114 rfl (by decide) ?_
            refine sv_goto (tgt := 12) dX3_writeNotices_117 (by decide) ?_
            exact sx_loc [some (.ref h), some (.int (nI (k + 1))), none] ⟨rfl, rfl, trivial⟩ hih
      · have hsy : nI 45 = nI (if ((A_n A).getD k (0, 0, 0, 0)).2.1 = 0 then 45 else if ((A_n A).getD k (0, 0, 0, 0)).2.1 = 1 then 61 else 43) := by rw [if_pos c49]
        refine sv_bipush (nI 45) dX3_writeNotices_52 (by decide +kernel) ?_
        refine sv_goto (tgt := 69) dX3_writeNotices_54 (by decide) ?_
        refine sv_topI (y := nI (if ((A_n A).getD k (0, 0, 0, 0)).2.1 = 0 then 45 else if ((A_n A).getD k (0, 0, 0, 0)).2.1 = 1 then 61 else 43)) hsy ?_
        refine sv_cvP _ (ct_write hn hJ2 hs128 (by rw [A_o_so]; simp only [List.length_append, List.length_cons, List.length_nil]; omega)) okX3_write kv_X3_522 (sx_rd_c (m_S_0 hn)) rfl dX3_writeNotices_69 rfl rfl (by decide) (Nat.le_of_ble_eq_true rfl) ?_
        intro v3 t3 hp3
        obtain ⟨rfl, M3, rfl, hJ3⟩ := hp3
        rw [so_wr] at hJ3
        refine sv_aload_n dX3_writeNotices_72 rfl ?_
        refine sv_aload_n dX3_writeNotices_73 rfl ?_
        refine sm_get hn fg_X3_27 dX3_writeNotices_74 rfl ?_
        refine sv_iconst (nI 4) dX3_writeNotices_77 (by decide +kernel) ?_
        refine sv_iload_n dX3_writeNotices_78 rfl ?_
        refine sv_imulN dX3_writeNotices_79 ?_
        refine sv_iconst (nI 2) dX3_writeNotices_80 (by decide +kernel) ?_
        refine sv_iaddN dX3_writeNotices_81 ?_
        refine sm_b0ld hn dX3_writeNotices_82 (by omega) ?_
        refine sv_topI (y := nI ((A_n A).getD k (0, 0, 0, 0)).2.2.1.toNatClampNeg) ((hJ3.2.2.2.2.2.1.2.2 k hk 2 (by omega)).trans z1) ?_
        refine sv_cvP _ (ct_writeNumber hn hJ3 (by omega) (by rw [A_o_so]; simp only [List.length_append, List.length_cons, List.length_nil]; omega)) okX3_writeNumber kv_X3_528 (sx_rd_c (m_S_0 hn)) rfl dX3_writeNotices_83 rfl rfl (by decide) (Nat.le_of_ble_eq_true rfl) ?_
        intro v4 t4 hp4
        obtain ⟨rfl, M4, rfl, hJ4⟩ := hp4
        rw [so_wr] at hJ4
        refine sv_iload_n dX3_writeNotices_86 rfl ?_
        refine sv_iconst (nI 1) dX3_writeNotices_87 (by decide +kernel) ?_
        refine sv_topI (y := 1) (by decide +kernel) ?_
        refine sv_icmp_eq (tgt := 94) dX3_writeNotices_88 (by decide) (fun c88 => ?_) (fun c88 => ?_)
        · refine sv_aload_n dX3_writeNotices_94 rfl ?_
          refine sv_bipush (nI 58) dX3_writeNotices_95 (by decide +kernel) ?_
          refine sv_cvP _ (ct_write hn hJ4 (by omega) (by rw [A_o_so]; simp only [List.length_append, List.length_cons, List.length_nil]; omega)) okX3_write kv_X3_522 (sx_rd_c (m_S_0 hn)) rfl dX3_writeNotices_97 rfl rfl (by decide) (Nat.le_of_ble_eq_true rfl) ?_
          intro v5 t5 hp5
          obtain ⟨rfl, M5, rfl, hJ5⟩ := hp5
          rw [so_wr] at hJ5
          refine sv_aload_n dX3_writeNotices_100 rfl ?_
          refine sv_aload_n dX3_writeNotices_101 rfl ?_
          refine sm_get hn fg_X3_27 dX3_writeNotices_102 rfl ?_
          refine sv_iconst (nI 4) dX3_writeNotices_105 (by decide +kernel) ?_
          refine sv_iload_n dX3_writeNotices_106 rfl ?_
          refine sv_imulN dX3_writeNotices_107 ?_
          refine sv_iconst (nI 3) dX3_writeNotices_108 (by decide +kernel) ?_
          refine sv_iaddN dX3_writeNotices_109 ?_
          refine sm_b0ld hn dX3_writeNotices_110 (by omega) ?_
          refine sv_topI (y := ((A_n A).getD k (0, 0, 0, 0)).2.2.2) (hJ5.2.2.2.2.2.1.2.2 k hk 3 (by omega)) ?_
          refine sv_cvP _ (ct_writeFlags hn hJ5 (by rw [A_o_so]; simp only [List.length_append, List.length_cons, List.length_nil]; omega)) okX3_writeFlags kv_X3_531 (sx_rd_c (m_S_0 hn)) rfl dX3_writeNotices_111 rfl rfl (by decide) (Nat.le_of_ble_eq_true rfl) ?_
          intro v6 t6 hp6
          obtain ⟨rfl, M7, rfl, hJ7⟩ := hp6
          rw [so_wr] at hJ7
          have hw9 : w_n ((A_n A).getD k (0, 0, 0, 0)) = d_n ((A_n A).getD k (0, 0, 0, 0)).1.toNatClampNeg ++ (nI (if ((A_n A).getD k (0, 0, 0, 0)).2.1 = 0 then 45 else if ((A_n A).getD k (0, 0, 0, 0)).2.1 = 1 then 61 else 43) :: (d_n ((A_n A).getD k (0, 0, 0, 0)).2.2.1.toNatClampNeg ++ (nI 58 :: w_fs ((A_n A).getD k (0, 0, 0, 0)).2.2.2))) := by unfold w_n; rw [if_pos (c := ((A_n A).getD k (0, 0, 0, 0)).2.1 = 1) c88, if_pos (c := ((A_n A).getD k (0, 0, 0, 0)).2.1 = 1) c88]
          have hfin : (o_t (fun k => w_n ((A_n A).getD k (0, 0, 0, 0))) k) ++ (if 0 < (o_t (fun k => w_n ((A_n A).getD k (0, 0, 0, 0))) k).length then [nI 32] else []) ++ d_n ((A_n A).getD k (0, 0, 0, 0)).1.toNatClampNeg ++ [nI (if ((A_n A).getD k (0, 0, 0, 0)).2.1 = 0 then 45 else if ((A_n A).getD k (0, 0, 0, 0)).2.1 = 1 then 61 else 43)] ++ d_n ((A_n A).getD k (0, 0, 0, 0)).2.2.1.toNatClampNeg ++ [nI 58] ++ w_fs ((A_n A).getD k (0, 0, 0, 0)).2.2.2 = o_t (fun k => w_n ((A_n A).getD k (0, 0, 0, 0))) (k + 1) := by show _ = o_j _ (w_n _); rw [hw9]; unfold o_j; simp only [List.append_assoc, List.cons_append, List.nil_append]
          rw [hfin] at hJ7
          have hih := ih (k + 1) _ hJ7 (by omega) (by omega)
          refine sv_iincN dX3_writeNotices_114 rfl (by decide) ?_
          refine sv_goto (tgt := 12) dX3_writeNotices_117 (by decide) ?_
          exact sx_loc [some (.ref h), some (.int (nI (k + 1))), none] ⟨rfl, rfl, trivial⟩ hih
        · have hJ7 := hJ4
          have hw9 : w_n ((A_n A).getD k (0, 0, 0, 0)) = d_n ((A_n A).getD k (0, 0, 0, 0)).1.toNatClampNeg ++ (nI (if ((A_n A).getD k (0, 0, 0, 0)).2.1 = 0 then 45 else if ((A_n A).getD k (0, 0, 0, 0)).2.1 = 1 then 61 else 43) :: (d_n ((A_n A).getD k (0, 0, 0, 0)).2.2.1.toNatClampNeg ++ [])) := by unfold w_n; rw [if_neg (c := ((A_n A).getD k (0, 0, 0, 0)).2.1 = 1) c88, if_neg (c := ((A_n A).getD k (0, 0, 0, 0)).2.1 = 1) c88]
          have hfin : (o_t (fun k => w_n ((A_n A).getD k (0, 0, 0, 0))) k) ++ (if 0 < (o_t (fun k => w_n ((A_n A).getD k (0, 0, 0, 0))) k).length then [nI 32] else []) ++ d_n ((A_n A).getD k (0, 0, 0, 0)).1.toNatClampNeg ++ [nI (if ((A_n A).getD k (0, 0, 0, 0)).2.1 = 0 then 45 else if ((A_n A).getD k (0, 0, 0, 0)).2.1 = 1 then 61 else 43)] ++ d_n ((A_n A).getD k (0, 0, 0, 0)).2.2.1.toNatClampNeg = o_t (fun k => w_n ((A_n A).getD k (0, 0, 0, 0))) (k + 1) := by show _ = o_j _ (w_n _); rw [hw9]; unfold o_j; simp only [List.append_assoc, List.cons_append, List.nil_append, List.append_nil]
          rw [hfin] at hJ7
          refine sv_goto (tgt := 114) dX3_writeNotices_91 (by decide) ?_
          have hih := ih (k + 1) _ hJ7 (by omega) (by omega)
          refine sv_iincN dX3_writeNotices_114 rfl (by decide) ?_
          refine sv_goto (tgt := 12) dX3_writeNotices_117 (by decide) ?_
          exact sx_loc [some (.ref h), some (.int (nI (k + 1))), none] ⟨rfl, rfl, trivial⟩ hih
  refine sx_body (by decide) (Nat.le_of_ble_eq_true rfl) ?_
  refine sv_aload_n dX3_writeNotices_0 rfl ?_
  refine sv_iconst (nI 0) dX3_writeNotices_1 (by decide +kernel) ?_
  refine sm_put hn fp_X3_3 dX3_writeNotices_2 rfl (by decide) ?_
  rw [nI_0]
  have hJ0 := m_J_t hJ 0
  refine sv_aload_n dX3_writeNotices_5 rfl ?_
  refine sv_iconst (nI 0) dX3_writeNotices_6 (by decide +kernel) ?_
  refine sm_put hn fp_X3_519 dX3_writeNotices_7 rfl (by decide) ?_
  have hJ2 := m_J_o0 hJ0
  unfold sp_wnt
  refine sv_iconst (nI 0) dX3_writeNotices_10 (by decide +kernel) ?_
  refine sv_istore_n dX3_writeNotices_11 (by decide) ?_
  exact sx_loc [some (.ref h), some (.int (nI 0)), none] ⟨rfl, rfl, trivial⟩ (loop (A_st A 0) hnn hJ.2.2.2.2.2.1.1 1001 0 _ hJ2 (by omega) (by have := hJ.2.2.2.2.2.1.1; show (A_n A).length + 1 ≤ _; omega))
theorem ct_outputByte (hn : h + 11 < sx_n σ) (hJ : m_J M A) {x : Int32} : sx_Cp G 2 YX3_outputByte [.ref h, .int x] (m_S G h M σ) (fun v τ => v = some (.int ((sp_out A x).1)) ∧ ∃ M2, τ = m_S G h M2 σ ∧ m_J M2 ((sp_out A x).2)) := by
  refine sx_body (by decide) (Nat.le_of_ble_eq_true rfl) ?_
  have hc : M.1 27 = nI (A_o A).length := hJ.2.2.2.2.2.2.2.2.2.1.2.1
  have hn1 := hJ.2.2.2.2.2.2.2.2.2.1.1
  have hin : decide ((0 : Int64) ≤ x.toInt64 ∧ x.toInt64 ≤ (nI (A_o A).length - 1).toInt64) = i_in x (A_o A).length := decide_eq_decide.mpr (in_I (by omega))
  refine sv_aload_n dX3_outputByte_0 rfl ?_
  refine sv_iload_n dX3_outputByte_1 rfl ?_
  refine sv_i2l dX3_outputByte_2 ?_
  refine sv_lconst 0 dX3_outputByte_3 (by decide) ?_
  refine sv_aload_n dX3_outputByte_4 rfl ?_
  refine sm_get hn fg_X3_519 dX3_outputByte_5 rfl ?_
  refine sv_topI hc ?_
  refine sv_iconst (nI 1) dX3_outputByte_8 (by decide +kernel) ?_
  refine sv_isub dX3_outputByte_9 ?_
  refine sv_i2l dX3_outputByte_10 ?_
  refine sv_csR _ ct_in okX3_in ks_X3_70 dX3_outputByte_11 rfl rfl (by decide) (Nat.le_of_ble_eq_true rfl) ?_
  refine sv_topI (congrArg b_I hin) ?_
  refine sv_cvR _ (ct_passes (a := i_in x (A_o A).length) hn) okX3_passes kv_X3_266 (sx_rd_c (m_S_0 hn)) rfl dX3_outputByte_14 rfl rfl (by decide) (Nat.le_of_ble_eq_true rfl) ?_
  refine sv_if_eqB (tgt := 29) dX3_outputByte_17 (by decide) (fun c17 => ?_) (fun c17 => ?_)
  · unfold sp_out
    rw [g_1f c17]
    have hval : some (Value.int (nI 0)) = some (Value.int 0) := r_I nI_0
    refine sv_iconst (nI 0) dX3_outputByte_29 (by decide +kernel) ?_
    refine sv_iret rfl rfl dX3_outputByte_30 ?_
    first | exact ⟨_, rfl, hval, _, rfl, m_J_t hJ _⟩ | exact ⟨_, rfl, hval, _, rfl, hJ0⟩
  · have hsp : sp_out A x = ((A_o A).getD x.toNatClampNeg 0, A_st A 0) := by unfold sp_out; rw [g_1t c17]
    rw [hsp]
    rw [t_hr_1 c17]
    have hJ0 := m_J_t hJ 0
    obtain ⟨k, hk, rfl⟩ := i_in_of (by omega) c17
    have ek : (nI k).toNatClampNeg = k := nI_clamp (by omega)
    rw [ek]
    have hval : some (Value.int ((m_i M 0 0).2.2.2 6 k)) = some (Value.int ((A_o A).getD k 0)) := r_I (hJ.2.2.2.2.2.2.2.2.2.1.2.2 k hk)
    refine sv_aload_n dX3_outputByte_20 rfl ?_
    refine sm_get hn fg_X3_57 dX3_outputByte_21 rfl ?_
    refine sv_iload_n dX3_outputByte_24 rfl ?_
    refine sm_b6ld hn dX3_outputByte_25 (by omega) ?_
    refine sv_goto (tgt := 30) dX3_outputByte_26 (by decide) ?_
    refine sv_iret rfl rfl dX3_outputByte_30 ?_
    first | exact ⟨_, rfl, hval, _, rfl, m_J_t hJ _⟩ | exact ⟨_, rfl, hval, _, rfl, hJ0⟩
end MRY
