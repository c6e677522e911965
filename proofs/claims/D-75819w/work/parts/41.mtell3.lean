set_option maxRecDepth 100000
section MRH
variable {G : sx_G} {h : Nat} {M : m_M} {σ : sx_St} {V : a_V} {A : a_A} {r r' : Nat → Int64}
theorem v_pu_bx {s t : Nat} {m : a_M} (hs : s < V.2.2.length) : a_bx (v_pu V s m) t = a_bx V t := by
  unfold a_bx v_pu
  by_cases h : t = s
  · subst h; rw [a_us_s _ hs]; rfl
  · rw [a_us_t _ h]
theorem ct_tellNew (hn : h + 11 < sx_n σ) (hJ : m_J M A) {s b : Nat} (hs : s < (A_v A).2.2.length) (hbx : a_bx (A_v A) s = some b) (hl : (A_n A).length + 1 ≤ 1000) : sx_Cp G 4 YX3_tellNew [.ref h, .int (nI s)] (m_S G h M σ) (fun v τ => v = none ∧ ∃ M2, τ = m_S G h M2 σ ∧ m_J M2 (s_tw A s b)) := by
  have loop : ∀ q m n0 M A, m_J M A → s < (A_v A).2.2.length → a_bx (A_v A) s = some b → n0 ≤ 60 → m ≤ (a_ms (A_v A) b).length → (a_ms (A_v A) b).length + 1 ≤ m + q → (A_n A).length + 1 ≤ 1000 → sx_V G 4 YX3_tellNew 8 [some (.ref h), some (.int (nI s)), some (.int (nI n0)), some (.int (nI m))] [] (m_S G h M σ) (fun o τ => ∃ v, o = .inl v ∧ v = none ∧ ∃ M2, τ = m_S G h M2 σ ∧ m_J M2 (if n0 < (a_es (A_v (s_tn q A s b m)) s).length then s_no (s_tn q A s b m) s 2 (nI (a_es (A_v (s_tn q A s b m)) s).length) 0 else s_tn q A s b m)) := by
    intro q
    induction q with
    | zero => intro m n0 M A hJ hs hbx g0 g1 g2 g3; exact absurd g2 (by omega)
    | succ q ih =>
    intro m n0 M A hJ hs hbx g0 g1 g2 g3
    have hes := hJ.2.2.1.2.1 s hs
    have hs4 := hJ.2.2.1.1.2.1
    have hb := hJ.2.2.1.2.2.1 s b hs hbx
    have hb3 := hJ.2.2.1.1.1
    have hbl := hJ.2.2.1.1.2.2 b hb
    refine sv_iload_n dX3_tellNew_8 rfl ?_
    refine sv_aload_n dX3_tellNew_9 rfl ?_
    refine sv_aload_n dX3_tellNew_10 rfl ?_
    refine sv_iload_n dX3_tellNew_11 rfl ?_
    refine sv_cvR _ (ct_boxOf hn (m_J_e hJ) hJ.2.2.1 hs) okX3_boxOf kv_X3_87 (sx_rd_c (m_S_0 hn)) rfl dX3_tellNew_12 rfl rfl (by decide) (Nat.le_of_ble_eq_true rfl) ?_
    rw [hbx]
    refine sv_cvR _ (ct_manyIn hn (m_J_e hJ).1 hJ.2.2.1.1 hb) okX3_manyIn kv_X3_100 (sx_rd_c (m_S_0 hn)) rfl dX3_tellNew_15 rfl rfl (by decide) (Nat.le_of_ble_eq_true rfl) ?_
    refine sv_icmp_geN (tgt := 67) dX3_tellNew_18 (by decide) (by omega) (by omega) (fun c18 => ?_) (fun c18 => ?_)
    · have hsp : s_tn (q + 1) A s b m = A := by show (if _ then _ else A) = A; rw [if_neg (by omega)]
      rw [hsp]
      refine sv_aload_n dX3_tellNew_67 rfl ?_
      refine sv_iload_n dX3_tellNew_68 rfl ?_
      refine sv_cvR _ (ct_entries hn (m_J_e hJ) hJ.2.2.1 hs) okX3_entries kv_X3_97 (sx_rd_c (m_S_0 hn)) rfl dX3_tellNew_69 rfl rfl (by decide) (Nat.le_of_ble_eq_true rfl) ?_
      refine sv_iload_n dX3_tellNew_72 rfl ?_
      refine sv_icmp_leN (tgt := 88) dX3_tellNew_73 (by decide) (by omega) (by omega) (fun c73 => ?_) (fun c73 => ?_)
      · have hfin : (if n0 < (a_es (A_v (A)) s).length then s_no (A) s 2 (nI (a_es (A_v (A)) s).length) 0 else A) = A := if_neg (by omega)
        rw [hfin]
        have hJf := hJ
        refine sv_vret rfl dX3_tellNew_88 ?_
        exact ⟨_, rfl, rfl, _, rfl, hJf⟩
      · have hfin : (if n0 < (a_es (A_v (A)) s).length then s_no (A) s 2 (nI (a_es (A_v (A)) s).length) 0 else A) = s_no A s 2 (nI (a_es (A_v A) s).length) 0 := if_pos (by omega)
        rw [hfin]
        have hJf := m_J_nt (k := 2) (n := nI (a_es (A_v A) s).length) (f := 0) hJ hs (by omega) (by omega)
        refine sv_aload_n dX3_tellNew_76 rfl ?_
        refine sv_iload_n dX3_tellNew_77 rfl ?_
        refine sv_iconst (nI 2) dX3_tellNew_78 (by decide +kernel) ?_
        refine sv_aload_n dX3_tellNew_79 rfl ?_
        refine sv_iload_n dX3_tellNew_80 rfl ?_
        refine sv_cvR _ (ct_entries hn (m_J_e hJ) hJ.2.2.1 hs) okX3_entries kv_X3_97 (sx_rd_c (m_S_0 hn)) rfl dX3_tellNew_81 rfl rfl (by decide) (Nat.le_of_ble_eq_true rfl) ?_
        refine sv_iconst (nI 0) dX3_tellNew_84 (by decide +kernel) ?_
        refine sv_topI (y := 0) nI_0 ?_
        refine sv_cvR _ (ct_notes (k := 2) hn hJ hs (by omega) (by omega)) okX3_notes kv_X3_141 (sx_rd_c (m_S_0 hn)) rfl dX3_tellNew_85 rfl rfl (by decide) (Nat.le_of_ble_eq_true rfl) ?_
        refine sv_vret rfl dX3_tellNew_88 ?_
        exact ⟨_, rfl, rfl, _, rfl, hJf⟩
    · refine sv_aload_n dX3_tellNew_21 rfl ?_
      refine sv_iload_n dX3_tellNew_22 rfl ?_
      refine sv_cvR _ (ct_entries hn (m_J_e hJ) hJ.2.2.1 hs) okX3_entries kv_X3_97 (sx_rd_c (m_S_0 hn)) rfl dX3_tellNew_23 rfl rfl (by decide) (Nat.le_of_ble_eq_true rfl) ?_
      refine sv_bipush (nI 60) dX3_tellNew_26 (by decide +kernel) ?_
      refine sv_icmp_geN (tgt := 67) dX3_tellNew_28 (by decide) (by omega) (by omega) (fun c28 => ?_) (fun c28 => ?_)
      · have hsp : s_tn (q + 1) A s b m = A := by show (if _ then _ else A) = A; rw [if_neg (by omega)]
        rw [hsp]
        refine sv_aload_n dX3_tellNew_67 rfl ?_
        refine sv_iload_n dX3_tellNew_68 rfl ?_
        refine sv_cvR _ (ct_entries hn (m_J_e hJ) hJ.2.2.1 hs) okX3_entries kv_X3_97 (sx_rd_c (m_S_0 hn)) rfl dX3_tellNew_69 rfl rfl (by decide) (Nat.le_of_ble_eq_true rfl) ?_
        refine sv_iload_n dX3_tellNew_72 rfl ?_
        refine sv_icmp_leN (tgt := 88) dX3_tellNew_73 (by decide) (by omega) (by omega) (fun c73 => ?_) (fun c73 => ?_)
        · have hfin : (if n0 < (a_es (A_v (A)) s).length then s_no (A) s 2 (nI (a_es (A_v (A)) s).length) 0 else A) = A := if_neg (by omega)
          rw [hfin]
          have hJf := hJ
          refine sv_vret rfl dX3_tellNew_88 ?_
          exact ⟨_, rfl, rfl, _, rfl, hJf⟩
        · have hfin : (if n0 < (a_es (A_v (A)) s).length then s_no (A) s 2 (nI (a_es (A_v (A)) s).length) 0 else A) = s_no A s 2 (nI (a_es (A_v A) s).length) 0 := if_pos (by omega)
          rw [hfin]
          have hJf := m_J_nt (k := 2) (n := nI (a_es (A_v A) s).length) (f := 0) hJ hs (by omega) (by omega)
          refine sv_aload_n dX3_tellNew_76 rfl ?_
          refine sv_iload_n dX3_tellNew_77 rfl ?_
          refine sv_iconst (nI 2) dX3_tellNew_78 (by decide +kernel) ?_
          refine sv_aload_n dX3_tellNew_79 rfl ?_
          refine sv_iload_n dX3_tellNew_80 rfl ?_
          refine sv_cvR _ (ct_entries hn (m_J_e hJ) hJ.2.2.1 hs) okX3_entries kv_X3_97 (sx_rd_c (m_S_0 hn)) rfl dX3_tellNew_81 rfl rfl (by decide) (Nat.le_of_ble_eq_true rfl) ?_
          refine sv_iconst (nI 0) dX3_tellNew_84 (by decide +kernel) ?_
          refine sv_topI (y := 0) nI_0 ?_
          refine sv_cvR _ (ct_notes (k := 2) hn hJ hs (by omega) (by omega)) okX3_notes kv_X3_141 (sx_rd_c (m_S_0 hn)) rfl dX3_tellNew_85 rfl rfl (by decide) (Nat.le_of_ble_eq_true rfl) ?_
          refine sv_vret rfl dX3_tellNew_88 ?_
          exact ⟨_, rfl, rfl, _, rfl, hJf⟩
      · have hm : m < (a_ms (A_v A) b).length := by omega
        refine sv_aload_n dX3_tellNew_31 rfl ?_
        refine sv_aload_n dX3_tellNew_32 rfl ?_
        refine sv_iload_n dX3_tellNew_33 rfl ?_
        refine sv_cvR _ (ct_boxOf hn (m_J_e hJ) hJ.2.2.1 hs) okX3_boxOf kv_X3_87 (sx_rd_c (m_S_0 hn)) rfl dX3_tellNew_34 rfl rfl (by decide) (Nat.le_of_ble_eq_true rfl) ?_
        rw [hbx]
        refine sv_iload_n dX3_tellNew_37 rfl ?_
        refine sv_iconst (nI 0) dX3_tellNew_38 (by decide +kernel) ?_
        refine sv_cvR _ (ct_uid hn (m_J_e hJ).1 hJ.2.2.1.1 hb (by omega)) okX3_ofMessage kv_X3_103 (sx_rd_c (m_S_0 hn)) rfl dX3_tellNew_39 rfl rfl (by decide) (Nat.le_of_ble_eq_true rfl) ?_
        refine sv_aload_n dX3_tellNew_42 rfl ?_
        refine sv_iload_n dX3_tellNew_43 rfl ?_
        refine sv_csR _ ct_sessionAt okX3_sessionAt ks_X3_84 dX3_tellNew_44 rfl rfl (by decide) (Nat.le_of_ble_eq_true rfl) ?_
        refine sv_iconst (nI 5) dX3_tellNew_47 (by decide +kernel) ?_
        refine sv_iaddN dX3_tellNew_48 ?_
        refine sv_cvR _ (ct_get hn (by omega)) okX3_get kv_X3_62 (sx_rd_c (m_S_0 hn)) rfl dX3_tellNew_49 rfl rfl (by decide) (Nat.le_of_ble_eq_true rfl) ?_
        have hLL := (m_J_e hJ).2.2 s hs b hbx _ (Or.inl ⟨a_m (A_v A) b m, gd_mem hm, rfl⟩)
        refine sv_icmp_le (tgt := 61) dX3_tellNew_52 (by decide) (fun c52 => ?_) (fun c52 => ?_)
        · have hsp : s_tn (q + 1) A s b m = s_tn q A s b (m + 1) := by show (if _ then (if _ then _ else _) else A) = _; rw [if_pos (by omega), if_neg (fun z => absurd (hLL.mpr z) (Int32.not_lt.mpr c52))]
          rw [hsp]
          have hih := ih (m + 1) n0 M A hJ hs hbx g0 (by omega) (by omega) g3
          refine sv_iincN dX3_tellNew_61 rfl (by decide) ?_
          refine sv_goto (tgt := 8) dX3_tellNew_64 (by decide) ?_
          exact hih
        · have hsp : s_tn (q + 1) A s b m = s_tn q (A_sv A (v_pu (A_v A) s (a_m (A_v A) b m))) s b (m + 1) := by show (if _ then (if _ then _ else _) else A) = _; rw [if_pos (by omega), if_pos (hLL.mp (Int32.not_le.mp c52))]
          rw [hsp]
          have hih := ih (m + 1) n0 _ _ (m_J_pu (m := a_m (A_v A) b m) hJ hs (by omega) hbx) (Nat.lt_of_lt_of_eq hs (a_us_n _ _ _).symm) ((v_pu_bx hs).trans hbx) g0 (by show m + 1 ≤ (a_ms (A_v A) b).length; omega) (by show (a_ms (A_v A) b).length + 1 ≤ _; omega) g3
          refine sv_aload_n dX3_tellNew_55 rfl ?_
          refine sv_iload_n dX3_tellNew_56 rfl ?_
          refine sv_iload_n dX3_tellNew_57 rfl ?_
          refine sv_cvR _ (ct_putEntry (b := b) (m := m) (n := (a_es (A_v A) s).length) (u := (a_m (A_v A) b m).1) (f := (a_m (A_v A) b m).2.2) hn (by omega) (by omega) (by omega) (by omega) ((m_J_e hJ).2.1 s hs).2.2.2.2.1 (by have := ((m_J_e hJ).2.1 s hs).2.1; rw [show (a_s (A_v A) s).2.1 = some b from hbx] at this; exact this) (e_Vb_m (m_J_e hJ).1 hb hm).1 (e_Vb_m (m_J_e hJ).1 hb hm).2.2) okX3_putEntry kv_X3_149 (sx_rd_c (m_S_0 hn)) rfl dX3_tellNew_58 rfl rfl (by decide) (Nat.le_of_ble_eq_true rfl) ?_
          refine sv_iincN dX3_tellNew_61 rfl (by decide) ?_
          refine sv_goto (tgt := 8) dX3_tellNew_64 (by decide) ?_
          exact hih
  refine sx_body (by decide) (Nat.le_of_ble_eq_true rfl) ?_
  have hs4 := hJ.2.2.1.1.2.1
  refine sv_aload_n dX3_tellNew_0 rfl ?_
  refine sv_iload_n dX3_tellNew_1 rfl ?_
  refine sv_cvR _ (ct_entries hn (m_J_e hJ) hJ.2.2.1 hs) okX3_entries kv_X3_97 (sx_rd_c (m_S_0 hn)) rfl dX3_tellNew_2 rfl rfl (by decide) (Nat.le_of_ble_eq_true rfl) ?_
  refine sv_istore_n dX3_tellNew_5 (by decide) ?_
  refine sv_iconst (nI 0) dX3_tellNew_6 (by decide +kernel) ?_
  refine sv_istore_n dX3_tellNew_7 (by decide) ?_
  exact loop 31 0 _ M A hJ hs hbx (hJ.2.2.1.2.1 s hs) (Nat.zero_le _) (by have := hJ.2.2.1.1.2.2 b (hJ.2.2.1.2.2.1 s b hs hbx); omega) hl
theorem ct_tells_t (hn : h + 11 < sx_n σ) (hJ : m_J M A) {s : Nat} (hs : s < (A_v A).2.2.length) (hl : (A_n A).length + 123 ≤ 1000) : sx_Cp G 8 YX3_tells [.ref h, .int (nI s), .int (b_I true)] (m_S G h M σ) (fun v τ => v = some (.int (nI ((A_n (s_te A s true)).length - (A_n A).length))) ∧ ∃ M2, τ = m_S G h M2 σ ∧ m_J M2 (s_te A s true)) := by
  refine sx_body (by decide) (Nat.le_of_ble_eq_true rfl) ?_
  have hc : M.1 5 = nI (A_n A).length := hJ.2.2.2.2.2.1.2.1
  have hs4 := hJ.2.2.1.1.2.1
  refine sv_aload_n dX3_tells_0 rfl ?_
  refine sm_get hn fg_X3_138 dX3_tells_1 rfl ?_
  refine sv_topI hc ?_
  refine sv_istore_n dX3_tells_4 (by decide) ?_
  refine sv_aload_n dX3_tells_5 rfl ?_
  refine sv_iload_n dX3_tells_6 rfl ?_
  refine sv_cvR _ (ct_hasBox hn (m_J_e hJ) hJ.2.2.1 hs) okX3_hasBox kv_X3_126 (sx_rd_c (m_S_0 hn)) rfl dX3_tells_7 rfl rfl (by decide) (Nat.le_of_ble_eq_true rfl) ?_
  refine sv_if_neB (tgt := 15) dX3_tells_10 (by decide) (fun c10 => ?_) (fun c10 => ?_)
  · obtain ⟨b, hbx⟩ := Option.isSome_iff_exists.mp c10
    refine sv_iload_n dX3_tells_15 rfl ?_
    refine sv_if_eqB (tgt := 24) dX3_tells_16 (by decide) (fun c16 => ?_) (fun c16 => ?_)
    · exact absurd c16 (by decide)
    · refine sv_aload_n dX3_tells_19 rfl ?_
      refine sv_iload_n dX3_tells_20 rfl ?_
      refine sv_cvP _ (ct_tellGone hn hJ hs hbx (by omega)) okX3_tellGone kv_X3_152 (sx_rd_c (m_S_0 hn)) rfl dX3_tells_21 rfl rfl (by decide) (Nat.le_of_ble_eq_true rfl) ?_
      intro v1 t1 hp1
      obtain ⟨rfl, M1, rfl, hJ1⟩ := hp1
      have k1 := kp_tg 61 A s 0
      have hs1 : s < (A_v (s_tg 61 A s 0)).2.2.length := Nat.lt_of_lt_of_eq hs k1.2.2.1.symm
      have hbx1 : a_bx (A_v (s_tg 61 A s 0)) s = some b := ((k1.2.2.2.1 s).1).trans hbx
      have kl1 := k1.2.2.2.2.2.1
      refine sv_aload_n dX3_tells_24 rfl ?_
      refine sv_iload_n dX3_tells_25 rfl ?_
      refine sv_cvP _ (ct_tellFlags hn hJ1 hs1 hbx1 (by omega)) okX3_tellFlags kv_X3_156 (sx_rd_c (m_S_0 hn)) rfl dX3_tells_26 rfl rfl (by decide) (Nat.le_of_ble_eq_true rfl) ?_
      intro v2 t2 hp2
      obtain ⟨rfl, M2, rfl, hJ2⟩ := hp2
      have k2 := kp_tf 61 (s_tg 61 A s 0) s 0
      have hs2 := Nat.lt_of_lt_of_eq hs1 k2.2.2.1.symm
      have hbx2 := ((k2.2.2.2.1 s).1).trans hbx1
      have kl2 := k2.2.2.2.2.2.1
      refine sv_aload_n dX3_tells_29 rfl ?_
      refine sv_iload_n dX3_tells_30 rfl ?_
      refine sv_cvP _ (ct_tellNew hn hJ2 hs2 hbx2 (by omega)) okX3_tellNew kv_X3_159 (sx_rd_c (m_S_0 hn)) rfl dX3_tells_31 rfl rfl (by decide) (Nat.le_of_ble_eq_true rfl) ?_
      intro v3 t3 hp3
      obtain ⟨rfl, M3, rfl, hJ3⟩ := hp3
      have hte : s_te A s true = s_tw (s_tf 61 (s_tg 61 A s 0) s 0) s b := by unfold s_te; rw [hbx]; rfl
      rw [hte]
      refine sv_aload_n dX3_tells_34 rfl ?_
      refine sm_get hn fg_X3_138 dX3_tells_35 rfl ?_
      refine sv_topI hJ3.2.2.2.2.2.1.2.1 ?_
      have k3 := kp_te A s true
      rw [hte] at k3
      have kl3 := k3.2.2.2.2.1
      refine sv_iload_n dX3_tells_38 rfl ?_
      refine sv_isubN dX3_tells_39 (by omega) ?_
      refine sv_iret rfl rfl dX3_tells_40 ?_
      exact ⟨_, rfl, rfl, M3, rfl, hJ3⟩
  · have hz : a_bx (A_v A) s = none := Option.not_isSome_iff_eq_none.mp (by rw [c10]; decide)
    have hte : s_te A s true = A := by unfold s_te; rw [hz]
    rw [hte]
    refine sv_iconst (nI 0) dX3_tells_13 (by decide +kernel) ?_
    refine sv_iret rfl rfl dX3_tells_14 ?_
    exact ⟨_, rfl, r_I (by rw [Nat.sub_self]), M, rfl, hJ⟩
theorem ct_tells_f (hn : h + 11 < sx_n σ) (hJ : m_J M A) {s : Nat} (hs : s < (A_v A).2.2.length) (hl : (A_n A).length + 123 ≤ 1000) : sx_Cp G 8 YX3_tells [.ref h, .int (nI s), .int (b_I false)] (m_S G h M σ) (fun v τ => v = some (.int (nI ((A_n (s_te A s false)).length - (A_n A).length))) ∧ ∃ M2, τ = m_S G h M2 σ ∧ m_J M2 (s_te A s false)) := by
  refine sx_body (by decide) (Nat.le_of_ble_eq_true rfl) ?_
  have hc : M.1 5 = nI (A_n A).length := hJ.2.2.2.2.2.1.2.1
  have hs4 := hJ.2.2.1.1.2.1
  refine sv_aload_n dX3_tells_0 rfl ?_
  refine sm_get hn fg_X3_138 dX3_tells_1 rfl ?_
  refine sv_topI hc ?_
  refine sv_istore_n dX3_tells_4 (by decide) ?_
  refine sv_aload_n dX3_tells_5 rfl ?_
  refine sv_iload_n dX3_tells_6 rfl ?_
  refine sv_cvR _ (ct_hasBox hn (m_J_e hJ) hJ.2.2.1 hs) okX3_hasBox kv_X3_126 (sx_rd_c (m_S_0 hn)) rfl dX3_tells_7 rfl rfl (by decide) (Nat.le_of_ble_eq_true rfl) ?_
  refine sv_if_neB (tgt := 15) dX3_tells_10 (by decide) (fun c10 => ?_) (fun c10 => ?_)
  · obtain ⟨b, hbx⟩ := Option.isSome_iff_exists.mp c10
    refine sv_iload_n dX3_tells_15 rfl ?_
    refine sv_if_eqB (tgt := 24) dX3_tells_16 (by decide) (fun c16 => ?_) (fun c16 => ?_)
    · have k1 := kp_rf A 0
      have hJ1 := hJ
      obtain ⟨M1, hM1⟩ : ∃ M1, M1 = M := ⟨_, rfl⟩
      rw [← hM1] at hJ1 ⊢
      have hs1 : s < (A_v (A)).2.2.length := Nat.lt_of_lt_of_eq hs k1.2.2.1.symm
      have hbx1 : a_bx (A_v (A)) s = some b := ((k1.2.2.2.1 s).1).trans hbx
      have kl1 := k1.2.2.2.2.2.1
      refine sv_aload_n dX3_tells_24 rfl ?_
      refine sv_iload_n dX3_tells_25 rfl ?_
      refine sv_cvP _ (ct_tellFlags hn hJ1 hs1 hbx1 (by omega)) okX3_tellFlags kv_X3_156 (sx_rd_c (m_S_0 hn)) rfl dX3_tells_26 rfl rfl (by decide) (Nat.le_of_ble_eq_true rfl) ?_
      intro v2 t2 hp2
      obtain ⟨rfl, M2, rfl, hJ2⟩ := hp2
      have k2 := kp_tf 61 (A) s 0
      have hs2 := Nat.lt_of_lt_of_eq hs1 k2.2.2.1.symm
      have hbx2 := ((k2.2.2.2.1 s).1).trans hbx1
      have kl2 := k2.2.2.2.2.2.1
      refine sv_aload_n dX3_tells_29 rfl ?_
      refine sv_iload_n dX3_tells_30 rfl ?_
      refine sv_cvP _ (ct_tellNew hn hJ2 hs2 hbx2 (by omega)) okX3_tellNew kv_X3_159 (sx_rd_c (m_S_0 hn)) rfl dX3_tells_31 rfl rfl (by decide) (Nat.le_of_ble_eq_true rfl) ?_
      intro v3 t3 hp3
      obtain ⟨rfl, M3, rfl, hJ3⟩ := hp3
      have hte : s_te A s false = s_tw (s_tf 61 (A) s 0) s b := by unfold s_te; rw [hbx]; rfl
      rw [hte]
      refine sv_aload_n dX3_tells_34 rfl ?_
      refine sm_get hn fg_X3_138 dX3_tells_35 rfl ?_
      refine sv_topI hJ3.2.2.2.2.2.1.2.1 ?_
      have k3 := kp_te A s false
      rw [hte] at k3
      have kl3 := k3.2.2.2.2.1
      refine sv_iload_n dX3_tells_38 rfl ?_
      refine sv_isubN dX3_tells_39 (by omega) ?_
      refine sv_iret rfl rfl dX3_tells_40 ?_
      exact ⟨_, rfl, rfl, M3, rfl, hJ3⟩
    · exact absurd c16 (by decide)
  · have hz : a_bx (A_v A) s = none := Option.not_isSome_iff_eq_none.mp (by rw [c10]; decide)
    have hte : s_te A s false = A := by unfold s_te; rw [hz]
    rw [hte]
    refine sv_iconst (nI 0) dX3_tells_13 (by decide +kernel) ?_
    refine sv_iret rfl rfl dX3_tells_14 ?_
    exact ⟨_, rfl, r_I (by rw [Nat.sub_self]), M, rfl, hJ⟩
end MRH
