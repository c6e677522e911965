set_option maxRecDepth 100000
section MRO
variable {G : sx_G} {h : Nat} {M : m_M} {σ : sx_St} {V : a_V} {A : a_A} {r r' : Nat → Int64} {t : Nat}
/-- flags of messages with uids of a range -/
def f_u (f l md fl : Int32) (m : a_M) : a_M := if a_in m.1 f l then (m.1, m.2.1, a_fb m.2.2 md fl) else m
def c_u (f l md fl : Int32) (m : a_M) : Bool := a_in m.1 f l && !(decide (a_fb m.2.2 md fl = m.2.2))
def x_ust (A : a_A) (s : Nat) (f l md fl : Int32) : Int32 × a_A := (nI ((a_ms (A_v (s_be A s)) (a_bs (A_v (s_be A s)) s)).countP (c_u f l md fl)), s_en (A_sv (s_be A s) (v_bm (A_v (s_be A s)) (a_bs (A_v (s_be A s)) s) ((a_ms (A_v (s_be A s)) (a_bs (A_v (s_be A s)) s)).map (f_u f l md fl)))) s true)
def sp_ust (A : a_A) (s f l md fl : Int32) : Int32 × a_A := g_3 (i_in s (A_v A).2.2.length) (a_in md 0 2 && a_in fl 0 31) (a_chg (A_v A) s) A (x_ust (A_st A 0) s.toNatClampNeg f l md fl)
theorem set_mid (pre post : List a_M) (x y : a_M) : (pre ++ x :: post).set pre.length y = pre ++ y :: post := by
  rw [List.set_append_right _ _ (Nat.le_refl _), Nat.sub_self]
  rfl
theorem ct_uidStore (hn : h + 11 < sx_n σ) (hJ : m_J M A) {s f l md fl : Int32} : sx_Cp G 12 YX3_uidStore [.ref h, .int s, .int f, .int l, .int md, .int fl] (m_S G h M σ) (fun v τ => v = some (.int ((sp_ust A s f l md fl).1)) ∧ ∃ M2, τ = m_S G h M2 σ ∧ m_J M2 ((sp_ust A s f l md fl).2)) := by
  have loop : ∀ (s b : Nat) q pre post n M A, m_J M A → s < (A_v A).2.2.length → b < (A_v A).2.1.length → (A_n A).length + 700 ≤ 1000 → a_ms (A_v A) b = pre ++ post → n + post.length ≤ 30 → post.length + 1 ≤ q → sx_V G 12 YX3_uidStore 58 [some (.ref h), some (.int (nI s)), some (.int f), some (.int l), some (.int md), some (.int fl), some (.int (nI b)), some (.int (nI n)), some (.int (nI pre.length))] [] (m_S G h M σ) (fun o τ => ∃ v, o = .inl v ∧ v = some (.int (nI (n + post.countP (c_u f l md fl)))) ∧ ∃ M2, τ = m_S G h M2 σ ∧ m_J M2 (s_en (A_sv A (v_bm (A_v A) b (pre ++ post.map (f_u f l md fl)))) s true)) := by
    intro s b q
    induction q with
    | zero => intro pre post n M A hJ hs hb hnl hm g1 g2; exact absurd g2 (by omega)
    | succ q ih =>
    intro pre post n M A hJ hs hb hnl hm g1 g2
    have hb3 := hJ.2.2.1.1.1
    have hl := hJ.2.2.1.1.2.2 b hb
    have hll : pre.length + post.length = (a_ms (A_v A) b).length := by rw [hm, List.length_append]
    refine sv_iload dX3_uidStore_58 rfl ?_
    refine sv_aload_n dX3_uidStore_60 rfl ?_
    refine sv_iload dX3_uidStore_61 rfl ?_
    refine sv_cvR _ (ct_manyIn hn (m_J_e hJ).1 hJ.2.2.1.1 hb) okX3_manyIn kv_X3_100 (sx_rd_c (m_S_0 hn)) rfl dX3_uidStore_63 rfl rfl (by decide) (Nat.le_of_ble_eq_true rfl) ?_
    refine sv_icmp_geN (tgt := 120) dX3_uidStore_66 (by decide) (by omega) (by omega) (fun c66 => ?_) (fun c66 => ?_)
    · have hz : post = [] := List.length_eq_zero_iff.mp (by omega)
      subst hz
      refine sv_aload_n dX3_uidStore_120 rfl ?_
      refine sv_iload_n dX3_uidStore_121 rfl ?_
      refine sv_iconst (nI 1) dX3_uidStore_122 (by decide +kernel) ?_
      refine sv_topI (y := b_I true) rfl ?_
      refine sv_iload dX3_uidStore_123 rfl ?_
      refine sv_cvP _ (ct_done_t hn hJ hs hnl) okX3_done kv_X3_214 (sx_rd_c (m_S_0 hn)) rfl dX3_uidStore_125 rfl rfl (by decide) (Nat.le_of_ble_eq_true rfl) ?_
      intro v3 t3 hp3
      obtain ⟨rfl, M3, rfl, hJ3⟩ := hp3
      refine sv_iret rfl rfl dX3_uidStore_128 ?_
      exact ⟨_, rfl, rfl, M3, rfl, by rw [List.map_nil, ← hm, v_bm_id hb]; exact hJ3⟩
    · have hlt : pre.length < (a_ms (A_v A) b).length := by omega
      obtain ⟨x, rest, rfl⟩ : ∃ x rest, post = x :: rest := List.exists_cons_of_length_pos (by omega)
      have hx : a_m (A_v A) b pre.length = x := by show (a_ms (A_v A) b).getD _ _ = x; rw [hm, gd_mid]
      rw [List.length_cons] at g1 g2
      refine sv_aload_n dX3_uidStore_69 rfl ?_
      refine sv_iload dX3_uidStore_70 rfl ?_
      refine sv_iload dX3_uidStore_72 rfl ?_
      refine sv_iconst (nI 0) dX3_uidStore_74 (by decide +kernel) ?_
      refine sv_cvR _ (ct_uid hn (m_J_e hJ).1 hJ.2.2.1.1 hb hlt) okX3_ofMessage kv_X3_103 (sx_rd_c (m_S_0 hn)) rfl dX3_uidStore_75 rfl rfl (by decide) (Nat.le_of_ble_eq_true rfl) ?_
      refine sv_i2l dX3_uidStore_78 ?_
      refine sv_iload_n dX3_uidStore_79 rfl ?_
      refine sv_i2l dX3_uidStore_80 ?_
      refine sv_iload_n dX3_uidStore_81 rfl ?_
      refine sv_i2l dX3_uidStore_82 ?_
      refine sv_csR _ ct_in okX3_in ks_X3_70 dX3_uidStore_83 rfl rfl (by decide) (Nat.le_of_ble_eq_true rfl) ?_
      refine sv_if_eqB (tgt := 114) dX3_uidStore_86 (by decide) (fun c86 => ?_) (fun c86 => ?_)
      · rw [hx] at c86
        have hfx : f_u f l md fl x = x := if_neg (by rw [show a_in x.1 f l = false from c86]; decide)
        have hcx : c_u f l md fl x = false := by unfold c_u; rw [show a_in x.1 f l = false from c86]; rfl
        have hi2 := ih (pre ++ [x]) rest n M A hJ hs hb hnl (by rw [hm, List.append_assoc]; rfl) (by omega) (by omega)
        rw [List.length_append, List.length_singleton, List.append_assoc, List.singleton_append] at hi2
        rw [List.map_cons, hfx, List.countP_cons_of_neg (by rw [hcx]; decide)]
        refine sv_iincN dX3_uidStore_114 rfl (by decide) ?_
        refine sv_goto (tgt := 58) dX3_uidStore_117 (by decide) ?_
        exact hi2
      · refine sv_iload dX3_uidStore_89 rfl ?_
        refine sv_aload_n dX3_uidStore_91 rfl ?_
        refine sv_iload dX3_uidStore_92 rfl ?_
        refine sv_iload dX3_uidStore_94 rfl ?_
        refine sv_iload dX3_uidStore_96 rfl ?_
        refine sv_iload dX3_uidStore_98 rfl ?_
        refine sv_cvR _ (ct_sets hn hJ hb hlt) okX3_sets kv_X3_234 (sx_rd_c (m_S_0 hn)) rfl dX3_uidStore_100 rfl rfl (by decide) (Nat.le_of_ble_eq_true rfl) ?_
        have he3 := e_V_pf (f := a_fb (a_m (A_v A) b pre.length).2.2 md fl) hJ.2.2.1 hb hlt hJ.2.1
        have hJ3 := m_J_a hJ he3 (w_V_pf hJ.2.2.1 hb)
        rw [show v_fl (A_v A) b pre.length (a_fb (a_m (A_v A) b pre.length).2.2 md fl) = v_bm (A_v A) b (pre ++ [f_u f l md fl x] ++ rest) from by unfold v_fl; rw [hx, hm, set_mid, show f_u f l md fl x = (x.1, x.2.1, a_fb x.2.2 md fl) from if_pos (by rw [hx] at c86; exact c86), List.append_assoc]; rfl] at hJ3
        have hih := fun n hn9 => ih (pre ++ [f_u f l md fl x]) rest n _ _ hJ3 hs (by show b < (v_bm (A_v A) b _).2.1.length; rw [v_bm_n]; exact hb) hnl (v_bm_ms hb) hn9 (by omega)
        have hbm : ∀ L, v_bm (A_v (A_sv A (v_bm (A_v A) b (pre ++ [f_u f l md fl x] ++ rest)))) b L = v_bm (A_v A) b L := fun L => v_bm_bm hb
        simp only [hbm] at hih
        simp only [List.append_assoc, List.singleton_append] at hih
        rw [List.length_append, List.length_singleton] at hih
        rw [List.map_cons]
        rw [hx] at c86
        refine sv_if_eqB (tgt := 110) dX3_uidStore_103 (by decide) (fun c103 => ?_) (fun c103 => ?_)
        · rw [hx] at c103
          have hcx : c_u f l md fl x = false := by unfold c_u; rw [c103, Bool.and_false]
          rw [List.countP_cons_of_neg (by rw [hcx]; decide)]
          have hi2 := hih n (by omega)
          refine sv_iconst (nI 0) dX3_uidStore_110 (by decide +kernel) ?_
          refine sv_iaddN dX3_uidStore_111 ?_
          refine sv_istore dX3_uidStore_112 (by decide) ?_
          refine sv_iincN dX3_uidStore_114 rfl (by decide) ?_
          refine sv_goto (tgt := 58) dX3_uidStore_117 (by decide) ?_
          exact hi2
        · rw [hx] at c103
          have hcx : c_u f l md fl x = true := by unfold c_u; rw [c103, show a_in x.1 f l = true from c86]; rfl
          rw [List.countP_cons_of_pos hcx, show n + (rest.countP (c_u f l md fl) + 1) = n + 1 + rest.countP (c_u f l md fl) by omega]
          have hi2 := hih (n + 1) (by omega)
          refine sv_iconst (nI 1) dX3_uidStore_106 (by decide +kernel) ?_
          refine sv_goto (tgt := 111) dX3_uidStore_107 (by decide) ?_
          refine sv_iaddN dX3_uidStore_111 ?_
          refine sv_istore dX3_uidStore_112 (by decide) ?_
          refine sv_iincN dX3_uidStore_114 rfl (by decide) ?_
          refine sv_goto (tgt := 58) dX3_uidStore_117 (by decide) ?_
          exact hi2
  refine sx_body (by decide) (Nat.le_of_ble_eq_true rfl) ?_
  refine sv_aload_n dX3_uidStore_0 rfl ?_
  refine sv_aload_n dX3_uidStore_1 rfl ?_
  refine sv_iload_n dX3_uidStore_2 rfl ?_
  refine sv_cvR _ (ct_isSession hn (m_J_e hJ).1 hJ.2.2.1.1) okX3_isSession kv_X3_93 (sx_rd_c (m_S_0 hn)) rfl dX3_uidStore_3 rfl rfl (by decide) (Nat.le_of_ble_eq_true rfl) ?_
  refine sv_iload dX3_uidStore_6 rfl ?_
  refine sv_csR _ ct_isMode okX3_isMode ks_X3_225 dX3_uidStore_8 rfl rfl (by decide) (Nat.le_of_ble_eq_true rfl) ?_
  refine sv_if_eqB (tgt := 26) dX3_uidStore_11 (by decide) (fun c11 => ?_) (fun c11 => ?_)
  · have hjn : nI 0 = b_I (a_in md 0 2 && a_in fl 0 31) := by rw [c11]; rfl
    refine sv_iconst (nI 0) dX3_uidStore_26 (by decide +kernel) ?_
    refine sv_topI hjn ?_
    refine sv_aload_n dX3_uidStore_27 rfl ?_
    refine sv_iload_n dX3_uidStore_28 rfl ?_
    refine sv_cvR _ (ct_canChange hn (m_J_e hJ) hJ.2.2.1) okX3_canChange kv_X3_231 (sx_rd_c (m_S_0 hn)) rfl dX3_uidStore_29 rfl rfl (by decide) (Nat.le_of_ble_eq_true rfl) ?_
    refine sv_cvR _ (ct_passes3 hn) okX3_passes3 kv_X3_7 (sx_rd_c (m_S_0 hn)) rfl dX3_uidStore_32 rfl rfl (by decide) (Nat.le_of_ble_eq_true rfl) ?_
    refine sv_if_neB (tgt := 40) dX3_uidStore_35 (by decide) (fun c35 => ?_) (fun c35 => ?_)
    · have hA := c35
      simp only [Bool.and_eq_true] at hA
      obtain ⟨j, b, hj, rfl, ej, hbx, hb, hid, hrd⟩ := a_chg_of hJ.2.2.1 hA.2.2
      have hsp : sp_ust A (nI j) f l md fl = x_ust (A_st A 0) j f l md fl := by unfold sp_ust; rw [g_3t c35, ej]
      rw [hsp]
      rw [t_hr_3 c35]
      have hJ0 := m_J_t hJ 0
      have hs4 := hJ.2.2.1.1.2.1
      have hb3 := hJ.2.2.1.1.1
      have hbl := hJ.2.2.1.1.2.2 b hb
      refine sv_aload_n dX3_uidStore_40 rfl ?_
      refine sv_iload_n dX3_uidStore_41 rfl ?_
      refine sv_cvP _ (ct_begins hn hJ0 hj) okX3_begins kv_X3_196 (sx_rd_c (m_S_0 hn)) rfl dX3_uidStore_42 rfl rfl (by decide) (Nat.le_of_ble_eq_true rfl) ?_
      intro v1 t1 hp1
      obtain ⟨rfl, M1, rfl, hJ1⟩ := hp1
      have hj1 : j < (A_v (s_be (A_st A 0) j)).2.2.length := by rw [be_len]; exact hj
      have hbx1 : a_bx (A_v (s_be (A_st A 0) j)) j = some b := (be_bx _ _ hj).trans hbx
      have hbs := a_bs_e hbx1
      refine sv_aload_n dX3_uidStore_45 rfl ?_
      refine sv_iload_n dX3_uidStore_46 rfl ?_
      refine sv_cvR _ (ct_boxOf hn (m_J_e hJ1) hJ1.2.2.1 hj1) okX3_boxOf kv_X3_87 (sx_rd_c (m_S_0 hn)) rfl dX3_uidStore_47 rfl rfl (by decide) (Nat.le_of_ble_eq_true rfl) ?_
      rw [hbx1]
      show sx_V G 12 _ _ _ (.int (nI b) :: _) _ _
      refine sv_istore dX3_uidStore_50 (by decide) ?_
      refine sv_iconst (nI 0) dX3_uidStore_52 (by decide +kernel) ?_
      refine sv_istore dX3_uidStore_53 (by decide) ?_
      refine sv_iconst (nI 0) dX3_uidStore_55 (by decide +kernel) ?_
      refine sv_istore dX3_uidStore_56 (by decide) ?_
      have hlo := loop j b 31 [] (a_ms (A_v A) b) 0 M1 _ hJ1 hj1 hb (by show 0 + 700 ≤ 1000; omega) rfl (by omega) (by omega)
      rw [Nat.zero_add, List.nil_append] at hlo
      unfold x_ust
      rw [hbs]
      exact hlo
    · unfold sp_ust
      rw [g_3f c35]
      refine sv_iconst (nI 0) dX3_uidStore_38 (by decide +kernel) ?_
      refine sv_iret rfl rfl dX3_uidStore_39 ?_
      exact ⟨_, rfl, r_I nI_0, _, rfl, m_J_t hJ _⟩
  · refine sv_iload dX3_uidStore_14 rfl ?_
    refine sv_csR _ ct_isSet okX3_isSet ks_X3_228 dX3_uidStore_16 rfl rfl (by decide) (Nat.le_of_ble_eq_true rfl) ?_
    refine sv_if_eqB (tgt := 26) dX3_uidStore_19 (by decide) (fun c19 => ?_) (fun c19 => ?_)
    · have hjn : nI 0 = b_I (a_in md 0 2 && a_in fl 0 31) := by rw [c19, Bool.and_false]; rfl
      refine sv_iconst (nI 0) dX3_uidStore_26 (by decide +kernel) ?_
      refine sv_topI hjn ?_
      refine sv_aload_n dX3_uidStore_27 rfl ?_
      refine sv_iload_n dX3_uidStore_28 rfl ?_
      refine sv_cvR _ (ct_canChange hn (m_J_e hJ) hJ.2.2.1) okX3_canChange kv_X3_231 (sx_rd_c (m_S_0 hn)) rfl dX3_uidStore_29 rfl rfl (by decide) (Nat.le_of_ble_eq_true rfl) ?_
      refine sv_cvR _ (ct_passes3 hn) okX3_passes3 kv_X3_7 (sx_rd_c (m_S_0 hn)) rfl dX3_uidStore_32 rfl rfl (by decide) (Nat.le_of_ble_eq_true rfl) ?_
      refine sv_if_neB (tgt := 40) dX3_uidStore_35 (by decide) (fun c35 => ?_) (fun c35 => ?_)
      · have hA := c35
        simp only [Bool.and_eq_true] at hA
        obtain ⟨j, b, hj, rfl, ej, hbx, hb, hid, hrd⟩ := a_chg_of hJ.2.2.1 hA.2.2
        have hsp : sp_ust A (nI j) f l md fl = x_ust (A_st A 0) j f l md fl := by unfold sp_ust; rw [g_3t c35, ej]
        rw [hsp]
        rw [t_hr_3 c35]
        have hJ0 := m_J_t hJ 0
        have hs4 := hJ.2.2.1.1.2.1
        have hb3 := hJ.2.2.1.1.1
        have hbl := hJ.2.2.1.1.2.2 b hb
        refine sv_aload_n dX3_uidStore_40 rfl ?_
        refine sv_iload_n dX3_uidStore_41 rfl ?_
        refine sv_cvP _ (ct_begins hn hJ0 hj) okX3_begins kv_X3_196 (sx_rd_c (m_S_0 hn)) rfl dX3_uidStore_42 rfl rfl (by decide) (Nat.le_of_ble_eq_true rfl) ?_
        intro v1 t1 hp1
        obtain ⟨rfl, M1, rfl, hJ1⟩ := hp1
        have hj1 : j < (A_v (s_be (A_st A 0) j)).2.2.length := by rw [be_len]; exact hj
        have hbx1 : a_bx (A_v (s_be (A_st A 0) j)) j = some b := (be_bx _ _ hj).trans hbx
        have hbs := a_bs_e hbx1
        refine sv_aload_n dX3_uidStore_45 rfl ?_
        refine sv_iload_n dX3_uidStore_46 rfl ?_
        refine sv_cvR _ (ct_boxOf hn (m_J_e hJ1) hJ1.2.2.1 hj1) okX3_boxOf kv_X3_87 (sx_rd_c (m_S_0 hn)) rfl dX3_uidStore_47 rfl rfl (by decide) (Nat.le_of_ble_eq_true rfl) ?_
        rw [hbx1]
        show sx_V G 12 _ _ _ (.int (nI b) :: _) _ _
        refine sv_istore dX3_uidStore_50 (by decide) ?_
        refine sv_iconst (nI 0) dX3_uidStore_52 (by decide +kernel) ?_
        refine sv_istore dX3_uidStore_53 (by decide) ?_
        refine sv_iconst (nI 0) dX3_uidStore_55 (by decide +kernel) ?_
        refine sv_istore dX3_uidStore_56 (by decide) ?_
        have hlo := loop j b 31 [] (a_ms (A_v A) b) 0 M1 _ hJ1 hj1 hb (by show 0 + 700 ≤ 1000; omega) rfl (by omega) (by omega)
        rw [Nat.zero_add, List.nil_append] at hlo
        unfold x_ust
        rw [hbs]
        exact hlo
      · unfold sp_ust
        rw [g_3f c35]
        refine sv_iconst (nI 0) dX3_uidStore_38 (by decide +kernel) ?_
        refine sv_iret rfl rfl dX3_uidStore_39 ?_
        exact ⟨_, rfl, r_I nI_0, _, rfl, m_J_t hJ _⟩
    · have hjn : nI 1 = b_I (a_in md 0 2 && a_in fl 0 31) := by rw [c11, c19]; rfl
      refine sv_iconst (nI 1) dX3_uidStore_22 (by decide +kernel) ?_
      refine sv_goto (tgt := 27) dX3_uidStore_23 (by decide) ?_
      refine sv_topI hjn ?_
      refine sv_aload_n dX3_uidStore_27 rfl ?_
      refine sv_iload_n dX3_uidStore_28 rfl ?_
      refine sv_cvR _ (ct_canChange hn (m_J_e hJ) hJ.2.2.1) okX3_canChange kv_X3_231 (sx_rd_c (m_S_0 hn)) rfl dX3_uidStore_29 rfl rfl (by decide) (Nat.le_of_ble_eq_true rfl) ?_
      refine sv_cvR _ (ct_passes3 hn) okX3_passes3 kv_X3_7 (sx_rd_c (m_S_0 hn)) rfl dX3_uidStore_32 rfl rfl (by decide) (Nat.le_of_ble_eq_true rfl) ?_
      refine sv_if_neB (tgt := 40) dX3_uidStore_35 (by decide) (fun c35 => ?_) (fun c35 => ?_)
      · have hA := c35
        simp only [Bool.and_eq_true] at hA
        obtain ⟨j, b, hj, rfl, ej, hbx, hb, hid, hrd⟩ := a_chg_of hJ.2.2.1 hA.2.2
        have hsp : sp_ust A (nI j) f l md fl = x_ust (A_st A 0) j f l md fl := by unfold sp_ust; rw [g_3t c35, ej]
        rw [hsp]
        rw [t_hr_3 c35]
        have hJ0 := m_J_t hJ 0
        have hs4 := hJ.2.2.1.1.2.1
        have hb3 := hJ.2.2.1.1.1
        have hbl := hJ.2.2.1.1.2.2 b hb
        refine sv_aload_n dX3_uidStore_40 rfl ?_
        refine sv_iload_n dX3_uidStore_41 rfl ?_
        refine sv_cvP _ (ct_begins hn hJ0 hj) okX3_begins kv_X3_196 (sx_rd_c (m_S_0 hn)) rfl dX3_uidStore_42 rfl rfl (by decide) (Nat.le_of_ble_eq_true rfl) ?_
        intro v1 t1 hp1
        obtain ⟨rfl, M1, rfl, hJ1⟩ := hp1
        have hj1 : j < (A_v (s_be (A_st A 0) j)).2.2.length := by rw [be_len]; exact hj
        have hbx1 : a_bx (A_v (s_be (A_st A 0) j)) j = some b := (be_bx _ _ hj).trans hbx
        have hbs := a_bs_e hbx1
        refine sv_aload_n dX3_uidStore_45 rfl ?_
        refine sv_iload_n dX3_uidStore_46 rfl ?_
        refine sv_cvR _ (ct_boxOf hn (m_J_e hJ1) hJ1.2.2.1 hj1) okX3_boxOf kv_X3_87 (sx_rd_c (m_S_0 hn)) rfl dX3_uidStore_47 rfl rfl (by decide) (Nat.le_of_ble_eq_true rfl) ?_
        rw [hbx1]
        show sx_V G 12 _ _ _ (.int (nI b) :: _) _ _
        refine sv_istore dX3_uidStore_50 (by decide) ?_
        refine sv_iconst (nI 0) dX3_uidStore_52 (by decide +kernel) ?_
        refine sv_istore dX3_uidStore_53 (by decide) ?_
        refine sv_iconst (nI 0) dX3_uidStore_55 (by decide +kernel) ?_
        refine sv_istore dX3_uidStore_56 (by decide) ?_
        have hlo := loop j b 31 [] (a_ms (A_v A) b) 0 M1 _ hJ1 hj1 hb (by show 0 + 700 ≤ 1000; omega) rfl (by omega) (by omega)
        rw [Nat.zero_add, List.nil_append] at hlo
        unfold x_ust
        rw [hbs]
        exact hlo
      · unfold sp_ust
        rw [g_3f c35]
        refine sv_iconst (nI 0) dX3_uidStore_38 (by decide +kernel) ?_
        refine sv_iret rfl rfl dX3_uidStore_39 ?_
        exact ⟨_, rfl, r_I nI_0, _, rfl, m_J_t hJ _⟩
def z_s (V : a_V) (s f : Nat) : Nat → Int32
  | 0 => 0
  | n + 1 => z_s V s f n + (match a_mo V s (f + n) with
    | some m => (a_m V (a_bs V s) m).2.1
    | none => 0)
def g_w (w : Bool) (x : Int32) : Int32 := if w then x ||| 1 else x
def v_fr (V : a_V) (s b f k : Nat) (g : Int32 → Int32) : a_V := v_bm V b ((a_ms V b).map (f_m (a_es V s) f k g))
def x_fet (A : a_A) (s f k : Nat) (pk : Bool) : Int32 × a_A := (z_s (A_v (s_be A s)) s f (k - f), s_en (A_sv (s_be A s) (v_ac (v_fr (A_v (s_be A s)) s (a_bs (A_v (s_be A s)) s) f k (g_w (!pk && !(a_rd (A_v (s_be A s)) s)))) s 4 (z_s (A_v (s_be A s)) s f (k - f)))) s false)
def a_are (V : a_V) (s k l : Int32) : Bool := i_in s V.2.2.length && (i_en k (a_es V s.toNatClampNeg).length && i_en l (a_es V s.toNatClampNeg).length)
def sp_fet (A : a_A) (s k l : Int32) (pk : Bool) : Int32 × a_A := g_3 (a_are (A_v A) s k l) (decide (k ≤ l)) (a_can (A_v A) s) A (x_fet (A_st A 0) s.toNatClampNeg (k.toNatClampNeg - 1) l.toNatClampNeg pk)
theorem a_are_of (hw : w_V V) {s k l : Int32} (h : a_are V s k l = true) : ∃ j f t, j < V.2.2.length ∧ f < (a_es V j).length ∧ t < (a_es V j).length ∧ s = nI j ∧ k = nI (f + 1) ∧ l = nI (t + 1) ∧ s.toNatClampNeg = j ∧ k.toNatClampNeg = f + 1 ∧ l.toNatClampNeg = t + 1 := by
  unfold a_are at h
  simp only [Bool.and_eq_true] at h
  have hw2 := hw.1.2.1
  obtain ⟨j, hj, rfl⟩ := i_in_of (by omega) h.1
  have ej : (nI j).toNatClampNeg = j := nI_clamp (by omega)
  rw [ej] at h
  have hl := hw.2.1 j hj
  obtain ⟨f, hf, rfl⟩ := i_en_of (by omega) h.2.1
  obtain ⟨t, ht, rfl⟩ := i_en_of (by omega) h.2.2
  exact ⟨j, f, t, hj, hf, ht, rfl, rfl, rfl, ej, nI_clamp (by omega), nI_clamp (by omega)⟩
theorem a_mo_fr {s b f k : Nat} {g : Int32 → Int32} (hbx : a_bx V s = some b) (hb : b < V.2.1.length) (i : Nat) : a_mo (v_fr V s b f k g) s i = a_mo V s i := by
  unfold a_mo
  rw [show a_bx (v_fr V s b f k g) s = some b from hbx, hbx]
  show a_find (a_ms (v_bm V b _) b) (a_e V s i).1 = a_find (a_ms V b) (a_e V s i).1
  rw [v_bm_ms hb, a_find_map (fun m => f_m_1 m)]
theorem a_mo_e {s b i : Nat} (hbx : a_bx V s = some b) : a_mo V s i = a_find (a_ms V b) ((a_es V s).getD i (0, 0)).1 := by
  unfold a_mo
  rw [hbx]
  rfl
theorem f_m_id {ms : List a_M} {es : List a_E} {f k : Nat} {g : Int32 → Int32} (hg : ∀ x, g x = x) : ms.map (f_m es f k g) = ms := by
  rw [show ms.map (f_m es f k g) = ms.map id from List.map_congr_left (fun m _ => by unfold f_m; rw [hg]; split <;> rfl), List.map_id]
theorem be_o (ho : o_V t (A_v A)) (s : Nat) (hs : s < (A_v A).2.2.length) : o_V t (A_v (s_be A s)) := o_V_us ho (ho.2.2 s hs)
theorem ct_fetch (hn : h + 11 < sx_n σ) (hJ : m_J M A) (ho : o_V t (A_v A)) {s k l : Int32} {pk : Bool} : sx_Cp G 12 YX3_fetch [.ref h, .int s, .int k, .int l, .int (b_I pk)] (m_S G h M σ) (fun v τ => v = some (.int ((sp_fet A s k l pk).1)) ∧ ∃ M2, τ = m_S G h M2 σ ∧ m_J M2 ((sp_fet A s k l pk).2)) := by
  have loop : ∀ (s b f t u0 : Nat) A, o_V u0 (A_v A) → s < (A_v A).2.2.length → a_bx (A_v A) s = some b → t ≤ (a_es (A_v A) s).length → (A_n A).length + 700 ≤ 1000 → ∀ q i M, m_J M (A_sv A (v_fr (A_v A) s b f i (g_w (!pk && !(a_rd (A_v A) s))))) → f ≤ i → i ≤ t → t + 1 ≤ i + q → sx_V G 12 YX3_fetch 49 [some (.ref h), some (.int (nI s)), some (.int (nI (f + 1))), some (.int (nI t)), some (.int (b_I pk)), some (.int (nI b)), some (.int (z_s (A_v A) s f (i - f))), some (.int (nI (i + 1))), none] [] (m_S G h M σ) (fun o τ => ∃ v, o = .inl v ∧ v = some (.int (z_s (A_v A) s f (t - f))) ∧ ∃ M2, τ = m_S G h M2 σ ∧ m_J M2 (s_en (A_sv A (v_ac (v_fr (A_v A) s b f t (g_w (!pk && !(a_rd (A_v A) s)))) s 4 (z_s (A_v A) s f (t - f)))) s false)) := by
    intro s b f t u0 A ho hs hbx ht hnl q
    induction q with
    | zero => intro i M hJ g1 g2 g3; exact absurd g3 (by omega)
    | succ q ih =>
    intro i M hJ g1 g2 g3
    have hs4 : (A_v A).2.2.length ≤ 4 := hJ.2.2.1.1.2.1
    have hb : b < (A_v A).2.1.length := Nat.lt_of_lt_of_eq (hJ.2.2.1.2.2.1 s b hs hbx) v_bm_n
    have hbV : b < (A_v (A_sv A (v_fr (A_v A) s b f i (g_w (!pk && !(a_rd (A_v A) s)))))).2.1.length := Nat.lt_of_lt_of_eq hb v_bm_n.symm
    have hb3 := hJ.2.2.1.1.1
    have hl := hJ.2.2.1.1.2.2 b hbV
    have hel : (a_es (A_v A) s).length ≤ 60 := hJ.2.2.1.2.1 s hs
    have hE : E_lt (a_es (A_v A) s) := (ho.2.2 s hs).1.2.1
    have hL : L_lt (a_ms (A_v A) b) := (ho.2.1 b hb).2.2.1
    have hms : a_ms (A_v (A_sv A (v_fr (A_v A) s b f i (g_w (!pk && !(a_rd (A_v A) s)))))) b = (a_ms (A_v A) b).map (f_m (a_es (A_v A) s) f i (g_w (!pk && !(a_rd (A_v A) s)))) := v_bm_ms hb
    refine sv_iload dX3_fetch_49 rfl ?_
    refine sv_iload_n dX3_fetch_51 rfl ?_
    refine sv_icmp_gtN (tgt := 125) dX3_fetch_52 (by decide) (by omega) (by omega) (fun c52 => ?_) (fun c52 => ?_)
    · have hi : i = t := by omega
      subst hi
      refine sv_aload_n dX3_fetch_125 rfl ?_
      refine sm_get hn fg_X3_17 dX3_fetch_126 rfl ?_
      refine sv_iload_n dX3_fetch_129 rfl ?_
      refine sv_csR _ ct_sessionAt okX3_sessionAt ks_X3_84 dX3_fetch_130 rfl rfl (by decide) (Nat.le_of_ble_eq_true rfl) ?_
      refine sv_bipush (nI 6) dX3_fetch_133 (by decide +kernel) ?_
      refine sv_iaddN dX3_fetch_135 ?_
      refine sv_iconst (nI 4) dX3_fetch_136 (by decide +kernel) ?_
      refine sv_iaddN dX3_fetch_137 ?_
      refine sv_dup2 dX3_fetch_138 rfl rfl ?_
      refine sm_nld hn dX3_fetch_139 (by omega) ?_
      refine sv_iload dX3_fetch_140 rfl ?_
      refine sv_i2l dX3_fetch_142 ?_
      refine sv_ladd dX3_fetch_143 ?_
      refine sm_nst hn dX3_fetch_144 (by omega) ?_
      rw [m_n_e]
      have hJ3 := m_J_a hJ (e_V_ac (k := 4) (x := (z_s (A_v A) s f (i - f)).toInt64) hJ.2.2.1 hs (by decide) hJ.2.1) (w_V_ac hJ.2.2.1 hs)
      rw [i64_back] at hJ3
      have hs3 : s < (A_v (A_sv (A_sv A (v_fr (A_v A) s b f i (g_w (!pk && !(a_rd (A_v A) s))))) (v_ac (A_v (A_sv A (v_fr (A_v A) s b f i (g_w (!pk && !(a_rd (A_v A) s)))))) s 4 (z_s (A_v A) s f (i - f))))).2.2.length := by show _ < (v_ac _ _ _ _).2.2.length; rw [v_ac_n]; exact hs
      refine sv_aload_n dX3_fetch_145 rfl ?_
      refine sv_iload_n dX3_fetch_146 rfl ?_
      refine sv_iconst (nI 0) dX3_fetch_147 (by decide +kernel) ?_
      refine sv_topI (y := b_I false) rfl ?_
      refine sv_iload dX3_fetch_148 rfl ?_
      refine sv_cvP _ (ct_done_f hn hJ3 hs3 hnl) okX3_done kv_X3_214 (sx_rd_c (m_S_0 hn)) rfl dX3_fetch_150 rfl rfl (by decide) (Nat.le_of_ble_eq_true rfl) ?_
      intro v3 t3 hp3
      obtain ⟨rfl, M3, rfl, hJ4⟩ := hp3
      refine sv_iret rfl rfl dX3_fetch_153 ?_
      exact ⟨_, rfl, rfl, M3, rfl, hJ4⟩
    · refine sv_aload_n dX3_fetch_55 rfl ?_
      refine sv_iload_n dX3_fetch_56 rfl ?_
      refine sv_iload dX3_fetch_57 rfl ?_
      refine sv_cvR _ (ct_messageOf hn (m_J_e hJ) hJ.2.2.1 hs hbx (show i < (a_es (A_v A) s).length by omega)) okX3_messageOf kv_X3_113 (sx_rd_c (m_S_0 hn)) rfl dX3_fetch_59 rfl rfl (by decide) (Nat.le_of_ble_eq_true rfl) ?_
      rw [show a_mo (A_v (A_sv A (v_fr (A_v A) s b f i (g_w (!pk && !(a_rd (A_v A) s)))))) s i = a_mo (A_v A) s i from a_mo_fr hbx hb i]
      refine sv_istore dX3_fetch_62 (by decide) ?_
      refine sv_iload dX3_fetch_64 rfl ?_
      refine sv_iconst (-1) dX3_fetch_66 (by decide +kernel) ?_
      refine sv_icmp_ne (tgt := 73) dX3_fetch_67 (by decide) (fun c67 => ?_) (fun c67 => ?_)
      · obtain ⟨m, hmo⟩ : ∃ m, a_mo (A_v A) s i = some m := by cases hmo : a_mo (A_v A) s i with | some m => exact ⟨m, rfl⟩ | none => rw [hmo] at c67; exact absurd rfl c67
        rw [hmo]
        have hfn : a_find (a_ms (A_v A) b) ((a_es (A_v A) s).getD i (0, 0)).1 = some m := (a_mo_e hbx).symm.trans hmo
        have hm0 : m < (a_ms (A_v A) b).length := a_find_lt hfn
        have hm : m < (a_ms (A_v (A_sv A (v_fr (A_v A) s b f i (g_w (!pk && !(a_rd (A_v A) s)))))) b).length := by rw [hms, List.length_map]; exact hm0
        obtain ⟨q1, q2⟩ := f_m_some (g := g_w (!pk && !(a_rd (A_v A) s))) hE hL g1 (show i < (a_es (A_v A) s).length by omega) hfn
        have hxm : a_m (A_v (A_sv A (v_fr (A_v A) s b f i (g_w (!pk && !(a_rd (A_v A) s)))))) b m = a_m (A_v A) b m := by show (a_ms _ b).getD m _ = _; rw [hms, q1]; rfl
        have hz : z_s (A_v A) s f (i - f) + (a_m (A_v A) b m).2.1 = z_s (A_v A) s f (i + 1 - f) := by rw [show i + 1 - f = i - f + 1 by omega]; show _ = _ + (match a_mo (A_v A) s (f + (i - f)) with | some m => (a_m (A_v A) (a_bs (A_v A) s) m).2.1 | none => 0); rw [show f + (i - f) = i by omega, hmo, a_bs_e hbx]
        show sx_V G 12 _ _ [_, _, _, _, _, _, _, _, some (.int (nI m))] _ _ _
        refine sv_iload dX3_fetch_73 rfl ?_
        refine sv_aload_n dX3_fetch_75 rfl ?_
        refine sv_iload dX3_fetch_76 rfl ?_
        refine sv_iload dX3_fetch_78 rfl ?_
        refine sv_iconst (nI 1) dX3_fetch_80 (by decide +kernel) ?_
        refine sv_cvR _ (ct_size hn (m_J_e hJ).1 hJ.2.2.1.1 hbV hm) okX3_ofMessage kv_X3_103 (sx_rd_c (m_S_0 hn)) rfl dX3_fetch_81 rfl rfl (by decide) (Nat.le_of_ble_eq_true rfl) ?_
        rw [hxm]
        refine sv_iadd dX3_fetch_84 ?_
        rw [hz]
        refine sv_istore dX3_fetch_85 (by decide) ?_
        refine sv_iload dX3_fetch_87 rfl ?_
        refine sv_if_neB (tgt := 119) dX3_fetch_89 (by decide) (fun c89 => ?_) (fun c89 => ?_)
        · have hw0 : (!pk && !(a_rd (A_v A) s)) = false := by rw [c89]; rfl
          rw [show v_fr (A_v A) s b f i (g_w (!pk && !(a_rd (A_v A) s))) = v_fr (A_v A) s b f (i + 1) (g_w (!pk && !(a_rd (A_v A) s))) from by unfold v_fr; rw [f_m_id (fun x => by rw [hw0]; rfl), f_m_id (fun x => by rw [hw0]; rfl)]] at hJ
          have hih := ih (i + 1) M hJ (by omega) (by omega) (by omega)
          refine sv_iincN dX3_fetch_119 rfl (by decide) ?_
          refine sv_goto (tgt := 49) dX3_fetch_122 (by decide) ?_
          exact sx_loc [some (.ref h), some (.int (nI s)), some (.int (nI (f + 1))), some (.int (nI t)), some (.int (b_I pk)), some (.int (nI b)), some (.int _), some (.int (nI (i + 1 + 1))), none] ⟨rfl, rfl, rfl, rfl, rfl, rfl, rfl, rfl, trivial⟩ hih
        · refine sv_aload_n dX3_fetch_92 rfl ?_
          refine sv_iload_n dX3_fetch_93 rfl ?_
          refine sv_cvR _ (ct_doesRead hn (m_J_e hJ) hJ.2.2.1 hs) okX3_doesRead kv_X3_172 (sx_rd_c (m_S_0 hn)) rfl dX3_fetch_94 rfl rfl (by decide) (Nat.le_of_ble_eq_true rfl) ?_
          rw [show a_bx (A_v (A_sv A (v_fr (A_v A) s b f i (g_w (!pk && !(a_rd (A_v A) s)))))) s = some b from hbx, show a_rd (A_v (A_sv A (v_fr (A_v A) s b f i (g_w (!pk && !(a_rd (A_v A) s)))))) s = a_rd (A_v A) s from rfl, show (some b).isSome = true from rfl, Bool.true_and]
          refine sv_if_neB (tgt := 119) dX3_fetch_97 (by decide) (fun c97 => ?_) (fun c97 => ?_)
          · have hw0 : (!pk && !(a_rd (A_v A) s)) = false := by rw [c97, Bool.not_true, Bool.and_false]
            rw [show v_fr (A_v A) s b f i (g_w (!pk && !(a_rd (A_v A) s))) = v_fr (A_v A) s b f (i + 1) (g_w (!pk && !(a_rd (A_v A) s))) from by unfold v_fr; rw [f_m_id (fun x => by rw [hw0]; rfl), f_m_id (fun x => by rw [hw0]; rfl)]] at hJ
            have hih := ih (i + 1) M hJ (by omega) (by omega) (by omega)
            refine sv_iincN dX3_fetch_119 rfl (by decide) ?_
            refine sv_goto (tgt := 49) dX3_fetch_122 (by decide) ?_
            exact sx_loc [some (.ref h), some (.int (nI s)), some (.int (nI (f + 1))), some (.int (nI t)), some (.int (b_I pk)), some (.int (nI b)), some (.int _), some (.int (nI (i + 1 + 1))), none] ⟨rfl, rfl, rfl, rfl, rfl, rfl, rfl, rfl, trivial⟩ hih
          · have hw1 : (!pk && !(a_rd (A_v A) s)) = true := by rw [c97, c89]; rfl
            have hJ3 := m_J_a hJ (e_V_pf (f := (a_m (A_v A) b m).2.2 ||| 1) hJ.2.2.1 hbV hm hJ.2.1) (w_V_pf hJ.2.2.1 hbV)
            rw [show v_fl (A_v (A_sv A (v_fr (A_v A) s b f i (g_w (!pk && !(a_rd (A_v A) s)))))) b m ((a_m (A_v A) b m).2.2 ||| 1) = v_fr (A_v A) s b f (i + 1) (g_w (!pk && !(a_rd (A_v A) s))) from by unfold v_fl; rw [hxm, hms]; show v_bm (v_fr (A_v A) s b f i (g_w (!pk && !(a_rd (A_v A) s)))) b _ = _; unfold v_fr; rw [v_bm_bm hb, q2, hw1]; rfl] at hJ3
            have hih := ih (i + 1) _ hJ3 (by omega) (by omega) (by omega)
            refine sv_aload_n dX3_fetch_100 rfl ?_
            refine sv_iload dX3_fetch_101 rfl ?_
            refine sv_iload dX3_fetch_103 rfl ?_
            refine sv_aload_n dX3_fetch_105 rfl ?_
            refine sv_iload dX3_fetch_106 rfl ?_
            refine sv_iload dX3_fetch_108 rfl ?_
            refine sv_iconst (nI 2) dX3_fetch_110 (by decide +kernel) ?_
            refine sv_cvR _ (ct_flags hn (m_J_e hJ).1 hJ.2.2.1.1 hbV hm) okX3_ofMessage kv_X3_103 (sx_rd_c (m_S_0 hn)) rfl dX3_fetch_111 rfl rfl (by decide) (Nat.le_of_ble_eq_true rfl) ?_
            rw [hxm]
            refine sv_iconst (nI 1) dX3_fetch_114 (by decide +kernel) ?_
            refine sv_topI (y := 1) (by decide +kernel) ?_
            refine sv_ior dX3_fetch_115 ?_
            refine sv_cvR _ (ct_putFlags hn (by omega) (by omega)) okX3_putFlags kv_X3_210 (sx_rd_c (m_S_0 hn)) rfl dX3_fetch_116 rfl rfl (by decide) (Nat.le_of_ble_eq_true rfl) ?_
            refine sv_iincN dX3_fetch_119 rfl (by decide) ?_
            refine sv_goto (tgt := 49) dX3_fetch_122 (by decide) ?_
            exact sx_loc [some (.ref h), some (.int (nI s)), some (.int (nI (f + 1))), some (.int (nI t)), some (.int (b_I pk)), some (.int (nI b)), some (.int _), some (.int (nI (i + 1 + 1))), none] ⟨rfl, rfl, rfl, rfl, rfl, rfl, rfl, rfl, trivial⟩ hih
      · have hmo : a_mo (A_v A) s i = none := by cases hmo : a_mo (A_v A) s i with | none => rfl | some m => rw [hmo] at c67; have := (o_I_m1 (some m) (fun k hk => by cases hk; exact a_mo_lt hJ.2.2.1 hs _ ((a_mo_fr (f := f) (k := i) (g := g_w (!pk && !(a_rd (A_v A) s))) hbx hb i).trans hmo))).mp c67; cases this
        have hfn : a_find (a_ms (A_v A) b) ((a_es (A_v A) s).getD i (0, 0)).1 = none := (a_mo_e hbx).symm.trans hmo
        have hz : z_s (A_v A) s f (i - f) = z_s (A_v A) s f (i + 1 - f) := by rw [show i + 1 - f = i - f + 1 by omega]; show _ = _ + (match a_mo (A_v A) s (f + (i - f)) with | some m => (a_m (A_v A) (a_bs (A_v A) s) m).2.1 | none => 0); rw [show f + (i - f) = i by omega, hmo]; exact (Int32.add_zero _).symm
        rw [show v_fr (A_v A) s b f i (g_w (!pk && !(a_rd (A_v A) s))) = v_fr (A_v A) s b f (i + 1) (g_w (!pk && !(a_rd (A_v A) s))) from by unfold v_fr; rw [f_m_none hE hfn]] at hJ
        have hih := ih (i + 1) M hJ (by omega) (by omega) (by omega)
        rw [← hz] at hih
        refine sv_goto (tgt := 119) dX3_fetch_70 (by decide) ?_
        refine sv_iincN dX3_fetch_119 rfl (by decide) ?_
        refine sv_goto (tgt := 49) dX3_fetch_122 (by decide) ?_
        exact sx_loc [some (.ref h), some (.int (nI s)), some (.int (nI (f + 1))), some (.int (nI t)), some (.int (b_I pk)), some (.int (nI b)), some (.int _), some (.int (nI (i + 1 + 1))), none] ⟨rfl, rfl, rfl, rfl, rfl, rfl, rfl, rfl, trivial⟩ hih
  refine sx_body (by decide) (Nat.le_of_ble_eq_true rfl) ?_
  refine sv_aload_n dX3_fetch_0 rfl ?_
  refine sv_aload_n dX3_fetch_1 rfl ?_
  refine sv_iload_n dX3_fetch_2 rfl ?_
  refine sv_iload_n dX3_fetch_3 rfl ?_
  refine sv_iload_n dX3_fetch_4 rfl ?_
  refine sv_cvR _ (ct_areEntries hn (m_J_e hJ) hJ.2.2.1) okX3_areEntries kv_X3_206 (sx_rd_c (m_S_0 hn)) rfl dX3_fetch_5 rfl rfl (by decide) (Nat.le_of_ble_eq_true rfl) ?_
  refine sv_iload_n dX3_fetch_8 rfl ?_
  refine sv_iload_n dX3_fetch_9 rfl ?_
  refine sv_icmp_lt (tgt := 17) dX3_fetch_10 (by decide) (fun c10 => ?_) (fun c10 => ?_)
  · have hjn : nI 0 = b_I (decide (k ≤ l)) := by rw [decide_eq_false (Int32.not_le.mpr c10)]; rfl
    refine sv_iconst (nI 0) dX3_fetch_17 (by decide +kernel) ?_
    refine sv_topI hjn ?_
    refine sv_aload_n dX3_fetch_18 rfl ?_
    refine sv_iload_n dX3_fetch_19 rfl ?_
    refine sv_cvR _ (ct_canDo hn (m_J_e hJ) hJ.2.2.1) okX3_canDo kv_X3_169 (sx_rd_c (m_S_0 hn)) rfl dX3_fetch_20 rfl rfl (by decide) (Nat.le_of_ble_eq_true rfl) ?_
    refine sv_cvR _ (ct_passes3 (a := (a_are (A_v A) s k l)) hn) okX3_passes3 kv_X3_7 (sx_rd_c (m_S_0 hn)) rfl dX3_fetch_23 rfl rfl (by decide) (Nat.le_of_ble_eq_true rfl) ?_
    refine sv_if_neB (tgt := 31) dX3_fetch_26 (by decide) (fun c26 => ?_) (fun c26 => ?_)
    · have hA := c26
      simp only [Bool.and_eq_true] at hA
      obtain ⟨j, f, u, hj, hf, hu, rfl, rfl, rfl, ej, ek, el⟩ := a_are_of hJ.2.2.1 hA.1
      obtain ⟨j2, b, _, e2, ej2, hbx, hb, hid⟩ := a_can_of hJ.2.2.1 hA.2.2
      rw [ej] at ej2
      subst ej2
      have hel := hJ.2.2.1.2.1 j hj
      have hfu : f ≤ u := by have := of_decide_eq_true hA.2.1; rw [nI_leI (by omega) (by omega)] at this; omega
      have hsp : sp_fet A (nI j) (nI (f + 1)) (nI (u + 1)) pk = x_fet (A_st A 0) j f (u + 1) pk := by unfold sp_fet; rw [g_3t c26, ej, ek, el]; rfl
      rw [hsp]
      rw [t_hr_3 c26]
      have hJ0 := m_J_t hJ 0
      have hs4 := hJ.2.2.1.1.2.1
      have hb3 := hJ.2.2.1.1.1
      have hbl := hJ.2.2.1.1.2.2 b hb
      refine sv_aload_n dX3_fetch_31 rfl ?_
      refine sv_iload_n dX3_fetch_32 rfl ?_
      refine sv_cvP _ (ct_begins hn hJ0 hj) okX3_begins kv_X3_196 (sx_rd_c (m_S_0 hn)) rfl dX3_fetch_33 rfl rfl (by decide) (Nat.le_of_ble_eq_true rfl) ?_
      intro v1 t1 hp1
      obtain ⟨rfl, M1, rfl, hJ1⟩ := hp1
      have hj1 : j < (A_v (s_be (A_st A 0) j)).2.2.length := by rw [be_len]; exact hj
      have hbx1 : a_bx (A_v (s_be (A_st A 0) j)) j = some b := (be_bx _ _ hj).trans hbx
      have hbs := a_bs_e hbx1
      refine sv_aload_n dX3_fetch_36 rfl ?_
      refine sv_iload_n dX3_fetch_37 rfl ?_
      refine sv_cvR _ (ct_boxOf hn (m_J_e hJ1) hJ1.2.2.1 hj1) okX3_boxOf kv_X3_87 (sx_rd_c (m_S_0 hn)) rfl dX3_fetch_38 rfl rfl (by decide) (Nat.le_of_ble_eq_true rfl) ?_
      rw [hbx1]
      show sx_V G 12 _ _ _ (.int (nI b) :: _) _ _
      refine sv_istore dX3_fetch_41 (by decide) ?_
      refine sv_iconst (nI 0) dX3_fetch_43 (by decide +kernel) ?_
      refine sv_topI (y := 0) nI_0 ?_
      refine sv_istore dX3_fetch_44 (by decide) ?_
      refine sv_iload_n dX3_fetch_46 rfl ?_
      refine sv_istore dX3_fetch_47 (by decide) ?_
      have hlo := loop j b f (u + 1) t (s_be (A_st A 0) j) (be_o (A := A_st A 0) ho j hj) hj1 hbx1 (by rw [show a_es (A_v (s_be (A_st A 0) j)) j = a_es (A_v A) j from v_ac_es hj]; omega) (by show 0 + 700 ≤ 1000; omega) 62 f M1 (by rw [show v_fr (A_v (s_be (A_st A 0) j)) j b f f (g_w (!pk && !(a_rd (A_v (s_be (A_st A 0) j)) j))) = A_v (s_be (A_st A 0) j) from by unfold v_fr; rw [f_m_0]; exact v_bm_id hb]; exact hJ1) (by omega) (by omega) (by omega)
      rw [Nat.sub_self] at hlo
      unfold x_fet
      rw [hbs]
      exact sx_loc [some (.ref h), some (.int _), some (.int _), some (.int _), some (.int (b_I pk)), some (.int (nI b)), some (.int _), some (.int (nI (f + 1))), none] ⟨rfl, rfl, rfl, rfl, rfl, rfl, rfl, rfl, trivial⟩ hlo
    · unfold sp_fet
      rw [g_3f c26]
      refine sv_iconst (nI 0) dX3_fetch_29 (by decide +kernel) ?_
      refine sv_iret rfl rfl dX3_fetch_30 ?_
      exact ⟨_, rfl, r_I nI_0, _, rfl, m_J_t hJ _⟩
  · have hjn : nI 1 = b_I (decide (k ≤ l)) := by rw [decide_eq_true (Int32.not_lt.mp c10)]; rfl
    refine sv_iconst (nI 1) dX3_fetch_13 (by decide +kernel) ?_
    refine sv_goto (tgt := 18) dX3_fetch_14 (by decide) ?_
    refine sv_topI hjn ?_
    refine sv_aload_n dX3_fetch_18 rfl ?_
    refine sv_iload_n dX3_fetch_19 rfl ?_
    refine sv_cvR _ (ct_canDo hn (m_J_e hJ) hJ.2.2.1) okX3_canDo kv_X3_169 (sx_rd_c (m_S_0 hn)) rfl dX3_fetch_20 rfl rfl (by decide) (Nat.le_of_ble_eq_true rfl) ?_
    refine sv_cvR _ (ct_passes3 (a := (a_are (A_v A) s k l)) hn) okX3_passes3 kv_X3_7 (sx_rd_c (m_S_0 hn)) rfl dX3_fetch_23 rfl rfl (by decide) (Nat.le_of_ble_eq_true rfl) ?_
    refine sv_if_neB (tgt := 31) dX3_fetch_26 (by decide) (fun c26 => ?_) (fun c26 => ?_)
    · have hA := c26
      simp only [Bool.and_eq_true] at hA
      obtain ⟨j, f, u, hj, hf, hu, rfl, rfl, rfl, ej, ek, el⟩ := a_are_of hJ.2.2.1 hA.1
      obtain ⟨j2, b, _, e2, ej2, hbx, hb, hid⟩ := a_can_of hJ.2.2.1 hA.2.2
      rw [ej] at ej2
      subst ej2
      have hel := hJ.2.2.1.2.1 j hj
      have hfu : f ≤ u := by have := of_decide_eq_true hA.2.1; rw [nI_leI (by omega) (by omega)] at this; omega
      have hsp : sp_fet A (nI j) (nI (f + 1)) (nI (u + 1)) pk = x_fet (A_st A 0) j f (u + 1) pk := by unfold sp_fet; rw [g_3t c26, ej, ek, el]; rfl
      rw [hsp]
      rw [t_hr_3 c26]
      have hJ0 := m_J_t hJ 0
      have hs4 := hJ.2.2.1.1.2.1
      have hb3 := hJ.2.2.1.1.1
      have hbl := hJ.2.2.1.1.2.2 b hb
      refine sv_aload_n dX3_fetch_31 rfl ?_
      refine sv_iload_n dX3_fetch_32 rfl ?_
      refine sv_cvP _ (ct_begins hn hJ0 hj) okX3_begins kv_X3_196 (sx_rd_c (m_S_0 hn)) rfl dX3_fetch_33 rfl rfl (by decide) (Nat.le_of_ble_eq_true rfl) ?_
      intro v1 t1 hp1
      obtain ⟨rfl, M1, rfl, hJ1⟩ := hp1
      have hj1 : j < (A_v (s_be (A_st A 0) j)).2.2.length := by rw [be_len]; exact hj
      have hbx1 : a_bx (A_v (s_be (A_st A 0) j)) j = some b := (be_bx _ _ hj).trans hbx
      have hbs := a_bs_e hbx1
      refine sv_aload_n dX3_fetch_36 rfl ?_
      refine sv_iload_n dX3_fetch_37 rfl ?_
      refine sv_cvR _ (ct_boxOf hn (m_J_e hJ1) hJ1.2.2.1 hj1) okX3_boxOf kv_X3_87 (sx_rd_c (m_S_0 hn)) rfl dX3_fetch_38 rfl rfl (by decide) (Nat.le_of_ble_eq_true rfl) ?_
      rw [hbx1]
      show sx_V G 12 _ _ _ (.int (nI b) :: _) _ _
      refine sv_istore dX3_fetch_41 (by decide) ?_
      refine sv_iconst (nI 0) dX3_fetch_43 (by decide +kernel) ?_
      refine sv_topI (y := 0) nI_0 ?_
      refine sv_istore dX3_fetch_44 (by decide) ?_
      refine sv_iload_n dX3_fetch_46 rfl ?_
      refine sv_istore dX3_fetch_47 (by decide) ?_
      have hlo := loop j b f (u + 1) t (s_be (A_st A 0) j) (be_o (A := A_st A 0) ho j hj) hj1 hbx1 (by rw [show a_es (A_v (s_be (A_st A 0) j)) j = a_es (A_v A) j from v_ac_es hj]; omega) (by show 0 + 700 ≤ 1000; omega) 62 f M1 (by rw [show v_fr (A_v (s_be (A_st A 0) j)) j b f f (g_w (!pk && !(a_rd (A_v (s_be (A_st A 0) j)) j))) = A_v (s_be (A_st A 0) j) from by unfold v_fr; rw [f_m_0]; exact v_bm_id hb]; exact hJ1) (by omega) (by omega) (by omega)
      rw [Nat.sub_self] at hlo
      unfold x_fet
      rw [hbs]
      exact sx_loc [some (.ref h), some (.int _), some (.int _), some (.int _), some (.int (b_I pk)), some (.int (nI b)), some (.int _), some (.int (nI (f + 1))), none] ⟨rfl, rfl, rfl, rfl, rfl, rfl, rfl, rfl, trivial⟩ hlo
    · unfold sp_fet
      rw [g_3f c26]
      refine sv_iconst (nI 0) dX3_fetch_29 (by decide +kernel) ?_
      refine sv_iret rfl rfl dX3_fetch_30 ?_
      exact ⟨_, rfl, r_I nI_0, _, rfl, m_J_t hJ _⟩
end MRO
