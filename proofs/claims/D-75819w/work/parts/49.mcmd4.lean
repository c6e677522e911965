set_option maxRecDepth 100000
section MRN
variable {G : sx_G} {h : Nat} {M : m_M} {σ : sx_St} {V : a_V} {A : a_A} {r r' : Nat → Int64} {t : Nat}
theorem ct_close (hn : h + 11 < sx_n σ) (hJ : m_J M A) {s : Int32} : sx_Cp G 12 YX3_close [.ref h, .int s] (m_S G h M σ) (fun v τ => v = some (.int ((sp_clo A s).1)) ∧ ∃ M2, τ = m_S G h M2 σ ∧ m_J M2 ((sp_clo A s).2)) := by
  have tail : ∀ (j : Nat) M A (x : Int32), m_J M A → j < (A_v A).2.2.length → (A_n A).length + 500 ≤ 1000 → sx_V G 12 YX3_close 48 [some (.ref h), some (.int (nI j)), none] [.int x] (m_S G h M σ) (fun o τ => ∃ v, o = .inl v ∧ v = some (.int x) ∧ ∃ M2, τ = m_S G h M2 σ ∧ m_J M2 (s_ti 5 (A_sv A (v_lv (A_v A) j)) 0)) := by
    intro j M A x hJ hj hl
    have hs4 := hJ.2.2.1.1.2.1
    refine sv_istore_n dX3_close_48 (by decide) ?_
    refine sv_aload_n dX3_close_49 rfl ?_
    refine sv_iload_n dX3_close_50 rfl ?_
    refine sv_cvR _ (ct_leaveBox hn (by omega)) okX3_leaveBox kv_X3_186 (sx_rd_c (m_S_0 hn)) rfl dX3_close_51 rfl rfl (by decide) (Nat.le_of_ble_eq_true rfl) ?_
    have hJ2 : m_J _ (A_sv A (v_lv (A_v A) j)) := m_J_fr hJ (m_fr_lv (m_fr_r hJ.1)) (by rw [m_w_lv]; exact e_V_lv hJ.2.2.1 hj (m_J_e hJ)) (w_V_lv hJ.2.2.1)
    refine sv_aload_n dX3_close_54 rfl ?_
    refine sv_cvP _ (ct_tellsIdle hn hJ2 hl) okX3_tellsIdle kv_X3_178 (sx_rd_c (m_S_0 hn)) rfl dX3_close_55 rfl rfl (by decide) (Nat.le_of_ble_eq_true rfl) ?_
    intro v2 t2 hp2
    obtain ⟨rfl, M3, rfl, hJ3⟩ := hp2
    refine sv_iload_n dX3_close_58 rfl ?_
    refine sv_iret rfl rfl dX3_close_59 ?_
    exact ⟨_, rfl, rfl, M3, rfl, hJ3⟩
  refine sx_body (by decide) (Nat.le_of_ble_eq_true rfl) ?_
  refine sv_aload_n dX3_close_0 rfl ?_
  refine sv_aload_n dX3_close_1 rfl ?_
  refine sv_iload_n dX3_close_2 rfl ?_
  refine sv_cvR _ (ct_isSession hn (m_J_e hJ).1 hJ.2.2.1.1) okX3_isSession kv_X3_93 (sx_rd_c (m_S_0 hn)) rfl dX3_close_3 rfl rfl (by decide) (Nat.le_of_ble_eq_true rfl) ?_
  refine sv_aload_n dX3_close_6 rfl ?_
  refine sv_iload_n dX3_close_7 rfl ?_
  refine sv_cvR _ (ct_canDo hn (m_J_e hJ) hJ.2.2.1) okX3_canDo kv_X3_169 (sx_rd_c (m_S_0 hn)) rfl dX3_close_8 rfl rfl (by decide) (Nat.le_of_ble_eq_true rfl) ?_
  refine sv_cvR _ (ct_passes2 hn) okX3_passes2 kv_X3_192 (sx_rd_c (m_S_0 hn)) rfl dX3_close_11 rfl rfl (by decide) (Nat.le_of_ble_eq_true rfl) ?_
  refine sv_if_neB (tgt := 19) dX3_close_14 (by decide) (fun c14 => ?_) (fun c14 => ?_)
  · have hc2 := c14
    rw [Bool.and_eq_true] at hc2
    obtain ⟨j, b, hj, rfl, ej, hbx, hb, hid⟩ := a_can_of hJ.2.2.1 hc2.2
    have hsp : sp_clo A (nI j) = x_clo (A_st A 0) j := by unfold sp_clo; rw [g_2t c14, ej]
    rw [hsp]
    rw [t_hr_2 c14]
    have hJ0 := m_J_t hJ 0
    have hs4 := hJ.2.2.1.1.2.1
    have hb3 := hJ.2.2.1.1.1
    have hbl := hJ.2.2.1.1.2.2 b hb
    refine sv_aload_n dX3_close_19 rfl ?_
    refine sv_iload_n dX3_close_20 rfl ?_
    refine sv_cvP _ (ct_begins hn hJ0 hj) okX3_begins kv_X3_196 (sx_rd_c (m_S_0 hn)) rfl dX3_close_21 rfl rfl (by decide) (Nat.le_of_ble_eq_true rfl) ?_
    intro v1 t1 hp1
    obtain ⟨rfl, M1, rfl, hJ1⟩ := hp1
    have hj1 : j < (A_v (s_be (A_st A 0) j)).2.2.length := by rw [be_len]; exact hj
    have hbx1 : a_bx (A_v (s_be (A_st A 0) j)) j = some b := (be_bx _ _ hj).trans hbx
    have hbs := a_bs_e hbx1
    refine sv_aload_n dX3_close_24 rfl ?_
    refine sv_iload_n dX3_close_25 rfl ?_
    refine sv_cvR _ (ct_doesRead hn (m_J_e hJ1) hJ1.2.2.1 hj1) okX3_doesRead kv_X3_172 (sx_rd_c (m_S_0 hn)) rfl dX3_close_26 rfl rfl (by decide) (Nat.le_of_ble_eq_true rfl) ?_
    rw [hbx1, be_rd _ _ (show j < (A_v (A_st A 0)).2.2.length from hj), show a_rd (A_v (A_st A 0)) j = a_rd (A_v A) j from rfl, show (some b).isSome = true from rfl, Bool.true_and]
    refine sv_if_eqB (tgt := 36) dX3_close_29 (by decide) (fun c29 => ?_) (fun c29 => ?_)
    · have hx : x_clo (A_st A 0) j = (n_rd (s_be (A_st A 0) j) j 0 2147483647, s_ti 5 (A_sv (s_rd (s_be (A_st A 0) j) j 0 2147483647) (v_lv (A_v (s_rd (s_be (A_st A 0) j) j 0 2147483647)) j)) 0) := if_neg (by show ¬ a_rd (A_v A) j = true; rw [c29]; decide)
      rw [hx]
      refine sv_aload_n dX3_close_36 rfl ?_
      refine sv_aload_n dX3_close_37 rfl ?_
      refine sv_iload_n dX3_close_38 rfl ?_
      refine sv_cvR _ (ct_boxOf hn (m_J_e hJ1) hJ1.2.2.1 hj1) okX3_boxOf kv_X3_87 (sx_rd_c (m_S_0 hn)) rfl dX3_close_39 rfl rfl (by decide) (Nat.le_of_ble_eq_true rfl) ?_
      rw [hbx1]
      show sx_V G 12 _ _ _ (.int (nI b) :: _) _ _
      refine sv_iconst (nI 0) dX3_close_42 (by decide +kernel) ?_
      refine sv_topI (y := 0) nI_0 ?_
      refine sv_ldc q2349 dX3_close_43 ?_
      refine sv_topI (y := 2147483647) (by decide +kernel) ?_
      refine sv_cvP _ (ct_removeDeleted (f := 0) (l := 2147483647) hn hJ1 hb) okX3_removeDeleted kv_X3_244 (sx_rd_c (m_S_0 hn)) rfl dX3_close_45 rfl rfl (by decide) (Nat.le_of_ble_eq_true rfl) ?_
      intro v2 t2 hp2
      obtain ⟨rfl, M2, rfl, hJ2⟩ := hp2
      rw [← s_rd_e hbs] at hJ2
      rw [← n_rd_e hbs]
      have ht := tail _ _ _ (n_rd (s_be (A_st A 0) j) j 0 2147483647) hJ2 hj1 (by show 0 + 500 ≤ 1000; omega)
      first | exact ht | exact (show nI 0 = 0 from nI_0) ▸ ht
    · have hx : x_clo (A_st A 0) j = (0, s_ti 5 (A_sv (s_be (A_st A 0) j) (v_lv (A_v (s_be (A_st A 0) j)) j)) 0) := if_pos c29
      rw [hx]
      have ht := tail _ _ _ (nI 0) hJ1 hj1 (by show 0 + 500 ≤ 1000; omega)
      rw [nI_0] at ht
      refine sv_iconst (nI 0) dX3_close_32 (by decide +kernel) ?_
      refine sv_goto (tgt := 48) dX3_close_33 (by decide) ?_
      first | exact ht | exact (show nI 0 = 0 from nI_0) ▸ ht
  · unfold sp_clo
    rw [g_2f c14]
    refine sv_iconst (nI 0) dX3_close_17 (by decide +kernel) ?_
    refine sv_iret rfl rfl dX3_close_18 ?_
    exact ⟨_, rfl, r_I nI_0, _, rfl, m_J_t hJ _⟩
def x_del (A : a_A) (b : Nat) (sz fl : Int32) : Int32 × a_A := ((a_b (A_v A) b).2.1, s_ti 5 (A_sv (A_sn (s_rm A) []) (v_co (A_v A) b sz fl)) 0)
def sp_del (A : a_A) (b sz fl : Int32) : Int32 × a_A := g_3 (i_in b (A_v A).2.1.length) (a_in sz 1 9999 && a_in fl 0 31) (i_in b (A_v A).2.1.length && a_room (A_v A) b.toNatClampNeg 1) A (x_del (A_st A 0) b.toNatClampNeg sz fl)
theorem room_lt (ho : o_V t V) {b : Nat} (hl : (a_ms V b).length ≤ 30) {k : Nat} (hk : k ≤ 60) (h : a_room V b k = true) (h0 : 0 < k) : (a_ms V b).length + k ≤ 30 := by
  unfold a_room at h
  rw [decide_eq_false (by omega), Bool.false_or, decide_eq_true_eq, Int32.le_iff_toInt_le, nI_toInt (by omega)] at h
  have := ho.1.2
  omega
theorem ct_deliver (hn : h + 11 < sx_n σ) (hJ : m_J M A) (ho : o_V t (A_v A)) (ht6 : t ≤ 1000) {b sz fl : Int32} : sx_Cp G 12 YX3_deliver [.ref h, .int b, .int sz, .int fl] (m_S G h M σ) (fun v τ => v = some (.int ((sp_del A b sz fl).1)) ∧ ∃ M2, τ = m_S G h M2 σ ∧ m_J M2 ((sp_del A b sz fl).2)) := by
  have tail : ∀ b : Int32, (i_in b (A_v A).2.1.length && ((a_in sz 1 9999 && a_in fl 0 31) && (i_in b (A_v A).2.1.length && a_room (A_v A) b.toNatClampNeg 1))) = true → sx_V G 12 YX3_deliver 61 [some (.ref h), some (.int b), some (.int sz), some (.int fl), none, none] [] (m_S G h (m_i M 0 0) σ) (fun o τ => ∃ v, o = .inl v ∧ v = some (.int (sp_del A b sz fl).1) ∧ ∃ M2, τ = m_S G h M2 σ ∧ m_J M2 (sp_del A b sz fl).2) := by
    have hb3 := hJ.2.2.1.1.1
    intro b hc
    have hA := hc
    simp only [Bool.and_eq_true] at hA
    obtain ⟨c, hb, rfl⟩ := i_in_of (by omega) hA.1
    have ec : (nI c).toNatClampNeg = c := nI_clamp (by omega)
    have hsp : sp_del A (nI c) sz fl = x_del (A_st A 0) c sz fl := by unfold sp_del; rw [g_3t hc, ec]
    rw [hsp]
    have hJ0 := m_J_t hJ 0
    have hl := hJ.2.2.1.1.2.2 c hb
    have hrm := room_lt (k := 1) ho hl (by omega) (by have := hA.2.2.2; rw [ec] at this; exact this) (by omega)
    have hx := (ho.2.1 c hb).1.2
    refine sv_aload_n dX3_deliver_61 rfl ?_
    refine sv_cvP _ (ct_remember hn hJ0) okX3_remember kv_X3_175 (sx_rd_c (m_S_0 hn)) rfl dX3_deliver_62 rfl rfl (by decide) (Nat.le_of_ble_eq_true rfl) ?_
    intro v1 t1 hp1
    obtain ⟨rfl, M1, rfl, hJ1⟩ := hp1
    refine sv_aload_n dX3_deliver_65 rfl ?_
    refine sv_iconst (nI 0) dX3_deliver_66 (by decide +kernel) ?_
    refine sm_put hn fp_X3_138 dX3_deliver_67 rfl (by decide) ?_
    have hJ2 : m_J _ (A_sn (s_rm (A_st A 0)) []) := m_J_nz hJ1
    refine sv_aload_n dX3_deliver_70 rfl ?_
    refine sv_iload_n dX3_deliver_71 rfl ?_
    refine sv_iload_n dX3_deliver_72 rfl ?_
    refine sv_iload_n dX3_deliver_73 rfl ?_
    refine sv_cvR _ (ct_comes (n := (a_ms (A_v A) c).length) hn (by omega) (by omega) ((m_J_e hJ2).1.2.2.2 c hb).2.1) okX3_comes kv_X3_247 (sx_rd_c (m_S_0 hn)) rfl dX3_deliver_74 rfl rfl (by decide) (Nat.le_of_ble_eq_true rfl) ?_
    have he2 := m_J_e hJ2
    have hJ3 : m_J _ (A_sv (A_sn (s_rm (A_st A 0)) []) (v_co (A_v A) c sz fl)) := m_J_fr hJ2 (m_fr_cm (m_fr_r hJ2.1)) (e_V_co (V := A_v A) hJ2.2.2.1 hb (by omega) (by omega) he2) (w_V_co hJ2.2.2.1 (show (a_ms (A_v A) c).length < 30 by omega))
    refine sv_topI (y := (a_b (A_v A) c).2.1) ((m_J_e hJ2).1.2.2.2 c hb).2.2.1 ?_
    refine sv_istore dX3_deliver_77 (by decide) ?_
    refine sv_aload_n dX3_deliver_79 rfl ?_
    refine sv_cvP _ (ct_tellsIdle hn hJ3 (by show 0 + 500 ≤ 1000; omega)) okX3_tellsIdle kv_X3_178 (sx_rd_c (m_S_0 hn)) rfl dX3_deliver_80 rfl rfl (by decide) (Nat.le_of_ble_eq_true rfl) ?_
    intro v4 t4 hp4
    obtain ⟨rfl, M4, rfl, hJ4⟩ := hp4
    refine sv_iload dX3_deliver_83 rfl ?_
    refine sv_iret rfl rfl dX3_deliver_85 ?_
    exact ⟨_, rfl, rfl, M4, rfl, hJ4⟩
  refine sx_body (by decide) (Nat.le_of_ble_eq_true rfl) ?_
  have hb3 := hJ.2.2.1.1.1
  refine sv_aload_n dX3_deliver_0 rfl ?_
  refine sv_iload_n dX3_deliver_1 rfl ?_
  refine sv_cvR _ (ct_isBox hn (m_J_e hJ).1 hJ.2.2.1.1) okX3_isBox kv_X3_189 (sx_rd_c (m_S_0 hn)) rfl dX3_deliver_2 rfl rfl (by decide) (Nat.le_of_ble_eq_true rfl) ?_
  refine sv_istore dX3_deliver_5 (by decide) ?_
  refine sv_aload_n dX3_deliver_7 rfl ?_
  refine sv_iload dX3_deliver_8 rfl ?_
  refine sv_iload_n dX3_deliver_10 rfl ?_
  refine sv_i2l dX3_deliver_11 ?_
  refine sv_lconst 1 dX3_deliver_12 (by decide) ?_
  refine sv_ldc2 q2398 dX3_deliver_13 ?_
  refine sv_csR _ ct_in okX3_in ks_X3_70 dX3_deliver_16 rfl rfl (by decide) (Nat.le_of_ble_eq_true rfl) ?_
  refine sv_if_eqB (tgt := 33) dX3_deliver_19 (by decide) (fun c19 => ?_) (fun c19 => ?_)
  · have hjn : nI 0 = b_I (a_in sz 1 9999 && a_in fl 0 31) := by rw [show a_in sz 1 9999 = false from c19]; rfl
    refine sv_iconst (nI 0) dX3_deliver_33 (by decide +kernel) ?_
    refine sv_topI hjn ?_
    refine sv_iload dX3_deliver_34 rfl ?_
    refine sv_if_eqB (tgt := 52) dX3_deliver_36 (by decide) (fun c36 => ?_) (fun c36 => ?_)
    · have hjm : nI 0 = b_I (i_in b (A_v A).2.1.length && a_room (A_v A) b.toNatClampNeg 1) := by rw [c36]; rfl
      refine sv_iconst (nI 0) dX3_deliver_52 (by decide +kernel) ?_
      refine sv_topI hjm ?_
      refine sv_cvR _ (ct_passes3 hn) okX3_passes3 kv_X3_7 (sx_rd_c (m_S_0 hn)) rfl dX3_deliver_53 rfl rfl (by decide) (Nat.le_of_ble_eq_true rfl) ?_
      refine sv_if_neB (tgt := 61) dX3_deliver_56 (by decide) (fun c56 => ?_) (fun c56 => ?_)
      · rw [t_hr_3 c56]
        exact sx_loc [some (.ref h), some (.int _), some (.int sz), some (.int fl), none, none] ⟨rfl, rfl, rfl, rfl, trivial⟩ (tail _ c56)
      · unfold sp_del
        rw [g_3f c56]
        refine sv_iconst (nI 0) dX3_deliver_59 (by decide +kernel) ?_
        refine sv_iret rfl rfl dX3_deliver_60 ?_
        exact ⟨_, rfl, r_I nI_0, _, rfl, m_J_t hJ _⟩
    · obtain ⟨j, hj, rfl⟩ := i_in_of (by omega) c36
      have ej : (nI j).toNatClampNeg = j := nI_clamp (by omega)
      refine sv_aload_n dX3_deliver_39 rfl ?_
      refine sv_iload_n dX3_deliver_40 rfl ?_
      refine sv_iconst (nI 1) dX3_deliver_41 (by decide +kernel) ?_
      refine sv_cvR _ (ct_hasRoom hn (m_J_e hJ).1 hJ.2.2.1.1 hj (by omega)) okX3_hasRoom kv_X3_253 (sx_rd_c (m_S_0 hn)) rfl dX3_deliver_42 rfl rfl (by decide) (Nat.le_of_ble_eq_true rfl) ?_
      refine sv_if_eqB (tgt := 52) dX3_deliver_45 (by decide) (fun c45 => ?_) (fun c45 => ?_)
      · have hjm : nI 0 = b_I (i_in (nI j) (A_v A).2.1.length && a_room (A_v A) (nI j).toNatClampNeg 1) := by rw [c36, ej, c45]; rfl
        refine sv_iconst (nI 0) dX3_deliver_52 (by decide +kernel) ?_
        refine sv_topI hjm ?_
        refine sv_cvR _ (ct_passes3 hn) okX3_passes3 kv_X3_7 (sx_rd_c (m_S_0 hn)) rfl dX3_deliver_53 rfl rfl (by decide) (Nat.le_of_ble_eq_true rfl) ?_
        refine sv_if_neB (tgt := 61) dX3_deliver_56 (by decide) (fun c56 => ?_) (fun c56 => ?_)
        · rw [t_hr_3 c56]
          exact sx_loc [some (.ref h), some (.int _), some (.int sz), some (.int fl), none, none] ⟨rfl, rfl, rfl, rfl, trivial⟩ (tail _ c56)
        · unfold sp_del
          rw [g_3f c56]
          refine sv_iconst (nI 0) dX3_deliver_59 (by decide +kernel) ?_
          refine sv_iret rfl rfl dX3_deliver_60 ?_
          exact ⟨_, rfl, r_I nI_0, _, rfl, m_J_t hJ _⟩
      · have hjm : nI 1 = b_I (i_in (nI j) (A_v A).2.1.length && a_room (A_v A) (nI j).toNatClampNeg 1) := by rw [c36, ej, c45]; rfl
        refine sv_iconst (nI 1) dX3_deliver_48 (by decide +kernel) ?_
        refine sv_goto (tgt := 53) dX3_deliver_49 (by decide) ?_
        refine sv_topI hjm ?_
        refine sv_cvR _ (ct_passes3 hn) okX3_passes3 kv_X3_7 (sx_rd_c (m_S_0 hn)) rfl dX3_deliver_53 rfl rfl (by decide) (Nat.le_of_ble_eq_true rfl) ?_
        refine sv_if_neB (tgt := 61) dX3_deliver_56 (by decide) (fun c56 => ?_) (fun c56 => ?_)
        · rw [t_hr_3 c56]
          exact sx_loc [some (.ref h), some (.int _), some (.int sz), some (.int fl), none, none] ⟨rfl, rfl, rfl, rfl, trivial⟩ (tail _ c56)
        · unfold sp_del
          rw [g_3f c56]
          refine sv_iconst (nI 0) dX3_deliver_59 (by decide +kernel) ?_
          refine sv_iret rfl rfl dX3_deliver_60 ?_
          exact ⟨_, rfl, r_I nI_0, _, rfl, m_J_t hJ _⟩
  · refine sv_iload_n dX3_deliver_22 rfl ?_
    refine sv_csR _ ct_isSet okX3_isSet ks_X3_228 dX3_deliver_23 rfl rfl (by decide) (Nat.le_of_ble_eq_true rfl) ?_
    refine sv_if_eqB (tgt := 33) dX3_deliver_26 (by decide) (fun c26 => ?_) (fun c26 => ?_)
    · have hjn : nI 0 = b_I (a_in sz 1 9999 && a_in fl 0 31) := by rw [c26, Bool.and_false]; rfl
      refine sv_iconst (nI 0) dX3_deliver_33 (by decide +kernel) ?_
      refine sv_topI hjn ?_
      refine sv_iload dX3_deliver_34 rfl ?_
      refine sv_if_eqB (tgt := 52) dX3_deliver_36 (by decide) (fun c36 => ?_) (fun c36 => ?_)
      · have hjm : nI 0 = b_I (i_in b (A_v A).2.1.length && a_room (A_v A) b.toNatClampNeg 1) := by rw [c36]; rfl
        refine sv_iconst (nI 0) dX3_deliver_52 (by decide +kernel) ?_
        refine sv_topI hjm ?_
        refine sv_cvR _ (ct_passes3 hn) okX3_passes3 kv_X3_7 (sx_rd_c (m_S_0 hn)) rfl dX3_deliver_53 rfl rfl (by decide) (Nat.le_of_ble_eq_true rfl) ?_
        refine sv_if_neB (tgt := 61) dX3_deliver_56 (by decide) (fun c56 => ?_) (fun c56 => ?_)
        · rw [t_hr_3 c56]
          exact sx_loc [some (.ref h), some (.int _), some (.int sz), some (.int fl), none, none] ⟨rfl, rfl, rfl, rfl, trivial⟩ (tail _ c56)
        · unfold sp_del
          rw [g_3f c56]
          refine sv_iconst (nI 0) dX3_deliver_59 (by decide +kernel) ?_
          refine sv_iret rfl rfl dX3_deliver_60 ?_
          exact ⟨_, rfl, r_I nI_0, _, rfl, m_J_t hJ _⟩
      · obtain ⟨j, hj, rfl⟩ := i_in_of (by omega) c36
        have ej : (nI j).toNatClampNeg = j := nI_clamp (by omega)
        refine sv_aload_n dX3_deliver_39 rfl ?_
        refine sv_iload_n dX3_deliver_40 rfl ?_
        refine sv_iconst (nI 1) dX3_deliver_41 (by decide +kernel) ?_
        refine sv_cvR _ (ct_hasRoom hn (m_J_e hJ).1 hJ.2.2.1.1 hj (by omega)) okX3_hasRoom kv_X3_253 (sx_rd_c (m_S_0 hn)) rfl dX3_deliver_42 rfl rfl (by decide) (Nat.le_of_ble_eq_true rfl) ?_
        refine sv_if_eqB (tgt := 52) dX3_deliver_45 (by decide) (fun c45 => ?_) (fun c45 => ?_)
        · have hjm : nI 0 = b_I (i_in (nI j) (A_v A).2.1.length && a_room (A_v A) (nI j).toNatClampNeg 1) := by rw [c36, ej, c45]; rfl
          refine sv_iconst (nI 0) dX3_deliver_52 (by decide +kernel) ?_
          refine sv_topI hjm ?_
          refine sv_cvR _ (ct_passes3 hn) okX3_passes3 kv_X3_7 (sx_rd_c (m_S_0 hn)) rfl dX3_deliver_53 rfl rfl (by decide) (Nat.le_of_ble_eq_true rfl) ?_
          refine sv_if_neB (tgt := 61) dX3_deliver_56 (by decide) (fun c56 => ?_) (fun c56 => ?_)
          · rw [t_hr_3 c56]
            exact sx_loc [some (.ref h), some (.int _), some (.int sz), some (.int fl), none, none] ⟨rfl, rfl, rfl, rfl, trivial⟩ (tail _ c56)
          · unfold sp_del
            rw [g_3f c56]
            refine sv_iconst (nI 0) dX3_deliver_59 (by decide +kernel) ?_
            refine sv_iret rfl rfl dX3_deliver_60 ?_
            exact ⟨_, rfl, r_I nI_0, _, rfl, m_J_t hJ _⟩
        · have hjm : nI 1 = b_I (i_in (nI j) (A_v A).2.1.length && a_room (A_v A) (nI j).toNatClampNeg 1) := by rw [c36, ej, c45]; rfl
          refine sv_iconst (nI 1) dX3_deliver_48 (by decide +kernel) ?_
          refine sv_goto (tgt := 53) dX3_deliver_49 (by decide) ?_
          refine sv_topI hjm ?_
          refine sv_cvR _ (ct_passes3 hn) okX3_passes3 kv_X3_7 (sx_rd_c (m_S_0 hn)) rfl dX3_deliver_53 rfl rfl (by decide) (Nat.le_of_ble_eq_true rfl) ?_
          refine sv_if_neB (tgt := 61) dX3_deliver_56 (by decide) (fun c56 => ?_) (fun c56 => ?_)
          · rw [t_hr_3 c56]
            exact sx_loc [some (.ref h), some (.int _), some (.int sz), some (.int fl), none, none] ⟨rfl, rfl, rfl, rfl, trivial⟩ (tail _ c56)
          · unfold sp_del
            rw [g_3f c56]
            refine sv_iconst (nI 0) dX3_deliver_59 (by decide +kernel) ?_
            refine sv_iret rfl rfl dX3_deliver_60 ?_
            exact ⟨_, rfl, r_I nI_0, _, rfl, m_J_t hJ _⟩
    · have hjn : nI 1 = b_I (a_in sz 1 9999 && a_in fl 0 31) := by rw [show a_in sz 1 9999 = true from c19, c26]; rfl
      refine sv_iconst (nI 1) dX3_deliver_29 (by decide +kernel) ?_
      refine sv_goto (tgt := 34) dX3_deliver_30 (by decide) ?_
      refine sv_topI hjn ?_
      refine sv_iload dX3_deliver_34 rfl ?_
      refine sv_if_eqB (tgt := 52) dX3_deliver_36 (by decide) (fun c36 => ?_) (fun c36 => ?_)
      · have hjm : nI 0 = b_I (i_in b (A_v A).2.1.length && a_room (A_v A) b.toNatClampNeg 1) := by rw [c36]; rfl
        refine sv_iconst (nI 0) dX3_deliver_52 (by decide +kernel) ?_
        refine sv_topI hjm ?_
        refine sv_cvR _ (ct_passes3 hn) okX3_passes3 kv_X3_7 (sx_rd_c (m_S_0 hn)) rfl dX3_deliver_53 rfl rfl (by decide) (Nat.le_of_ble_eq_true rfl) ?_
        refine sv_if_neB (tgt := 61) dX3_deliver_56 (by decide) (fun c56 => ?_) (fun c56 => ?_)
        · rw [t_hr_3 c56]
          exact sx_loc [some (.ref h), some (.int _), some (.int sz), some (.int fl), none, none] ⟨rfl, rfl, rfl, rfl, trivial⟩ (tail _ c56)
        · unfold sp_del
          rw [g_3f c56]
          refine sv_iconst (nI 0) dX3_deliver_59 (by decide +kernel) ?_
          refine sv_iret rfl rfl dX3_deliver_60 ?_
          exact ⟨_, rfl, r_I nI_0, _, rfl, m_J_t hJ _⟩
      · obtain ⟨j, hj, rfl⟩ := i_in_of (by omega) c36
        have ej : (nI j).toNatClampNeg = j := nI_clamp (by omega)
        refine sv_aload_n dX3_deliver_39 rfl ?_
        refine sv_iload_n dX3_deliver_40 rfl ?_
        refine sv_iconst (nI 1) dX3_deliver_41 (by decide +kernel) ?_
        refine sv_cvR _ (ct_hasRoom hn (m_J_e hJ).1 hJ.2.2.1.1 hj (by omega)) okX3_hasRoom kv_X3_253 (sx_rd_c (m_S_0 hn)) rfl dX3_deliver_42 rfl rfl (by decide) (Nat.le_of_ble_eq_true rfl) ?_
        refine sv_if_eqB (tgt := 52) dX3_deliver_45 (by decide) (fun c45 => ?_) (fun c45 => ?_)
        · have hjm : nI 0 = b_I (i_in (nI j) (A_v A).2.1.length && a_room (A_v A) (nI j).toNatClampNeg 1) := by rw [c36, ej, c45]; rfl
          refine sv_iconst (nI 0) dX3_deliver_52 (by decide +kernel) ?_
          refine sv_topI hjm ?_
          refine sv_cvR _ (ct_passes3 hn) okX3_passes3 kv_X3_7 (sx_rd_c (m_S_0 hn)) rfl dX3_deliver_53 rfl rfl (by decide) (Nat.le_of_ble_eq_true rfl) ?_
          refine sv_if_neB (tgt := 61) dX3_deliver_56 (by decide) (fun c56 => ?_) (fun c56 => ?_)
          · rw [t_hr_3 c56]
            exact sx_loc [some (.ref h), some (.int _), some (.int sz), some (.int fl), none, none] ⟨rfl, rfl, rfl, rfl, trivial⟩ (tail _ c56)
          · unfold sp_del
            rw [g_3f c56]
            refine sv_iconst (nI 0) dX3_deliver_59 (by decide +kernel) ?_
            refine sv_iret rfl rfl dX3_deliver_60 ?_
            exact ⟨_, rfl, r_I nI_0, _, rfl, m_J_t hJ _⟩
        · have hjm : nI 1 = b_I (i_in (nI j) (A_v A).2.1.length && a_room (A_v A) (nI j).toNatClampNeg 1) := by rw [c36, ej, c45]; rfl
          refine sv_iconst (nI 1) dX3_deliver_48 (by decide +kernel) ?_
          refine sv_goto (tgt := 53) dX3_deliver_49 (by decide) ?_
          refine sv_topI hjm ?_
          refine sv_cvR _ (ct_passes3 hn) okX3_passes3 kv_X3_7 (sx_rd_c (m_S_0 hn)) rfl dX3_deliver_53 rfl rfl (by decide) (Nat.le_of_ble_eq_true rfl) ?_
          refine sv_if_neB (tgt := 61) dX3_deliver_56 (by decide) (fun c56 => ?_) (fun c56 => ?_)
          · rw [t_hr_3 c56]
            exact sx_loc [some (.ref h), some (.int _), some (.int sz), some (.int fl), none, none] ⟨rfl, rfl, rfl, rfl, trivial⟩ (tail _ c56)
          · unfold sp_del
            rw [g_3f c56]
            refine sv_iconst (nI 0) dX3_deliver_59 (by decide +kernel) ?_
            refine sv_iret rfl rfl dX3_deliver_60 ?_
            exact ⟨_, rfl, r_I nI_0, _, rfl, m_J_t hJ _⟩
def x_lim (A : a_A) (x : Int32) : Int32 × a_A := ((A_v A).1, A_sv (A_sn (s_rm A) []) (x, (A_v A).2))
def sp_lim (A : a_A) (x : Int32) : Int32 × a_A := g_1 (a_in x 1 30) A (x_lim (A_st A 0) x)
theorem ct_setLimit (hn : h + 11 < sx_n σ) (hJ : m_J M A) {x : Int32} : sx_Cp G 12 YX3_setLimit [.ref h, .int x] (m_S G h M σ) (fun v τ => v = some (.int ((sp_lim A x).1)) ∧ ∃ M2, τ = m_S G h M2 σ ∧ m_J M2 ((sp_lim A x).2)) := by
  refine sx_body (by decide) (Nat.le_of_ble_eq_true rfl) ?_
  refine sv_aload_n dX3_setLimit_0 rfl ?_
  refine sv_iload_n dX3_setLimit_1 rfl ?_
  refine sv_i2l dX3_setLimit_2 ?_
  refine sv_lconst 1 dX3_setLimit_3 (by decide) ?_
  refine sv_ldc2 q2043 dX3_setLimit_4 ?_
  refine sv_csR _ ct_in okX3_in ks_X3_70 dX3_setLimit_7 rfl rfl (by decide) (Nat.le_of_ble_eq_true rfl) ?_
  refine sv_cvR _ (ct_passes (a := a_in x 1 30) hn) okX3_passes kv_X3_266 (sx_rd_c (m_S_0 hn)) rfl dX3_setLimit_10 rfl rfl (by decide) (Nat.le_of_ble_eq_true rfl) ?_
  refine sv_if_neB (tgt := 18) dX3_setLimit_13 (by decide) (fun c13 => ?_) (fun c13 => ?_)
  · have hsp : sp_lim A x = x_lim (A_st A 0) x := by unfold sp_lim; rw [g_1t c13]
    rw [hsp]
    rw [t_hr_1 c13]
    have hJ0 := m_J_t hJ 0
    refine sv_aload_n dX3_setLimit_18 rfl ?_
    refine sv_cvP _ (ct_remember hn hJ0) okX3_remember kv_X3_175 (sx_rd_c (m_S_0 hn)) rfl dX3_setLimit_19 rfl rfl (by decide) (Nat.le_of_ble_eq_true rfl) ?_
    intro v1 t1 hp1
    obtain ⟨rfl, M1, rfl, hJ1⟩ := hp1
    refine sv_aload_n dX3_setLimit_22 rfl ?_
    refine sv_iconst (nI 0) dX3_setLimit_23 (by decide +kernel) ?_
    refine sm_put hn fp_X3_138 dX3_setLimit_24 rfl (by decide) ?_
    have hJ2 : m_J _ (A_sn (s_rm (A_st A 0)) []) := m_J_nz hJ1
    refine sv_aload_n dX3_setLimit_27 rfl ?_
    refine sv_iconst (nI 0) dX3_setLimit_28 (by decide +kernel) ?_
    refine sv_cvR _ (ct_get hn (by omega)) okX3_get kv_X3_62 (sx_rd_c (m_S_0 hn)) rfl dX3_setLimit_29 rfl rfl (by decide) (Nat.le_of_ble_eq_true rfl) ?_
    refine sv_topI (y := (A_v A).1) (m_J_e hJ2).1.1 ?_
    refine sv_istore_n dX3_setLimit_32 (by decide) ?_
    refine sv_aload_n dX3_setLimit_33 rfl ?_
    refine sm_get hn fg_X3_17 dX3_setLimit_34 rfl ?_
    refine sv_iconst (nI 0) dX3_setLimit_37 (by decide +kernel) ?_
    refine sv_iload_n dX3_setLimit_38 rfl ?_
    refine sv_i2l dX3_setLimit_39 ?_
    refine sm_nst hn dX3_setLimit_40 (by omega) ?_
    rw [m_n_e]
    refine sv_iload_n dX3_setLimit_41 rfl ?_
    refine sv_iret rfl rfl dX3_setLimit_42 ?_
    exact ⟨_, rfl, rfl, _, rfl, m_J_a hJ2 (e_V_lm hJ2.2.2.1 hJ2.2.1) (w_V_lm hJ2.2.2.1)⟩
  · unfold sp_lim
    rw [g_1f c13]
    refine sv_iconst (nI 0) dX3_setLimit_16 (by decide +kernel) ?_
    refine sv_iret rfl rfl dX3_setLimit_17 ?_
    exact ⟨_, rfl, r_I nI_0, _, rfl, m_J_t hJ _⟩
def a_th (V : a_V) (s f n : Nat) : Nat := (List.range' f n).countP (fun k => !(a_go V s k))
theorem a_th_s (V : a_V) (s f n : Nat) : a_th V s f (n + 1) = a_th V s f n + (if a_go V s (f + n) then 0 else 1) := by
  unfold a_th
  rw [List.range'_1_concat, List.countP_append]
  cases h : a_go V s (f + n) <;> simp [h]
theorem a_th_le (V : a_V) (s f n : Nat) : a_th V s f n ≤ n := by
  have := List.countP_le_length (p := fun k => !(a_go V s k)) (l := List.range' f n)
  simpa [a_th] using this
theorem ct_thereMany (hn : h + 11 < sx_n σ) (hE : e_V (m_w M) V) (hw : w_V V) {s f t : Nat} (hs : s < V.2.2.length) (hft : f ≤ t) (ht : t ≤ (a_es V s).length) : sx_Cr G 6 YX3_thereMany [.ref h, .int (nI s), .int (nI (f + 1)), .int (nI t)] (m_S G h M σ) (some (.int (nI (a_th V s f (t - f))))) (m_S G h M σ) := by
  have loop : ∀ q k, f + k ≤ t → t + 1 ≤ f + k + q → sx_V G 6 YX3_thereMany 6 [some (.ref h), some (.int (nI s)), some (.int (nI (f + 1))), some (.int (nI t)), some (.int (nI (a_th V s f k))), some (.int (nI (f + k + 1)))] [] (m_S G h M σ) (fun o τ => ∃ v, o = .inl v ∧ v = (some (.int (nI (a_th V s f (t - f))))) ∧ τ = m_S G h M σ) := by
    have hl := hw.2.1 s hs
    intro q
    induction q with
    | zero => intro k h1 h2; exact absurd h2 (by omega)
    | succ q ih =>
    intro k h1 h2
    refine sv_iload dX3_thereMany_6 rfl ?_
    refine sv_iload_n dX3_thereMany_8 rfl ?_
    refine sv_icmp_gtN (tgt := 38) dX3_thereMany_9 (by decide) (by omega) (by omega) (fun c9 => ?_) (fun c9 => ?_)
    · refine sv_iload dX3_thereMany_38 rfl ?_
      refine sv_iret rfl rfl dX3_thereMany_40 ?_
      exact ⟨_, rfl, r_I (by rw [show t - f = k by omega]), rfl⟩
    · have hj : f + k < (a_es V s).length := by omega
      obtain ⟨b, hbx⟩ := a_some hw hs hj
      refine sv_iload dX3_thereMany_12 rfl ?_
      refine sv_aload_n dX3_thereMany_14 rfl ?_
      refine sv_iload_n dX3_thereMany_15 rfl ?_
      refine sv_iload dX3_thereMany_16 rfl ?_
      refine sv_cvR _ (ct_isGone hn hE hw (by assumption) (by assumption) (by assumption)) okX3_isGone kv_X3_116 (sx_rd_c (m_S_0 hn)) rfl dX3_thereMany_18 rfl rfl (by decide) (Nat.le_of_ble_eq_true rfl) ?_
      refine sv_if_eqB (tgt := 28) dX3_thereMany_21 (by decide) (fun c21 => ?_) (fun c21 => ?_)
      · refine sv_iconst (nI 1) dX3_thereMany_28 (by decide +kernel) ?_
        refine sv_iaddN dX3_thereMany_29 ?_
        refine sv_istore dX3_thereMany_30 (by decide) ?_
        refine sv_iincN dX3_thereMany_32 rfl (by decide) ?_
        refine sv_goto (tgt := 6) dX3_thereMany_35 (by decide) ?_
        have hih := ih (k + 1) (by omega) (by omega)
        rw [a_th_s, c21] at hih
        exact hih
      · refine sv_iconst (nI 0) dX3_thereMany_24 (by decide +kernel) ?_
        refine sv_goto (tgt := 29) dX3_thereMany_25 (by decide) ?_
        refine sv_iaddN dX3_thereMany_29 ?_
        refine sv_istore dX3_thereMany_30 (by decide) ?_
        refine sv_iincN dX3_thereMany_32 rfl (by decide) ?_
        refine sv_goto (tgt := 6) dX3_thereMany_35 (by decide) ?_
        have hih := ih (k + 1) (by omega) (by omega)
        rw [a_th_s, c21] at hih
        exact hih
  refine sx_body (by decide) (Nat.le_of_ble_eq_true rfl) ?_
  refine sv_iconst (nI 0) dX3_thereMany_0 (by decide +kernel) ?_
  refine sv_istore dX3_thereMany_1 (by decide) ?_
  refine sv_iload_n dX3_thereMany_3 rfl ?_
  refine sv_istore dX3_thereMany_4 (by decide) ?_
  exact loop (t - f + 1) 0 (by omega) (by omega)
theorem ct_sets (hn : h + 11 < sx_n σ) (hJ : m_J M A) {b m : Nat} {md fl : Int32} (hb : b < (A_v A).2.1.length) (hm : m < (a_ms (A_v A) b).length) : sx_Cr G 3 YX3_sets [.ref h, .int (nI b), .int (nI m), .int md, .int fl] (m_S G h M σ) (some (.int (b_I (!(decide ((a_fb (a_m (A_v A) b m).2.2 md fl) = (a_m (A_v A) b m).2.2)))))) (m_S G h (m_a M 0 (vp_updL (M.2.2.1 0) (3 + 93 * b + 3 + 3 * m + 2) (a_fb (a_m (A_v A) b m).2.2 md fl).toInt64)) σ) := by
  refine sx_body (by decide) (Nat.le_of_ble_eq_true rfl) ?_
  have hb3 := hJ.2.2.1.1.1
  have hl := hJ.2.2.1.1.2.2 b hb
  refine sv_aload_n dX3_sets_0 rfl ?_
  refine sv_iload_n dX3_sets_1 rfl ?_
  refine sv_iload_n dX3_sets_2 rfl ?_
  refine sv_iconst (nI 2) dX3_sets_3 (by decide +kernel) ?_
  refine sv_cvR _ (ct_flags hn (m_J_e hJ).1 hJ.2.2.1.1 hb hm) okX3_ofMessage kv_X3_103 (sx_rd_c (m_S_0 hn)) rfl dX3_sets_4 rfl rfl (by decide) (Nat.le_of_ble_eq_true rfl) ?_
  refine sv_istore dX3_sets_7 (by decide) ?_
  refine sv_aload_n dX3_sets_9 rfl ?_
  refine sv_iload_n dX3_sets_10 rfl ?_
  refine sv_iload_n dX3_sets_11 rfl ?_
  refine sv_iload dX3_sets_12 rfl ?_
  refine sv_iload_n dX3_sets_14 rfl ?_
  refine sv_iload dX3_sets_15 rfl ?_
  refine sv_csR _ ct_flagsBy okX3_flagsBy ks_X3_222 dX3_sets_17 rfl rfl (by decide) (Nat.le_of_ble_eq_true rfl) ?_
  refine sv_cvR _ (ct_putFlags hn (by omega) (by omega)) okX3_putFlags kv_X3_210 (sx_rd_c (m_S_0 hn)) rfl dX3_sets_20 rfl rfl (by decide) (Nat.le_of_ble_eq_true rfl) ?_
  refine sv_aload_n dX3_sets_23 rfl ?_
  refine sv_iload_n dX3_sets_24 rfl ?_
  refine sv_iload_n dX3_sets_25 rfl ?_
  refine sv_iconst (nI 2) dX3_sets_26 (by decide +kernel) ?_
  refine sv_cvR _ (ct_ofMessage hn (by omega)) okX3_ofMessage kv_X3_103 (sx_rd_c (m_S_0 hn)) rfl dX3_sets_27 rfl rfl (by decide) (Nat.le_of_ble_eq_true rfl) ?_
  refine sv_topI (y := (a_fb (a_m (A_v A) b m).2.2 md fl)) (by rw [m_w_a hJ.1, uL_s, i64_back]) ?_
  refine sv_iload dX3_sets_30 rfl ?_
  refine sv_icmp_eq (tgt := 39) dX3_sets_32 (by decide) (fun c32 => ?_) (fun c32 => ?_)
  · have hf : nI 0 = b_I (!(decide ((a_fb (a_m (A_v A) b m).2.2 md fl) = (a_m (A_v A) b m).2.2))) := by rw [decide_eq_true c32]; rfl
    refine sv_iconst (nI 0) dX3_sets_39 (by decide +kernel) ?_
    refine sv_iret (by first | exact b_I_nar _ | rfl) rfl dX3_sets_40 ?_
    exact ⟨_, rfl, r_I hf, rfl⟩
  · have hf : nI 1 = b_I (!(decide ((a_fb (a_m (A_v A) b m).2.2 md fl) = (a_m (A_v A) b m).2.2))) := by rw [decide_eq_false c32]; rfl
    refine sv_iconst (nI 1) dX3_sets_35 (by decide +kernel) ?_
    refine sv_goto (tgt := 40) dX3_sets_36 (by decide) ?_
    refine sv_iret (by first | exact b_I_nar _ | rfl) rfl dX3_sets_40 ?_
    exact ⟨_, rfl, r_I hf, rfl⟩
end MRN
