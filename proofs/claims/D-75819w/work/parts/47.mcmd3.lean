set_option maxRecDepth 100000
section MRM
variable {G : sx_G} {h : Nat} {M : m_M} {σ : sx_St} {V : a_V} {A : a_A} {r r' : Nat → Int64} {t : Nat}
theorem m_J_nz (hJ : m_J M A) : m_J (m_i M 5 (nI 0)) (A_sn A []) := by
  have := m_J_n0 (f := M.2.2.1 0) hJ hJ.2.1 hJ.2.2.1
  rw [show m_a (m_i M 5 (nI 0)) 0 (M.2.2.1 0) = m_i M 5 (nI 0) from m_a_id (M := m_i M 5 (nI 0)) 0] at this
  exact this
/-- a message comes -/
def v_co (V : a_V) (b : Nat) (sz fl : Int32) : a_V := a_ub V b ((a_b V b).1, (a_b V b).2.1 + 1, a_ms V b ++ [((a_b V b).2.1, sz, fl)])
def m_cm (M : m_M) (b n : Nat) (sz fl : Int32) : m_M :=
  let M1 := m_u (m_u (m_u M (3 + 93 * b + 3 + 3 * n + 0) (m_w M (3 + 93 * b + 2)).toInt32.toInt64) (3 + 93 * b + 3 + 3 * n + 1) sz.toInt64) (3 + 93 * b + 3 + 3 * n + 2) fl.toInt64
  let M2 := m_u M1 (3 + 93 * b + 1) (m_w M1 (3 + 93 * b + 1) + 1)
  m_u M2 (3 + 93 * b + 2) (m_w M2 (3 + 93 * b + 2) + 1)
theorem m_cm_r {b n : Nat} {sz fl : Int32} (hb : b < 3) (hn : n < 30) : m_w (m_cm M b n sz fl) (3 + 93 * b + 3 + 3 * n) = (m_w M (3 + 93 * b + 2)).toInt32.toInt64 ∧ m_w (m_cm M b n sz fl) (3 + 93 * b + 3 + 3 * n + 1) = sz.toInt64 ∧ m_w (m_cm M b n sz fl) (3 + 93 * b + 3 + 3 * n + 2) = fl.toInt64 ∧ m_w (m_cm M b n sz fl) (3 + 93 * b + 1) = m_w M (3 + 93 * b + 1) + 1 ∧ m_w (m_cm M b n sz fl) (3 + 93 * b + 2) = m_w M (3 + 93 * b + 2) + 1 ∧ ∀ i, i ≠ 3 + 93 * b + 1 → i ≠ 3 + 93 * b + 2 → (i < 3 + 93 * b + 3 + 3 * n ∨ 3 + 93 * b + 3 + 3 * n + 3 ≤ i) → m_w (m_cm M b n sz fl) i = m_w M i := by
  unfold m_cm
  simp only [m_w_u, Nat.add_zero]
  refine ⟨?_, ?_, ?_, ?_, ?_, fun i h1 h2 h3 => ?_⟩
  · rw [uL_n (by omega), uL_n (by omega), uL_n (by omega), uL_n (by omega), uL_s]
  · rw [uL_n (by omega), uL_n (by omega), uL_n (by omega), uL_s]
  · rw [uL_n (by omega), uL_n (by omega), uL_s]
  · rw [uL_n (by omega), uL_s, uL_n (by omega), uL_n (by omega), uL_n (by omega)]
  · rw [uL_s, uL_n (by omega), uL_n (by omega), uL_n (by omega), uL_n (by omega)]
  · rw [uL_n (by omega), uL_n (by omega), uL_n (by omega), uL_n (by omega), uL_n (by omega)]
theorem m_fr_cm {M' : m_M} {b n : Nat} {sz fl : Int32} (h : m_fr M M') : m_fr M (m_cm M' b n sz fl) := m_fr_u (m_fr_u (m_fr_u (m_fr_u (m_fr_u h))))
theorem gd_appM (l : List a_M) (x : a_M) (j : Nat) (h : j < (l ++ [x]).length) : (l ++ [x]).getD j (0, 0, 0) = if j < l.length then l.getD j (0, 0, 0) else x := by
  rw [List.length_append, List.length_singleton] at h
  simp only [List.getD_eq_getElem?_getD]
  by_cases hj : j < l.length
  · rw [if_pos hj, List.getElem?_append_left hj]
  · have : j = l.length := by omega
    subst this
    simp
theorem e_B_cm {b : Nat} {B : a_B} {sz fl : Int32} (hb : b < 3) (hl : B.2.2.length < 30) (h : e_B (m_w M) (3 + 93 * b) B) : e_B (m_w (m_cm M b B.2.2.length sz fl)) (3 + 93 * b) (B.1, B.2.1 + 1, B.2.2 ++ [(B.2.1, sz, fl)]) := by
  obtain ⟨q1, q2, q3, q4, q5, q6⟩ := m_cm_r (M := M) (b := b) (n := B.2.2.length) (sz := sz) (fl := fl) hb hl
  obtain ⟨h1, h2, h3, h4⟩ := h
  refine ⟨by rw [q6 _ (by omega) (by omega) (by omega)]; exact h1, ?_, ?_, fun j hj => ?_⟩
  · rw [q4, i64_add, h2, List.length_append]
    exact nI_1 _
  · rw [q5, i64_add, h3]
    rfl
  · have hj : j < (B.2.2 ++ [(B.2.1, sz, fl)]).length := hj
    show e_M _ _ ((B.2.2 ++ [(B.2.1, sz, fl)]).getD j (0, 0, 0))
    rw [gd_appM _ _ _ hj]
    rw [List.length_append, List.length_singleton] at hj
    by_cases hjl : j < B.2.2.length
    · rw [if_pos hjl]
      have := h4 j hjl
      unfold e_M
      rw [q6 _ (by omega) (by omega) (by omega), q6 _ (by omega) (by omega) (by omega), q6 _ (by omega) (by omega) (by omega)]
      exact this
    · have : j = B.2.2.length := by omega
      subst this
      rw [if_neg hjl]
      exact ⟨by rw [q1, i64_back, h3], by rw [q2, i64_back], by rw [q3, i64_back]⟩
theorem i32_s1 {x : Int32} (h : x.toInt < 2147483647) : (x + 1).toInt = x.toInt + 1 := by
  rw [Int32.toInt_add, show (1 : Int32).toInt = 1 from rfl]
  have := Int32.le_toInt x
  exact Int.bmod_eq_of_le (by omega) (by omega)
theorem e_V_co {b : Nat} {sz fl : Int32} (hw : w_V V) (hb : b < V.2.1.length) (hl : (a_ms V b).length < 30) (hx : (a_b V b).2.1.toInt < 2147483647) (h : e_V (m_w M) V) : e_V (m_w (m_cm M b (a_ms V b).length sz fl)) (v_co V b sz fl) := by
  have hb3 := hw.1.1
  obtain ⟨q1, q2, q3, q4, q5, q6⟩ := m_cm_r (M := M) (b := b) (n := (a_ms V b).length) (sz := sz) (fl := fl) (show b < 3 by omega) hl
  refine e_V_b hw hb h (fun i hi => q6 i (by omega) (by omega) (by omega)) (e_B_cm (by omega) hl (h.1.2.2.2 b hb)) (fun s hs hbx u hu => h.2.2 s hs b hbx u ?_)
  rcases hu with ⟨m, hm, rfl⟩ | hu
  · have hm : m ∈ a_ms V b ++ [((a_b V b).2.1, sz, fl)] := hm
    rcases List.mem_append.mp hm with g | g
    · exact Or.inl ⟨m, g, rfl⟩
    · rw [List.mem_singleton.mp g]
      exact Or.inr (Int32.le_refl _)
  · have hu : (a_b V b).2.1 + 1 ≤ u := hu
    refine Or.inr ?_
    rw [Int32.le_iff_toInt_le] at hu ⊢
    rw [i32_s1 hx] at hu
    omega
theorem w_V_co {b : Nat} {sz fl : Int32} (hw : w_V V) (hl : (a_ms V b).length < 30) : w_V (v_co V b sz fl) := w_V_b hw (by show (_ ++ [_]).length ≤ 30; rw [List.length_append]; exact hl)
theorem e_V_lm {x : Int32} (hw : w_V V) (h : e_V r V) : e_V (vp_updL r 0 x.toInt64) (x, V.2) := by
  obtain ⟨⟨h1, h2, h3, h4⟩, h5, h6⟩ := h
  refine ⟨⟨by rw [uL_s, i64_back], by rw [uL_n (by omega)]; exact h2, by rw [uL_n (by omega)]; exact h3, fun b hb => e_B_fr (hw.1.2.2 b hb) (fun i g1 g2 => uL_n (by omega)) (h4 b hb)⟩, fun s hs => e_S_fr (hw.2.1 s hs) (fun i g1 g2 => uL_n (by omega)) (h5 s hs), fun s hs b hb u hu => ?_⟩
  rw [uL_n (by omega)]
  exact h6 s hs b hb u hu
theorem w_V_lm {x : Int32} (hw : w_V V) : w_V (x, V.2) := hw
def a_room (V : a_V) (b k : Nat) : Bool := decide (k = 0) || decide (nI ((a_ms V b).length + k) ≤ V.1)
def a_in (x lo hi : Int32) : Bool := decide (lo.toInt64 ≤ x.toInt64 ∧ x.toInt64 ≤ hi.toInt64)
/-- a session's box -/
def a_bs (V : a_V) (s : Nat) : Nat := (a_bx V s).getD 0
theorem a_bs_e {s b : Nat} (h : a_bx V s = some b) : a_bs V s = b := by unfold a_bs; rw [h]; rfl
theorem ct_comes (hn : h + 11 < sx_n σ) {b n : Nat} {sz fl : Int32} (hb : b < 3) (hn3 : n < 30) (hm : (m_w M (3 + 93 * b + 1)).toInt32 = nI n) : sx_Cr G 2 YX3_comes [.ref h, .int (nI b), .int sz, .int fl] (m_S G h M σ) (some (.int (m_w M (3 + 93 * b + 2)).toInt32)) (m_S G h (m_cm M b n sz fl) σ) := by
  refine sx_body (by decide) (Nat.le_of_ble_eq_true rfl) ?_
  refine sv_iload_n dX3_comes_0 rfl ?_
  refine sv_aload_n dX3_comes_1 rfl ?_
  refine sv_iload_n dX3_comes_2 rfl ?_
  refine sv_cvR _ (ct_manyInR hn hb) okX3_manyIn kv_X3_100 (sx_rd_c (m_S_0 hn)) rfl dX3_comes_3 rfl rfl (by decide) (Nat.le_of_ble_eq_true rfl) ?_
  refine sv_topI (y := nI n) hm ?_
  refine sv_csR _ ct_messageAt okX3_messageAt ks_X3_80 dX3_comes_6 rfl rfl (by decide) (Nat.le_of_ble_eq_true rfl) ?_
  refine sv_istore dX3_comes_9 (by decide) ?_
  refine sv_aload_n dX3_comes_11 rfl ?_
  refine sv_iload_n dX3_comes_12 rfl ?_
  refine sv_csR _ ct_boxAt okX3_boxAt ks_X3_77 dX3_comes_13 rfl rfl (by decide) (Nat.le_of_ble_eq_true rfl) ?_
  refine sv_iconst (nI 2) dX3_comes_16 (by decide +kernel) ?_
  refine sv_iaddN dX3_comes_17 ?_
  refine sv_cvR _ (ct_get hn (by omega)) okX3_get kv_X3_62 (sx_rd_c (m_S_0 hn)) rfl dX3_comes_18 rfl rfl (by decide) (Nat.le_of_ble_eq_true rfl) ?_
  refine sv_istore dX3_comes_21 (by decide) ?_
  refine sv_aload_n dX3_comes_23 rfl ?_
  refine sm_get hn fg_X3_24 dX3_comes_24 rfl ?_
  refine sv_iload dX3_comes_27 rfl ?_
  refine sv_iconst (nI 0) dX3_comes_29 (by decide +kernel) ?_
  refine sv_iaddN dX3_comes_30 ?_
  refine sv_iload dX3_comes_31 rfl ?_
  refine sv_i2l dX3_comes_33 ?_
  refine sm_wst hn dX3_comes_34 (by omega) ?_
  refine sv_aload_n dX3_comes_35 rfl ?_
  refine sm_get hn fg_X3_24 dX3_comes_36 rfl ?_
  refine sv_iload dX3_comes_39 rfl ?_
  refine sv_iconst (nI 1) dX3_comes_41 (by decide +kernel) ?_
  refine sv_iaddN dX3_comes_42 ?_
  refine sv_iload_n dX3_comes_43 rfl ?_
  refine sv_i2l dX3_comes_44 ?_
  refine sm_wst hn dX3_comes_45 (by omega) ?_
  refine sv_aload_n dX3_comes_46 rfl ?_
  refine sm_get hn fg_X3_24 dX3_comes_47 rfl ?_
  refine sv_iload dX3_comes_50 rfl ?_
  refine sv_iconst (nI 2) dX3_comes_52 (by decide +kernel) ?_
  refine sv_iaddN dX3_comes_53 ?_
  refine sv_iload_n dX3_comes_54 rfl ?_
  refine sv_i2l dX3_comes_55 ?_
  refine sm_wst hn dX3_comes_56 (by omega) ?_
  refine sv_aload_n dX3_comes_57 rfl ?_
  refine sm_get hn fg_X3_24 dX3_comes_58 rfl ?_
  refine sv_iload_n dX3_comes_61 rfl ?_
  refine sv_csR _ ct_boxAt okX3_boxAt ks_X3_77 dX3_comes_62 rfl rfl (by decide) (Nat.le_of_ble_eq_true rfl) ?_
  refine sv_iconst (nI 1) dX3_comes_65 (by decide +kernel) ?_
  refine sv_iaddN dX3_comes_66 ?_
  refine sv_dup2 dX3_comes_67 rfl rfl ?_
  refine sm_wld hn dX3_comes_68 (by omega) ?_
  refine sv_lconst 1 dX3_comes_69 (by decide) ?_
  refine sv_ladd dX3_comes_70 ?_
  refine sm_wst hn dX3_comes_71 (by omega) ?_
  refine sv_aload_n dX3_comes_72 rfl ?_
  refine sm_get hn fg_X3_24 dX3_comes_73 rfl ?_
  refine sv_iload_n dX3_comes_76 rfl ?_
  refine sv_csR _ ct_boxAt okX3_boxAt ks_X3_77 dX3_comes_77 rfl rfl (by decide) (Nat.le_of_ble_eq_true rfl) ?_
  refine sv_iconst (nI 2) dX3_comes_80 (by decide +kernel) ?_
  refine sv_iaddN dX3_comes_81 ?_
  refine sv_dup2 dX3_comes_82 rfl rfl ?_
  refine sm_wld hn dX3_comes_83 (by omega) ?_
  refine sv_lconst 1 dX3_comes_84 (by decide) ?_
  refine sv_ladd dX3_comes_85 ?_
  refine sm_wst hn dX3_comes_86 (by omega) ?_
  refine sv_iload dX3_comes_87 rfl ?_
  refine sv_iret rfl rfl dX3_comes_89 ?_
  exact ⟨_, rfl, rfl, rfl⟩
theorem ct_isSet {x : Int32} : sx_Cr G 1 YX3_isSet [.int x] σ (some (.int (b_I (a_in x 0 31)))) σ := by
  refine sx_body (by decide) (Nat.le_of_ble_eq_true rfl) ?_
  refine sv_iload_n dX3_isSet_0 rfl ?_
  refine sv_i2l dX3_isSet_1 ?_
  refine sv_lconst 0 dX3_isSet_2 (by decide) ?_
  refine sv_ldc2 q2329 dX3_isSet_3 ?_
  refine sv_csR _ ct_in okX3_in ks_X3_70 dX3_isSet_6 rfl rfl (by decide) (Nat.le_of_ble_eq_true rfl) ?_
  refine sv_iret (by first | exact b_I_nar _ | rfl) rfl dX3_isSet_9 ?_
  exact ⟨_, rfl, rfl, rfl⟩
theorem ct_isMode {x : Int32} : sx_Cr G 1 YX3_isMode [.int x] σ (some (.int (b_I (a_in x 0 2)))) σ := by
  refine sx_body (by decide) (Nat.le_of_ble_eq_true rfl) ?_
  refine sv_iload_n dX3_isMode_0 rfl ?_
  refine sv_i2l dX3_isMode_1 ?_
  refine sv_lconst 0 dX3_isMode_2 (by decide) ?_
  refine sv_ldc2 q2325 dX3_isMode_3 ?_
  refine sv_csR _ ct_in okX3_in ks_X3_70 dX3_isMode_6 rfl rfl (by decide) (Nat.le_of_ble_eq_true rfl) ?_
  refine sv_iret (by first | exact b_I_nar _ | rfl) rfl dX3_isMode_9 ?_
  exact ⟨_, rfl, rfl, rfl⟩
def a_fb (had mode flags : Int32) : Int32 := if mode = 0 then flags else if mode = 1 then had ||| flags else had &&& (flags ^^^ -1)
theorem ct_flagsBy {x y z : Int32} : sx_Cr G 0 YX3_flagsBy [.int x, .int y, .int z] σ (some (.int (a_fb x y z))) σ := by
  refine sx_body (by decide) (Nat.le_of_ble_eq_true rfl) ?_
  refine sv_iload_n dX3_flagsBy_0 rfl ?_
  refine sv_if_ne (tgt := 8) dX3_flagsBy_1 (by decide) (fun c1 => ?_) (fun c1 => ?_)
  · refine sv_iload_n dX3_flagsBy_8 rfl ?_
    refine sv_iconst (nI 1) dX3_flagsBy_9 (by decide +kernel) ?_
    refine sv_topI (y := 1) (by decide +kernel) ?_
    refine sv_icmp_ne (tgt := 19) dX3_flagsBy_10 (by decide) (fun c10 => ?_) (fun c10 => ?_)
    · refine sv_iload_n dX3_flagsBy_19 rfl ?_
      refine sv_iload_n dX3_flagsBy_20 rfl ?_
      refine sv_iconst (-1) dX3_flagsBy_21 (by decide +kernel) ?_
      refine sv_ixor dX3_flagsBy_22 ?_
      refine sv_iand dX3_flagsBy_23 ?_
      refine sv_iret rfl rfl dX3_flagsBy_24 ?_
      first | exact ⟨_, rfl, r_I (by unfold a_fb; rw [if_pos c1]), rfl⟩ | exact ⟨_, rfl, r_I (by unfold a_fb; rw [if_neg c1, if_pos c10]), rfl⟩ | exact ⟨_, rfl, r_I (by unfold a_fb; rw [if_neg c1, if_neg c10]), rfl⟩
    · refine sv_iload_n dX3_flagsBy_13 rfl ?_
      refine sv_iload_n dX3_flagsBy_14 rfl ?_
      refine sv_ior dX3_flagsBy_15 ?_
      refine sv_goto (tgt := 24) dX3_flagsBy_16 (by decide) ?_
      refine sv_iret rfl rfl dX3_flagsBy_24 ?_
      first | exact ⟨_, rfl, r_I (by unfold a_fb; rw [if_pos c1]), rfl⟩ | exact ⟨_, rfl, r_I (by unfold a_fb; rw [if_neg c1, if_pos c10]), rfl⟩ | exact ⟨_, rfl, r_I (by unfold a_fb; rw [if_neg c1, if_neg c10]), rfl⟩
  · refine sv_iload_n dX3_flagsBy_4 rfl ?_
    refine sv_goto (tgt := 24) dX3_flagsBy_5 (by decide) ?_
    refine sv_iret rfl rfl dX3_flagsBy_24 ?_
    first | exact ⟨_, rfl, r_I (by unfold a_fb; rw [if_pos c1]), rfl⟩ | exact ⟨_, rfl, r_I (by unfold a_fb; rw [if_neg c1, if_pos c10]), rfl⟩ | exact ⟨_, rfl, r_I (by unfold a_fb; rw [if_neg c1, if_neg c10]), rfl⟩
theorem ct_hasRoom (hn : h + 11 < sx_n σ) (hE : e_Vb (m_w M) V) (hw : w_Vb V) {b k : Nat} (hb : b < V.2.1.length) (hk : k ≤ 60) : sx_Cr G 2 YX3_hasRoom [.ref h, .int (nI b), .int (nI k)] (m_S G h M σ) (some (.int (b_I (a_room V b k)))) (m_S G h M σ) := by
  refine sx_body (by decide) (Nat.le_of_ble_eq_true rfl) ?_
  have h1 := hw.1
  refine sv_iload_n dX3_hasRoom_0 rfl ?_
  refine sv_if_eqN (tgt := 19) dX3_hasRoom_1 (by decide) (by omega) (fun c1 => ?_) (fun c1 => ?_)
  · have hf : nI 1 = b_I (a_room V b k) := by unfold a_room; rw [decide_eq_true c1]; rfl
    refine sv_iconst (nI 1) dX3_hasRoom_19 (by decide +kernel) ?_
    refine sv_goto (tgt := 24) dX3_hasRoom_20 (by decide) ?_
    refine sv_iret (by first | exact b_I_nar _ | rfl) rfl dX3_hasRoom_24 ?_
    exact ⟨_, rfl, r_I hf, rfl⟩
  · have hl := hw.2.2 b hb
    refine sv_aload_n dX3_hasRoom_4 rfl ?_
    refine sv_iload_n dX3_hasRoom_5 rfl ?_
    refine sv_cvR _ (ct_manyIn hn hE hw hb) okX3_manyIn kv_X3_100 (sx_rd_c (m_S_0 hn)) rfl dX3_hasRoom_6 rfl rfl (by decide) (Nat.le_of_ble_eq_true rfl) ?_
    refine sv_iload_n dX3_hasRoom_9 rfl ?_
    refine sv_iaddN dX3_hasRoom_10 ?_
    refine sv_aload_n dX3_hasRoom_11 rfl ?_
    refine sv_iconst (nI 0) dX3_hasRoom_12 (by decide +kernel) ?_
    refine sv_cvR _ (ct_get hn (by omega)) okX3_get kv_X3_62 (sx_rd_c (m_S_0 hn)) rfl dX3_hasRoom_13 rfl rfl (by decide) (Nat.le_of_ble_eq_true rfl) ?_
    refine sv_topI (y := V.1) hE.1 ?_
    refine sv_icmp_gt (tgt := 23) dX3_hasRoom_16 (by decide) (fun c16 => ?_) (fun c16 => ?_)
    · have hf : nI 0 = b_I (a_room V b k) := by unfold a_room; rw [decide_eq_false (by omega), decide_eq_false (Int32.not_le.mpr c16)]; rfl
      refine sv_iconst (nI 0) dX3_hasRoom_23 (by decide +kernel) ?_
      refine sv_iret (by first | exact b_I_nar _ | rfl) rfl dX3_hasRoom_24 ?_
      exact ⟨_, rfl, r_I hf, rfl⟩
    · have hf : nI 1 = b_I (a_room V b k) := by unfold a_room; rw [decide_eq_true (Int32.not_lt.mp c16), Bool.or_true]; rfl
      refine sv_iconst (nI 1) dX3_hasRoom_19 (by decide +kernel) ?_
      refine sv_goto (tgt := 24) dX3_hasRoom_20 (by decide) ?_
      refine sv_iret (by first | exact b_I_nar _ | rfl) rfl dX3_hasRoom_24 ?_
      exact ⟨_, rfl, r_I hf, rfl⟩
def s_se (A : a_A) (s b : Nat) (rd : Bool) : a_A := A_sv A (v_se (A_v A) s b rd)
def x_sel (A : a_A) (s b : Nat) (rd : Bool) : Int32 × a_A := (nI (a_es (A_v (s_ti 5 (s_se (s_be A s) s b rd) 0)) s).length, s_ti 5 (s_se (s_be A s) s b rd) 0)
def sp_sel (A : a_A) (s b : Int32) (rd : Bool) : Int32 × a_A := g_2 (i_in s (A_v A).2.2.length && i_in b (A_v A).2.1.length) ((i_in s (A_v A).2.2.length && i_in b (A_v A).2.1.length) && !(a_id (A_v A) s.toNatClampNeg)) A (x_sel (A_st A 0) s.toNatClampNeg b.toNatClampNeg rd)
theorem be_bx (A : a_A) (s : Nat) {t : Nat} (hs : s < (A_v A).2.2.length) : a_bx (A_v (s_be A s)) t = a_bx (A_v A) t := v_ac_bx hs
theorem be_rd (A : a_A) (s : Nat) {t : Nat} (hs : s < (A_v A).2.2.length) : a_rd (A_v (s_be A s)) t = a_rd (A_v A) t := by
  show a_rd (v_ac (A_v A) s 0 1) t = _
  unfold a_rd v_ac
  by_cases h : t = s
  · subst h; rw [a_us_s _ hs]; rfl
  · rw [a_us_t _ h]
theorem ct_select (hn : h + 11 < sx_n σ) (hJ : m_J M A) (ho : o_V t (A_v A)) {s b : Int32} {rd : Bool} : sx_Cp G 12 YX3_select [.ref h, .int s, .int b, .int (b_I rd)] (m_S G h M σ) (fun v τ => v = some (.int ((sp_sel A s b rd).1)) ∧ ∃ M2, τ = m_S G h M2 σ ∧ m_J M2 ((sp_sel A s b rd).2)) := by
  have tail : ∀ s b : Int32, ((i_in s (A_v A).2.2.length && i_in b (A_v A).2.1.length) && ((i_in s (A_v A).2.2.length && i_in b (A_v A).2.1.length) && !(a_id (A_v A) s.toNatClampNeg))) = true → sx_V G 12 YX3_select 52 [some (.ref h), some (.int s), some (.int b), some (.int (b_I rd)), none] [] (m_S G h (m_i M 0 0) σ) (fun o τ => ∃ v, o = .inl v ∧ v = some (.int (sp_sel A s b rd).1) ∧ ∃ M2, τ = m_S G h M2 σ ∧ m_J M2 (sp_sel A s b rd).2) := by
    have hs4 := hJ.2.2.1.1.2.1
    have hb3 := hJ.2.2.1.1.1
    intro s b hc
    have hA := hc
    rw [Bool.and_eq_true, Bool.and_eq_true] at hA
    obtain ⟨j, hj, rfl⟩ := i_in_of (by omega) hA.1.1
    obtain ⟨c, hb, rfl⟩ := i_in_of (by omega) hA.1.2
    have ej : (nI j).toNatClampNeg = j := nI_clamp (by omega)
    have ec : (nI c).toNatClampNeg = c := nI_clamp (by omega)
    have hsp : sp_sel A (nI j) (nI c) rd = x_sel (A_st A 0) j c rd := by unfold sp_sel; rw [g_2t hc, ej, ec]
    rw [hsp]
    have hJ0 := m_J_t hJ 0
    refine sv_aload_n dX3_select_52 rfl ?_
    refine sv_iload_n dX3_select_53 rfl ?_
    refine sv_cvP _ (ct_begins hn hJ0 hj) okX3_begins kv_X3_196 (sx_rd_c (m_S_0 hn)) rfl dX3_select_54 rfl rfl (by decide) (Nat.le_of_ble_eq_true rfl) ?_
    intro v1 t1 hp1
    obtain ⟨rfl, M1, rfl, hJ1⟩ := hp1
    have hcl := hJ1.2.2.1.1.2.2 c hb
    have hj1 : j < (A_v (s_be (A_st A 0) j)).2.2.length := by rw [be_len]; exact hj
    refine sv_aload_n dX3_select_57 rfl ?_
    refine sv_iload_n dX3_select_58 rfl ?_
    refine sv_iload_n dX3_select_59 rfl ?_
    refine sv_iload_n dX3_select_60 rfl ?_
    refine sv_cvR _ (ct_takeBox (rd := rd) hn (by omega) (by omega) hcl ((m_J_e hJ1).1.2.2.2 c hb).2.1) okX3_takeBox kv_X3_199 (sx_rd_c (m_S_0 hn)) rfl dX3_select_61 rfl rfl (by decide) (Nat.le_of_ble_eq_true rfl) ?_
    have hJ2 : m_J _ (s_se (s_be (A_st A 0) j) j c rd) := m_J_fr hJ1 (m_fr_tk (m_fr_u (m_fr_u (m_fr_lv (m_fr_r hJ1.1)))) _) (e_V_se hJ1.2.2.1 (ho.2.1 c hb) hj1 hb (m_J_e hJ1)) (w_V_se hJ1.2.2.1 hb)
    refine sv_aload_n dX3_select_64 rfl ?_
    refine sv_cvP _ (ct_tellsIdle hn hJ2 (by show 0 + 500 ≤ 1000; omega)) okX3_tellsIdle kv_X3_178 (sx_rd_c (m_S_0 hn)) rfl dX3_select_65 rfl rfl (by decide) (Nat.le_of_ble_eq_true rfl) ?_
    intro v2 t2 hp2
    obtain ⟨rfl, M3, rfl, hJ3⟩ := hp2
    have k3 := kp_ti 5 (s_se (s_be (A_st A 0) j) j c rd) 0
    have hj3 : j < (A_v (s_ti 5 (s_se (s_be (A_st A 0) j) j c rd) 0)).2.2.length := by rw [k3.2.2.1, show (A_v (s_se (s_be (A_st A 0) j) j c rd)).2.2.length = (A_v (s_be (A_st A 0) j)).2.2.length from a_us_n _ _ _]; exact hj1
    refine sv_aload_n dX3_select_68 rfl ?_
    refine sv_iload_n dX3_select_69 rfl ?_
    refine sv_cvR _ (ct_entries hn (m_J_e hJ3) hJ3.2.2.1 hj3) okX3_entries kv_X3_97 (sx_rd_c (m_S_0 hn)) rfl dX3_select_70 rfl rfl (by decide) (Nat.le_of_ble_eq_true rfl) ?_
    refine sv_iret rfl rfl dX3_select_73 ?_
    exact ⟨_, rfl, rfl, M3, rfl, hJ3⟩
  refine sx_body (by decide) (Nat.le_of_ble_eq_true rfl) ?_
  have hs4 := hJ.2.2.1.1.2.1
  have hb3 := hJ.2.2.1.1.1
  refine sv_aload_n dX3_select_0 rfl ?_
  refine sv_iload_n dX3_select_1 rfl ?_
  refine sv_cvR _ (ct_isSession hn (m_J_e hJ).1 hJ.2.2.1.1) okX3_isSession kv_X3_93 (sx_rd_c (m_S_0 hn)) rfl dX3_select_2 rfl rfl (by decide) (Nat.le_of_ble_eq_true rfl) ?_
  refine sv_if_eqB (tgt := 20) dX3_select_5 (by decide) (fun c5 => ?_) (fun c5 => ?_)
  · have hjn : nI 0 = b_I (i_in s (A_v A).2.2.length && i_in b (A_v A).2.1.length) := by rw [c5]; rfl
    refine sv_iconst (nI 0) dX3_select_20 (by decide +kernel) ?_
    refine sv_topI hjn ?_
    refine sv_istore dX3_select_21 (by decide) ?_
    refine sv_aload_n dX3_select_23 rfl ?_
    refine sv_iload dX3_select_24 rfl ?_
    refine sv_iload dX3_select_26 rfl ?_
    refine sv_if_eqB (tgt := 43) dX3_select_28 (by decide) (fun c28 => ?_) (fun c28 => ?_)
    · have hjm : nI 0 = b_I ((i_in s (A_v A).2.2.length && i_in b (A_v A).2.1.length) && !(a_id (A_v A) s.toNatClampNeg)) := by rw [c28]; rfl
      refine sv_iconst (nI 0) dX3_select_43 (by decide +kernel) ?_
      refine sv_topI hjm ?_
      refine sv_cvR _ (ct_passes2 hn) okX3_passes2 kv_X3_192 (sx_rd_c (m_S_0 hn)) rfl dX3_select_44 rfl rfl (by decide) (Nat.le_of_ble_eq_true rfl) ?_
      refine sv_if_neB (tgt := 52) dX3_select_47 (by decide) (fun c47 => ?_) (fun c47 => ?_)
      · rw [t_hr_2 c47]
        exact sx_loc [some (.ref h), some (.int _), some (.int b), some (.int (b_I rd)), none] ⟨rfl, rfl, rfl, rfl, trivial⟩ (tail _ _ c47)
      · unfold sp_sel
        rw [g_2f c47]
        refine sv_iconst (nI 0) dX3_select_50 (by decide +kernel) ?_
        refine sv_iret rfl rfl dX3_select_51 ?_
        exact ⟨_, rfl, r_I nI_0, _, rfl, m_J_t hJ _⟩
    · have hA := c28
      rw [Bool.and_eq_true] at hA
      obtain ⟨j, hj, rfl⟩ := i_in_of (by omega) hA.1
      have ej : (nI j).toNatClampNeg = j := nI_clamp (by omega)
      refine sv_aload_n dX3_select_31 rfl ?_
      refine sv_iload_n dX3_select_32 rfl ?_
      refine sv_cvR _ (ct_isIdle hn (m_J_e hJ) hJ.2.2.1 hj) okX3_isIdle kv_X3_162 (sx_rd_c (m_S_0 hn)) rfl dX3_select_33 rfl rfl (by decide) (Nat.le_of_ble_eq_true rfl) ?_
      refine sv_if_neB (tgt := 43) dX3_select_36 (by decide) (fun c36 => ?_) (fun c36 => ?_)
      · have hjm : nI 0 = b_I ((i_in (nI j) (A_v A).2.2.length && i_in b (A_v A).2.1.length) && !(a_id (A_v A) (nI j).toNatClampNeg)) := by rw [c28, ej, c36]; rfl
        refine sv_iconst (nI 0) dX3_select_43 (by decide +kernel) ?_
        refine sv_topI hjm ?_
        refine sv_cvR _ (ct_passes2 hn) okX3_passes2 kv_X3_192 (sx_rd_c (m_S_0 hn)) rfl dX3_select_44 rfl rfl (by decide) (Nat.le_of_ble_eq_true rfl) ?_
        refine sv_if_neB (tgt := 52) dX3_select_47 (by decide) (fun c47 => ?_) (fun c47 => ?_)
        · rw [t_hr_2 c47]
          exact sx_loc [some (.ref h), some (.int _), some (.int b), some (.int (b_I rd)), none] ⟨rfl, rfl, rfl, rfl, trivial⟩ (tail _ _ c47)
        · unfold sp_sel
          rw [g_2f c47]
          refine sv_iconst (nI 0) dX3_select_50 (by decide +kernel) ?_
          refine sv_iret rfl rfl dX3_select_51 ?_
          exact ⟨_, rfl, r_I nI_0, _, rfl, m_J_t hJ _⟩
      · have hjm : nI 1 = b_I ((i_in (nI j) (A_v A).2.2.length && i_in b (A_v A).2.1.length) && !(a_id (A_v A) (nI j).toNatClampNeg)) := by rw [c28, ej, c36]; rfl
        refine sv_iconst (nI 1) dX3_select_39 (by decide +kernel) ?_
        refine sv_goto (tgt := 44) dX3_select_40 (by decide) ?_
        refine sv_topI hjm ?_
        refine sv_cvR _ (ct_passes2 hn) okX3_passes2 kv_X3_192 (sx_rd_c (m_S_0 hn)) rfl dX3_select_44 rfl rfl (by decide) (Nat.le_of_ble_eq_true rfl) ?_
        refine sv_if_neB (tgt := 52) dX3_select_47 (by decide) (fun c47 => ?_) (fun c47 => ?_)
        · rw [t_hr_2 c47]
          exact sx_loc [some (.ref h), some (.int _), some (.int b), some (.int (b_I rd)), none] ⟨rfl, rfl, rfl, rfl, trivial⟩ (tail _ _ c47)
        · unfold sp_sel
          rw [g_2f c47]
          refine sv_iconst (nI 0) dX3_select_50 (by decide +kernel) ?_
          refine sv_iret rfl rfl dX3_select_51 ?_
          exact ⟨_, rfl, r_I nI_0, _, rfl, m_J_t hJ _⟩
  · refine sv_aload_n dX3_select_8 rfl ?_
    refine sv_iload_n dX3_select_9 rfl ?_
    refine sv_cvR _ (ct_isBox hn (m_J_e hJ).1 hJ.2.2.1.1) okX3_isBox kv_X3_189 (sx_rd_c (m_S_0 hn)) rfl dX3_select_10 rfl rfl (by decide) (Nat.le_of_ble_eq_true rfl) ?_
    refine sv_if_eqB (tgt := 20) dX3_select_13 (by decide) (fun c13 => ?_) (fun c13 => ?_)
    · have hjn : nI 0 = b_I (i_in s (A_v A).2.2.length && i_in b (A_v A).2.1.length) := by rw [c5, c13]; rfl
      refine sv_iconst (nI 0) dX3_select_20 (by decide +kernel) ?_
      refine sv_topI hjn ?_
      refine sv_istore dX3_select_21 (by decide) ?_
      refine sv_aload_n dX3_select_23 rfl ?_
      refine sv_iload dX3_select_24 rfl ?_
      refine sv_iload dX3_select_26 rfl ?_
      refine sv_if_eqB (tgt := 43) dX3_select_28 (by decide) (fun c28 => ?_) (fun c28 => ?_)
      · have hjm : nI 0 = b_I ((i_in s (A_v A).2.2.length && i_in b (A_v A).2.1.length) && !(a_id (A_v A) s.toNatClampNeg)) := by rw [c28]; rfl
        refine sv_iconst (nI 0) dX3_select_43 (by decide +kernel) ?_
        refine sv_topI hjm ?_
        refine sv_cvR _ (ct_passes2 hn) okX3_passes2 kv_X3_192 (sx_rd_c (m_S_0 hn)) rfl dX3_select_44 rfl rfl (by decide) (Nat.le_of_ble_eq_true rfl) ?_
        refine sv_if_neB (tgt := 52) dX3_select_47 (by decide) (fun c47 => ?_) (fun c47 => ?_)
        · rw [t_hr_2 c47]
          exact sx_loc [some (.ref h), some (.int _), some (.int b), some (.int (b_I rd)), none] ⟨rfl, rfl, rfl, rfl, trivial⟩ (tail _ _ c47)
        · unfold sp_sel
          rw [g_2f c47]
          refine sv_iconst (nI 0) dX3_select_50 (by decide +kernel) ?_
          refine sv_iret rfl rfl dX3_select_51 ?_
          exact ⟨_, rfl, r_I nI_0, _, rfl, m_J_t hJ _⟩
      · have hA := c28
        rw [Bool.and_eq_true] at hA
        obtain ⟨j, hj, rfl⟩ := i_in_of (by omega) hA.1
        have ej : (nI j).toNatClampNeg = j := nI_clamp (by omega)
        refine sv_aload_n dX3_select_31 rfl ?_
        refine sv_iload_n dX3_select_32 rfl ?_
        refine sv_cvR _ (ct_isIdle hn (m_J_e hJ) hJ.2.2.1 hj) okX3_isIdle kv_X3_162 (sx_rd_c (m_S_0 hn)) rfl dX3_select_33 rfl rfl (by decide) (Nat.le_of_ble_eq_true rfl) ?_
        refine sv_if_neB (tgt := 43) dX3_select_36 (by decide) (fun c36 => ?_) (fun c36 => ?_)
        · have hjm : nI 0 = b_I ((i_in (nI j) (A_v A).2.2.length && i_in b (A_v A).2.1.length) && !(a_id (A_v A) (nI j).toNatClampNeg)) := by rw [c28, ej, c36]; rfl
          refine sv_iconst (nI 0) dX3_select_43 (by decide +kernel) ?_
          refine sv_topI hjm ?_
          refine sv_cvR _ (ct_passes2 hn) okX3_passes2 kv_X3_192 (sx_rd_c (m_S_0 hn)) rfl dX3_select_44 rfl rfl (by decide) (Nat.le_of_ble_eq_true rfl) ?_
          refine sv_if_neB (tgt := 52) dX3_select_47 (by decide) (fun c47 => ?_) (fun c47 => ?_)
          · rw [t_hr_2 c47]
            exact sx_loc [some (.ref h), some (.int _), some (.int b), some (.int (b_I rd)), none] ⟨rfl, rfl, rfl, rfl, trivial⟩ (tail _ _ c47)
          · unfold sp_sel
            rw [g_2f c47]
            refine sv_iconst (nI 0) dX3_select_50 (by decide +kernel) ?_
            refine sv_iret rfl rfl dX3_select_51 ?_
            exact ⟨_, rfl, r_I nI_0, _, rfl, m_J_t hJ _⟩
        · have hjm : nI 1 = b_I ((i_in (nI j) (A_v A).2.2.length && i_in b (A_v A).2.1.length) && !(a_id (A_v A) (nI j).toNatClampNeg)) := by rw [c28, ej, c36]; rfl
          refine sv_iconst (nI 1) dX3_select_39 (by decide +kernel) ?_
          refine sv_goto (tgt := 44) dX3_select_40 (by decide) ?_
          refine sv_topI hjm ?_
          refine sv_cvR _ (ct_passes2 hn) okX3_passes2 kv_X3_192 (sx_rd_c (m_S_0 hn)) rfl dX3_select_44 rfl rfl (by decide) (Nat.le_of_ble_eq_true rfl) ?_
          refine sv_if_neB (tgt := 52) dX3_select_47 (by decide) (fun c47 => ?_) (fun c47 => ?_)
          · rw [t_hr_2 c47]
            exact sx_loc [some (.ref h), some (.int _), some (.int b), some (.int (b_I rd)), none] ⟨rfl, rfl, rfl, rfl, trivial⟩ (tail _ _ c47)
          · unfold sp_sel
            rw [g_2f c47]
            refine sv_iconst (nI 0) dX3_select_50 (by decide +kernel) ?_
            refine sv_iret rfl rfl dX3_select_51 ?_
            exact ⟨_, rfl, r_I nI_0, _, rfl, m_J_t hJ _⟩
    · have hjn : nI 1 = b_I (i_in s (A_v A).2.2.length && i_in b (A_v A).2.1.length) := by rw [c5, c13]; rfl
      refine sv_iconst (nI 1) dX3_select_16 (by decide +kernel) ?_
      refine sv_goto (tgt := 21) dX3_select_17 (by decide) ?_
      refine sv_topI hjn ?_
      refine sv_istore dX3_select_21 (by decide) ?_
      refine sv_aload_n dX3_select_23 rfl ?_
      refine sv_iload dX3_select_24 rfl ?_
      refine sv_iload dX3_select_26 rfl ?_
      refine sv_if_eqB (tgt := 43) dX3_select_28 (by decide) (fun c28 => ?_) (fun c28 => ?_)
      · have hjm : nI 0 = b_I ((i_in s (A_v A).2.2.length && i_in b (A_v A).2.1.length) && !(a_id (A_v A) s.toNatClampNeg)) := by rw [c28]; rfl
        refine sv_iconst (nI 0) dX3_select_43 (by decide +kernel) ?_
        refine sv_topI hjm ?_
        refine sv_cvR _ (ct_passes2 hn) okX3_passes2 kv_X3_192 (sx_rd_c (m_S_0 hn)) rfl dX3_select_44 rfl rfl (by decide) (Nat.le_of_ble_eq_true rfl) ?_
        refine sv_if_neB (tgt := 52) dX3_select_47 (by decide) (fun c47 => ?_) (fun c47 => ?_)
        · rw [t_hr_2 c47]
          exact sx_loc [some (.ref h), some (.int _), some (.int b), some (.int (b_I rd)), none] ⟨rfl, rfl, rfl, rfl, trivial⟩ (tail _ _ c47)
        · unfold sp_sel
          rw [g_2f c47]
          refine sv_iconst (nI 0) dX3_select_50 (by decide +kernel) ?_
          refine sv_iret rfl rfl dX3_select_51 ?_
          exact ⟨_, rfl, r_I nI_0, _, rfl, m_J_t hJ _⟩
      · have hA := c28
        rw [Bool.and_eq_true] at hA
        obtain ⟨j, hj, rfl⟩ := i_in_of (by omega) hA.1
        have ej : (nI j).toNatClampNeg = j := nI_clamp (by omega)
        refine sv_aload_n dX3_select_31 rfl ?_
        refine sv_iload_n dX3_select_32 rfl ?_
        refine sv_cvR _ (ct_isIdle hn (m_J_e hJ) hJ.2.2.1 hj) okX3_isIdle kv_X3_162 (sx_rd_c (m_S_0 hn)) rfl dX3_select_33 rfl rfl (by decide) (Nat.le_of_ble_eq_true rfl) ?_
        refine sv_if_neB (tgt := 43) dX3_select_36 (by decide) (fun c36 => ?_) (fun c36 => ?_)
        · have hjm : nI 0 = b_I ((i_in (nI j) (A_v A).2.2.length && i_in b (A_v A).2.1.length) && !(a_id (A_v A) (nI j).toNatClampNeg)) := by rw [c28, ej, c36]; rfl
          refine sv_iconst (nI 0) dX3_select_43 (by decide +kernel) ?_
          refine sv_topI hjm ?_
          refine sv_cvR _ (ct_passes2 hn) okX3_passes2 kv_X3_192 (sx_rd_c (m_S_0 hn)) rfl dX3_select_44 rfl rfl (by decide) (Nat.le_of_ble_eq_true rfl) ?_
          refine sv_if_neB (tgt := 52) dX3_select_47 (by decide) (fun c47 => ?_) (fun c47 => ?_)
          · rw [t_hr_2 c47]
            exact sx_loc [some (.ref h), some (.int _), some (.int b), some (.int (b_I rd)), none] ⟨rfl, rfl, rfl, rfl, trivial⟩ (tail _ _ c47)
          · unfold sp_sel
            rw [g_2f c47]
            refine sv_iconst (nI 0) dX3_select_50 (by decide +kernel) ?_
            refine sv_iret rfl rfl dX3_select_51 ?_
            exact ⟨_, rfl, r_I nI_0, _, rfl, m_J_t hJ _⟩
        · have hjm : nI 1 = b_I ((i_in (nI j) (A_v A).2.2.length && i_in b (A_v A).2.1.length) && !(a_id (A_v A) (nI j).toNatClampNeg)) := by rw [c28, ej, c36]; rfl
          refine sv_iconst (nI 1) dX3_select_39 (by decide +kernel) ?_
          refine sv_goto (tgt := 44) dX3_select_40 (by decide) ?_
          refine sv_topI hjm ?_
          refine sv_cvR _ (ct_passes2 hn) okX3_passes2 kv_X3_192 (sx_rd_c (m_S_0 hn)) rfl dX3_select_44 rfl rfl (by decide) (Nat.le_of_ble_eq_true rfl) ?_
          refine sv_if_neB (tgt := 52) dX3_select_47 (by decide) (fun c47 => ?_) (fun c47 => ?_)
          · rw [t_hr_2 c47]
            exact sx_loc [some (.ref h), some (.int _), some (.int b), some (.int (b_I rd)), none] ⟨rfl, rfl, rfl, rfl, trivial⟩ (tail _ _ c47)
          · unfold sp_sel
            rw [g_2f c47]
            refine sv_iconst (nI 0) dX3_select_50 (by decide +kernel) ?_
            refine sv_iret rfl rfl dX3_select_51 ?_
            exact ⟨_, rfl, r_I nI_0, _, rfl, m_J_t hJ _⟩
theorem a_chg_of (hw : w_V V) {s : Int32} (h : a_chg V s = true) : ∃ j b, j < V.2.2.length ∧ s = nI j ∧ s.toNatClampNeg = j ∧ a_bx V j = some b ∧ b < V.2.1.length ∧ a_id V j = false ∧ a_rd V j = false := by
  unfold a_chg at h
  rw [Bool.and_eq_true] at h
  obtain ⟨j, b, h1, h2, h3, h4, h5, h6⟩ := a_can_of hw h.1
  refine ⟨j, b, h1, h2, h3, h4, h5, h6, ?_⟩
  have := h.2
  rw [h3] at this
  simpa using this
def s_rd (A : a_A) (s : Nat) (f l : Int32) : a_A := A_sv A (v_bm (A_v A) (a_bs (A_v A) s) ((a_ms (A_v A) (a_bs (A_v A) s)).filter (fun x => !(a_dl f l x))))
def n_rd (A : a_A) (s : Nat) (f l : Int32) : Int32 := nI ((a_ms (A_v A) (a_bs (A_v A) s)).countP (a_dl f l))
theorem s_rd_e {s b : Nat} {f l : Int32} (h : a_bs (A_v A) s = b) : s_rd A s f l = A_sv A (v_bm (A_v A) b ((a_ms (A_v A) b).filter (fun x => !(a_dl f l x)))) := by unfold s_rd; rw [h]
theorem n_rd_e {s b : Nat} {f l : Int32} (h : a_bs (A_v A) s = b) : n_rd A s f l = nI ((a_ms (A_v A) b).countP (a_dl f l)) := by unfold n_rd; rw [h]
def x_exp (A : a_A) (s : Nat) (f l : Int32) : Int32 × a_A := (n_rd (s_be A s) s f l, s_en (s_rd (s_be A s) s f l) s true)
def sp_exp (A : a_A) (s : Int32) (f l : Int32) : Int32 × a_A := g_2 (i_in s (A_v A).2.2.length) (a_chg (A_v A) s) A (x_exp (A_st A 0) s.toNatClampNeg f l)
def x_clo (A : a_A) (s : Nat) : Int32 × a_A := if a_rd (A_v A) s then (0, s_ti 5 (A_sv (s_be A s) (v_lv (A_v (s_be A s)) s)) 0) else (n_rd (s_be A s) s 0 2147483647, s_ti 5 (A_sv (s_rd (s_be A s) s 0 2147483647) (v_lv (A_v (s_rd (s_be A s) s 0 2147483647)) s)) 0)
def sp_clo (A : a_A) (s : Int32) : Int32 × a_A := g_2 (i_in s (A_v A).2.2.length) (a_can (A_v A) s) A (x_clo (A_st A 0) s.toNatClampNeg)
theorem ct_expunge (hn : h + 11 < sx_n σ) (hJ : m_J M A) {s : Int32} : sx_Cp G 12 YX3_expunge [.ref h, .int s] (m_S G h M σ) (fun v τ => v = some (.int ((sp_exp A s 0 2147483647).1)) ∧ ∃ M2, τ = m_S G h M2 σ ∧ m_J M2 ((sp_exp A s 0 2147483647).2)) := by
  refine sx_body (by decide) (Nat.le_of_ble_eq_true rfl) ?_
  refine sv_aload_n dX3_expunge_0 rfl ?_
  refine sv_aload_n dX3_expunge_1 rfl ?_
  refine sv_iload_n dX3_expunge_2 rfl ?_
  refine sv_cvR _ (ct_isSession hn (m_J_e hJ).1 hJ.2.2.1.1) okX3_isSession kv_X3_93 (sx_rd_c (m_S_0 hn)) rfl dX3_expunge_3 rfl rfl (by decide) (Nat.le_of_ble_eq_true rfl) ?_
  refine sv_aload_n dX3_expunge_6 rfl ?_
  refine sv_iload_n dX3_expunge_7 rfl ?_
  refine sv_cvR _ (ct_canChange hn (m_J_e hJ) hJ.2.2.1) okX3_canChange kv_X3_231 (sx_rd_c (m_S_0 hn)) rfl dX3_expunge_8 rfl rfl (by decide) (Nat.le_of_ble_eq_true rfl) ?_
  refine sv_cvR _ (ct_passes2 hn) okX3_passes2 kv_X3_192 (sx_rd_c (m_S_0 hn)) rfl dX3_expunge_11 rfl rfl (by decide) (Nat.le_of_ble_eq_true rfl) ?_
  refine sv_if_neB (tgt := 19) dX3_expunge_14 (by decide) (fun c14 => ?_) (fun c14 => ?_)
  · have hc2 := c14
    rw [Bool.and_eq_true] at hc2
    obtain ⟨j, b, hj, rfl, ej, hbx, hb, hid, hrd⟩ := a_chg_of hJ.2.2.1 hc2.2
    have hsp : sp_exp A (nI j) 0 2147483647 = x_exp (A_st A 0) j 0 2147483647 := by unfold sp_exp; rw [g_2t c14, ej]
    rw [hsp]
    rw [t_hr_2 c14]
    have hJ0 := m_J_t hJ 0
    have hs4 := hJ.2.2.1.1.2.1
    have hb3 := hJ.2.2.1.1.1
    have hbl := hJ.2.2.1.1.2.2 b hb
    refine sv_aload_n dX3_expunge_19 rfl ?_
    refine sv_iload_n dX3_expunge_20 rfl ?_
    refine sv_cvP _ (ct_begins hn hJ0 hj) okX3_begins kv_X3_196 (sx_rd_c (m_S_0 hn)) rfl dX3_expunge_21 rfl rfl (by decide) (Nat.le_of_ble_eq_true rfl) ?_
    intro v1 t1 hp1
    obtain ⟨rfl, M1, rfl, hJ1⟩ := hp1
    have hj1 : j < (A_v (s_be (A_st A 0) j)).2.2.length := by rw [be_len]; exact hj
    have hbx1 : a_bx (A_v (s_be (A_st A 0) j)) j = some b := (be_bx _ _ hj).trans hbx
    have hbs := a_bs_e hbx1
    refine sv_aload_n dX3_expunge_24 rfl ?_
    refine sv_iload_n dX3_expunge_25 rfl ?_
    refine sv_iconst (nI 1) dX3_expunge_26 (by decide +kernel) ?_
    refine sv_topI (y := b_I true) rfl ?_
    refine sv_aload_n dX3_expunge_27 rfl ?_
    refine sv_aload_n dX3_expunge_28 rfl ?_
    refine sv_iload_n dX3_expunge_29 rfl ?_
    refine sv_cvR _ (ct_boxOf hn (m_J_e hJ1) hJ1.2.2.1 hj1) okX3_boxOf kv_X3_87 (sx_rd_c (m_S_0 hn)) rfl dX3_expunge_30 rfl rfl (by decide) (Nat.le_of_ble_eq_true rfl) ?_
    rw [hbx1]
    show sx_V G 12 _ _ _ (.int (nI b) :: _) _ _
    refine sv_iconst (nI 0) dX3_expunge_33 (by decide +kernel) ?_
    refine sv_topI (y := 0) nI_0 ?_
    refine sv_ldc q2349 dX3_expunge_34 ?_
    refine sv_topI (y := 2147483647) (by decide +kernel) ?_
    refine sv_cvP _ (ct_removeDeleted (f := 0) (l := 2147483647) hn hJ1 hb) okX3_removeDeleted kv_X3_244 (sx_rd_c (m_S_0 hn)) rfl dX3_expunge_36 rfl rfl (by decide) (Nat.le_of_ble_eq_true rfl) ?_
    intro v2 t2 hp2
    obtain ⟨rfl, M2, rfl, hJ2⟩ := hp2
    rw [← s_rd_e hbs] at hJ2
    rw [← n_rd_e hbs]
    refine sv_cvP _ (ct_done_t hn hJ2 hj1 (by show 0 + 700 ≤ 1000; omega)) okX3_done kv_X3_214 (sx_rd_c (m_S_0 hn)) rfl dX3_expunge_39 rfl rfl (by decide) (Nat.le_of_ble_eq_true rfl) ?_
    intro v3 t3 hp3
    obtain ⟨rfl, M3, rfl, hJ3⟩ := hp3
    refine sv_iret rfl rfl dX3_expunge_42 ?_
    exact ⟨_, rfl, rfl, M3, rfl, hJ3⟩
  · unfold sp_exp
    rw [g_2f c14]
    refine sv_iconst (nI 0) dX3_expunge_17 (by decide +kernel) ?_
    refine sv_iret rfl rfl dX3_expunge_18 ?_
    exact ⟨_, rfl, r_I nI_0, _, rfl, m_J_t hJ _⟩
theorem ct_uidExpunge (hn : h + 11 < sx_n σ) (hJ : m_J M A) {s : Int32} {f l : Int32} : sx_Cp G 12 YX3_uidExpunge [.ref h, .int s, .int f, .int l] (m_S G h M σ) (fun v τ => v = some (.int ((sp_exp A s f l).1)) ∧ ∃ M2, τ = m_S G h M2 σ ∧ m_J M2 ((sp_exp A s f l).2)) := by
  refine sx_body (by decide) (Nat.le_of_ble_eq_true rfl) ?_
  refine sv_aload_n dX3_uidExpunge_0 rfl ?_
  refine sv_aload_n dX3_uidExpunge_1 rfl ?_
  refine sv_iload_n dX3_uidExpunge_2 rfl ?_
  refine sv_cvR _ (ct_isSession hn (m_J_e hJ).1 hJ.2.2.1.1) okX3_isSession kv_X3_93 (sx_rd_c (m_S_0 hn)) rfl dX3_uidExpunge_3 rfl rfl (by decide) (Nat.le_of_ble_eq_true rfl) ?_
  refine sv_aload_n dX3_uidExpunge_6 rfl ?_
  refine sv_iload_n dX3_uidExpunge_7 rfl ?_
  refine sv_cvR _ (ct_canChange hn (m_J_e hJ) hJ.2.2.1) okX3_canChange kv_X3_231 (sx_rd_c (m_S_0 hn)) rfl dX3_uidExpunge_8 rfl rfl (by decide) (Nat.le_of_ble_eq_true rfl) ?_
  refine sv_cvR _ (ct_passes2 hn) okX3_passes2 kv_X3_192 (sx_rd_c (m_S_0 hn)) rfl dX3_uidExpunge_11 rfl rfl (by decide) (Nat.le_of_ble_eq_true rfl) ?_
  refine sv_if_neB (tgt := 19) dX3_uidExpunge_14 (by decide) (fun c14 => ?_) (fun c14 => ?_)
  · have hc2 := c14
    rw [Bool.and_eq_true] at hc2
    obtain ⟨j, b, hj, rfl, ej, hbx, hb, hid, hrd⟩ := a_chg_of hJ.2.2.1 hc2.2
    have hsp : sp_exp A (nI j) f l = x_exp (A_st A 0) j f l := by unfold sp_exp; rw [g_2t c14, ej]
    rw [hsp]
    rw [t_hr_2 c14]
    have hJ0 := m_J_t hJ 0
    have hs4 := hJ.2.2.1.1.2.1
    have hb3 := hJ.2.2.1.1.1
    have hbl := hJ.2.2.1.1.2.2 b hb
    refine sv_aload_n dX3_uidExpunge_19 rfl ?_
    refine sv_iload_n dX3_uidExpunge_20 rfl ?_
    refine sv_cvP _ (ct_begins hn hJ0 hj) okX3_begins kv_X3_196 (sx_rd_c (m_S_0 hn)) rfl dX3_uidExpunge_21 rfl rfl (by decide) (Nat.le_of_ble_eq_true rfl) ?_
    intro v1 t1 hp1
    obtain ⟨rfl, M1, rfl, hJ1⟩ := hp1
    have hj1 : j < (A_v (s_be (A_st A 0) j)).2.2.length := by rw [be_len]; exact hj
    have hbx1 : a_bx (A_v (s_be (A_st A 0) j)) j = some b := (be_bx _ _ hj).trans hbx
    have hbs := a_bs_e hbx1
    refine sv_aload_n dX3_uidExpunge_24 rfl ?_
    refine sv_iload_n dX3_uidExpunge_25 rfl ?_
    refine sv_iconst (nI 1) dX3_uidExpunge_26 (by decide +kernel) ?_
    refine sv_topI (y := b_I true) rfl ?_
    refine sv_aload_n dX3_uidExpunge_27 rfl ?_
    refine sv_aload_n dX3_uidExpunge_28 rfl ?_
    refine sv_iload_n dX3_uidExpunge_29 rfl ?_
    refine sv_cvR _ (ct_boxOf hn (m_J_e hJ1) hJ1.2.2.1 hj1) okX3_boxOf kv_X3_87 (sx_rd_c (m_S_0 hn)) rfl dX3_uidExpunge_30 rfl rfl (by decide) (Nat.le_of_ble_eq_true rfl) ?_
    rw [hbx1]
    show sx_V G 12 _ _ _ (.int (nI b) :: _) _ _
    refine sv_iload_n dX3_uidExpunge_33 rfl ?_
    refine sv_iload_n dX3_uidExpunge_34 rfl ?_
    refine sv_cvP _ (ct_removeDeleted (f := f) (l := l) hn hJ1 hb) okX3_removeDeleted kv_X3_244 (sx_rd_c (m_S_0 hn)) rfl dX3_uidExpunge_35 rfl rfl (by decide) (Nat.le_of_ble_eq_true rfl) ?_
    intro v2 t2 hp2
    obtain ⟨rfl, M2, rfl, hJ2⟩ := hp2
    rw [← s_rd_e hbs] at hJ2
    rw [← n_rd_e hbs]
    refine sv_cvP _ (ct_done_t hn hJ2 hj1 (by show 0 + 700 ≤ 1000; omega)) okX3_done kv_X3_214 (sx_rd_c (m_S_0 hn)) rfl dX3_uidExpunge_38 rfl rfl (by decide) (Nat.le_of_ble_eq_true rfl) ?_
    intro v3 t3 hp3
    obtain ⟨rfl, M3, rfl, hJ3⟩ := hp3
    refine sv_iret rfl rfl dX3_uidExpunge_41 ?_
    exact ⟨_, rfl, rfl, M3, rfl, hJ3⟩
  · unfold sp_exp
    rw [g_2f c14]
    refine sv_iconst (nI 0) dX3_uidExpunge_17 (by decide +kernel) ?_
    refine sv_iret rfl rfl dX3_uidExpunge_18 ?_
    exact ⟨_, rfl, r_I nI_0, _, rfl, m_J_t hJ _⟩
end MRM
