set_option maxRecDepth 100000
section MRA
variable {G : sx_G} {h : Nat} {M : m_M} {σ : sx_St} {V : a_V}
theorem ct_in {a b c : Int64} : sx_Cr G 0 YX3_in [.long a, .long b, .long c] σ (some (.int (b_I (decide (b ≤ a ∧ a ≤ c))))) σ := by
  refine sx_body (by decide) (Nat.le_of_ble_eq_true rfl) ?_
  refine sv_lload_n dX3_in_0 rfl ?_
  refine sv_lload_n dX3_in_1 rfl ?_
  refine sv_lcmp dX3_in_2 ?_
  refine sv_if_lt (tgt := 17) dX3_in_3 (by decide) (fun c3 => ?_) (fun c3 => ?_)
  · refine sv_iconst (nI 0) dX3_in_17 (by decide +kernel) ?_
    refine sv_iret (by first | exact b_I_nar _ | rfl) rfl dX3_in_18 ?_
    first | exact ⟨_, rfl, r_I (b_I_neg (fun z => absurd z.1 (Int64.not_le.mpr ((lg_cmp_lt _ _).mp c3)))), rfl⟩ | exact ⟨_, rfl, r_I (b_I_neg (fun z => absurd z.2 (Int64.not_le.mpr ((lg_cmp_gt _ _).mp c10)))), rfl⟩ | exact ⟨_, rfl, r_I (b_I_pos ⟨Int64.not_lt.mp (fun z => c3 ((lg_cmp_lt _ _).mpr z)), Int64.not_lt.mp (fun z => c10 ((lg_cmp_gt _ _).mpr z))⟩), rfl⟩
  · refine sv_lload_n dX3_in_6 rfl ?_
    refine sv_lload dX3_in_7 rfl ?_
    refine sv_lcmp dX3_in_9 ?_
    refine sv_if_gt (tgt := 17) dX3_in_10 (by decide) (fun c10 => ?_) (fun c10 => ?_)
    · refine sv_iconst (nI 0) dX3_in_17 (by decide +kernel) ?_
      refine sv_iret (by first | exact b_I_nar _ | rfl) rfl dX3_in_18 ?_
      first | exact ⟨_, rfl, r_I (b_I_neg (fun z => absurd z.1 (Int64.not_le.mpr ((lg_cmp_lt _ _).mp c3)))), rfl⟩ | exact ⟨_, rfl, r_I (b_I_neg (fun z => absurd z.2 (Int64.not_le.mpr ((lg_cmp_gt _ _).mp c10)))), rfl⟩ | exact ⟨_, rfl, r_I (b_I_pos ⟨Int64.not_lt.mp (fun z => c3 ((lg_cmp_lt _ _).mpr z)), Int64.not_lt.mp (fun z => c10 ((lg_cmp_gt _ _).mpr z))⟩), rfl⟩
    · refine sv_iconst (nI 1) dX3_in_13 (by decide +kernel) ?_
      refine sv_goto (tgt := 18) dX3_in_14 (by decide) ?_
      refine sv_iret (by first | exact b_I_nar _ | rfl) rfl dX3_in_18 ?_
      first | exact ⟨_, rfl, r_I (b_I_neg (fun z => absurd z.1 (Int64.not_le.mpr ((lg_cmp_lt _ _).mp c3)))), rfl⟩ | exact ⟨_, rfl, r_I (b_I_neg (fun z => absurd z.2 (Int64.not_le.mpr ((lg_cmp_gt _ _).mp c10)))), rfl⟩ | exact ⟨_, rfl, r_I (b_I_pos ⟨Int64.not_lt.mp (fun z => c3 ((lg_cmp_lt _ _).mpr z)), Int64.not_lt.mp (fun z => c10 ((lg_cmp_gt _ _).mpr z))⟩), rfl⟩
theorem ct_has {x k : Int32} : sx_Cr G 0 YX3_has [.int x, .int k] σ (some (.int (b_I (decide (x >>> (k &&& 31) &&& 1 = 1))))) σ := by
  refine sx_body (by decide) (Nat.le_of_ble_eq_true rfl) ?_
  refine sv_iload_n dX3_has_0 rfl ?_
  refine sv_iload_n dX3_has_1 rfl ?_
  refine sv_ishr dX3_has_2 ?_
  refine sv_iconst (nI 1) dX3_has_3 (by decide +kernel) ?_
  refine sv_iand dX3_has_4 ?_
  refine sv_iconst (nI 1) dX3_has_5 (by decide +kernel) ?_
  refine sv_icmp_ne (tgt := 13) dX3_has_6 (by decide) (fun c6 => ?_) (fun c6 => ?_)
  · refine sv_iconst (nI 0) dX3_has_13 (by decide +kernel) ?_
    refine sv_iret (by first | exact b_I_nar _ | rfl) rfl dX3_has_14 ?_
    first | exact ⟨_, rfl, r_I (b_I_neg c6), rfl⟩ | exact ⟨_, rfl, r_I (b_I_pos c6), rfl⟩
  · refine sv_iconst (nI 1) dX3_has_9 (by decide +kernel) ?_
    refine sv_goto (tgt := 14) dX3_has_10 (by decide) ?_
    refine sv_iret (by first | exact b_I_nar _ | rfl) rfl dX3_has_14 ?_
    first | exact ⟨_, rfl, r_I (b_I_neg c6), rfl⟩ | exact ⟨_, rfl, r_I (b_I_pos c6), rfl⟩
theorem ct_get (hn : h + 11 < sx_n σ) {i : Nat} (hi : i < 806) : sx_Cr G 0 YX3_get [.ref h, .int (nI i)] (m_S G h M σ) (some (.int (m_w M i).toInt32)) (m_S G h M σ) := by
  refine sx_body (by decide) (Nat.le_of_ble_eq_true rfl) ?_
  refine sv_aload_n dX3_get_0 rfl ?_
  refine sm_get hn fg_X3_24 dX3_get_1 rfl ?_
  refine sv_iload_n dX3_get_4 rfl ?_
  refine sm_wld hn dX3_get_5 (by omega) ?_
  refine sv_l2i dX3_get_6 ?_
  refine sv_iret rfl rfl dX3_get_7 ?_
  exact ⟨_, rfl, rfl, rfl⟩
theorem ct_boxes (hn : h + 11 < sx_n σ) (hE : e_Vb (m_w M) V) (hw : w_Vb V) : sx_Cr G 1 YX3_boxes [.ref h] (m_S G h M σ) (some (.int (nI V.2.1.length))) (m_S G h M σ) := by
  refine sx_body (by decide) (Nat.le_of_ble_eq_true rfl) ?_
  refine sv_aload_n dX3_boxes_0 rfl ?_
  refine sv_iconst (nI 1) dX3_boxes_1 (by decide +kernel) ?_
  refine sv_cvR _ (ct_get hn (by omega)) okX3_get kv_X3_62 (sx_rd_c (m_S_0 hn)) rfl dX3_boxes_2 rfl rfl (by decide) (Nat.le_of_ble_eq_true rfl) ?_
  refine sv_iret rfl rfl dX3_boxes_5 ?_
  exact ⟨_, rfl, r_I (hE.2.1), rfl⟩
theorem ct_sessions (hn : h + 11 < sx_n σ) (hE : e_Vb (m_w M) V) (hw : w_Vb V) : sx_Cr G 1 YX3_sessions [.ref h] (m_S G h M σ) (some (.int (nI V.2.2.length))) (m_S G h M σ) := by
  refine sx_body (by decide) (Nat.le_of_ble_eq_true rfl) ?_
  refine sv_aload_n dX3_sessions_0 rfl ?_
  refine sv_iconst (nI 2) dX3_sessions_1 (by decide +kernel) ?_
  refine sv_cvR _ (ct_get hn (by omega)) okX3_get kv_X3_62 (sx_rd_c (m_S_0 hn)) rfl dX3_sessions_2 rfl rfl (by decide) (Nat.le_of_ble_eq_true rfl) ?_
  refine sv_iret rfl rfl dX3_sessions_5 ?_
  exact ⟨_, rfl, r_I (hE.2.2.1), rfl⟩
theorem ct_isBox (hn : h + 11 < sx_n σ) (hE : e_Vb (m_w M) V) (hw : w_Vb V) {b : Int32} : sx_Cr G 2 YX3_isBox [.ref h, .int b] (m_S G h M σ) (some (.int (b_I (i_in b V.2.1.length)))) (m_S G h M σ) := by
  refine sx_body (by decide) (Nat.le_of_ble_eq_true rfl) ?_
  refine sv_iload_n dX3_isBox_0 rfl ?_
  refine sv_i2l dX3_isBox_1 ?_
  refine sv_lconst 0 dX3_isBox_2 (by decide) ?_
  refine sv_aload_n dX3_isBox_3 rfl ?_
  refine sv_cvR _ (ct_boxes hn hE hw) okX3_boxes kv_X3_66 (sx_rd_c (m_S_0 hn)) rfl dX3_isBox_4 rfl rfl (by decide) (Nat.le_of_ble_eq_true rfl) ?_
  refine sv_iconst (nI 1) dX3_isBox_7 (by decide +kernel) ?_
  refine sv_isub dX3_isBox_8 ?_
  refine sv_i2l dX3_isBox_9 ?_
  refine sv_csR _ ct_in okX3_in ks_X3_70 dX3_isBox_10 rfl rfl (by decide) (Nat.le_of_ble_eq_true rfl) ?_
  refine sv_iret (by first | exact b_I_nar _ | rfl) rfl dX3_isBox_13 ?_
  exact ⟨_, rfl, r_I (congrArg b_I (decide_eq_decide.mpr (in_I (by have := hw.1; omega)))), rfl⟩
theorem ct_isSession (hn : h + 11 < sx_n σ) (hE : e_Vb (m_w M) V) (hw : w_Vb V) {b : Int32} : sx_Cr G 2 YX3_isSession [.ref h, .int b] (m_S G h M σ) (some (.int (b_I (i_in b V.2.2.length)))) (m_S G h M σ) := by
  refine sx_body (by decide) (Nat.le_of_ble_eq_true rfl) ?_
  refine sv_iload_n dX3_isSession_0 rfl ?_
  refine sv_i2l dX3_isSession_1 ?_
  refine sv_lconst 0 dX3_isSession_2 (by decide) ?_
  refine sv_aload_n dX3_isSession_3 rfl ?_
  refine sv_cvR _ (ct_sessions hn hE hw) okX3_sessions kv_X3_74 (sx_rd_c (m_S_0 hn)) rfl dX3_isSession_4 rfl rfl (by decide) (Nat.le_of_ble_eq_true rfl) ?_
  refine sv_iconst (nI 1) dX3_isSession_7 (by decide +kernel) ?_
  refine sv_isub dX3_isSession_8 ?_
  refine sv_i2l dX3_isSession_9 ?_
  refine sv_csR _ ct_in okX3_in ks_X3_70 dX3_isSession_10 rfl rfl (by decide) (Nat.le_of_ble_eq_true rfl) ?_
  refine sv_iret (by first | exact b_I_nar _ | rfl) rfl dX3_isSession_13 ?_
  exact ⟨_, rfl, r_I (congrArg b_I (decide_eq_decide.mpr (in_I (by have := hw.2.1; omega)))), rfl⟩
theorem ct_boxAt {b : Nat} : sx_Cr G 0 YX3_boxAt [.int (nI b)] σ (some (.int (nI (3 + 93 * b)))) σ := by
  refine sx_body (by decide) (Nat.le_of_ble_eq_true rfl) ?_
  refine sv_iconst (nI 3) dX3_boxAt_0 (by decide +kernel) ?_
  refine sv_bipush (nI 93) dX3_boxAt_1 (by decide +kernel) ?_
  refine sv_iload_n dX3_boxAt_3 rfl ?_
  refine sv_imulN dX3_boxAt_4 ?_
  refine sv_iaddN dX3_boxAt_5 ?_
  refine sv_iret rfl rfl dX3_boxAt_6 ?_
  exact ⟨_, rfl, rfl, rfl⟩
theorem ct_sessionAt {s : Nat} : sx_Cr G 0 YX3_sessionAt [.int (nI s)] σ (some (.int (nI (282 + 131 * s)))) σ := by
  refine sx_body (by decide) (Nat.le_of_ble_eq_true rfl) ?_
  refine sv_sipush (nI 282) dX3_sessionAt_0 (by decide +kernel) ?_
  refine sv_sipush (nI 131) dX3_sessionAt_3 (by decide +kernel) ?_
  refine sv_iload_n dX3_sessionAt_6 rfl ?_
  refine sv_imulN dX3_sessionAt_7 ?_
  refine sv_iaddN dX3_sessionAt_8 ?_
  refine sv_iret rfl rfl dX3_sessionAt_9 ?_
  exact ⟨_, rfl, rfl, rfl⟩
theorem ct_manyIn (hn : h + 11 < sx_n σ) (hE : e_Vb (m_w M) V) (hw : w_Vb V) {b : Nat} (hb : b < V.2.1.length) : sx_Cr G 1 YX3_manyIn [.ref h, .int (nI b)] (m_S G h M σ) (some (.int (nI (a_ms V b).length))) (m_S G h M σ) := by
  refine sx_body (by decide) (Nat.le_of_ble_eq_true rfl) ?_
  have h1 := hw.1
  refine sv_aload_n dX3_manyIn_0 rfl ?_
  refine sv_iload_n dX3_manyIn_1 rfl ?_
  refine sv_csR _ ct_boxAt okX3_boxAt ks_X3_77 dX3_manyIn_2 rfl rfl (by decide) (Nat.le_of_ble_eq_true rfl) ?_
  refine sv_iconst (nI 1) dX3_manyIn_5 (by decide +kernel) ?_
  refine sv_iaddN dX3_manyIn_6 ?_
  refine sv_cvR _ (ct_get hn (by omega)) okX3_get kv_X3_62 (sx_rd_c (m_S_0 hn)) rfl dX3_manyIn_7 rfl rfl (by decide) (Nat.le_of_ble_eq_true rfl) ?_
  refine sv_iret rfl rfl dX3_manyIn_10 ?_
  exact ⟨_, rfl, r_I ((hE.2.2.2 b hb).2.1), rfl⟩
theorem ct_messageAt {b m : Nat} : sx_Cr G 1 YX3_messageAt [.int (nI b), .int (nI m)] σ (some (.int (nI (3 + 93 * b + 3 + 3 * m)))) σ := by
  refine sx_body (by decide) (Nat.le_of_ble_eq_true rfl) ?_
  refine sv_iload_n dX3_messageAt_0 rfl ?_
  refine sv_csR _ ct_boxAt okX3_boxAt ks_X3_77 dX3_messageAt_1 rfl rfl (by decide) (Nat.le_of_ble_eq_true rfl) ?_
  refine sv_iconst (nI 3) dX3_messageAt_4 (by decide +kernel) ?_
  refine sv_iaddN dX3_messageAt_5 ?_
  refine sv_iconst (nI 3) dX3_messageAt_6 (by decide +kernel) ?_
  refine sv_iload_n dX3_messageAt_7 rfl ?_
  refine sv_imulN dX3_messageAt_8 ?_
  refine sv_iaddN dX3_messageAt_9 ?_
  refine sv_iret rfl rfl dX3_messageAt_10 ?_
  exact ⟨_, rfl, rfl, rfl⟩
theorem ct_ofMessage (hn : h + 11 < sx_n σ) {b m w : Nat} (hi : 3 + 93 * b + 3 + 3 * m + w < 806) : sx_Cr G 2 YX3_ofMessage [.ref h, .int (nI b), .int (nI m), .int (nI w)] (m_S G h M σ) (some (.int (m_w M (3 + 93 * b + 3 + 3 * m + w)).toInt32)) (m_S G h M σ) := by
  refine sx_body (by decide) (Nat.le_of_ble_eq_true rfl) ?_
  refine sv_aload_n dX3_ofMessage_0 rfl ?_
  refine sv_iload_n dX3_ofMessage_1 rfl ?_
  refine sv_iload_n dX3_ofMessage_2 rfl ?_
  refine sv_csR _ ct_messageAt okX3_messageAt ks_X3_80 dX3_ofMessage_3 rfl rfl (by decide) (Nat.le_of_ble_eq_true rfl) ?_
  refine sv_iload_n dX3_ofMessage_6 rfl ?_
  refine sv_iaddN dX3_ofMessage_7 ?_
  refine sv_cvR _ (ct_get hn (by omega)) okX3_get kv_X3_62 (sx_rd_c (m_S_0 hn)) rfl dX3_ofMessage_8 rfl rfl (by decide) (Nat.le_of_ble_eq_true rfl) ?_
  refine sv_iret rfl rfl dX3_ofMessage_11 ?_
  exact ⟨_, rfl, rfl, rfl⟩
theorem e_Vb_m {r : Nat → Int64} {b m : Nat} (hE : e_Vb r V) (hb : b < V.2.1.length) (hm : m < (a_ms V b).length) : e_M r (3 + 93 * b + 3 + 3 * m) (a_m V b m) := (hE.2.2.2 b hb).2.2.2 m hm
theorem ct_uid (hn : h + 11 < sx_n σ) (hE : e_Vb (m_w M) V) (hw : w_Vb V) {b m : Nat} (hb : b < V.2.1.length) (hm : m < (a_ms V b).length) : sx_Cr G 2 YX3_ofMessage [.ref h, .int (nI b), .int (nI m), .int (nI 0)] (m_S G h M σ) (some (.int (a_m V b m).1)) (m_S G h M σ) := by
  have h1 := hw.1
  have h2 := hw.2.2 b hb
  have h3 := ct_ofMessage (G := G) (M := M) (w := 0) hn (b := b) (m := m) (by omega)
  rw [Nat.add_zero, (e_Vb_m hE hb hm).1] at h3
  exact h3
theorem ct_size (hn : h + 11 < sx_n σ) (hE : e_Vb (m_w M) V) (hw : w_Vb V) {b m : Nat} (hb : b < V.2.1.length) (hm : m < (a_ms V b).length) : sx_Cr G 2 YX3_ofMessage [.ref h, .int (nI b), .int (nI m), .int (nI 1)] (m_S G h M σ) (some (.int (a_m V b m).2.1)) (m_S G h M σ) := by
  have h1 := hw.1
  have h2 := hw.2.2 b hb
  have h3 := ct_ofMessage (G := G) (M := M) (w := 1) hn (b := b) (m := m) (by omega)
  rw [(e_Vb_m hE hb hm).2.1] at h3
  exact h3
theorem ct_flags (hn : h + 11 < sx_n σ) (hE : e_Vb (m_w M) V) (hw : w_Vb V) {b m : Nat} (hb : b < V.2.1.length) (hm : m < (a_ms V b).length) : sx_Cr G 2 YX3_ofMessage [.ref h, .int (nI b), .int (nI m), .int (nI 2)] (m_S G h M σ) (some (.int (a_m V b m).2.2)) (m_S G h M σ) := by
  have h1 := hw.1
  have h2 := hw.2.2 b hb
  have h3 := ct_ofMessage (G := G) (M := M) (w := 2) hn (b := b) (m := m) (by omega)
  rw [(e_Vb_m hE hb hm).2.2] at h3
  exact h3
theorem ct_boxOf (hn : h + 11 < sx_n σ) (hE : e_V (m_w M) V) (hw : w_V V) {s : Nat} (hs : s < V.2.2.length) : sx_Cr G 1 YX3_boxOf [.ref h, .int (nI s)] (m_S G h M σ) (some (.int (o_I (a_bx V s)))) (m_S G h M σ) := by
  refine sx_body (by decide) (Nat.le_of_ble_eq_true rfl) ?_
  have h2 := hw.1.2.1
  have hES := hE.2.1 s hs
  refine sv_aload_n dX3_boxOf_0 rfl ?_
  refine sv_iload_n dX3_boxOf_1 rfl ?_
  refine sv_csR _ ct_sessionAt okX3_sessionAt ks_X3_84 dX3_boxOf_2 rfl rfl (by decide) (Nat.le_of_ble_eq_true rfl) ?_
  refine sv_iconst (nI 1) dX3_boxOf_5 (by decide +kernel) ?_
  refine sv_iaddN dX3_boxOf_6 ?_
  refine sv_cvR _ (ct_get hn (by omega)) okX3_get kv_X3_62 (sx_rd_c (m_S_0 hn)) rfl dX3_boxOf_7 rfl rfl (by decide) (Nat.le_of_ble_eq_true rfl) ?_
  refine sv_iret rfl rfl dX3_boxOf_10 ?_
  exact ⟨_, rfl, r_I (hES.2.1), rfl⟩
theorem a_bx_lt (hw : w_V V) {s : Nat} (hs : s < V.2.2.length) : ∀ k, a_bx V s = some k → k < 2 ^ 31 := fun k hk => by have h1 := hw.2.2.1 s k hs hk; have h2 := hw.1.1; omega
theorem ct_hasBox (hn : h + 11 < sx_n σ) (hE : e_V (m_w M) V) (hw : w_V V) {s : Nat} (hs : s < V.2.2.length) : sx_Cr G 2 YX3_hasBox [.ref h, .int (nI s)] (m_S G h M σ) (some (.int (b_I (a_bx V s).isSome))) (m_S G h M σ) := by
  refine sx_body (by decide) (Nat.le_of_ble_eq_true rfl) ?_
  refine sv_aload_n dX3_hasBox_0 rfl ?_
  refine sv_iload_n dX3_hasBox_1 rfl ?_
  refine sv_cvR _ (ct_boxOf hn hE hw (by assumption)) okX3_boxOf kv_X3_87 (sx_rd_c (m_S_0 hn)) rfl dX3_hasBox_2 rfl rfl (by decide) (Nat.le_of_ble_eq_true rfl) ?_
  refine sv_iconst (-1) dX3_hasBox_5 (by decide +kernel) ?_
  refine sv_icmp_eq (tgt := 13) dX3_hasBox_6 (by decide) (fun c6 => ?_) (fun c6 => ?_)
  · refine sv_iconst (nI 0) dX3_hasBox_13 (by decide +kernel) ?_
    refine sv_iret (by first | exact b_I_nar _ | rfl) rfl dX3_hasBox_14 ?_
    first | exact ⟨_, rfl, r_I (by rw [(o_I_m1 _ (a_bx_lt hw hs)).mp c6]; rfl), rfl⟩ | exact ⟨_, rfl, r_I (by rw [Option.isSome_iff_ne_none.mpr (fun z => c6 ((o_I_m1 _ (a_bx_lt hw hs)).mpr z))]; rfl), rfl⟩
  · refine sv_iconst (nI 1) dX3_hasBox_9 (by decide +kernel) ?_
    refine sv_goto (tgt := 14) dX3_hasBox_10 (by decide) ?_
    refine sv_iret (by first | exact b_I_nar _ | rfl) rfl dX3_hasBox_14 ?_
    first | exact ⟨_, rfl, r_I (by rw [(o_I_m1 _ (a_bx_lt hw hs)).mp c6]; rfl), rfl⟩ | exact ⟨_, rfl, r_I (by rw [Option.isSome_iff_ne_none.mpr (fun z => c6 ((o_I_m1 _ (a_bx_lt hw hs)).mpr z))]; rfl), rfl⟩
theorem ct_doesRead (hn : h + 11 < sx_n σ) (hE : e_V (m_w M) V) (hw : w_V V) {s : Nat} (hs : s < V.2.2.length) : sx_Cr G 1 YX3_doesRead [.ref h, .int (nI s)] (m_S G h M σ) (some (.int (b_I ((a_bx V s).isSome && a_rd V s)))) (m_S G h M σ) := by
  refine sx_body (by decide) (Nat.le_of_ble_eq_true rfl) ?_
  have h2 := hw.1.2.1
  have hES := hE.2.1 s hs
  refine sv_aload_n dX3_doesRead_0 rfl ?_
  refine sv_iload_n dX3_doesRead_1 rfl ?_
  refine sv_csR _ ct_sessionAt okX3_sessionAt ks_X3_84 dX3_doesRead_2 rfl rfl (by decide) (Nat.le_of_ble_eq_true rfl) ?_
  refine sv_iconst (nI 2) dX3_doesRead_5 (by decide +kernel) ?_
  refine sv_iaddN dX3_doesRead_6 ?_
  refine sv_cvR _ (ct_get hn (by omega)) okX3_get kv_X3_62 (sx_rd_c (m_S_0 hn)) rfl dX3_doesRead_7 rfl rfl (by decide) (Nat.le_of_ble_eq_true rfl) ?_
  rw [show ((m_w M (282 + 131 * s + 2)).toInt32) = b_I ((a_bx V s).isSome && a_rd V s) from hES.2.2.1]
  refine sv_iconst (nI 1) dX3_doesRead_10 (by decide +kernel) ?_
  refine sv_icmp_ne (tgt := 18) dX3_doesRead_11 (by decide) (fun c11 => ?_) (fun c11 => ?_)
  · refine sv_iconst (nI 0) dX3_doesRead_18 (by decide +kernel) ?_
    refine sv_iret (by first | exact b_I_nar _ | rfl) rfl dX3_doesRead_19 ?_
    first | exact ⟨_, rfl, r_I (by rw [(b_I_1 _).mp c11]; rfl), rfl⟩ | exact ⟨_, rfl, r_I (by rw [Bool.eq_false_iff.mpr (fun z => c11 ((b_I_1 _).mpr z))]; rfl), rfl⟩
  · refine sv_iconst (nI 1) dX3_doesRead_14 (by decide +kernel) ?_
    refine sv_goto (tgt := 19) dX3_doesRead_15 (by decide) ?_
    refine sv_iret (by first | exact b_I_nar _ | rfl) rfl dX3_doesRead_19 ?_
    first | exact ⟨_, rfl, r_I (by rw [(b_I_1 _).mp c11]; rfl), rfl⟩ | exact ⟨_, rfl, r_I (by rw [Bool.eq_false_iff.mpr (fun z => c11 ((b_I_1 _).mpr z))]; rfl), rfl⟩
theorem ct_isIdle (hn : h + 11 < sx_n σ) (hE : e_V (m_w M) V) (hw : w_V V) {s : Nat} (hs : s < V.2.2.length) : sx_Cr G 1 YX3_isIdle [.ref h, .int (nI s)] (m_S G h M σ) (some (.int (b_I (a_id V s)))) (m_S G h M σ) := by
  refine sx_body (by decide) (Nat.le_of_ble_eq_true rfl) ?_
  have h2 := hw.1.2.1
  have hES := hE.2.1 s hs
  refine sv_aload_n dX3_isIdle_0 rfl ?_
  refine sv_iload_n dX3_isIdle_1 rfl ?_
  refine sv_csR _ ct_sessionAt okX3_sessionAt ks_X3_84 dX3_isIdle_2 rfl rfl (by decide) (Nat.le_of_ble_eq_true rfl) ?_
  refine sv_iconst (nI 3) dX3_isIdle_5 (by decide +kernel) ?_
  refine sv_iaddN dX3_isIdle_6 ?_
  refine sv_cvR _ (ct_get hn (by omega)) okX3_get kv_X3_62 (sx_rd_c (m_S_0 hn)) rfl dX3_isIdle_7 rfl rfl (by decide) (Nat.le_of_ble_eq_true rfl) ?_
  rw [show ((m_w M (282 + 131 * s + 3)).toInt32) = b_I (a_id V s) from hES.2.2.2.1]
  refine sv_iconst (nI 1) dX3_isIdle_10 (by decide +kernel) ?_
  refine sv_icmp_ne (tgt := 18) dX3_isIdle_11 (by decide) (fun c11 => ?_) (fun c11 => ?_)
  · refine sv_iconst (nI 0) dX3_isIdle_18 (by decide +kernel) ?_
    refine sv_iret (by first | exact b_I_nar _ | rfl) rfl dX3_isIdle_19 ?_
    first | exact ⟨_, rfl, r_I (by rw [(b_I_1 _).mp c11]; rfl), rfl⟩ | exact ⟨_, rfl, r_I (by rw [Bool.eq_false_iff.mpr (fun z => c11 ((b_I_1 _).mpr z))]; rfl), rfl⟩
  · refine sv_iconst (nI 1) dX3_isIdle_14 (by decide +kernel) ?_
    refine sv_goto (tgt := 19) dX3_isIdle_15 (by decide) ?_
    refine sv_iret (by first | exact b_I_nar _ | rfl) rfl dX3_isIdle_19 ?_
    first | exact ⟨_, rfl, r_I (by rw [(b_I_1 _).mp c11]; rfl), rfl⟩ | exact ⟨_, rfl, r_I (by rw [Bool.eq_false_iff.mpr (fun z => c11 ((b_I_1 _).mpr z))]; rfl), rfl⟩
theorem ct_entries (hn : h + 11 < sx_n σ) (hE : e_V (m_w M) V) (hw : w_V V) {s : Nat} (hs : s < V.2.2.length) : sx_Cr G 1 YX3_entries [.ref h, .int (nI s)] (m_S G h M σ) (some (.int (nI (a_es V s).length))) (m_S G h M σ) := by
  refine sx_body (by decide) (Nat.le_of_ble_eq_true rfl) ?_
  have h2 := hw.1.2.1
  have hES := hE.2.1 s hs
  refine sv_aload_n dX3_entries_0 rfl ?_
  refine sv_iload_n dX3_entries_1 rfl ?_
  refine sv_csR _ ct_sessionAt okX3_sessionAt ks_X3_84 dX3_entries_2 rfl rfl (by decide) (Nat.le_of_ble_eq_true rfl) ?_
  refine sv_iconst (nI 4) dX3_entries_5 (by decide +kernel) ?_
  refine sv_iaddN dX3_entries_6 ?_
  refine sv_cvR _ (ct_get hn (by omega)) okX3_get kv_X3_62 (sx_rd_c (m_S_0 hn)) rfl dX3_entries_7 rfl rfl (by decide) (Nat.le_of_ble_eq_true rfl) ?_
  refine sv_iret rfl rfl dX3_entries_10 ?_
  exact ⟨_, rfl, r_I (hES.2.2.2.2.1), rfl⟩
theorem ct_entryAt {s k : Nat} : sx_Cr G 1 YX3_entryAt [.int (nI s), .int (nI (k + 1))] σ (some (.int (nI (282 + 131 * s + 11 + 2 * k)))) σ := by
  refine sx_body (by decide) (Nat.le_of_ble_eq_true rfl) ?_
  refine sv_iload_n dX3_entryAt_0 rfl ?_
  refine sv_csR _ ct_sessionAt okX3_sessionAt ks_X3_84 dX3_entryAt_1 rfl rfl (by decide) (Nat.le_of_ble_eq_true rfl) ?_
  refine sv_bipush (nI 11) dX3_entryAt_4 (by decide +kernel) ?_
  refine sv_iaddN dX3_entryAt_6 ?_
  refine sv_iconst (nI 2) dX3_entryAt_7 (by decide +kernel) ?_
  refine sv_iload_n dX3_entryAt_8 rfl ?_
  refine sv_iconst (nI 1) dX3_entryAt_9 (by decide +kernel) ?_
  refine sv_isubN dX3_entryAt_10 (by omega) ?_
  refine sv_imulN dX3_entryAt_11 ?_
  refine sv_iaddN dX3_entryAt_12 ?_
  refine sv_iret rfl rfl dX3_entryAt_13 ?_
  exact ⟨_, rfl, r_I (by rw [show k + 1 - 1 = k by omega]), rfl⟩
theorem ct_ofEntry (hn : h + 11 < sx_n σ) {s k w : Nat} (hi : 282 + 131 * s + 11 + 2 * k + w < 806) : sx_Cr G 2 YX3_ofEntry [.ref h, .int (nI s), .int (nI (k + 1)), .int (nI w)] (m_S G h M σ) (some (.int (m_w M (282 + 131 * s + 11 + 2 * k + w)).toInt32)) (m_S G h M σ) := by
  refine sx_body (by decide) (Nat.le_of_ble_eq_true rfl) ?_
  refine sv_aload_n dX3_ofEntry_0 rfl ?_
  refine sv_iload_n dX3_ofEntry_1 rfl ?_
  refine sv_iload_n dX3_ofEntry_2 rfl ?_
  refine sv_csR _ ct_entryAt okX3_entryAt ks_X3_90 dX3_ofEntry_3 rfl rfl (by decide) (Nat.le_of_ble_eq_true rfl) ?_
  refine sv_iload_n dX3_ofEntry_6 rfl ?_
  refine sv_iaddN dX3_ofEntry_7 ?_
  refine sv_cvR _ (ct_get hn (by omega)) okX3_get kv_X3_62 (sx_rd_c (m_S_0 hn)) rfl dX3_ofEntry_8 rfl rfl (by decide) (Nat.le_of_ble_eq_true rfl) ?_
  refine sv_iret rfl rfl dX3_ofEntry_11 ?_
  exact ⟨_, rfl, rfl, rfl⟩
theorem ct_euid (hn : h + 11 < sx_n σ) (hE : e_V (m_w M) V) (hw : w_V V) {s : Nat} (hs : s < V.2.2.length) {k : Nat} (hk : k < (a_es V s).length) : sx_Cr G 2 YX3_ofEntry [.ref h, .int (nI s), .int (nI (k + 1)), .int (nI 0)] (m_S G h M σ) (some (.int (a_e V s k).1)) (m_S G h M σ) := by
  have h1 := hw.1.2.1
  have h2 := hw.2.1 s hs
  have h3 := ct_ofEntry (G := G) (M := M) (w := 0) hn (s := s) (k := k) (by omega)
  rw [show 282 + 131 * s + 11 + 2 * k + 0 = 282 + 131 * s + 11 + 2 * k by omega, ((hE.2.1 s hs).2.2.2.2.2.2 k hk).1] at h3
  exact h3
theorem ct_efl (hn : h + 11 < sx_n σ) (hE : e_V (m_w M) V) (hw : w_V V) {s : Nat} (hs : s < V.2.2.length) {k : Nat} (hk : k < (a_es V s).length) : sx_Cr G 2 YX3_ofEntry [.ref h, .int (nI s), .int (nI (k + 1)), .int (nI 1)] (m_S G h M σ) (some (.int (a_e V s k).2)) (m_S G h M σ) := by
  have h1 := hw.1.2.1
  have h2 := hw.2.1 s hs
  have h3 := ct_ofEntry (G := G) (M := M) (w := 1) hn (s := s) (k := k) (by omega)
  rw [show 282 + 131 * s + 11 + 2 * k + 1 = 282 + 131 * s + 12 + 2 * k by omega, ((hE.2.1 s hs).2.2.2.2.2.2 k hk).2] at h3
  exact h3
theorem ct_isEntry (hn : h + 11 < sx_n σ) (hE : e_V (m_w M) V) (hw : w_V V) {s k : Int32} : sx_Cr G 3 YX3_isEntry [.ref h, .int s, .int k] (m_S G h M σ) (some (.int (b_I (i_in s V.2.2.length && i_en k (a_es V s.toNatClampNeg).length)))) (m_S G h M σ) := by
  refine sx_body (by decide) (Nat.le_of_ble_eq_true rfl) ?_
  refine sv_aload_n dX3_isEntry_0 rfl ?_
  refine sv_iload_n dX3_isEntry_1 rfl ?_
  refine sv_cvR _ (ct_isSession hn hE.1 hw.1) okX3_isSession kv_X3_93 (sx_rd_c (m_S_0 hn)) rfl dX3_isEntry_2 rfl rfl (by decide) (Nat.le_of_ble_eq_true rfl) ?_
  refine sv_if_eqB (tgt := 27) dX3_isEntry_5 (by decide) (fun c5 => ?_) (fun c5 => ?_)
  · refine sv_iconst (nI 0) dX3_isEntry_27 (by decide +kernel) ?_
    refine sv_iret (by first | exact b_I_nar _ | rfl) rfl dX3_isEntry_28 ?_
    first | exact ⟨_, rfl, r_I (by rw [c5]; rfl), rfl⟩ | exact ⟨_, rfl, r_I (by rw [c5, Bool.true_and, i_en_b (x := k) (n := (a_es V j).length) (by omega), c20]; rfl), rfl⟩
  · have hw2 := hw.1.2.1
    obtain ⟨j, hj, rfl⟩ := i_in_of (by omega) c5
    have hl := hw.2.1 j hj
    rw [nI_clamp (by omega)]
    refine sv_iload_n dX3_isEntry_8 rfl ?_
    refine sv_i2l dX3_isEntry_9 ?_
    refine sv_lconst 1 dX3_isEntry_10 (by decide) ?_
    refine sv_aload_n dX3_isEntry_11 rfl ?_
    refine sv_iload_n dX3_isEntry_12 rfl ?_
    refine sv_cvR _ (ct_entries hn hE hw (by assumption)) okX3_entries kv_X3_97 (sx_rd_c (m_S_0 hn)) rfl dX3_isEntry_13 rfl rfl (by decide) (Nat.le_of_ble_eq_true rfl) ?_
    refine sv_i2l dX3_isEntry_16 ?_
    refine sv_csR _ ct_in okX3_in ks_X3_70 dX3_isEntry_17 rfl rfl (by decide) (Nat.le_of_ble_eq_true rfl) ?_
    refine sv_if_eqB (tgt := 27) dX3_isEntry_20 (by decide) (fun c20 => ?_) (fun c20 => ?_)
    · refine sv_iconst (nI 0) dX3_isEntry_27 (by decide +kernel) ?_
      refine sv_iret (by first | exact b_I_nar _ | rfl) rfl dX3_isEntry_28 ?_
      first | exact ⟨_, rfl, r_I (by rw [c5]; rfl), rfl⟩ | exact ⟨_, rfl, r_I (by rw [c5, Bool.true_and, i_en_b (x := k) (n := (a_es V j).length) (by omega), c20]; rfl), rfl⟩
    · refine sv_iconst (nI 1) dX3_isEntry_23 (by decide +kernel) ?_
      refine sv_goto (tgt := 28) dX3_isEntry_24 (by decide) ?_
      refine sv_iret (by first | exact b_I_nar _ | rfl) rfl dX3_isEntry_28 ?_
      first | exact ⟨_, rfl, r_I (by rw [c5]; rfl), rfl⟩ | exact ⟨_, rfl, r_I (by rw [c5, Bool.true_and, i_en_b (x := k) (n := (a_es V j).length) (by omega), c20]; rfl), rfl⟩
end MRA
