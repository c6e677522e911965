set_option maxRecDepth 100000
section CTE
variable {G : sx_G} {σ τ : sx_St}
theorem cc_has {x k : Int32} : sx_Cr G 0 YX1_has [.int x, .int k] σ (some (.int (b_I (decide (x >>> (k &&& 31) &&& 1 = 1))))) σ := by
  refine sx_body (by decide) (Nat.le_of_ble_eq_true rfl) ?_
  refine sv_iload_n dX1_has_0 rfl ?_
  refine sv_iload_n dX1_has_1 rfl ?_
  refine sv_ishr dX1_has_2 ?_
  refine sv_iconst (nI 1) dX1_has_3 (by decide +kernel) ?_
  refine sv_iand dX1_has_4 ?_
  refine sv_iconst (nI 1) dX1_has_5 (by decide +kernel) ?_
  refine sv_icmp_ne (tgt := 13) dX1_has_6 (by decide) (fun c6 => ?_) (fun c6 => ?_)
  · refine sv_iconst (nI 0) dX1_has_13 (by decide +kernel) ?_
    refine sv_iret (by first | exact b_I_nar _ | rfl) rfl dX1_has_14 ?_
    first | exact ⟨_, rfl, r_I (b_I_neg c6), rfl⟩ | exact ⟨_, rfl, r_I (b_I_pos c6), rfl⟩
  · refine sv_iconst (nI 1) dX1_has_9 (by decide +kernel) ?_
    refine sv_goto (tgt := 14) dX1_has_10 (by decide) ?_
    refine sv_iret (by first | exact b_I_nar _ | rfl) rfl dX1_has_14 ?_
    first | exact ⟨_, rfl, r_I (b_I_neg c6), rfl⟩ | exact ⟨_, rfl, r_I (b_I_pos c6), rfl⟩
theorem cc_count {c : Bool} : sx_Cr G 0 YX1_count [.int (b_I c)] σ (some (.int (nI (if c then 1 else 0)))) σ := by
  refine sx_body (by decide) (Nat.le_of_ble_eq_true rfl) ?_
  refine sv_iload_n dX1_count_0 rfl ?_
  refine sv_if_eqB (tgt := 8) dX1_count_1 (by decide) (fun c1 => ?_) (fun c1 => ?_)
  · subst c1
    refine sv_iconst (nI 0) dX1_count_8 (by decide +kernel) ?_
    refine sv_iret rfl rfl dX1_count_9 ?_
    exact ⟨_, rfl, rfl, rfl⟩
  · subst c1
    refine sv_iconst (nI 1) dX1_count_4 (by decide +kernel) ?_
    refine sv_goto (tgt := 9) dX1_count_5 (by decide) ?_
    refine sv_iret rfl rfl dX1_count_9 ?_
    exact ⟨_, rfl, rfl, rfl⟩
theorem cc_inRange {a b c : Int64} : sx_Cr G 0 YX1_inRange [.long a, .long b, .long c] σ (some (.int (b_I (decide (b ≤ a ∧ a ≤ c))))) σ := by
  refine sx_body (by decide) (Nat.le_of_ble_eq_true rfl) ?_
  refine sv_lload_n dX1_inRange_0 rfl ?_
  refine sv_lload_n dX1_inRange_1 rfl ?_
  refine sv_lcmp dX1_inRange_2 ?_
  refine sv_if_lt (tgt := 17) dX1_inRange_3 (by decide) (fun c3 => ?_) (fun c3 => ?_)
  · refine sv_iconst (nI 0) dX1_inRange_17 (by decide +kernel) ?_
    refine sv_iret (by first | exact b_I_nar _ | rfl) rfl dX1_inRange_18 ?_
    first | exact ⟨_, rfl, r_I (b_I_neg (fun z => absurd z.1 (Int64.not_le.mpr ((lg_cmp_lt _ _).mp c3)))), rfl⟩ | exact ⟨_, rfl, r_I (b_I_neg (fun z => absurd z.2 (Int64.not_le.mpr ((lg_cmp_gt _ _).mp c10)))), rfl⟩ | exact ⟨_, rfl, r_I (b_I_pos ⟨Int64.not_lt.mp (fun z => c3 ((lg_cmp_lt _ _).mpr z)), Int64.not_lt.mp (fun z => c10 ((lg_cmp_gt _ _).mpr z))⟩), rfl⟩
  · refine sv_lload_n dX1_inRange_6 rfl ?_
    refine sv_lload dX1_inRange_7 rfl ?_
    refine sv_lcmp dX1_inRange_9 ?_
    refine sv_if_gt (tgt := 17) dX1_inRange_10 (by decide) (fun c10 => ?_) (fun c10 => ?_)
    · refine sv_iconst (nI 0) dX1_inRange_17 (by decide +kernel) ?_
      refine sv_iret (by first | exact b_I_nar _ | rfl) rfl dX1_inRange_18 ?_
      first | exact ⟨_, rfl, r_I (b_I_neg (fun z => absurd z.1 (Int64.not_le.mpr ((lg_cmp_lt _ _).mp c3)))), rfl⟩ | exact ⟨_, rfl, r_I (b_I_neg (fun z => absurd z.2 (Int64.not_le.mpr ((lg_cmp_gt _ _).mp c10)))), rfl⟩ | exact ⟨_, rfl, r_I (b_I_pos ⟨Int64.not_lt.mp (fun z => c3 ((lg_cmp_lt _ _).mpr z)), Int64.not_lt.mp (fun z => c10 ((lg_cmp_gt _ _).mpr z))⟩), rfl⟩
    · refine sv_iconst (nI 1) dX1_inRange_13 (by decide +kernel) ?_
      refine sv_goto (tgt := 18) dX1_inRange_14 (by decide) ?_
      refine sv_iret (by first | exact b_I_nar _ | rfl) rfl dX1_inRange_18 ?_
      first | exact ⟨_, rfl, r_I (b_I_neg (fun z => absurd z.1 (Int64.not_le.mpr ((lg_cmp_lt _ _).mp c3)))), rfl⟩ | exact ⟨_, rfl, r_I (b_I_neg (fun z => absurd z.2 (Int64.not_le.mpr ((lg_cmp_gt _ _).mp c10)))), rfl⟩ | exact ⟨_, rfl, r_I (b_I_pos ⟨Int64.not_lt.mp (fun z => c3 ((lg_cmp_lt _ _).mpr z)), Int64.not_lt.mp (fun z => c10 ((lg_cmp_gt _ _).mpr z))⟩), rfl⟩
theorem cl_0 {f l : Int32} {q : Nat} {m : a_M} (hm : k_M σ q m) : sx_Cr G 1 YX1_lambda_named_4 [.int f, .int l, .ref q] σ (some (.int (b_I (a_in m.1 f l)))) σ := by
  refine sx_body (by decide) (Nat.le_of_ble_eq_true rfl) ?_
  refine sv_aload_n dX1_lambda_named_4_0 rfl ?_
  refine sv_get fg_X1_229 dX1_lambda_named_4_1 (sx_rd_c hm) rfl ?_
  refine sv_i2l dX1_lambda_named_4_4 ?_
  refine sv_iload_n dX1_lambda_named_4_5 rfl ?_
  refine sv_i2l dX1_lambda_named_4_6 ?_
  refine sv_iload_n dX1_lambda_named_4_7 rfl ?_
  refine sv_i2l dX1_lambda_named_4_8 ?_
  refine sv_csR _ cc_inRange okX1_inRange ks_X1_94 dX1_lambda_named_4_9 rfl rfl (by omega) (Nat.le_of_ble_eq_true rfl) ?_
  refine sv_iret (by first | exact b_I_nar _ | rfl) rfl dX1_lambda_named_4_12 ?_
  exact ⟨_, rfl, rfl, rfl⟩
theorem cl_1 {f : Int32} {q : Nat} {m : a_M} (hm : k_M σ q m) : sx_Cr G 1 YX1_lambda_flagged_0 [.int f, .ref q] σ (some (.int (b_I (decide (m.2.2 >>> (f &&& 31) &&& 1 = 1))))) σ := by
  refine sx_body (by decide) (Nat.le_of_ble_eq_true rfl) ?_
  refine sv_aload_n dX1_lambda_flagged_0_0 rfl ?_
  refine sv_get fg_X1_234 dX1_lambda_flagged_0_1 (sx_rd_c hm) rfl ?_
  refine sv_iload_n dX1_lambda_flagged_0_4 rfl ?_
  refine sv_csR _ cc_has okX1_has ks_X1_296 dX1_lambda_flagged_0_5 rfl rfl (by omega) (Nat.le_of_ble_eq_true rfl) ?_
  refine sv_iret (by first | exact b_I_nar _ | rfl) rfl dX1_lambda_flagged_0_8 ?_
  exact ⟨_, rfl, rfl, rfl⟩
theorem cl_3 {q : Nat} : sx_Cr G 1 YX4_lambda_factor_4 [.ref q] σ (some (.int (b_I true))) σ := by
  refine sx_body (by decide) (Nat.le_of_ble_eq_true rfl) ?_
  refine sv_iconst (nI 1) dX4_lambda_factor_4_0 (by decide +kernel) ?_
  refine sv_iret (by first | exact b_I_nar _ | rfl) rfl dX4_lambda_factor_4_1 ?_
  exact ⟨_, rfl, rfl, rfl⟩
theorem cl_4 {x : Int32} {q : Nat} {m : a_M} (hm : k_M σ q m) : sx_Cr G 1 YX4_lambda_compared_0 [.int x, .ref q] σ (some (.int (b_I (decide (m.2.1 < x))))) σ := by
  refine sx_body (by decide) (Nat.le_of_ble_eq_true rfl) ?_
  refine sv_aload_n dX4_lambda_compared_0_0 rfl ?_
  refine sv_get fg_X4_297 dX4_lambda_compared_0_1 (sx_rd_c hm) rfl ?_
  refine sv_iload_n dX4_lambda_compared_0_4 rfl ?_
  refine sv_icmp_ge (tgt := 12) dX4_lambda_compared_0_5 (by decide) (fun c5 => ?_) (fun c5 => ?_)
  · refine sv_iconst (nI 0) dX4_lambda_compared_0_12 (by decide +kernel) ?_
    refine sv_iret (by first | exact b_I_nar _ | rfl) rfl dX4_lambda_compared_0_13 ?_
    first | exact ⟨_, rfl, r_I (b_I_neg (by first | exact c5 | exact Int32.not_lt.mpr c5)), rfl⟩ | exact ⟨_, rfl, r_I (b_I_pos (by first | exact c5 | exact Int32.not_le.mp c5)), rfl⟩
  · refine sv_iconst (nI 1) dX4_lambda_compared_0_8 (by decide +kernel) ?_
    refine sv_goto (tgt := 13) dX4_lambda_compared_0_9 (by decide) ?_
    refine sv_iret (by first | exact b_I_nar _ | rfl) rfl dX4_lambda_compared_0_13 ?_
    first | exact ⟨_, rfl, r_I (b_I_neg (by first | exact c5 | exact Int32.not_lt.mpr c5)), rfl⟩ | exact ⟨_, rfl, r_I (b_I_pos (by first | exact c5 | exact Int32.not_le.mp c5)), rfl⟩
theorem cl_5 {x : Int32} {q : Nat} {m : a_M} (hm : k_M σ q m) : sx_Cr G 1 YX4_lambda_compared_1 [.int x, .ref q] σ (some (.int (b_I (decide (x < m.2.1))))) σ := by
  refine sx_body (by decide) (Nat.le_of_ble_eq_true rfl) ?_
  refine sv_aload_n dX4_lambda_compared_1_0 rfl ?_
  refine sv_get fg_X4_297 dX4_lambda_compared_1_1 (sx_rd_c hm) rfl ?_
  refine sv_iload_n dX4_lambda_compared_1_4 rfl ?_
  refine sv_icmp_le (tgt := 12) dX4_lambda_compared_1_5 (by decide) (fun c5 => ?_) (fun c5 => ?_)
  · refine sv_iconst (nI 0) dX4_lambda_compared_1_12 (by decide +kernel) ?_
    refine sv_iret (by first | exact b_I_nar _ | rfl) rfl dX4_lambda_compared_1_13 ?_
    first | exact ⟨_, rfl, r_I (b_I_neg (by first | exact c5 | exact Int32.not_lt.mpr c5)), rfl⟩ | exact ⟨_, rfl, r_I (b_I_pos (by first | exact c5 | exact Int32.not_le.mp c5)), rfl⟩
  · refine sv_iconst (nI 1) dX4_lambda_compared_1_8 (by decide +kernel) ?_
    refine sv_goto (tgt := 13) dX4_lambda_compared_1_9 (by decide) ?_
    refine sv_iret (by first | exact b_I_nar _ | rfl) rfl dX4_lambda_compared_1_13 ?_
    first | exact ⟨_, rfl, r_I (b_I_neg (by first | exact c5 | exact Int32.not_lt.mpr c5)), rfl⟩ | exact ⟨_, rfl, r_I (b_I_pos (by first | exact c5 | exact Int32.not_le.mp c5)), rfl⟩
theorem cl_6 {x : Int32} {q : Nat} {m : a_M} (hm : k_M σ q m) : sx_Cr G 1 YX4_lambda_compared_2 [.int x, .ref q] σ (some (.int (b_I (decide (m.1 < x))))) σ := by
  refine sx_body (by decide) (Nat.le_of_ble_eq_true rfl) ?_
  refine sv_aload_n dX4_lambda_compared_2_0 rfl ?_
  refine sv_get fg_X4_293 dX4_lambda_compared_2_1 (sx_rd_c hm) rfl ?_
  refine sv_iload_n dX4_lambda_compared_2_4 rfl ?_
  refine sv_icmp_ge (tgt := 12) dX4_lambda_compared_2_5 (by decide) (fun c5 => ?_) (fun c5 => ?_)
  · refine sv_iconst (nI 0) dX4_lambda_compared_2_12 (by decide +kernel) ?_
    refine sv_iret (by first | exact b_I_nar _ | rfl) rfl dX4_lambda_compared_2_13 ?_
    first | exact ⟨_, rfl, r_I (b_I_neg (by first | exact c5 | exact Int32.not_lt.mpr c5)), rfl⟩ | exact ⟨_, rfl, r_I (b_I_pos (by first | exact c5 | exact Int32.not_le.mp c5)), rfl⟩
  · refine sv_iconst (nI 1) dX4_lambda_compared_2_8 (by decide +kernel) ?_
    refine sv_goto (tgt := 13) dX4_lambda_compared_2_9 (by decide) ?_
    refine sv_iret (by first | exact b_I_nar _ | rfl) rfl dX4_lambda_compared_2_13 ?_
    first | exact ⟨_, rfl, r_I (b_I_neg (by first | exact c5 | exact Int32.not_lt.mpr c5)), rfl⟩ | exact ⟨_, rfl, r_I (b_I_pos (by first | exact c5 | exact Int32.not_le.mp c5)), rfl⟩
theorem cl_7 {x : Int32} {q : Nat} {m : a_M} (hm : k_M σ q m) : sx_Cr G 1 YX4_lambda_compared_3 [.int x, .ref q] σ (some (.int (b_I (decide (x < m.1))))) σ := by
  refine sx_body (by decide) (Nat.le_of_ble_eq_true rfl) ?_
  refine sv_aload_n dX4_lambda_compared_3_0 rfl ?_
  refine sv_get fg_X4_293 dX4_lambda_compared_3_1 (sx_rd_c hm) rfl ?_
  refine sv_iload_n dX4_lambda_compared_3_4 rfl ?_
  refine sv_icmp_le (tgt := 12) dX4_lambda_compared_3_5 (by decide) (fun c5 => ?_) (fun c5 => ?_)
  · refine sv_iconst (nI 0) dX4_lambda_compared_3_12 (by decide +kernel) ?_
    refine sv_iret (by first | exact b_I_nar _ | rfl) rfl dX4_lambda_compared_3_13 ?_
    first | exact ⟨_, rfl, r_I (b_I_neg (by first | exact c5 | exact Int32.not_lt.mpr c5)), rfl⟩ | exact ⟨_, rfl, r_I (b_I_pos (by first | exact c5 | exact Int32.not_le.mp c5)), rfl⟩
  · refine sv_iconst (nI 1) dX4_lambda_compared_3_8 (by decide +kernel) ?_
    refine sv_goto (tgt := 13) dX4_lambda_compared_3_9 (by decide) ?_
    refine sv_iret (by first | exact b_I_nar _ | rfl) rfl dX4_lambda_compared_3_13 ?_
    first | exact ⟨_, rfl, r_I (b_I_neg (by first | exact c5 | exact Int32.not_lt.mpr c5)), rfl⟩ | exact ⟨_, rfl, r_I (b_I_pos (by first | exact c5 | exact Int32.not_le.mp c5)), rfl⟩
theorem cl_10 {so u t ac nm : Nat} {S : a_S} (hS : k_S G σ so u t ac nm S) {f l : Int32} {q : Nat} {m : a_M} (hm : k_M σ q m) : sx_Cr G 1 YX2_lambda_range_0 [.ref so, .int f, .int l, .ref q] σ (some (.int (b_I (decide ((f - 1).toInt64 ≤ (o_I (S.2.2.2.2.2.2.findIdx? (fun e => e.1 == m.1))).toInt64 ∧ (o_I (S.2.2.2.2.2.2.findIdx? (fun e => e.1 == m.1))).toInt64 ≤ (l - 1).toInt64))))) σ := by
  refine sx_body (by decide) (Nat.le_of_ble_eq_true rfl) ?_
  have hS0 := hS
  obtain ⟨fu, ft, fa, hs, -⟩ := hS
  refine sv_aload_n dX2_lambda_range_0_0 rfl ?_
  refine sv_aload_n dX2_lambda_range_0_1 rfl ?_
  refine sv_get fg_X2_154 dX2_lambda_range_0_2 (sx_rd_c hm) rfl ?_
  refine sv_cvR _ (cc_sfind hS0) okX8_find kv_X2_178 (sx_rd_c hs) rfl dX2_lambda_range_0_5 rfl rfl (by omega) (Nat.le_of_ble_eq_true rfl) ?_
  refine sv_i2l dX2_lambda_range_0_8 ?_
  refine sv_iload_n dX2_lambda_range_0_9 rfl ?_
  refine sv_iconst (nI 1) dX2_lambda_range_0_10 (by decide +kernel) ?_
  refine sv_isub dX2_lambda_range_0_11 ?_
  refine sv_i2l dX2_lambda_range_0_12 ?_
  refine sv_iload_n dX2_lambda_range_0_13 rfl ?_
  refine sv_iconst (nI 1) dX2_lambda_range_0_14 (by decide +kernel) ?_
  refine sv_isub dX2_lambda_range_0_15 ?_
  refine sv_i2l dX2_lambda_range_0_16 ?_
  refine sv_cnR _ cc_inRange okX1_inRange ks_X2_182 dX2_lambda_range_0_17 rfl rfl (by omega) (Nat.le_of_ble_eq_true rfl) ?_
  refine sv_iret (by first | exact b_I_nar _ | rfl) rfl dX2_lambda_range_0_20 ?_
  exact ⟨_, rfl, rfl, rfl⟩
theorem cl_11 {h : Int32} : sx_Cr G 1 YX1_lambda_fetch_8 [.int h] σ (some (.int (h ||| 1))) σ := by
  refine sx_body (by decide) (Nat.le_of_ble_eq_true rfl) ?_
  refine sv_iload_n dX1_lambda_fetch_8_0 rfl ?_
  refine sv_iconst (nI 1) dX1_lambda_fetch_8_1 (by decide +kernel) ?_
  refine sv_ior dX1_lambda_fetch_8_2 ?_
  refine sv_iret rfl rfl dX1_lambda_fetch_8_3 ?_
  exact ⟨_, rfl, rfl, rfl⟩
theorem cl_12 {f h : Int32} : sx_Cr G 1 YX1_lambda_changed_5 [.int f, .int h] σ (some (.int f)) σ := by
  refine sx_body (by decide) (Nat.le_of_ble_eq_true rfl) ?_
  refine sv_iload_n dX1_lambda_changed_5_0 rfl ?_
  refine sv_iret rfl rfl dX1_lambda_changed_5_1 ?_
  exact ⟨_, rfl, rfl, rfl⟩
theorem cl_13 {f h : Int32} : sx_Cr G 1 YX1_lambda_changed_6 [.int f, .int h] σ (some (.int (h ||| f))) σ := by
  refine sx_body (by decide) (Nat.le_of_ble_eq_true rfl) ?_
  refine sv_iload_n dX1_lambda_changed_6_0 rfl ?_
  refine sv_iload_n dX1_lambda_changed_6_1 rfl ?_
  refine sv_ior dX1_lambda_changed_6_2 ?_
  refine sv_iret rfl rfl dX1_lambda_changed_6_3 ?_
  exact ⟨_, rfl, rfl, rfl⟩
theorem cl_14 {f h : Int32} : sx_Cr G 1 YX1_lambda_changed_7 [.int f, .int h] σ (some (.int (h &&& (f ^^^ -1)))) σ := by
  refine sx_body (by decide) (Nat.le_of_ble_eq_true rfl) ?_
  refine sv_iload_n dX1_lambda_changed_7_0 rfl ?_
  refine sv_iload_n dX1_lambda_changed_7_1 rfl ?_
  refine sv_iconst (-1) dX1_lambda_changed_7_2 (by decide +kernel) ?_
  refine sv_ixor dX1_lambda_changed_7_3 ?_
  refine sv_iand dX1_lambda_changed_7_4 ?_
  refine sv_iret rfl rfl dX1_lambda_changed_7_5 ?_
  exact ⟨_, rfl, rfl, rfl⟩
/-- the lambdas' own classes hold their values in order -/
def g_L (G : sx_G) : Prop := ∀ i k, (sg_D G).2 (17 + i) k = k
abbrev s_hol : MethodName := ⟨"MailSessions$Test", "holds", "(LMailSessions$Message;)Z"⟩
abbrev s_of : MethodName := ⟨"MailSessions$Change", "of", "(I)I"⟩
variable {d : Nat} {Y : sx_Y} {pc : Nat} {L : List (Option Value)} {rest : List Value} {Q : sx_O → sx_St → Prop} {idx cnt : Nat}
def sh_0 : Lambda.Shape := ({ iface := "MailSessions$Test", name := "holds", sam := ({ parameters := [(Jvm.ClassFile.FieldType.object "MailSessions$Message")], returnType := (Option.some Jvm.ClassFile.FieldType.boolean) } : Jvm.ClassFile.MethodDescriptor), captured := [Jvm.ClassFile.FieldType.int, Jvm.ClassFile.FieldType.int], kind := 6, implClass := "MailSessions", implName := "lambda$named$4", implDesc := ({ parameters := [Jvm.ClassFile.FieldType.int, Jvm.ClassFile.FieldType.int, (Jvm.ClassFile.FieldType.object "MailSessions$Message")], returnType := (Option.some Jvm.ClassFile.FieldType.boolean) } : Jvm.ClassFile.MethodDescriptor), implItf := false, inst := ({ parameters := [(Jvm.ClassFile.FieldType.object "MailSessions$Message")], returnType := (Option.some Jvm.ClassFile.FieldType.boolean) } : Jvm.ClassFile.MethodDescriptor) } : Jvm.Lambda.Shape)
theorem sh_0_s : sh_0.sam.toString = "(LMailSessions$Message;)Z" := by decide +kernel
def sh_0_c : ByteArray := ⟨#[42, 180, 0, 16, 42, 180, 0, 18, 43, 184, 0, 26, 172]⟩
theorem sh_0_k : sl_chk sh_0 "MailSessions" sh_0_c [16, 18] 26 = true := by decide +kernel
theorem sh_0_d : ∀ (j i : Nat), ([16, 18] : List Nat)[j]? = some i → decode sh_0_c (4 * j) = .ok (.aload_n 0, 1) ∧ decode sh_0_c (4 * j + 1) = .ok (.getfield i, 3) := by
  intro j i h
  match j, h with
  | 0, h => cases h; exact ⟨by decide +kernel, by decide +kernel⟩
  | 1, h => cases h; exact ⟨by decide +kernel, by decide +kernel⟩
  | j + 2, h => cases h
theorem sv_l0 {a : Nat} {f l : Int32} {q : Nat} {m : a_M} (hm : k_M σ q m) (hG : g_L G) (ha : sx_rd G σ a (.inr (17, [.int f, .int l]))) (hw : Cond.methodLink Y.1.cls idx s_hol ∈ lw_all) (hd : decode Y.2.1 pc = .ok (.invokeinterface idx cnt, 5)) (hdd : 3 ≤ d) (hcat : (rest.map fun v => v.category).sum ≤ 8) (k : sx_V G d Y (pc + 5) L (.int (b_I (a_in m.1 f l)) :: rest) σ Q) : sx_V G d Y pc L (.ref q :: .ref a :: rest) σ Q :=
  sv_il (i := 0) (x0 := ⟨"MailSessions", "named", "(II)LMailSessions$Test;"⟩) (pc0 := 2) (ix0 := 27) (f := sh_0) (caps := [.int f, .int l]) (code := sh_0_c) (ix := [16, 18]) (im := 26) (rt := .boolean) hG (cl_0 hm) (fun w τ h => ⟨_, h.1, b_I_nar _⟩) okX1_lambda_named_4 rfl q1264 rfl sh_0_k (by decide +kernel) (by decide +kernel) rfl rfl (by rw [sh_0_s]; exact hw) (by rw [sh_0_s]; exact q1274) (by rw [sh_0_s]; exact q1273) (by rw [sh_0_s]; decide +kernel) ⟨by decide, by decide⟩ (by rw [sh_0_s]; decide +kernel) rfl ha (Or.inl ⟨_, rfl, by decide +kernel⟩) sh_0_d (by decide +kernel) (by decide +kernel) rfl hd (by omega) hcat (fun r τ h => by
    obtain ⟨h1, h2⟩ := h
    cases h1
    subst h2
    exact k)
def sh_1 : Lambda.Shape := ({ iface := "MailSessions$Test", name := "holds", sam := ({ parameters := [(Jvm.ClassFile.FieldType.object "MailSessions$Message")], returnType := (Option.some Jvm.ClassFile.FieldType.boolean) } : Jvm.ClassFile.MethodDescriptor), captured := [Jvm.ClassFile.FieldType.int], kind := 6, implClass := "MailSessions", implName := "lambda$flagged$0", implDesc := ({ parameters := [Jvm.ClassFile.FieldType.int, (Jvm.ClassFile.FieldType.object "MailSessions$Message")], returnType := (Option.some Jvm.ClassFile.FieldType.boolean) } : Jvm.ClassFile.MethodDescriptor), implItf := false, inst := ({ parameters := [(Jvm.ClassFile.FieldType.object "MailSessions$Message")], returnType := (Option.some Jvm.ClassFile.FieldType.boolean) } : Jvm.ClassFile.MethodDescriptor) } : Jvm.Lambda.Shape)
theorem sh_1_s : sh_1.sam.toString = "(LMailSessions$Message;)Z" := by decide +kernel
def sh_1_c : ByteArray := ⟨#[42, 180, 0, 15, 43, 184, 0, 23, 172]⟩
theorem sh_1_k : sl_chk sh_1 "MailSessions" sh_1_c [15] 23 = true := by decide +kernel
theorem sh_1_d : ∀ (j i : Nat), ([15] : List Nat)[j]? = some i → decode sh_1_c (4 * j) = .ok (.aload_n 0, 1) ∧ decode sh_1_c (4 * j + 1) = .ok (.getfield i, 3) := by
  intro j i h
  match j, h with
  | 0, h => cases h; exact ⟨by decide +kernel, by decide +kernel⟩
  | j + 1, h => cases h
theorem sv_l1 {a : Nat} {f : Int32} {q : Nat} {m : a_M} (hm : k_M σ q m) (hG : g_L G) (ha : sx_rd G σ a (.inr (18, [.int f]))) (hw : Cond.methodLink Y.1.cls idx s_hol ∈ lw_all) (hd : decode Y.2.1 pc = .ok (.invokeinterface idx cnt, 5)) (hdd : 3 ≤ d) (hcat : (rest.map fun v => v.category).sum ≤ 8) (k : sx_V G d Y (pc + 5) L (.int (b_I (decide (m.2.2 >>> (f &&& 31) &&& 1 = 1))) :: rest) σ Q) : sx_V G d Y pc L (.ref q :: .ref a :: rest) σ Q :=
  sv_il (i := 1) (x0 := ⟨"MailSessions", "flagged", "(I)LMailSessions$Test;"⟩) (pc0 := 1) (ix0 := 16) (f := sh_1) (caps := [.int f]) (code := sh_1_c) (ix := [15]) (im := 23) (rt := .boolean) hG (cl_1 hm) (fun w τ h => ⟨_, h.1, b_I_nar _⟩) okX1_lambda_flagged_0 rfl q1461 rfl sh_1_k (by decide +kernel) (by decide +kernel) rfl rfl (by rw [sh_1_s]; exact hw) (by rw [sh_1_s]; exact q1274) (by rw [sh_1_s]; exact q1273) (by rw [sh_1_s]; decide +kernel) ⟨by decide, by decide⟩ (by rw [sh_1_s]; decide +kernel) rfl ha (Or.inl ⟨_, rfl, by decide +kernel⟩) sh_1_d (by decide +kernel) (by decide +kernel) rfl hd (by omega) hcat (fun r τ h => by
    obtain ⟨h1, h2⟩ := h
    cases h1
    subst h2
    exact k)
def sh_3 : Lambda.Shape := ({ iface := "MailSessions$Test", name := "holds", sam := ({ parameters := [(Jvm.ClassFile.FieldType.object "MailSessions$Message")], returnType := (Option.some Jvm.ClassFile.FieldType.boolean) } : Jvm.ClassFile.MethodDescriptor), captured := [], kind := 6, implClass := "MailSessions$Parser", implName := "lambda$factor$4", implDesc := ({ parameters := [(Jvm.ClassFile.FieldType.object "MailSessions$Message")], returnType := (Option.some Jvm.ClassFile.FieldType.boolean) } : Jvm.ClassFile.MethodDescriptor), implItf := false, inst := ({ parameters := [(Jvm.ClassFile.FieldType.object "MailSessions$Message")], returnType := (Option.some Jvm.ClassFile.FieldType.boolean) } : Jvm.ClassFile.MethodDescriptor) } : Jvm.Lambda.Shape)
theorem sh_3_s : sh_3.sam.toString = "(LMailSessions$Message;)Z" := by decide +kernel
def sh_3_c : ByteArray := ⟨#[43, 184, 0, 17, 172]⟩
theorem sh_3_k : sl_chk sh_3 "MailSessions$Parser" sh_3_c [] 17 = true := by decide +kernel
theorem sh_3_d : ∀ (j i : Nat), ([] : List Nat)[j]? = some i → decode sh_3_c (4 * j) = .ok (.aload_n 0, 1) ∧ decode sh_3_c (4 * j + 1) = .ok (.getfield i, 3) := fun j i h => by cases h
theorem sv_l3 {a : Nat}  {q : Nat} (hG : g_L G) (ha : sx_rd G σ a (.inr (20, []))) (hw : Cond.methodLink Y.1.cls idx s_hol ∈ lw_all) (hd : decode Y.2.1 pc = .ok (.invokeinterface idx cnt, 5)) (hdd : 3 ≤ d) (hcat : (rest.map fun v => v.category).sum ≤ 8) (k : sx_V G d Y (pc + 5) L (.int (b_I (true)) :: rest) σ Q) : sx_V G d Y pc L (.ref q :: .ref a :: rest) σ Q :=
  sv_il (i := 3) (x0 := ⟨"MailSessions$Parser", "factor", "()LMailSessions$Test;"⟩) (pc0 := 160) (ix0 := 261) (f := sh_3) (caps := []) (code := sh_3_c) (ix := []) (im := 17) (rt := .boolean) hG cl_3 (fun w τ h => ⟨_, h.1, b_I_nar _⟩) okX4_lambda_factor_4 rfl q1653 rfl sh_3_k (by decide +kernel) (by decide +kernel) rfl rfl (by rw [sh_3_s]; exact hw) (by rw [sh_3_s]; exact q1274) (by rw [sh_3_s]; exact q1273) (by rw [sh_3_s]; decide +kernel) ⟨by decide, by decide⟩ (by rw [sh_3_s]; decide +kernel) rfl ha (Or.inl ⟨_, rfl, by decide +kernel⟩) sh_3_d (by decide +kernel) (by decide +kernel) rfl hd (by omega) hcat (fun r τ h => by
    obtain ⟨h1, h2⟩ := h
    cases h1
    subst h2
    exact k)
def sh_4 : Lambda.Shape := ({ iface := "MailSessions$Test", name := "holds", sam := ({ parameters := [(Jvm.ClassFile.FieldType.object "MailSessions$Message")], returnType := (Option.some Jvm.ClassFile.FieldType.boolean) } : Jvm.ClassFile.MethodDescriptor), captured := [Jvm.ClassFile.FieldType.int], kind := 6, implClass := "MailSessions$Parser", implName := "lambda$compared$0", implDesc := ({ parameters := [Jvm.ClassFile.FieldType.int, (Jvm.ClassFile.FieldType.object "MailSessions$Message")], returnType := (Option.some Jvm.ClassFile.FieldType.boolean) } : Jvm.ClassFile.MethodDescriptor), implItf := false, inst := ({ parameters := [(Jvm.ClassFile.FieldType.object "MailSessions$Message")], returnType := (Option.some Jvm.ClassFile.FieldType.boolean) } : Jvm.ClassFile.MethodDescriptor) } : Jvm.Lambda.Shape)
theorem sh_4_s : sh_4.sam.toString = "(LMailSessions$Message;)Z" := by decide +kernel
def sh_4_c : ByteArray := ⟨#[42, 180, 0, 15, 43, 184, 0, 23, 172]⟩
theorem sh_4_k : sl_chk sh_4 "MailSessions$Parser" sh_4_c [15] 23 = true := by decide +kernel
theorem sh_4_d : ∀ (j i : Nat), ([15] : List Nat)[j]? = some i → decode sh_4_c (4 * j) = .ok (.aload_n 0, 1) ∧ decode sh_4_c (4 * j + 1) = .ok (.getfield i, 3) := by
  intro j i h
  match j, h with
  | 0, h => cases h; exact ⟨by decide +kernel, by decide +kernel⟩
  | j + 1, h => cases h
theorem sv_l4 {a : Nat} {x : Int32} {q : Nat} {m : a_M} (hm : k_M σ q m) (hG : g_L G) (ha : sx_rd G σ a (.inr (21, [.int x]))) (hw : Cond.methodLink Y.1.cls idx s_hol ∈ lw_all) (hd : decode Y.2.1 pc = .ok (.invokeinterface idx cnt, 5)) (hdd : 3 ≤ d) (hcat : (rest.map fun v => v.category).sum ≤ 8) (k : sx_V G d Y (pc + 5) L (.int (b_I (decide (m.2.1 < x))) :: rest) σ Q) : sx_V G d Y pc L (.ref q :: .ref a :: rest) σ Q :=
  sv_il (i := 4) (x0 := ⟨"MailSessions$Parser", "compared", "(Z)LMailSessions$Test;"⟩) (pc0 := 56) (ix0 := 252) (f := sh_4) (caps := [.int x]) (code := sh_4_c) (ix := [15]) (im := 23) (rt := .boolean) hG (cl_4 hm) (fun w τ h => ⟨_, h.1, b_I_nar _⟩) okX4_lambda_compared_0 rfl q1659 rfl sh_4_k (by decide +kernel) (by decide +kernel) rfl rfl (by rw [sh_4_s]; exact hw) (by rw [sh_4_s]; exact q1274) (by rw [sh_4_s]; exact q1273) (by rw [sh_4_s]; decide +kernel) ⟨by decide, by decide⟩ (by rw [sh_4_s]; decide +kernel) rfl ha (Or.inl ⟨_, rfl, by decide +kernel⟩) sh_4_d (by decide +kernel) (by decide +kernel) rfl hd (by omega) hcat (fun r τ h => by
    obtain ⟨h1, h2⟩ := h
    cases h1
    subst h2
    exact k)
def sh_5 : Lambda.Shape := ({ iface := "MailSessions$Test", name := "holds", sam := ({ parameters := [(Jvm.ClassFile.FieldType.object "MailSessions$Message")], returnType := (Option.some Jvm.ClassFile.FieldType.boolean) } : Jvm.ClassFile.MethodDescriptor), captured := [Jvm.ClassFile.FieldType.int], kind := 6, implClass := "MailSessions$Parser", implName := "lambda$compared$1", implDesc := ({ parameters := [Jvm.ClassFile.FieldType.int, (Jvm.ClassFile.FieldType.object "MailSessions$Message")], returnType := (Option.some Jvm.ClassFile.FieldType.boolean) } : Jvm.ClassFile.MethodDescriptor), implItf := false, inst := ({ parameters := [(Jvm.ClassFile.FieldType.object "MailSessions$Message")], returnType := (Option.some Jvm.ClassFile.FieldType.boolean) } : Jvm.ClassFile.MethodDescriptor) } : Jvm.Lambda.Shape)
theorem sh_5_s : sh_5.sam.toString = "(LMailSessions$Message;)Z" := by decide +kernel
def sh_5_c : ByteArray := ⟨#[42, 180, 0, 15, 43, 184, 0, 23, 172]⟩
theorem sh_5_k : sl_chk sh_5 "MailSessions$Parser" sh_5_c [15] 23 = true := by decide +kernel
theorem sh_5_d : ∀ (j i : Nat), ([15] : List Nat)[j]? = some i → decode sh_5_c (4 * j) = .ok (.aload_n 0, 1) ∧ decode sh_5_c (4 * j + 1) = .ok (.getfield i, 3) := by
  intro j i h
  match j, h with
  | 0, h => cases h; exact ⟨by decide +kernel, by decide +kernel⟩
  | j + 1, h => cases h
theorem sv_l5 {a : Nat} {x : Int32} {q : Nat} {m : a_M} (hm : k_M σ q m) (hG : g_L G) (ha : sx_rd G σ a (.inr (22, [.int x]))) (hw : Cond.methodLink Y.1.cls idx s_hol ∈ lw_all) (hd : decode Y.2.1 pc = .ok (.invokeinterface idx cnt, 5)) (hdd : 3 ≤ d) (hcat : (rest.map fun v => v.category).sum ≤ 8) (k : sx_V G d Y (pc + 5) L (.int (b_I (decide (x < m.2.1))) :: rest) σ Q) : sx_V G d Y pc L (.ref q :: .ref a :: rest) σ Q :=
  sv_il (i := 5) (x0 := ⟨"MailSessions$Parser", "compared", "(Z)LMailSessions$Test;"⟩) (pc0 := 65) (ix0 := 256) (f := sh_5) (caps := [.int x]) (code := sh_5_c) (ix := [15]) (im := 23) (rt := .boolean) hG (cl_5 hm) (fun w τ h => ⟨_, h.1, b_I_nar _⟩) okX4_lambda_compared_1 rfl q1661 rfl sh_5_k (by decide +kernel) (by decide +kernel) rfl rfl (by rw [sh_5_s]; exact hw) (by rw [sh_5_s]; exact q1274) (by rw [sh_5_s]; exact q1273) (by rw [sh_5_s]; decide +kernel) ⟨by decide, by decide⟩ (by rw [sh_5_s]; decide +kernel) rfl ha (Or.inl ⟨_, rfl, by decide +kernel⟩) sh_5_d (by decide +kernel) (by decide +kernel) rfl hd (by omega) hcat (fun r τ h => by
    obtain ⟨h1, h2⟩ := h
    cases h1
    subst h2
    exact k)
def sh_6 : Lambda.Shape := ({ iface := "MailSessions$Test", name := "holds", sam := ({ parameters := [(Jvm.ClassFile.FieldType.object "MailSessions$Message")], returnType := (Option.some Jvm.ClassFile.FieldType.boolean) } : Jvm.ClassFile.MethodDescriptor), captured := [Jvm.ClassFile.FieldType.int], kind := 6, implClass := "MailSessions$Parser", implName := "lambda$compared$2", implDesc := ({ parameters := [Jvm.ClassFile.FieldType.int, (Jvm.ClassFile.FieldType.object "MailSessions$Message")], returnType := (Option.some Jvm.ClassFile.FieldType.boolean) } : Jvm.ClassFile.MethodDescriptor), implItf := false, inst := ({ parameters := [(Jvm.ClassFile.FieldType.object "MailSessions$Message")], returnType := (Option.some Jvm.ClassFile.FieldType.boolean) } : Jvm.ClassFile.MethodDescriptor) } : Jvm.Lambda.Shape)
theorem sh_6_s : sh_6.sam.toString = "(LMailSessions$Message;)Z" := by decide +kernel
def sh_6_c : ByteArray := ⟨#[42, 180, 0, 15, 43, 184, 0, 23, 172]⟩
theorem sh_6_k : sl_chk sh_6 "MailSessions$Parser" sh_6_c [15] 23 = true := by decide +kernel
theorem sh_6_d : ∀ (j i : Nat), ([15] : List Nat)[j]? = some i → decode sh_6_c (4 * j) = .ok (.aload_n 0, 1) ∧ decode sh_6_c (4 * j + 1) = .ok (.getfield i, 3) := by
  intro j i h
  match j, h with
  | 0, h => cases h; exact ⟨by decide +kernel, by decide +kernel⟩
  | j + 1, h => cases h
theorem sv_l6 {a : Nat} {x : Int32} {q : Nat} {m : a_M} (hm : k_M σ q m) (hG : g_L G) (ha : sx_rd G σ a (.inr (23, [.int x]))) (hw : Cond.methodLink Y.1.cls idx s_hol ∈ lw_all) (hd : decode Y.2.1 pc = .ok (.invokeinterface idx cnt, 5)) (hdd : 3 ≤ d) (hcat : (rest.map fun v => v.category).sum ≤ 8) (k : sx_V G d Y (pc + 5) L (.int (b_I (decide (m.1 < x))) :: rest) σ Q) : sx_V G d Y pc L (.ref q :: .ref a :: rest) σ Q :=
  sv_il (i := 6) (x0 := ⟨"MailSessions$Parser", "compared", "(Z)LMailSessions$Test;"⟩) (pc0 := 76) (ix0 := 257) (f := sh_6) (caps := [.int x]) (code := sh_6_c) (ix := [15]) (im := 23) (rt := .boolean) hG (cl_6 hm) (fun w τ h => ⟨_, h.1, b_I_nar _⟩) okX4_lambda_compared_2 rfl q1663 rfl sh_6_k (by decide +kernel) (by decide +kernel) rfl rfl (by rw [sh_6_s]; exact hw) (by rw [sh_6_s]; exact q1274) (by rw [sh_6_s]; exact q1273) (by rw [sh_6_s]; decide +kernel) ⟨by decide, by decide⟩ (by rw [sh_6_s]; decide +kernel) rfl ha (Or.inl ⟨_, rfl, by decide +kernel⟩) sh_6_d (by decide +kernel) (by decide +kernel) rfl hd (by omega) hcat (fun r τ h => by
    obtain ⟨h1, h2⟩ := h
    cases h1
    subst h2
    exact k)
def sh_7 : Lambda.Shape := ({ iface := "MailSessions$Test", name := "holds", sam := ({ parameters := [(Jvm.ClassFile.FieldType.object "MailSessions$Message")], returnType := (Option.some Jvm.ClassFile.FieldType.boolean) } : Jvm.ClassFile.MethodDescriptor), captured := [Jvm.ClassFile.FieldType.int], kind := 6, implClass := "MailSessions$Parser", implName := "lambda$compared$3", implDesc := ({ parameters := [Jvm.ClassFile.FieldType.int, (Jvm.ClassFile.FieldType.object "MailSessions$Message")], returnType := (Option.some Jvm.ClassFile.FieldType.boolean) } : Jvm.ClassFile.MethodDescriptor), implItf := false, inst := ({ parameters := [(Jvm.ClassFile.FieldType.object "MailSessions$Message")], returnType := (Option.some Jvm.ClassFile.FieldType.boolean) } : Jvm.ClassFile.MethodDescriptor) } : Jvm.Lambda.Shape)
theorem sh_7_s : sh_7.sam.toString = "(LMailSessions$Message;)Z" := by decide +kernel
def sh_7_c : ByteArray := ⟨#[42, 180, 0, 15, 43, 184, 0, 23, 172]⟩
theorem sh_7_k : sl_chk sh_7 "MailSessions$Parser" sh_7_c [15] 23 = true := by decide +kernel
theorem sh_7_d : ∀ (j i : Nat), ([15] : List Nat)[j]? = some i → decode sh_7_c (4 * j) = .ok (.aload_n 0, 1) ∧ decode sh_7_c (4 * j + 1) = .ok (.getfield i, 3) := by
  intro j i h
  match j, h with
  | 0, h => cases h; exact ⟨by decide +kernel, by decide +kernel⟩
  | j + 1, h => cases h
theorem sv_l7 {a : Nat} {x : Int32} {q : Nat} {m : a_M} (hm : k_M σ q m) (hG : g_L G) (ha : sx_rd G σ a (.inr (24, [.int x]))) (hw : Cond.methodLink Y.1.cls idx s_hol ∈ lw_all) (hd : decode Y.2.1 pc = .ok (.invokeinterface idx cnt, 5)) (hdd : 3 ≤ d) (hcat : (rest.map fun v => v.category).sum ≤ 8) (k : sx_V G d Y (pc + 5) L (.int (b_I (decide (x < m.1))) :: rest) σ Q) : sx_V G d Y pc L (.ref q :: .ref a :: rest) σ Q :=
  sv_il (i := 7) (x0 := ⟨"MailSessions$Parser", "compared", "(Z)LMailSessions$Test;"⟩) (pc0 := 85) (ix0 := 258) (f := sh_7) (caps := [.int x]) (code := sh_7_c) (ix := [15]) (im := 23) (rt := .boolean) hG (cl_7 hm) (fun w τ h => ⟨_, h.1, b_I_nar _⟩) okX4_lambda_compared_3 rfl q1665 rfl sh_7_k (by decide +kernel) (by decide +kernel) rfl rfl (by rw [sh_7_s]; exact hw) (by rw [sh_7_s]; exact q1274) (by rw [sh_7_s]; exact q1273) (by rw [sh_7_s]; decide +kernel) ⟨by decide, by decide⟩ (by rw [sh_7_s]; decide +kernel) rfl ha (Or.inl ⟨_, rfl, by decide +kernel⟩) sh_7_d (by decide +kernel) (by decide +kernel) rfl hd (by omega) hcat (fun r τ h => by
    obtain ⟨h1, h2⟩ := h
    cases h1
    subst h2
    exact k)
def sh_10 : Lambda.Shape := ({ iface := "MailSessions$Test", name := "holds", sam := ({ parameters := [(Jvm.ClassFile.FieldType.object "MailSessions$Message")], returnType := (Option.some Jvm.ClassFile.FieldType.boolean) } : Jvm.ClassFile.MethodDescriptor), captured := [(Jvm.ClassFile.FieldType.object "MailSessions$Session"), Jvm.ClassFile.FieldType.int, Jvm.ClassFile.FieldType.int], kind := 6, implClass := "MailSessions$Server", implName := "lambda$range$0", implDesc := ({ parameters := [(Jvm.ClassFile.FieldType.object "MailSessions$Session"), Jvm.ClassFile.FieldType.int, Jvm.ClassFile.FieldType.int, (Jvm.ClassFile.FieldType.object "MailSessions$Message")], returnType := (Option.some Jvm.ClassFile.FieldType.boolean) } : Jvm.ClassFile.MethodDescriptor), implItf := false, inst := ({ parameters := [(Jvm.ClassFile.FieldType.object "MailSessions$Message")], returnType := (Option.some Jvm.ClassFile.FieldType.boolean) } : Jvm.ClassFile.MethodDescriptor) } : Jvm.Lambda.Shape)
theorem sh_10_s : sh_10.sam.toString = "(LMailSessions$Message;)Z" := by decide +kernel
def sh_10_c : ByteArray := ⟨#[42, 180, 0, 18, 42, 180, 0, 20, 42, 180, 0, 22, 43, 184, 0, 30, 172]⟩
theorem sh_10_k : sl_chk sh_10 "MailSessions$Server" sh_10_c [18, 20, 22] 30 = true := by decide +kernel
theorem sh_10_d : ∀ (j i : Nat), ([18, 20, 22] : List Nat)[j]? = some i → decode sh_10_c (4 * j) = .ok (.aload_n 0, 1) ∧ decode sh_10_c (4 * j + 1) = .ok (.getfield i, 3) := by
  intro j i h
  match j, h with
  | 0, h => cases h; exact ⟨by decide +kernel, by decide +kernel⟩
  | 1, h => cases h; exact ⟨by decide +kernel, by decide +kernel⟩
  | 2, h => cases h; exact ⟨by decide +kernel, by decide +kernel⟩
  | j + 3, h => cases h
theorem sv_l10 {a : Nat} {so u t ac nm : Nat} {S : a_S} (hS : k_S G σ so u t ac nm S) {f l : Int32} {q : Nat} {m : a_M} (hm : k_M σ q m) (hG : g_L G) (ha : sx_rd G σ a (.inr (27, [.ref so, .int f, .int l]))) (hw : Cond.methodLink Y.1.cls idx s_hol ∈ lw_all) (hd : decode Y.2.1 pc = .ok (.invokeinterface idx cnt, 5)) (hdd : 3 ≤ d) (hcat : (rest.map fun v => v.category).sum ≤ 8) (k : sx_V G d Y (pc + 5) L (.int (b_I (decide ((f - 1).toInt64 ≤ (o_I (S.2.2.2.2.2.2.findIdx? (fun e => e.1 == m.1))).toInt64 ∧ (o_I (S.2.2.2.2.2.2.findIdx? (fun e => e.1 == m.1))).toInt64 ≤ (l - 1).toInt64))) :: rest) σ Q) : sx_V G d Y pc L (.ref q :: .ref a :: rest) σ Q :=
  sv_il (i := 10) (x0 := ⟨"MailSessions$Server", "range", "(LMailSessions$Session;II)LMailSessions$Test;"⟩) (pc0 := 3) (ix0 := 164) (f := sh_10) (caps := [.ref so, .int f, .int l]) (code := sh_10_c) (ix := [18, 20, 22]) (im := 30) (rt := .boolean) hG (cl_10 hS hm) (fun w τ h => ⟨_, h.1, b_I_nar _⟩) okX2_lambda_range_0 rfl q1815 rfl sh_10_k (by decide +kernel) (by decide +kernel) rfl rfl (by rw [sh_10_s]; exact hw) (by rw [sh_10_s]; exact q1274) (by rw [sh_10_s]; exact q1273) (by rw [sh_10_s]; decide +kernel) ⟨by decide, by decide⟩ (by rw [sh_10_s]; decide +kernel) rfl ha (Or.inl ⟨_, rfl, by decide +kernel⟩) sh_10_d (by decide +kernel) (by decide +kernel) rfl hd (by omega) hcat (fun r τ h => by
    obtain ⟨h1, h2⟩ := h
    cases h1
    subst h2
    exact k)
def sh_11 : Lambda.Shape := ({ iface := "MailSessions$Change", name := "of", sam := ({ parameters := [Jvm.ClassFile.FieldType.int], returnType := (Option.some Jvm.ClassFile.FieldType.int) } : Jvm.ClassFile.MethodDescriptor), captured := [], kind := 6, implClass := "MailSessions", implName := "lambda$fetch$8", implDesc := ({ parameters := [Jvm.ClassFile.FieldType.int], returnType := (Option.some Jvm.ClassFile.FieldType.int) } : Jvm.ClassFile.MethodDescriptor), implItf := false, inst := ({ parameters := [Jvm.ClassFile.FieldType.int], returnType := (Option.some Jvm.ClassFile.FieldType.int) } : Jvm.ClassFile.MethodDescriptor) } : Jvm.Lambda.Shape)
theorem sh_11_s : sh_11.sam.toString = "(I)I" := by decide +kernel
def sh_11_c : ByteArray := ⟨#[27, 184, 0, 17, 172]⟩
theorem sh_11_k : sl_chk sh_11 "MailSessions" sh_11_c [] 17 = true := by decide +kernel
theorem sh_11_d : ∀ (j i : Nat), ([] : List Nat)[j]? = some i → decode sh_11_c (4 * j) = .ok (.aload_n 0, 1) ∧ decode sh_11_c (4 * j + 1) = .ok (.getfield i, 3) := fun j i h => by cases h
theorem sv_l11 {a : Nat}  {h : Int32} (hG : g_L G) (ha : sx_rd G σ a (.inr (28, []))) (hw : Cond.methodLink Y.1.cls idx s_of ∈ lw_all) (hd : decode Y.2.1 pc = .ok (.invokeinterface idx cnt, 5)) (hdd : 3 ≤ d) (hcat : (rest.map fun v => v.category).sum ≤ 8) (k : sx_V G d Y (pc + 5) L (.int (h ||| 1) :: rest) σ Q) : sx_V G d Y pc L (.int h :: .ref a :: rest) σ Q :=
  sv_il (i := 11) (x0 := ⟨"MailSessions", "fetch", "(IIIZ)I"⟩) (pc0 := 111) (ix0 := 363) (f := sh_11) (caps := []) (code := sh_11_c) (ix := []) (im := 17) (rt := .int) hG cl_11 (fun w τ h => ⟨_, h.1, rfl⟩) okX1_lambda_fetch_8 rfl q1819 rfl sh_11_k (by decide +kernel) (by decide +kernel) rfl rfl (by rw [sh_11_s]; exact hw) (by rw [sh_11_s]; exact q1828) (by rw [sh_11_s]; exact q1827) (by rw [sh_11_s]; decide +kernel) ⟨by decide, by decide⟩ (by rw [sh_11_s]; decide +kernel) rfl ha (Or.inr ⟨_, rfl, by decide +kernel⟩) sh_11_d (by decide +kernel) (by decide +kernel) rfl hd (by omega) hcat (fun r τ h => by
    obtain ⟨h1, h2⟩ := h
    cases h1
    subst h2
    exact k)
def sh_12 : Lambda.Shape := ({ iface := "MailSessions$Change", name := "of", sam := ({ parameters := [Jvm.ClassFile.FieldType.int], returnType := (Option.some Jvm.ClassFile.FieldType.int) } : Jvm.ClassFile.MethodDescriptor), captured := [Jvm.ClassFile.FieldType.int], kind := 6, implClass := "MailSessions", implName := "lambda$changed$5", implDesc := ({ parameters := [Jvm.ClassFile.FieldType.int, Jvm.ClassFile.FieldType.int], returnType := (Option.some Jvm.ClassFile.FieldType.int) } : Jvm.ClassFile.MethodDescriptor), implItf := false, inst := ({ parameters := [Jvm.ClassFile.FieldType.int], returnType := (Option.some Jvm.ClassFile.FieldType.int) } : Jvm.ClassFile.MethodDescriptor) } : Jvm.Lambda.Shape)
theorem sh_12_s : sh_12.sam.toString = "(I)I" := by decide +kernel
def sh_12_c : ByteArray := ⟨#[42, 180, 0, 15, 27, 184, 0, 23, 172]⟩
theorem sh_12_k : sl_chk sh_12 "MailSessions" sh_12_c [15] 23 = true := by decide +kernel
theorem sh_12_d : ∀ (j i : Nat), ([15] : List Nat)[j]? = some i → decode sh_12_c (4 * j) = .ok (.aload_n 0, 1) ∧ decode sh_12_c (4 * j + 1) = .ok (.getfield i, 3) := by
  intro j i h
  match j, h with
  | 0, h => cases h; exact ⟨by decide +kernel, by decide +kernel⟩
  | j + 1, h => cases h
theorem sv_l12 {a : Nat} {f : Int32} {h : Int32} (hG : g_L G) (ha : sx_rd G σ a (.inr (29, [.int f]))) (hw : Cond.methodLink Y.1.cls idx s_of ∈ lw_all) (hd : decode Y.2.1 pc = .ok (.invokeinterface idx cnt, 5)) (hdd : 3 ≤ d) (hcat : (rest.map fun v => v.category).sum ≤ 8) (k : sx_V G d Y (pc + 5) L (.int (f) :: rest) σ Q) : sx_V G d Y pc L (.int h :: .ref a :: rest) σ Q :=
  sv_il (i := 12) (x0 := ⟨"MailSessions", "changed", "(II)LMailSessions$Change;"⟩) (pc0 := 7) (ix0 := 32) (f := sh_12) (caps := [.int f]) (code := sh_12_c) (ix := [15]) (im := 23) (rt := .int) hG cl_12 (fun w τ h => ⟨_, h.1, rfl⟩) okX1_lambda_changed_5 rfl q1858 rfl sh_12_k (by decide +kernel) (by decide +kernel) rfl rfl (by rw [sh_12_s]; exact hw) (by rw [sh_12_s]; exact q1828) (by rw [sh_12_s]; exact q1827) (by rw [sh_12_s]; decide +kernel) ⟨by decide, by decide⟩ (by rw [sh_12_s]; decide +kernel) rfl ha (Or.inr ⟨_, rfl, by decide +kernel⟩) sh_12_d (by decide +kernel) (by decide +kernel) rfl hd (by omega) hcat (fun r τ h => by
    obtain ⟨h1, h2⟩ := h
    cases h1
    subst h2
    exact k)
def sh_13 : Lambda.Shape := ({ iface := "MailSessions$Change", name := "of", sam := ({ parameters := [Jvm.ClassFile.FieldType.int], returnType := (Option.some Jvm.ClassFile.FieldType.int) } : Jvm.ClassFile.MethodDescriptor), captured := [Jvm.ClassFile.FieldType.int], kind := 6, implClass := "MailSessions", implName := "lambda$changed$6", implDesc := ({ parameters := [Jvm.ClassFile.FieldType.int, Jvm.ClassFile.FieldType.int], returnType := (Option.some Jvm.ClassFile.FieldType.int) } : Jvm.ClassFile.MethodDescriptor), implItf := false, inst := ({ parameters := [Jvm.ClassFile.FieldType.int], returnType := (Option.some Jvm.ClassFile.FieldType.int) } : Jvm.ClassFile.MethodDescriptor) } : Jvm.Lambda.Shape)
theorem sh_13_s : sh_13.sam.toString = "(I)I" := by decide +kernel
def sh_13_c : ByteArray := ⟨#[42, 180, 0, 15, 27, 184, 0, 23, 172]⟩
theorem sh_13_k : sl_chk sh_13 "MailSessions" sh_13_c [15] 23 = true := by decide +kernel
theorem sh_13_d : ∀ (j i : Nat), ([15] : List Nat)[j]? = some i → decode sh_13_c (4 * j) = .ok (.aload_n 0, 1) ∧ decode sh_13_c (4 * j + 1) = .ok (.getfield i, 3) := by
  intro j i h
  match j, h with
  | 0, h => cases h; exact ⟨by decide +kernel, by decide +kernel⟩
  | j + 1, h => cases h
theorem sv_l13 {a : Nat} {f : Int32} {h : Int32} (hG : g_L G) (ha : sx_rd G σ a (.inr (30, [.int f]))) (hw : Cond.methodLink Y.1.cls idx s_of ∈ lw_all) (hd : decode Y.2.1 pc = .ok (.invokeinterface idx cnt, 5)) (hdd : 3 ≤ d) (hcat : (rest.map fun v => v.category).sum ≤ 8) (k : sx_V G d Y (pc + 5) L (.int (h ||| f) :: rest) σ Q) : sx_V G d Y pc L (.int h :: .ref a :: rest) σ Q :=
  sv_il (i := 13) (x0 := ⟨"MailSessions", "changed", "(II)LMailSessions$Change;"⟩) (pc0 := 16) (ix0 := 36) (f := sh_13) (caps := [.int f]) (code := sh_13_c) (ix := [15]) (im := 23) (rt := .int) hG cl_13 (fun w τ h => ⟨_, h.1, rfl⟩) okX1_lambda_changed_6 rfl q1860 rfl sh_13_k (by decide +kernel) (by decide +kernel) rfl rfl (by rw [sh_13_s]; exact hw) (by rw [sh_13_s]; exact q1828) (by rw [sh_13_s]; exact q1827) (by rw [sh_13_s]; decide +kernel) ⟨by decide, by decide⟩ (by rw [sh_13_s]; decide +kernel) rfl ha (Or.inr ⟨_, rfl, by decide +kernel⟩) sh_13_d (by decide +kernel) (by decide +kernel) rfl hd (by omega) hcat (fun r τ h => by
    obtain ⟨h1, h2⟩ := h
    cases h1
    subst h2
    exact k)
def sh_14 : Lambda.Shape := ({ iface := "MailSessions$Change", name := "of", sam := ({ parameters := [Jvm.ClassFile.FieldType.int], returnType := (Option.some Jvm.ClassFile.FieldType.int) } : Jvm.ClassFile.MethodDescriptor), captured := [Jvm.ClassFile.FieldType.int], kind := 6, implClass := "MailSessions", implName := "lambda$changed$7", implDesc := ({ parameters := [Jvm.ClassFile.FieldType.int, Jvm.ClassFile.FieldType.int], returnType := (Option.some Jvm.ClassFile.FieldType.int) } : Jvm.ClassFile.MethodDescriptor), implItf := false, inst := ({ parameters := [Jvm.ClassFile.FieldType.int], returnType := (Option.some Jvm.ClassFile.FieldType.int) } : Jvm.ClassFile.MethodDescriptor) } : Jvm.Lambda.Shape)
theorem sh_14_s : sh_14.sam.toString = "(I)I" := by decide +kernel
def sh_14_c : ByteArray := ⟨#[42, 180, 0, 15, 27, 184, 0, 23, 172]⟩
theorem sh_14_k : sl_chk sh_14 "MailSessions" sh_14_c [15] 23 = true := by decide +kernel
theorem sh_14_d : ∀ (j i : Nat), ([15] : List Nat)[j]? = some i → decode sh_14_c (4 * j) = .ok (.aload_n 0, 1) ∧ decode sh_14_c (4 * j + 1) = .ok (.getfield i, 3) := by
  intro j i h
  match j, h with
  | 0, h => cases h; exact ⟨by decide +kernel, by decide +kernel⟩
  | j + 1, h => cases h
theorem sv_l14 {a : Nat} {f : Int32} {h : Int32} (hG : g_L G) (ha : sx_rd G σ a (.inr (31, [.int f]))) (hw : Cond.methodLink Y.1.cls idx s_of ∈ lw_all) (hd : decode Y.2.1 pc = .ok (.invokeinterface idx cnt, 5)) (hdd : 3 ≤ d) (hcat : (rest.map fun v => v.category).sum ≤ 8) (k : sx_V G d Y (pc + 5) L (.int (h &&& (f ^^^ -1)) :: rest) σ Q) : sx_V G d Y pc L (.int h :: .ref a :: rest) σ Q :=
  sv_il (i := 14) (x0 := ⟨"MailSessions", "changed", "(II)LMailSessions$Change;"⟩) (pc0 := 25) (ix0 := 37) (f := sh_14) (caps := [.int f]) (code := sh_14_c) (ix := [15]) (im := 23) (rt := .int) hG cl_14 (fun w τ h => ⟨_, h.1, rfl⟩) okX1_lambda_changed_7 rfl q1862 rfl sh_14_k (by decide +kernel) (by decide +kernel) rfl rfl (by rw [sh_14_s]; exact hw) (by rw [sh_14_s]; exact q1828) (by rw [sh_14_s]; exact q1827) (by rw [sh_14_s]; decide +kernel) ⟨by decide, by decide⟩ (by rw [sh_14_s]; decide +kernel) rfl ha (Or.inr ⟨_, rfl, by decide +kernel⟩) sh_14_d (by decide +kernel) (by decide +kernel) rfl hd (by omega) hcat (fun r τ h => by
    obtain ⟨h1, h2⟩ := h
    cases h1
    subst h2
    exact k)
end CTE
