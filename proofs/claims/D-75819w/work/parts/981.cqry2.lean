set_option maxRecDepth 100000
section CQ2
variable {G : sx_G} {σ τ : sx_St} {mu : Nat → Nat} {oc lo sv nl cap : Nat} {ow : Nat → Nat} {Λ : Nat → Nat → Nat → Nat} {A : a_A} {V : a_V} {W : Nat → Prop} {c sl : Nat} {N : List a_N}
theorem fn_size {n : Nat} (h : c_Fn G mu n σ nl N) : sx_Cr G 0 YJ2_size [.ref nl] σ (some (.int (nI N.length))) σ := by
  rcases h.2 with ⟨g1, g2⟩ | ⟨na, cap, g, g1, -⟩
  · rw [g2]; exact cj_size0 g1
  · exact cj_size g1
theorem fn_c {n : Nat} (h : c_Fn G mu n σ nl N) : ∃ vs, sx_c σ nl = some (.inr (9, vs)) := by
  rcases h.2 with ⟨⟨mc, z, g1, -⟩, -⟩ | ⟨na, cap, g, ⟨mc, f, g1, -⟩, -⟩
  · exact ⟨_, g1⟩
  · exact ⟨_, g1⟩
theorem fn_len {n : Nat} (h : c_Fn G mu n σ nl N) : N.length < 2 ^ 31 := by
  rcases h.2 with ⟨-, g2⟩ | ⟨na, cap, g, ⟨_, _, _, _, h1, _, h2, _⟩, -⟩
  · rw [g2]; decide
  · omega
theorem cpx_msg1 (hK : c_K G mu oc σ A) {b m x : Int32} (hi : i_in b (A_v A).2.1.length = false) : sx_C G 100 YX1_message [.ref (mu 0), .int b, .int m, .int x] σ (c_X0 "java/lang/IndexOutOfBoundsException" σ) := by
  refine sx_body (by decide) (Nat.le_of_ble_eq_true rfl) ?_
  obtain ⟨sv, nl, hX, hF, hN⟩ := hK
  obtain ⟨Λ0, hV, hzz, hw⟩ := id hF
  have hx := hX.1
  have hnb := hw.1.1
  have hns := hw.1.2.1
  have hX0 : c_X G mu (sx_n σ) oc σ sv nl (A_st A 0) := hX
  have hF0 : c_F G mu (sx_n σ) σ sv (A_v (A_st A 0)) := hF
  have hv1 := hV.1
  refine sv_aload_n dX1_message_0 rfl ?_
  refine sv_iload_n dX1_message_1 rfl ?_
  refine sv_cv _ (cgx_boxAt hx hV hi) okX1_boxAt (sx_rd_c hx) rfl kv_X1_197.1 kv_X1_197.2.1 kv_X1_197.2.2 dX1_message_2 rfl rfl (by omega) (Nat.le_of_ble_eq_true rfl) (fun v τ h => by obtain ⟨q, e, _⟩ := h; cases e) (fun E q τ h => ?_)
  obtain ⟨q9, e9, F9⟩ := h
  cases e9
  refine sv_out (fun x hx => by cases hx) ?_
  exact ⟨_, rfl, F9⟩
theorem cpx_msg2 (hK : c_K G mu oc σ A) {i : Nat} (hi : i < (A_v A).2.1.length) {m x : Int32} (h : i_in m (a_ms (A_v A) i).length = false) : sx_C G 100 YX1_message [.ref (mu 0), .int (nI i), .int m, .int x] σ (c_X0 "java/lang/IndexOutOfBoundsException" σ) := by
  refine sx_body (by decide) (Nat.le_of_ble_eq_true rfl) ?_
  obtain ⟨sv, nl, hX, hF, hN⟩ := hK
  obtain ⟨Λ0, hV, hzz, hw⟩ := id hF
  have hx := hX.1
  have hnb := hw.1.1
  have hns := hw.1.2.1
  have hX0 : c_X G mu (sx_n σ) oc σ sv nl (A_st A 0) := hX
  have hF0 : c_F G mu (sx_n σ) σ sv (A_v (A_st A 0)) := hF
  have hv1 := hV.1
  have hbb := (hV.2.2.2.1 i hi).1.1
  have hlm9 := (hV.2.2.2.1 i hi).1.2.1
  obtain ⟨mcm, fm, hlm, -⟩ := id hlm9
  have hml := hw.1.2.2 i hi
  have hml2 : (a_b (A_v A) i).2.2.length ≤ 30 := hml
  refine sv_aload_n dX1_message_0 rfl ?_
  refine sv_iload_n dX1_message_1 rfl ?_
  refine sv_cvR _ (cg_boxAt hx hV hi) okX1_boxAt kv_X1_197 (sx_rd_c hx) rfl dX1_message_2 rfl rfl (by omega) (Nat.le_of_ble_eq_true rfl) ?_
  refine sv_astore dX1_message_5 (by decide) ?_
  refine sv_iload_n dX1_message_7 rfl ?_
  refine sv_i2l dX1_message_8 ?_
  refine sv_lconst 0 dX1_message_9 (by decide) ?_
  refine sv_aload dX1_message_10 rfl ?_
  refine sv_get fg_X1_203 dX1_message_12 (sx_rd_c hbb) rfl ?_
  refine sv_cvR _ (cj_size hlm9) okJ2_size kv_X1_176 (sx_rd_c hlm) rfl dX1_message_15 rfl rfl (by omega) (Nat.le_of_ble_eq_true rfl) ?_
  refine sv_iconst (nI 1) dX1_message_18 (by decide +kernel) ?_
  refine sv_isub dX1_message_19 ?_
  refine sv_i2l dX1_message_20 ?_
  refine sv_csR _ cc_inRange okX1_inRange ks_X1_94 dX1_message_21 rfl rfl (by omega) (Nat.le_of_ble_eq_true rfl) ?_
  refine sv_tI (y := b_I false) (congrArg b_I ((in_1 (by omega)).trans h)) ?_
  refine sv_cs _ cx_I okX1_requireIndex ks_X1_183.1 ks_X1_183.2 dX1_message_24 rfl rfl (by omega) (Nat.le_of_ble_eq_true rfl) (fun v τ h => by obtain ⟨q, e, _⟩ := h; cases e) (fun E q τ h => ?_)
  obtain ⟨q9, e9, F9⟩ := h
  cases e9
  refine sv_out (fun x hx => by cases hx) ?_
  exact ⟨_, rfl, F9⟩
theorem cpx_msg3 (hK : c_K G mu oc σ A) {i : Nat} (hi : i < (A_v A).2.1.length) {m x : Int32} (hm : i_in m (a_ms (A_v A) i).length = true) (h : a_in x 0 2 = false) : sx_C G 100 YX1_message [.ref (mu 0), .int (nI i), .int m, .int x] σ (c_X0 "java/lang/IllegalArgumentException" σ) := by
  refine sx_body (by decide) (Nat.le_of_ble_eq_true rfl) ?_
  obtain ⟨sv, nl, hX, hF, hN⟩ := hK
  obtain ⟨Λ0, hV, hzz, hw⟩ := id hF
  have hx := hX.1
  have hnb := hw.1.1
  have hns := hw.1.2.1
  have hX0 : c_X G mu (sx_n σ) oc σ sv nl (A_st A 0) := hX
  have hF0 : c_F G mu (sx_n σ) σ sv (A_v (A_st A 0)) := hF
  have hv1 := hV.1
  have hbb := (hV.2.2.2.1 i hi).1.1
  have hlm9 := (hV.2.2.2.1 i hi).1.2.1
  obtain ⟨mcm, fm, hlm, -⟩ := id hlm9
  have hml := hw.1.2.2 i hi
  have hml2 : (a_b (A_v A) i).2.2.length ≤ 30 := hml
  refine sv_aload_n dX1_message_0 rfl ?_
  refine sv_iload_n dX1_message_1 rfl ?_
  refine sv_cvR _ (cg_boxAt hx hV hi) okX1_boxAt kv_X1_197 (sx_rd_c hx) rfl dX1_message_2 rfl rfl (by omega) (Nat.le_of_ble_eq_true rfl) ?_
  refine sv_astore dX1_message_5 (by decide) ?_
  refine sv_iload_n dX1_message_7 rfl ?_
  refine sv_i2l dX1_message_8 ?_
  refine sv_lconst 0 dX1_message_9 (by decide) ?_
  refine sv_aload dX1_message_10 rfl ?_
  refine sv_get fg_X1_203 dX1_message_12 (sx_rd_c hbb) rfl ?_
  refine sv_cvR _ (cj_size hlm9) okJ2_size kv_X1_176 (sx_rd_c hlm) rfl dX1_message_15 rfl rfl (by omega) (Nat.le_of_ble_eq_true rfl) ?_
  refine sv_iconst (nI 1) dX1_message_18 (by decide +kernel) ?_
  refine sv_isub dX1_message_19 ?_
  refine sv_i2l dX1_message_20 ?_
  refine sv_csR _ cc_inRange okX1_inRange ks_X1_94 dX1_message_21 rfl rfl (by omega) (Nat.le_of_ble_eq_true rfl) ?_
  refine sv_tI (y := b_I true) (congrArg b_I ((in_1 (by omega)).trans hm)) ?_
  refine sv_csR _ cr_I okX1_requireIndex ks_X1_183 dX1_message_24 rfl rfl (by omega) (Nat.le_of_ble_eq_true rfl) ?_
  refine sv_iload_n dX1_message_27 rfl ?_
  refine sv_i2l dX1_message_28 ?_
  refine sv_lconst 0 dX1_message_29 (by decide) ?_
  refine sv_ldc2 q1482 dX1_message_30 ?_
  refine sv_csR _ cc_inRange okX1_inRange ks_X1_94 dX1_message_33 rfl rfl (by omega) (Nat.le_of_ble_eq_true rfl) ?_
  refine sv_tI (y := b_I false) (congrArg b_I h) ?_
  refine sv_cs _ cx_A okX1_requireArgument ks_X1_98.1 ks_X1_98.2 dX1_message_36 rfl rfl (by omega) (Nat.le_of_ble_eq_true rfl) (fun v τ h => by obtain ⟨q, e, _⟩ := h; cases e) (fun E q τ h => ?_)
  obtain ⟨q9, e9, F9⟩ := h
  cases e9
  refine sv_out (fun x hx => by cases hx) ?_
  exact ⟨_, rfl, F9⟩
theorem cp_msg (hK : c_K G mu oc σ A) {i : Nat} (hi : i < (A_v A).2.1.length) {m w : Nat} (hm9 : m < (a_ms (A_v A) i).length) (hw3 : w < 3) (h : a_in (nI w) 0 2 = true) : sx_C G 100 YX1_message [.ref (mu 0), .int (nI i), .int (nI m), .int (nI w)] σ (c_R ["java/lang/IndexOutOfBoundsException", "java/lang/IllegalArgumentException"] G mu oc σ ((p_msg (A_v A) i m w, A_st A 0))) := by
  refine sx_body (by decide) (Nat.le_of_ble_eq_true rfl) ?_
  have hK0 := hK
  obtain ⟨sv, nl, hX, hF, hN⟩ := hK
  obtain ⟨Λ0, hV, hzz, hw⟩ := id hF
  have hx := hX.1
  have hnb := hw.1.1
  have hns := hw.1.2.1
  have hX0 : c_X G mu (sx_n σ) oc σ sv nl (A_st A 0) := hX
  have hF0 : c_F G mu (sx_n σ) σ sv (A_v (A_st A 0)) := hF
  have hv1 := hV.1
  have hbb := (hV.2.2.2.1 i hi).1.1
  have hlm9 := (hV.2.2.2.1 i hi).1.2.1
  obtain ⟨mcm, fm, hlm, -⟩ := id hlm9
  have hml := hw.1.2.2 i hi
  have hml2 : (a_b (A_v A) i).2.2.length ≤ 30 := hml
  have hm : i_in (nI m) (a_ms (A_v A) i).length = true := i_in_nI hm9 (by omega)
  have hmm : sx_c σ (Λ0 2 i m) = some (.inr (6, [.int (a_m (A_v A) i m).1, .int (a_m (A_v A) i m).2.1, .int (a_m (A_v A) i m).2.2])) := (hV.2.2.2.1 i hi).1.2.2 m hm9
  refine sv_aload_n dX1_message_0 rfl ?_
  refine sv_iload_n dX1_message_1 rfl ?_
  refine sv_cvR _ (cg_boxAt hx hV hi) okX1_boxAt kv_X1_197 (sx_rd_c hx) rfl dX1_message_2 rfl rfl (by omega) (Nat.le_of_ble_eq_true rfl) ?_
  refine sv_astore dX1_message_5 (by decide) ?_
  refine sv_iload_n dX1_message_7 rfl ?_
  refine sv_i2l dX1_message_8 ?_
  refine sv_lconst 0 dX1_message_9 (by decide) ?_
  refine sv_aload dX1_message_10 rfl ?_
  refine sv_get fg_X1_203 dX1_message_12 (sx_rd_c hbb) rfl ?_
  refine sv_cvR _ (cj_size hlm9) okJ2_size kv_X1_176 (sx_rd_c hlm) rfl dX1_message_15 rfl rfl (by omega) (Nat.le_of_ble_eq_true rfl) ?_
  refine sv_iconst (nI 1) dX1_message_18 (by decide +kernel) ?_
  refine sv_isub dX1_message_19 ?_
  refine sv_i2l dX1_message_20 ?_
  refine sv_csR _ cc_inRange okX1_inRange ks_X1_94 dX1_message_21 rfl rfl (by omega) (Nat.le_of_ble_eq_true rfl) ?_
  refine sv_tI (y := b_I true) (congrArg b_I ((in_1 (by omega)).trans hm)) ?_
  refine sv_csR _ cr_I okX1_requireIndex ks_X1_183 dX1_message_24 rfl rfl (by omega) (Nat.le_of_ble_eq_true rfl) ?_
  refine sv_iload_n dX1_message_27 rfl ?_
  refine sv_i2l dX1_message_28 ?_
  refine sv_lconst 0 dX1_message_29 (by decide) ?_
  refine sv_ldc2 q1482 dX1_message_30 ?_
  refine sv_csR _ cc_inRange okX1_inRange ks_X1_94 dX1_message_33 rfl rfl (by omega) (Nat.le_of_ble_eq_true rfl) ?_
  refine sv_tI (y := b_I true) (congrArg b_I h) ?_
  refine sv_csR _ cr_A okX1_requireArgument ks_X1_98 dX1_message_36 rfl rfl (by omega) (Nat.le_of_ble_eq_true rfl) ?_
  refine sv_aload dX1_message_39 rfl ?_
  refine sv_get fg_X1_203 dX1_message_41 (sx_rd_c hbb) rfl ?_
  refine sv_iload_n dX1_message_44 rfl ?_
  refine sv_cvR _ (cj_get hlm9 (i := m) hm9) okJ2_get kv_X1_186 (sx_rd_c hlm) rfl dX1_message_45 rfl rfl (by omega) (Nat.le_of_ble_eq_true rfl) ?_
  refine sv_cast (C0 := "") (sx_rd_c hmm) rfl q1483 dX1_message_48 ?_
  refine sv_astore dX1_message_51 (by decide) ?_
  refine sv_iload_n dX1_message_53 rfl ?_
  refine sv_if_neN (tgt := 65) dX1_message_54 (by decide) (by omega) (fun c54 => ?_) (fun c54 => ?_)
  · refine sv_iload_n dX1_message_65 rfl ?_
    refine sv_iconst (nI 1) dX1_message_66 (by decide +kernel) ?_
    refine sv_icmp_neN (tgt := 78) dX1_message_67 (by decide) (by omega) (by omega) (fun c67 => ?_) (fun c67 => ?_)
    · obtain rfl : w = 2 := by omega
      refine sv_aload dX1_message_78 rfl ?_
      refine sv_get fg_X1_234 dX1_message_80 (sx_rd_c hmm) rfl ?_
      refine sv_iret rfl rfl dX1_message_83 ?_
      exact c_R_q hK0 rfl
    · obtain rfl : w = 1 := by omega
      refine sv_aload dX1_message_70 rfl ?_
      refine sv_get fg_X1_232 dX1_message_72 (sx_rd_c hmm) rfl ?_
      refine sv_goto (tgt := 83) dX1_message_75 (by decide) ?_
      refine sv_iret rfl rfl dX1_message_83 ?_
      exact c_R_q hK0 rfl
  · obtain rfl : w = 0 := by omega
    refine sv_aload dX1_message_57 rfl ?_
    refine sv_get fg_X1_229 dX1_message_59 (sx_rd_c hmm) rfl ?_
    refine sv_goto (tgt := 83) dX1_message_62 (by decide) ?_
    refine sv_iret rfl rfl dX1_message_83 ?_
    exact c_R_q hK0 rfl
theorem pm_msg (hK : c_K G mu oc σ A) {b m x : Int32} : sx_C G 100 YX1_message [.ref (mu 0), .int b, .int m, .int x] σ (c_R ["java/lang/IndexOutOfBoundsException", "java/lang/IllegalArgumentException"] G mu oc σ (sp_msg A b m x)) := by
  have hns : (A_v A).2.2.length ≤ 4 := by obtain ⟨_, _, _, ⟨_, _, _, hw⟩, _⟩ := hK; exact hw.1.2.1
  have hnb : (A_v A).2.1.length ≤ 3 := by obtain ⟨_, _, _, ⟨_, _, _, hw⟩, _⟩ := hK; exact hw.1.1
  have hms : ∀ i, i < (A_v A).2.1.length → (a_ms (A_v A) i).length ≤ 30 := by obtain ⟨_, _, _, ⟨_, _, _, hw⟩, _⟩ := hK; exact hw.1.2.2
  unfold sp_msg
  refine c_2 hK (fun h => ?_) (fun h1 h2 => ?_) (fun h1 h2 => ?_)
  · cases hb : i_in b (A_v A).2.1.length with
    | false => exact cpx_msg1 hK hb
    | true =>
      obtain ⟨i, hi, rfl⟩ := i_in_of (by omega) hb
      rw [hb, Bool.true_and, nI_clamp (by omega)] at h
      exact cpx_msg2 hK hi h
  all_goals rw [Bool.and_eq_true] at h1
  all_goals obtain ⟨i, hi, rfl⟩ := i_in_of (by omega) h1.1
  all_goals have hm := h1.2
  all_goals rw [nI_clamp (by omega)] at hm
  · exact cpx_msg3 hK hi hm h2
  · have h3 := hms i hi
    obtain ⟨m, hm9, rfl⟩ := i_in_of (by omega) hm
    obtain ⟨w, rfl, ew, hw⟩ := a_in_of h2
    rw [nI_clamp (by omega), nI_clamp (by omega), ew]
    exact cp_msg hK hi hm9 (by have : ((2 : Int32).toInt) = 2 := rfl; omega) h2
theorem cpx_not1 (hK : c_K G mu oc σ A) {i x : Int32} (h : a_in x 0 3 = false) : sx_C G 100 YX1_notice [.ref (mu 0), .int i, .int x] σ (c_X0 "java/lang/IllegalArgumentException" σ) := by
  refine sx_body (by decide) (Nat.le_of_ble_eq_true rfl) ?_
  obtain ⟨sv, nl, hX, hF, hN⟩ := hK
  obtain ⟨Λ0, hV, hzz, hw⟩ := id hF
  have hx := hX.1
  have hnb := hw.1.1
  have hns := hw.1.2.1
  have hX0 : c_X G mu (sx_n σ) oc σ sv nl (A_st A 0) := hX
  have hF0 : c_F G mu (sx_n σ) σ sv (A_v (A_st A 0)) := hF
  have hv1 := hV.1
  obtain ⟨vsn, hnl⟩ := fn_c hN
  have hnlen := fn_len hN
  refine sv_iload_n dX1_notice_0 rfl ?_
  refine sv_i2l dX1_notice_1 ?_
  refine sv_lconst 0 dX1_notice_2 (by decide) ?_
  refine sv_ldc2 q1615 dX1_notice_3 ?_
  refine sv_csR _ cc_inRange okX1_inRange ks_X1_94 dX1_notice_6 rfl rfl (by omega) (Nat.le_of_ble_eq_true rfl) ?_
  refine sv_tI (y := b_I false) (congrArg b_I h) ?_
  refine sv_cs _ cx_A okX1_requireArgument ks_X1_98.1 ks_X1_98.2 dX1_notice_9 rfl rfl (by omega) (Nat.le_of_ble_eq_true rfl) (fun v τ h => by obtain ⟨q, e, _⟩ := h; cases e) (fun E q τ h => ?_)
  obtain ⟨q9, e9, F9⟩ := h
  cases e9
  refine sv_out (fun x hx => by cases hx) ?_
  exact ⟨_, rfl, F9⟩
theorem cpx_not2 (hK : c_K G mu oc σ A) {i x : Int32} (hx3 : a_in x 0 3 = true) (h : i_in i (A_n A).length = false) : sx_C G 100 YX1_notice [.ref (mu 0), .int i, .int x] σ (c_X0 "java/util/NoSuchElementException" σ) := by
  refine sx_body (by decide) (Nat.le_of_ble_eq_true rfl) ?_
  obtain ⟨sv, nl, hX, hF, hN⟩ := hK
  obtain ⟨Λ0, hV, hzz, hw⟩ := id hF
  have hx := hX.1
  have hnb := hw.1.1
  have hns := hw.1.2.1
  have hX0 : c_X G mu (sx_n σ) oc σ sv nl (A_st A 0) := hX
  have hF0 : c_F G mu (sx_n σ) σ sv (A_v (A_st A 0)) := hF
  have hv1 := hV.1
  obtain ⟨vsn, hnl⟩ := fn_c hN
  have hnlen := fn_len hN
  refine sv_iload_n dX1_notice_0 rfl ?_
  refine sv_i2l dX1_notice_1 ?_
  refine sv_lconst 0 dX1_notice_2 (by decide) ?_
  refine sv_ldc2 q1615 dX1_notice_3 ?_
  refine sv_csR _ cc_inRange okX1_inRange ks_X1_94 dX1_notice_6 rfl rfl (by omega) (Nat.le_of_ble_eq_true rfl) ?_
  refine sv_tI (y := b_I true) (congrArg b_I hx3) ?_
  refine sv_csR _ cr_A okX1_requireArgument ks_X1_98 dX1_notice_9 rfl rfl (by omega) (Nat.le_of_ble_eq_true rfl) ?_
  refine sv_iload_n dX1_notice_12 rfl ?_
  refine sv_i2l dX1_notice_13 ?_
  refine sv_lconst 0 dX1_notice_14 (by decide) ?_
  refine sv_aload_n dX1_notice_15 rfl ?_
  refine sv_get fg_X1_64 dX1_notice_16 (sx_rd_c hx) rfl ?_
  refine sv_cvR _ (fn_size hN) okJ2_size kv_X1_176 (sx_rd_c hnl) rfl dX1_notice_19 rfl rfl (by omega) (Nat.le_of_ble_eq_true rfl) ?_
  refine sv_iconst (nI 1) dX1_notice_22 (by decide +kernel) ?_
  refine sv_isub dX1_notice_23 ?_
  refine sv_i2l dX1_notice_24 ?_
  refine sv_csR _ cc_inRange okX1_inRange ks_X1_94 dX1_notice_25 rfl rfl (by omega) (Nat.le_of_ble_eq_true rfl) ?_
  refine sv_tI (y := b_I false) (congrArg b_I ((in_1 hnlen).trans h)) ?_
  refine sv_cs _ cx_E okX1_requireElement ks_X1_309.1 ks_X1_309.2 dX1_notice_28 rfl rfl (by omega) (Nat.le_of_ble_eq_true rfl) (fun v τ h => by obtain ⟨q, e, _⟩ := h; cases e) (fun E q τ h => ?_)
  obtain ⟨q9, e9, F9⟩ := h
  cases e9
  refine sv_out (fun x hx => by cases hx) ?_
  exact ⟨_, rfl, F9⟩
theorem cp_not (hK : c_K G mu oc σ A) {i w : Nat} (hi : i < (A_n A).length) (hw4 : w < 4) (hx3 : a_in (nI w) 0 3 = true) : sx_C G 100 YX1_notice [.ref (mu 0), .int (nI i), .int (nI w)] σ (c_R ["java/lang/IllegalArgumentException", "java/util/NoSuchElementException"] G mu oc σ ((nx_n ((A_n A).getD i (0, 0, 0, 0)) w, A_st A 0))) := by
  refine sx_body (by decide) (Nat.le_of_ble_eq_true rfl) ?_
  have hK0 := hK
  obtain ⟨sv, nl, hX, hF, hN⟩ := hK
  obtain ⟨Λ0, hV, hzz, hw⟩ := id hF
  have hx := hX.1
  have hnb := hw.1.1
  have hns := hw.1.2.1
  have hX0 : c_X G mu (sx_n σ) oc σ sv nl (A_st A 0) := hX
  have hF0 : c_F G mu (sx_n σ) σ sv (A_v (A_st A 0)) := hF
  have hv1 := hV.1
  obtain ⟨vsn, hnl⟩ := fn_c hN
  have hnlen := fn_len hN
  obtain ⟨na, capn, g, hLn, -, hgn⟩ : ∃ na capn g, k_L G σ nl na capn (A_n A).length g ∧ True ∧ ∀ k, k < (A_n A).length → k_Nt σ (g k) ((A_n A).getD k (0, 0, 0, 0)) := by
    rcases hN.2 with ⟨-, e⟩ | ⟨na, capn, g, g1, g2, g3⟩
    · rw [e] at hi; exact absurd hi (Nat.not_lt_zero _)
    · exact ⟨na, capn, g, g1, trivial, fun k hk => (g3 k hk).1⟩
  have hnt := hgn i hi
  refine sv_iload_n dX1_notice_0 rfl ?_
  refine sv_i2l dX1_notice_1 ?_
  refine sv_lconst 0 dX1_notice_2 (by decide) ?_
  refine sv_ldc2 q1615 dX1_notice_3 ?_
  refine sv_csR _ cc_inRange okX1_inRange ks_X1_94 dX1_notice_6 rfl rfl (by omega) (Nat.le_of_ble_eq_true rfl) ?_
  refine sv_tI (y := b_I true) (congrArg b_I hx3) ?_
  refine sv_csR _ cr_A okX1_requireArgument ks_X1_98 dX1_notice_9 rfl rfl (by omega) (Nat.le_of_ble_eq_true rfl) ?_
  refine sv_iload_n dX1_notice_12 rfl ?_
  refine sv_i2l dX1_notice_13 ?_
  refine sv_lconst 0 dX1_notice_14 (by decide) ?_
  refine sv_aload_n dX1_notice_15 rfl ?_
  refine sv_get fg_X1_64 dX1_notice_16 (sx_rd_c hx) rfl ?_
  refine sv_cvR _ (fn_size hN) okJ2_size kv_X1_176 (sx_rd_c hnl) rfl dX1_notice_19 rfl rfl (by omega) (Nat.le_of_ble_eq_true rfl) ?_
  refine sv_iconst (nI 1) dX1_notice_22 (by decide +kernel) ?_
  refine sv_isub dX1_notice_23 ?_
  refine sv_i2l dX1_notice_24 ?_
  refine sv_csR _ cc_inRange okX1_inRange ks_X1_94 dX1_notice_25 rfl rfl (by omega) (Nat.le_of_ble_eq_true rfl) ?_
  refine sv_tI (y := b_I true) (congrArg b_I ((in_1 hnlen).trans (i_in_nI hi hnlen))) ?_
  refine sv_csR _ cr_E okX1_requireElement ks_X1_309 dX1_notice_28 rfl rfl (by omega) (Nat.le_of_ble_eq_true rfl) ?_
  refine sv_aload_n dX1_notice_31 rfl ?_
  refine sv_get fg_X1_64 dX1_notice_32 (sx_rd_c hx) rfl ?_
  refine sv_iload_n dX1_notice_35 rfl ?_
  refine sv_cvR _ (cj_get hLn (i := i) hi) okJ2_get kv_X1_186 (sx_rd_c hnl) rfl dX1_notice_36 rfl rfl (by omega) (Nat.le_of_ble_eq_true rfl) ?_
  refine sv_cast (C0 := "") (sx_rd_c hnt) rfl q1352 dX1_notice_39 ?_
  refine sv_iload_n dX1_notice_42 rfl ?_
  refine sv_cvR _ (cc_part hnt hw4) okX9_part kv_X1_314 (sx_rd_c hnt) rfl dX1_notice_43 rfl rfl (by omega) (Nat.le_of_ble_eq_true rfl) ?_
  refine sv_iret rfl rfl dX1_notice_46 ?_
  exact c_R_q hK0 rfl
theorem pm_not (hK : c_K G mu oc σ A) {i x : Int32} : sx_C G 100 YX1_notice [.ref (mu 0), .int i, .int x] σ (c_R ["java/lang/IllegalArgumentException", "java/util/NoSuchElementException"] G mu oc σ (sp_not A i x)) := by
  have hnl : (A_n A).length < 2 ^ 31 := by obtain ⟨_, _, _, _, hN⟩ := hK; exact fn_len hN
  unfold sp_not
  refine c_2 hK (fun h => cpx_not1 hK h) (fun h1 h2 => cpx_not2 hK h1 h2) (fun h1 h2 => ?_)
  obtain ⟨w, rfl, ew, hw⟩ := a_in_of h1
  obtain ⟨i, hi, rfl⟩ := i_in_of hnl h2
  rw [ew, nI_clamp (by omega)]
  exact cp_not hK hi (by have : ((3 : Int32).toInt) = 3 := rfl; omega) h1
theorem cpx_prop (hK : c_K G mu oc σ A) {x : Int32} (h : a_in x 0 4 = false) : sx_C G 100 YX1_property [.ref (mu 0), .int x] σ (c_X0 "java/lang/IllegalArgumentException" σ) := by
  refine sx_body (by decide) (Nat.le_of_ble_eq_true rfl) ?_
  obtain ⟨sv, nl, hX, hF, hN⟩ := hK
  obtain ⟨Λ0, hV, hzz, hw⟩ := id hF
  have hx := hX.1
  have hnb := hw.1.1
  have hns := hw.1.2.1
  have hX0 : c_X G mu (sx_n σ) oc σ sv nl (A_st A 0) := hX
  have hF0 : c_F G mu (sx_n σ) σ sv (A_v (A_st A 0)) := hF
  have hv1 := hV.1
  refine sv_iload_n dX1_property_0 rfl ?_
  refine sv_i2l dX1_property_1 ?_
  refine sv_lconst 0 dX1_property_2 (by decide) ?_
  refine sv_ldc2 q1419 dX1_property_3 ?_
  refine sv_csR _ cc_inRange okX1_inRange ks_X1_94 dX1_property_6 rfl rfl (by omega) (Nat.le_of_ble_eq_true rfl) ?_
  refine sv_tI (y := b_I false) (congrArg b_I h) ?_
  refine sv_cs _ cx_A okX1_requireArgument ks_X1_98.1 ks_X1_98.2 dX1_property_9 rfl rfl (by omega) (Nat.le_of_ble_eq_true rfl) (fun v τ h => by obtain ⟨q, e, _⟩ := h; cases e) (fun E q τ h => ?_)
  obtain ⟨q9, e9, F9⟩ := h
  cases e9
  refine sv_out (fun x hx => by cases hx) ?_
  exact ⟨_, rfl, F9⟩
theorem cp_prop (hK : c_K G mu oc σ A) {w : Nat} (hw9 : w = 0 ∨ w = 1 ∨ w = 2 ∨ w = 3 ∨ w = 4) (h : a_in (nI w) 0 4 = true) : sx_C G 100 YX1_property [.ref (mu 0), .int (nI w)] σ (c_R ["java/lang/IllegalArgumentException"] G mu oc σ ((p_prop A w, A_st A 0))) := by
  refine sx_body (by decide) (Nat.le_of_ble_eq_true rfl) ?_
  have hK0 := hK
  obtain ⟨sv, nl, hX, hF, hN⟩ := hK
  obtain ⟨Λ0, hV, hzz, hw⟩ := id hF
  have hx := hX.1
  have hnb := hw.1.1
  have hns := hw.1.2.1
  have hX0 : c_X G mu (sx_n σ) oc σ sv nl (A_st A 0) := hX
  have hF0 : c_F G mu (sx_n σ) σ sv (A_v (A_st A 0)) := hF
  have hv1 := hV.1
  have hv2 := hV.2.1
  have hv3 := hV.2.2.1
  obtain ⟨mcb, fb, hlb, -⟩ := id hv2
  obtain ⟨mcs, fs, hls, -⟩ := id hv3
  obtain ⟨vsn, hnl⟩ := fn_c hN
  have hnlen := fn_len hN
  refine sv_iload_n dX1_property_0 rfl ?_
  refine sv_i2l dX1_property_1 ?_
  refine sv_lconst 0 dX1_property_2 (by decide) ?_
  refine sv_ldc2 q1419 dX1_property_3 ?_
  refine sv_csR _ cc_inRange okX1_inRange ks_X1_94 dX1_property_6 rfl rfl (by omega) (Nat.le_of_ble_eq_true rfl) ?_
  refine sv_tI (y := b_I true) (congrArg b_I h) ?_
  refine sv_csR _ cr_A okX1_requireArgument ks_X1_98 dX1_property_9 rfl rfl (by omega) (Nat.le_of_ble_eq_true rfl) ?_
  refine sv_iload_n dX1_property_12 rfl ?_
  rcases hw9 with rfl | rfl | rfl | rfl | rfl
  · refine sv_tableIn (off := 31) (tgt := 44) dX1_property_13 (by decide +kernel) (by decide +kernel) (by decide +kernel) (by decide) ?_
    refine sv_aload_n dX1_property_44 rfl ?_
    refine sv_get fg_X1_44 dX1_property_45 (sx_rd_c hx) rfl ?_
    refine sv_get fg_X1_173 dX1_property_48 (sx_rd_c hv1) rfl ?_
    refine sv_cvR _ (cj_size hv2) okJ2_size kv_X1_176 (sx_rd_c hlb) rfl dX1_property_51 rfl rfl (by omega) (Nat.le_of_ble_eq_true rfl) ?_
    refine sv_goto (tgt := 97) dX1_property_54 (by decide) ?_
    refine sv_iret rfl rfl dX1_property_97 ?_
    exact c_R_q hK0 rfl
  · refine sv_tableIn (off := 44) (tgt := 57) dX1_property_13 (by decide +kernel) (by decide +kernel) (by decide +kernel) (by decide) ?_
    refine sv_aload_n dX1_property_57 rfl ?_
    refine sv_get fg_X1_44 dX1_property_58 (sx_rd_c hx) rfl ?_
    refine sv_get fg_X1_177 dX1_property_61 (sx_rd_c hv1) rfl ?_
    refine sv_cvR _ (cj_size hv3) okJ2_size kv_X1_176 (sx_rd_c hls) rfl dX1_property_64 rfl rfl (by omega) (Nat.le_of_ble_eq_true rfl) ?_
    refine sv_goto (tgt := 97) dX1_property_67 (by decide) ?_
    refine sv_iret rfl rfl dX1_property_97 ?_
    exact c_R_q hK0 rfl
  · refine sv_tableIn (off := 57) (tgt := 70) dX1_property_13 (by decide +kernel) (by decide +kernel) (by decide +kernel) (by decide) ?_
    refine sv_aload_n dX1_property_70 rfl ?_
    refine sv_get fg_X1_44 dX1_property_71 (sx_rd_c hx) rfl ?_
    refine sv_get fg_X1_180 dX1_property_74 (sx_rd_c hv1) rfl ?_
    refine sv_goto (tgt := 97) dX1_property_77 (by decide) ?_
    refine sv_iret rfl rfl dX1_property_97 ?_
    exact c_R_q hK0 rfl
  · refine sv_tableIn (off := 67) (tgt := 80) dX1_property_13 (by decide +kernel) (by decide +kernel) (by decide +kernel) (by decide) ?_
    refine sv_aload_n dX1_property_80 rfl ?_
    refine sv_get fg_X1_44 dX1_property_81 (sx_rd_c hx) rfl ?_
    refine sv_cvR _ (cc_messages hV) okX2_messages kv_X1_142 (sx_rd_c hv1) rfl dX1_property_84 rfl rfl (by omega) (Nat.le_of_ble_eq_true rfl) ?_
    refine sv_goto (tgt := 97) dX1_property_87 (by decide) ?_
    refine sv_iret rfl rfl dX1_property_97 ?_
    exact c_R_q hK0 rfl
  · refine sv_tableOut (tgt := 90) dX1_property_13 (by decide +kernel) (by decide) ?_
    refine sv_aload_n dX1_property_90 rfl ?_
    refine sv_get fg_X1_64 dX1_property_91 (sx_rd_c hx) rfl ?_
    refine sv_cvR _ (fn_size hN) okJ2_size kv_X1_176 (sx_rd_c hnl) rfl dX1_property_94 rfl rfl (by omega) (Nat.le_of_ble_eq_true rfl) ?_
    refine sv_iret rfl rfl dX1_property_97 ?_
    exact c_R_q hK0 rfl
theorem pm_prop (hK : c_K G mu oc σ A) {x : Int32} : sx_C G 100 YX1_property [.ref (mu 0), .int x] σ (c_R ["java/lang/IllegalArgumentException"] G mu oc σ (sp_prop A x)) := by
  unfold sp_prop
  refine c_1 hK (fun h => cpx_prop hK h) (fun h => ?_)
  obtain ⟨w, rfl, ew, hw⟩ := a_in_of h
  rw [ew]
  exact cp_prop hK (by have : ((4 : Int32).toInt) = 4 := rfl; omega) h
end CQ2
