set_option maxRecDepth 100000
section CQ9
variable {G : sx_G} {σ τ : sx_St} {mu : Nat → Nat} {oc lo sv nl cap : Nat} {ow : Nat → Nat} {Λ : Nat → Nat → Nat → Nat} {A : a_A} {V : a_V} {W : Nat → Prop} {c sl : Nat} {N : List a_N}
theorem fm_not {b : Nat} : (a_ms V b).countP (fun m => !(decide (m.2.2 >>> (nI 0 &&& 31) &&& 1 = 1))) = (a_ms V b).length - a_fm V b 1 := by
  unfold a_fm
  generalize a_ms V b = l
  induction l with
  | nil => rfl
  | cons m l ih =>
    have h1 : l.countP (fun m => !(decide (m.2.2 &&& 1 = 0))) ≤ l.length := List.countP_le_length
    rw [List.countP_cons, List.countP_cons, ih, List.length_cons]
    show _ + (if (!(decide (m.2.2 >>> (nI 0 &&& 31) &&& 1 = 1))) = true then 1 else 0) = _
    rw [i_b0]
    cases decide (m.2.2 &&& 1 = 0)
    · show _ + 0 = _ + 1 - (_ + 1); omega
    · show _ + 1 = _ + 1 - (_ + 0); omega
theorem fm_8 {b : Nat} : (a_ms V b).countP (fun m => decide (m.2.2 >>> (nI 3 &&& 31) &&& 1 = 1)) = a_fm V b 8 := List.countP_congr (fun m _ => by rw [i_b3])
theorem cpx_box1 (hK : c_K G mu oc σ A) {b x : Int32} (hi : i_in b (A_v A).2.1.length = false) : sx_C G 100 YX1_box [.ref (mu 0), .int b, .int x] σ (c_X0 "java/lang/IndexOutOfBoundsException" σ) := by
  refine sx_body (by decide) (Nat.le_of_ble_eq_true rfl) ?_
  obtain ⟨sv, nl, hX, hF, hN⟩ := hK
  obtain ⟨Λ0, hV, hzz, hw⟩ := id hF
  have hx := hX.1
  have hnb := hw.1.1
  have hns := hw.1.2.1
  have hX0 : c_X G mu (sx_n σ) oc σ sv nl (A_st A 0) := hX
  have hF0 : c_F G mu (sx_n σ) σ sv (A_v (A_st A 0)) := hF
  have hv1 := hV.1
  refine sv_aload_n dX1_box_0 rfl ?_
  refine sv_iload_n dX1_box_1 rfl ?_
  refine sv_cv _ (cgx_boxAt hx hV hi) okX1_boxAt (sx_rd_c hx) rfl kv_X1_197.1 kv_X1_197.2.1 kv_X1_197.2.2 dX1_box_2 rfl rfl (by omega) (Nat.le_of_ble_eq_true rfl) (fun v τ h => by obtain ⟨q, e, _⟩ := h; cases e) (fun E q τ h => ?_)
  obtain ⟨q9, e9, F9⟩ := h
  cases e9
  refine sv_out (fun x hx => by cases hx) ?_
  exact ⟨_, rfl, F9⟩
theorem cpx_box2 (hK : c_K G mu oc σ A) {i : Nat} (hi : i < (A_v A).2.1.length) {x : Int32} (h : a_in x 0 5 = false) : sx_C G 100 YX1_box [.ref (mu 0), .int (nI i), .int x] σ (c_X0 "java/lang/IllegalArgumentException" σ) := by
  refine sx_body (by decide) (Nat.le_of_ble_eq_true rfl) ?_
  obtain ⟨sv, nl, hX, hF, hN⟩ := hK
  obtain ⟨Λ0, hV, hzz, hw⟩ := id hF
  have hx := hX.1
  have hnb := hw.1.1
  have hns := hw.1.2.1
  have hX0 : c_X G mu (sx_n σ) oc σ sv nl (A_st A 0) := hX
  have hF0 : c_F G mu (sx_n σ) σ sv (A_v (A_st A 0)) := hF
  have hv1 := hV.1
  refine sv_aload_n dX1_box_0 rfl ?_
  refine sv_iload_n dX1_box_1 rfl ?_
  refine sv_cvR _ (cg_boxAt hx hV hi) okX1_boxAt kv_X1_197 (sx_rd_c hx) rfl dX1_box_2 rfl rfl (by omega) (Nat.le_of_ble_eq_true rfl) ?_
  refine sv_astore_n dX1_box_5 (by decide) ?_
  refine sv_iload_n dX1_box_6 rfl ?_
  refine sv_i2l dX1_box_7 ?_
  refine sv_lconst 0 dX1_box_8 (by decide) ?_
  refine sv_ldc2 q1453 dX1_box_9 ?_
  refine sv_csR _ cc_inRange okX1_inRange ks_X1_94 dX1_box_12 rfl rfl (by omega) (Nat.le_of_ble_eq_true rfl) ?_
  refine sv_tI (y := b_I false) (congrArg b_I h) ?_
  refine sv_cs _ cx_A okX1_requireArgument ks_X1_98.1 ks_X1_98.2 dX1_box_15 rfl rfl (by omega) (Nat.le_of_ble_eq_true rfl) (fun v τ h => by obtain ⟨q, e, _⟩ := h; cases e) (fun E q τ h => ?_)
  obtain ⟨q9, e9, F9⟩ := h
  cases e9
  refine sv_out (fun x hx => by cases hx) ?_
  exact ⟨_, rfl, F9⟩
theorem cp_box (hK : c_K G mu oc σ A) {i : Nat} (hi : i < (A_v A).2.1.length) (hG : g_L G) {w : Nat} (hw9 : w = 0 ∨ w = 1 ∨ w = 2 ∨ w = 3 ∨ w = 4 ∨ w = 5) (h : a_in (nI w) 0 5 = true) : sx_C G 100 YX1_box [.ref (mu 0), .int (nI i), .int (nI w)] σ (c_R ["java/lang/IndexOutOfBoundsException", "java/lang/IllegalArgumentException"] G mu oc σ ((p_box (A_v A) i w, A_st A 0))) := by
  refine sx_body (by decide) (Nat.le_of_ble_eq_true rfl) ?_
  have hK0 := hK
  obtain ⟨sv, nl, hX, hF, hN⟩ := hK
  obtain ⟨Λ0, hV, hzz, hw⟩ := id hF
  have hx := hX.1
  have hnb := hw.1.1
  have hns := hw.1.2.1
  have hX0 : c_X G mu (sx_n σ) oc σ sv nl (A_st A 0) := hX
  have hF0 : c_F G mu (sx_n σ) σ sv (A_v (A_st A 0)) := hF
  have hv1 := hV.1
  have hB0 := (hV.2.2.2.1 i hi).1
  have hbb := hB0.1
  have hlm9 := hB0.2.1
  obtain ⟨mcm, fm, hlm, -⟩ := id hlm9
  refine sv_aload_n dX1_box_0 rfl ?_
  refine sv_iload_n dX1_box_1 rfl ?_
  refine sv_cvR _ (cg_boxAt hx hV hi) okX1_boxAt kv_X1_197 (sx_rd_c hx) rfl dX1_box_2 rfl rfl (by omega) (Nat.le_of_ble_eq_true rfl) ?_
  refine sv_astore_n dX1_box_5 (by decide) ?_
  refine sv_iload_n dX1_box_6 rfl ?_
  refine sv_i2l dX1_box_7 ?_
  refine sv_lconst 0 dX1_box_8 (by decide) ?_
  refine sv_ldc2 q1453 dX1_box_9 ?_
  refine sv_csR _ cc_inRange okX1_inRange ks_X1_94 dX1_box_12 rfl rfl (by omega) (Nat.le_of_ble_eq_true rfl) ?_
  refine sv_tI (y := b_I true) (congrArg b_I h) ?_
  refine sv_csR _ cr_A okX1_requireArgument ks_X1_98 dX1_box_15 rfl rfl (by omega) (Nat.le_of_ble_eq_true rfl) ?_
  refine sv_iload_n dX1_box_18 rfl ?_
  rcases hw9 with rfl | rfl | rfl | rfl | rfl | rfl
  · refine sv_tableIn (off := 33) (tgt := 52) dX1_box_19 (by decide +kernel) (by decide +kernel) (by decide +kernel) (by decide) ?_
    refine sv_aload_n dX1_box_52 rfl ?_
    refine sv_get fg_X1_203 dX1_box_53 (sx_rd_c hbb) rfl ?_
    refine sv_cvR _ (cj_size hlm9) okJ2_size kv_X1_176 (sx_rd_c hlm) rfl dX1_box_56 rfl rfl (by omega) (Nat.le_of_ble_eq_true rfl) ?_
    refine sv_goto (tgt := 106) dX1_box_59 (by decide) ?_
    refine sv_iret rfl rfl dX1_box_106 ?_
    exact c_R_q hK0 rfl
  · refine sv_tableIn (off := 43) (tgt := 62) dX1_box_19 (by decide +kernel) (by decide +kernel) (by decide +kernel) (by decide) ?_
    refine sv_aload_n dX1_box_62 rfl ?_
    refine sv_get fg_X1_205 dX1_box_63 (sx_rd_c hbb) rfl ?_
    refine sv_goto (tgt := 106) dX1_box_66 (by decide) ?_
    refine sv_iret rfl rfl dX1_box_106 ?_
    exact c_R_q hK0 rfl
  · refine sv_tableIn (off := 50) (tgt := 69) dX1_box_19 (by decide +kernel) (by decide +kernel) (by decide +kernel) (by decide) ?_
    refine sv_aload_n dX1_box_69 rfl ?_
    refine sv_cvR _ (cc_sizes hB0) okX6_sizes kv_X1_208 (sx_rd_c hbb) rfl dX1_box_70 rfl rfl (by omega) (Nat.le_of_ble_eq_true rfl) ?_
    refine sv_goto (tgt := 106) dX1_box_73 (by decide) ?_
    refine sv_iret rfl rfl dX1_box_106 ?_
    exact c_R_q hK0 rfl
  · refine sv_tableIn (off := 57) (tgt := 76) dX1_box_19 (by decide +kernel) (by decide +kernel) (by decide +kernel) (by decide) ?_
    refine sv_aload_n dX1_box_76 rfl ?_
    refine sv_iconst (nI 0) dX1_box_77 (by decide +kernel) ?_
    refine sv_csP _ (cm_flagged hG) okX1_flagged ks_X1_211 dX1_box_78 rfl rfl (by omega) (Nat.le_of_ble_eq_true rfl) ?_
    intro v6 τ4 hp5
    obtain ⟨te, rfl, hte, htc, F1⟩ := hp5
    have hB1 := k_B_fr F1 hB0 (fun z => z) (fun z => z) (fun z => z) (fun _ _ z => z)
    refine sv_csP _ (cm_not hG) okX1_not ks_X1_214 dX1_box_81 rfl rfl (by omega) (Nat.le_of_ble_eq_true rfl) ?_
    intro v9 τ7 hp8
    obtain ⟨te2, rfl, hte2, htc2, F2⟩ := hp8
    have F12 := h_F_u (U := fun _ => False) F1 F2 (fun _ _ z => z) (fun _ _ z => z) (Nat.le_refl _) (Nat.le_refl _)
    have htc := h_F_c F2 htc (fun z => z)
    have hB2 := k_B_fr F12 hB0 (fun z => z) (fun z => z) (fun z => z) (fun _ _ z => z)
    refine sv_cvR _ (cc_many (n := 2) (p := fun m => !(decide (m.2.2 >>> (nI 0 &&& 31) &&& 1 = 1))) hB2 hG (Or.inr (Or.inr (Or.inl ⟨te, _, sx_rd_c htc2, Or.inr (Or.inl ⟨_, sx_rd_c htc, fun m => rfl⟩), fun m => rfl⟩)))) okX6_many kv_X1_217 (sx_rd_c hB2.1) rfl dX1_box_84 rfl rfl (by omega) (Nat.le_of_ble_eq_true rfl) ?_
    refine sv_goto (tgt := 106) dX1_box_87 (by decide) ?_
    refine sv_iret rfl rfl dX1_box_106 ?_
    exact c_R_f hK0 F12 (by omega) (by omega) (congrArg nI fm_not)
  · refine sv_tableIn (off := 71) (tgt := 90) dX1_box_19 (by decide +kernel) (by decide +kernel) (by decide +kernel) (by decide) ?_
    refine sv_aload_n dX1_box_90 rfl ?_
    refine sv_iconst (nI 3) dX1_box_91 (by decide +kernel) ?_
    refine sv_csP _ (cm_flagged hG) okX1_flagged ks_X1_211 dX1_box_92 rfl rfl (by omega) (Nat.le_of_ble_eq_true rfl) ?_
    intro v12 τ10 hp11
    obtain ⟨te, rfl, hte, htc, F1⟩ := hp11
    have hB1 := k_B_fr F1 hB0 (fun z => z) (fun z => z) (fun z => z) (fun _ _ z => z)
    refine sv_cvR _ (cc_many (n := 1) (p := fun m => decide (m.2.2 >>> (nI 3 &&& 31) &&& 1 = 1)) hB1 hG (Or.inr (Or.inl ⟨_, sx_rd_c htc, fun m => rfl⟩))) okX6_many kv_X1_217 (sx_rd_c hB1.1) rfl dX1_box_95 rfl rfl (by omega) (Nat.le_of_ble_eq_true rfl) ?_
    refine sv_goto (tgt := 106) dX1_box_98 (by decide) ?_
    refine sv_iret rfl rfl dX1_box_106 ?_
    exact c_R_f hK0 F1 (by omega) (by omega) (congrArg nI fm_8)
  · refine sv_tableOut (tgt := 101) dX1_box_19 (by decide +kernel) (by decide) ?_
    refine sv_aload_n dX1_box_101 rfl ?_
    refine sv_iload_n dX1_box_102 rfl ?_
    refine sv_cvR _ (cc_sesIn (i := i) hx hV hw) okX1_sessionsIn kv_X1_221 (sx_rd_c hx) rfl dX1_box_103 rfl rfl (by omega) (Nat.le_of_ble_eq_true rfl) ?_
    refine sv_iret rfl rfl dX1_box_106 ?_
    exact c_R_q hK0 rfl
theorem pm_box (hK : c_K G mu oc σ A) (hG : g_L G) {b x : Int32} : sx_C G 100 YX1_box [.ref (mu 0), .int b, .int x] σ (c_R ["java/lang/IndexOutOfBoundsException", "java/lang/IllegalArgumentException"] G mu oc σ (sp_box A b x)) := by
  have hns : (A_v A).2.2.length ≤ 4 := by obtain ⟨_, _, _, ⟨_, _, _, hw⟩, _⟩ := hK; exact hw.1.2.1
  have hnb : (A_v A).2.1.length ≤ 3 := by obtain ⟨_, _, _, ⟨_, _, _, hw⟩, _⟩ := hK; exact hw.1.1
  unfold sp_box
  refine c_2 hK (fun h => cpx_box1 hK h) (fun h1 h2 => ?_) (fun h1 h2 => ?_)
  · obtain ⟨i, hi, rfl⟩ := i_in_of (by omega) h1
    exact cpx_box2 hK hi h2
  · obtain ⟨i, hi, rfl⟩ := i_in_of (by omega) h1
    obtain ⟨w, rfl, ew, hw⟩ := a_in_of h2
    rw [nI_clamp (by omega), ew]
    exact cp_box hK hi hG (by have : ((5 : Int32).toInt) = 5 := rfl; omega) h2
end CQ9
