set_option maxRecDepth 100000
section CM9
variable {G : sx_G} {σ τ : sx_St} {mu : Nat → Nat} {oc lo sv nl cap : Nat} {ow : Nat → Nat} {Λ : Nat → Nat → Nat → Nat} {A : a_A} {V : a_V} {W : Nat → Prop} {c sl : Nat} {N : List a_N}
theorem a_room1 {b : Nat} (h : (a_ms V b).length ≤ 30) : a_room V b 1 = !(decide (V.1 ≤ nI (a_ms V b).length)) := by
  unfold a_room
  rw [decide_eq_false (show ¬ (1 = 0) by decide), Bool.false_or, ← decide_not]
  refine decide_eq_decide.mpr ?_
  rw [Int32.le_iff_toInt_le, Int32.le_iff_toInt_le, nI_toInt (by omega), nI_toInt (by omega)]
  omega
theorem cpx_del1 (hK : c_K G mu oc σ A) {b sz fl : Int32} (hi : i_in b (A_v A).2.1.length = false) : sx_C G 100 YX1_deliver [.ref (mu 0), .int b, .int sz, .int fl] σ (c_X0 "java/lang/IndexOutOfBoundsException" σ) := by
  refine sx_body (by decide) (Nat.le_of_ble_eq_true rfl) ?_
  obtain ⟨sv, nl, hX, hF, hN⟩ := hK
  obtain ⟨Λ0, hV, hzz, hw⟩ := id hF
  have hx := hX.1
  have hnb := hw.1.1
  have hns := hw.1.2.1
  have hX0 : c_X G mu (sx_n σ) oc σ sv nl (A_st A 0) := hX
  have hF0 : c_F G mu (sx_n σ) σ sv (A_v (A_st A 0)) := hF
  have hv1 := hV.1
  refine sv_aload_n dX1_deliver_0 rfl ?_
  refine sv_iload_n dX1_deliver_1 rfl ?_
  refine sv_cv _ (cgx_boxAt hx hV hi) okX1_boxAt (sx_rd_c hx) rfl kv_X1_197.1 kv_X1_197.2.1 kv_X1_197.2.2 dX1_deliver_2 rfl rfl (by omega) (Nat.le_of_ble_eq_true rfl) (fun v τ h => by obtain ⟨q, e, _⟩ := h; cases e) (fun E q τ h => ?_)
  obtain ⟨q9, e9, F9⟩ := h
  cases e9
  refine sv_out (fun x hx => by cases hx) ?_
  exact ⟨_, rfl, F9⟩
theorem cpx_del2 (hK : c_K G mu oc σ A) {sz fl : Int32} {i : Nat} (hi : i < (A_v A).2.1.length) (h : (a_in sz 1 9999 && a_in fl 0 31) = false) : sx_C G 100 YX1_deliver [.ref (mu 0), .int (nI i), .int sz, .int fl] σ (c_X0 "java/lang/IllegalArgumentException" σ) := by
  refine sx_body (by decide) (Nat.le_of_ble_eq_true rfl) ?_
  obtain ⟨sv, nl, hX, hF, hN⟩ := hK
  obtain ⟨Λ0, hV, hzz, hw⟩ := id hF
  have hx := hX.1
  have hnb := hw.1.1
  have hns := hw.1.2.1
  have hX0 : c_X G mu (sx_n σ) oc σ sv nl (A_st A 0) := hX
  have hF0 : c_F G mu (sx_n σ) σ sv (A_v (A_st A 0)) := hF
  have hv1 := hV.1
  refine sv_aload_n dX1_deliver_0 rfl ?_
  refine sv_iload_n dX1_deliver_1 rfl ?_
  refine sv_cvR _ (cg_boxAt hx hV hi) okX1_boxAt kv_X1_197 (sx_rd_c hx) rfl dX1_deliver_2 rfl rfl (by omega) (Nat.le_of_ble_eq_true rfl) ?_
  refine sv_astore dX1_deliver_5 (by decide) ?_
  refine sv_iload_n dX1_deliver_7 rfl ?_
  refine sv_i2l dX1_deliver_8 ?_
  refine sv_lconst 1 dX1_deliver_9 (by decide) ?_
  refine sv_ldc2 q1952 dX1_deliver_10 ?_
  refine sv_csR _ cc_inRange okX1_inRange ks_X1_94 dX1_deliver_13 rfl rfl (by omega) (Nat.le_of_ble_eq_true rfl) ?_
  refine sv_if_eqB (tgt := 35) dX1_deliver_16 (by decide) (fun c16 => ?_) (fun c16 => ?_)
  · have hc : (a_in sz 1 9999 && a_in fl 0 31) = false := by rw [show a_in sz 1 9999 = false from c16]; rfl
    refine sv_iconst (nI 0) dX1_deliver_35 (by decide +kernel) ?_
    refine sv_tI (y := b_I false) (by rw [hc] at h; first | rfl | cases h) ?_
    refine sv_cs _ cx_A okX1_requireArgument ks_X1_98.1 ks_X1_98.2 dX1_deliver_36 rfl rfl (by omega) (Nat.le_of_ble_eq_true rfl) (fun v τ h => by obtain ⟨q, e, _⟩ := h; cases e) (fun E q τ h => ?_)
    obtain ⟨q9, e9, F9⟩ := h
    cases e9
    refine sv_out (fun x hx => by cases hx) ?_
    exact ⟨_, rfl, F9⟩
  · refine sv_iload_n dX1_deliver_19 rfl ?_
    refine sv_i2l dX1_deliver_20 ?_
    refine sv_lconst 0 dX1_deliver_21 (by decide) ?_
    refine sv_ldc2 q1849 dX1_deliver_22 ?_
    refine sv_csR _ cc_inRange okX1_inRange ks_X1_94 dX1_deliver_25 rfl rfl (by omega) (Nat.le_of_ble_eq_true rfl) ?_
    refine sv_if_eqB (tgt := 35) dX1_deliver_28 (by decide) (fun c28 => ?_) (fun c28 => ?_)
    · have hc : (a_in sz 1 9999 && a_in fl 0 31) = false := by rw [show a_in sz 1 9999 = true from c16, show a_in fl 0 31 = false from c28]; rfl
      refine sv_iconst (nI 0) dX1_deliver_35 (by decide +kernel) ?_
      refine sv_tI (y := b_I false) (by rw [hc] at h; first | rfl | cases h) ?_
      refine sv_cs _ cx_A okX1_requireArgument ks_X1_98.1 ks_X1_98.2 dX1_deliver_36 rfl rfl (by omega) (Nat.le_of_ble_eq_true rfl) (fun v τ h => by obtain ⟨q, e, _⟩ := h; cases e) (fun E q τ h => ?_)
      obtain ⟨q9, e9, F9⟩ := h
      cases e9
      refine sv_out (fun x hx => by cases hx) ?_
      exact ⟨_, rfl, F9⟩
    · have hc : (a_in sz 1 9999 && a_in fl 0 31) = true := by rw [show a_in sz 1 9999 = true from c16, show a_in fl 0 31 = true from c28]; rfl
      refine sv_iconst (nI 1) dX1_deliver_31 (by decide +kernel) ?_
      refine sv_goto (tgt := 36) dX1_deliver_32 (by decide) ?_
      refine sv_tI (y := b_I false) (by rw [hc] at h; first | rfl | cases h) ?_
      refine sv_cs _ cx_A okX1_requireArgument ks_X1_98.1 ks_X1_98.2 dX1_deliver_36 rfl rfl (by omega) (Nat.le_of_ble_eq_true rfl) (fun v τ h => by obtain ⟨q, e, _⟩ := h; cases e) (fun E q τ h => ?_)
      obtain ⟨q9, e9, F9⟩ := h
      cases e9
      refine sv_out (fun x hx => by cases hx) ?_
      exact ⟨_, rfl, F9⟩
theorem cpx_del3 (hK : c_K G mu oc σ A) {sz fl : Int32} {i : Nat} (hi : i < (A_v A).2.1.length) (hd : (a_in sz 1 9999 && a_in fl 0 31) = true) (h : decide ((A_v A).1 ≤ nI (a_ms (A_v A) i).length) = true) : sx_C G 100 YX1_deliver [.ref (mu 0), .int (nI i), .int sz, .int fl] σ (c_X0 "java/lang/IllegalStateException" σ) := by
  refine sx_body (by decide) (Nat.le_of_ble_eq_true rfl) ?_
  obtain ⟨sv, nl, hX, hF, hN⟩ := hK
  obtain ⟨Λ0, hV, hzz, hw⟩ := id hF
  have hx := hX.1
  have hnb := hw.1.1
  have hns := hw.1.2.1
  have hX0 : c_X G mu (sx_n σ) oc σ sv nl (A_st A 0) := hX
  have hF0 : c_F G mu (sx_n σ) σ sv (A_v (A_st A 0)) := hF
  have hv1 := hV.1
  refine sv_aload_n dX1_deliver_0 rfl ?_
  refine sv_iload_n dX1_deliver_1 rfl ?_
  refine sv_cvR _ (cg_boxAt hx hV hi) okX1_boxAt kv_X1_197 (sx_rd_c hx) rfl dX1_deliver_2 rfl rfl (by omega) (Nat.le_of_ble_eq_true rfl) ?_
  refine sv_astore dX1_deliver_5 (by decide) ?_
  refine sv_iload_n dX1_deliver_7 rfl ?_
  refine sv_i2l dX1_deliver_8 ?_
  refine sv_lconst 1 dX1_deliver_9 (by decide) ?_
  refine sv_ldc2 q1952 dX1_deliver_10 ?_
  refine sv_csR _ cc_inRange okX1_inRange ks_X1_94 dX1_deliver_13 rfl rfl (by omega) (Nat.le_of_ble_eq_true rfl) ?_
  refine sv_if_eqB (tgt := 35) dX1_deliver_16 (by decide) (fun c16 => ?_) (fun c16 => ?_)
  · have hc : (a_in sz 1 9999 && a_in fl 0 31) = false := by rw [show a_in sz 1 9999 = false from c16]; rfl
    refine sv_iconst (nI 0) dX1_deliver_35 (by decide +kernel) ?_
    refine sv_tI (y := b_I true) (by rw [hc] at hd; first | rfl | cases hd) ?_
    refine sv_csR _ cr_A okX1_requireArgument ks_X1_98 dX1_deliver_36 rfl rfl (by omega) (Nat.le_of_ble_eq_true rfl) ?_
    refine sv_aload_n dX1_deliver_39 rfl ?_
    refine sv_get fg_X1_44 dX1_deliver_40 (sx_rd_c hx) rfl ?_
    refine sv_iload_n dX1_deliver_43 rfl ?_
    refine sv_cvR _ (cc_isFull hV hi) okX2_isFull kv_X1_409 (sx_rd_c hv1) rfl dX1_deliver_44 rfl rfl (by omega) (Nat.le_of_ble_eq_true rfl) ?_
    refine sv_if_neB (tgt := 54) dX1_deliver_47 (by decide) (fun c47 => ?_) (fun c47 => ?_)
    · refine sv_iconst (nI 0) dX1_deliver_54 (by decide +kernel) ?_
      refine sv_tI (y := b_I false) rfl ?_
      refine sv_cs _ cx_S okX1_requireState ks_X1_86.1 ks_X1_86.2 dX1_deliver_55 rfl rfl (by omega) (Nat.le_of_ble_eq_true rfl) (fun v τ h => by obtain ⟨q, e, _⟩ := h; cases e) (fun E q τ h => ?_)
      obtain ⟨q9, e9, F9⟩ := h
      cases e9
      refine sv_out (fun x hx => by cases hx) ?_
      exact ⟨_, rfl, F9⟩
    · exact absurd h (by rw [c47]; decide)
  · refine sv_iload_n dX1_deliver_19 rfl ?_
    refine sv_i2l dX1_deliver_20 ?_
    refine sv_lconst 0 dX1_deliver_21 (by decide) ?_
    refine sv_ldc2 q1849 dX1_deliver_22 ?_
    refine sv_csR _ cc_inRange okX1_inRange ks_X1_94 dX1_deliver_25 rfl rfl (by omega) (Nat.le_of_ble_eq_true rfl) ?_
    refine sv_if_eqB (tgt := 35) dX1_deliver_28 (by decide) (fun c28 => ?_) (fun c28 => ?_)
    · have hc : (a_in sz 1 9999 && a_in fl 0 31) = false := by rw [show a_in sz 1 9999 = true from c16, show a_in fl 0 31 = false from c28]; rfl
      refine sv_iconst (nI 0) dX1_deliver_35 (by decide +kernel) ?_
      refine sv_tI (y := b_I true) (by rw [hc] at hd; first | rfl | cases hd) ?_
      refine sv_csR _ cr_A okX1_requireArgument ks_X1_98 dX1_deliver_36 rfl rfl (by omega) (Nat.le_of_ble_eq_true rfl) ?_
      refine sv_aload_n dX1_deliver_39 rfl ?_
      refine sv_get fg_X1_44 dX1_deliver_40 (sx_rd_c hx) rfl ?_
      refine sv_iload_n dX1_deliver_43 rfl ?_
      refine sv_cvR _ (cc_isFull hV hi) okX2_isFull kv_X1_409 (sx_rd_c hv1) rfl dX1_deliver_44 rfl rfl (by omega) (Nat.le_of_ble_eq_true rfl) ?_
      refine sv_if_neB (tgt := 54) dX1_deliver_47 (by decide) (fun c47 => ?_) (fun c47 => ?_)
      · refine sv_iconst (nI 0) dX1_deliver_54 (by decide +kernel) ?_
        refine sv_tI (y := b_I false) rfl ?_
        refine sv_cs _ cx_S okX1_requireState ks_X1_86.1 ks_X1_86.2 dX1_deliver_55 rfl rfl (by omega) (Nat.le_of_ble_eq_true rfl) (fun v τ h => by obtain ⟨q, e, _⟩ := h; cases e) (fun E q τ h => ?_)
        obtain ⟨q9, e9, F9⟩ := h
        cases e9
        refine sv_out (fun x hx => by cases hx) ?_
        exact ⟨_, rfl, F9⟩
      · exact absurd h (by rw [c47]; decide)
    · have hc : (a_in sz 1 9999 && a_in fl 0 31) = true := by rw [show a_in sz 1 9999 = true from c16, show a_in fl 0 31 = true from c28]; rfl
      refine sv_iconst (nI 1) dX1_deliver_31 (by decide +kernel) ?_
      refine sv_goto (tgt := 36) dX1_deliver_32 (by decide) ?_
      refine sv_tI (y := b_I true) (by rw [hc] at hd; first | rfl | cases hd) ?_
      refine sv_csR _ cr_A okX1_requireArgument ks_X1_98 dX1_deliver_36 rfl rfl (by omega) (Nat.le_of_ble_eq_true rfl) ?_
      refine sv_aload_n dX1_deliver_39 rfl ?_
      refine sv_get fg_X1_44 dX1_deliver_40 (sx_rd_c hx) rfl ?_
      refine sv_iload_n dX1_deliver_43 rfl ?_
      refine sv_cvR _ (cc_isFull hV hi) okX2_isFull kv_X1_409 (sx_rd_c hv1) rfl dX1_deliver_44 rfl rfl (by omega) (Nat.le_of_ble_eq_true rfl) ?_
      refine sv_if_neB (tgt := 54) dX1_deliver_47 (by decide) (fun c47 => ?_) (fun c47 => ?_)
      · refine sv_iconst (nI 0) dX1_deliver_54 (by decide +kernel) ?_
        refine sv_tI (y := b_I false) rfl ?_
        refine sv_cs _ cx_S okX1_requireState ks_X1_86.1 ks_X1_86.2 dX1_deliver_55 rfl rfl (by omega) (Nat.le_of_ble_eq_true rfl) (fun v τ h => by obtain ⟨q, e, _⟩ := h; cases e) (fun E q τ h => ?_)
        obtain ⟨q9, e9, F9⟩ := h
        cases e9
        refine sv_out (fun x hx => by cases hx) ?_
        exact ⟨_, rfl, F9⟩
      · exact absurd h (by rw [c47]; decide)
theorem gd_new {g : Nat → Nat} {ms : List a_M} {x : a_M} {am q n : Nat} (hq : q < (ms ++ [x]).length) (hn : n ≤ am) : (∃ j, va_up g ms.length am q = g j ∧ j < ms.length) ∨ n ≤ va_up g ms.length am q := by
  rw [List.length_append, List.length_singleton] at hq
  unfold va_up
  by_cases h : q = ms.length
  · rw [if_pos h]; exact Or.inr hn
  · rw [if_neg h]; exact Or.inl ⟨q, rfl, by omega⟩
theorem cp_del (hK : c_K G mu oc σ A) {z : Nat} (hz : g_Z G z) {sz fl : Int32} {i : Nat} (hi : i < (A_v A).2.1.length) {t : Nat} (ho : o_V t (A_v A)) (hd : (a_in sz 1 9999 && a_in fl 0 31) = true) (h : decide ((A_v A).1 ≤ nI (a_ms (A_v A) i).length) = false) : sx_C G 100 YX1_deliver [.ref (mu 0), .int (nI i), .int sz, .int fl] σ (c_R ["java/lang/IndexOutOfBoundsException", "java/lang/IllegalArgumentException", "java/lang/IllegalStateException"] G mu oc σ (x_del (A_st A 0) i sz fl)) := by
  refine sx_body (by decide) (Nat.le_of_ble_eq_true rfl) ?_
  have hK0 := hK
  obtain ⟨sv, nl, hX, hF, hN⟩ := hK
  obtain ⟨Λ0, hV, hzz, hw⟩ := id hF
  have hx := hX.1
  have hnb := hw.1.1
  have hns := hw.1.2.1
  have hX0 : c_X G mu (sx_n σ) oc σ sv nl (A_st A 0) := hX
  have hF0 : c_F G mu (sx_n σ) σ sv (A_v (A_st A 0)) := hF
  have hv1 := hV.1
  have hm30 := hw.1.2.2 i hi
  have hm29 : (a_ms (A_v A) i).length < 30 := by have h8 := of_decide_eq_false h; rw [Int32.le_iff_toInt_le, nI_toInt (by omega)] at h8; have h9 := ho.1.2; omega
  refine sv_aload_n dX1_deliver_0 rfl ?_
  refine sv_iload_n dX1_deliver_1 rfl ?_
  refine sv_cvR _ (cg_boxAt hx hV hi) okX1_boxAt kv_X1_197 (sx_rd_c hx) rfl dX1_deliver_2 rfl rfl (by omega) (Nat.le_of_ble_eq_true rfl) ?_
  refine sv_astore dX1_deliver_5 (by decide) ?_
  refine sv_iload_n dX1_deliver_7 rfl ?_
  refine sv_i2l dX1_deliver_8 ?_
  refine sv_lconst 1 dX1_deliver_9 (by decide) ?_
  refine sv_ldc2 q1952 dX1_deliver_10 ?_
  refine sv_csR _ cc_inRange okX1_inRange ks_X1_94 dX1_deliver_13 rfl rfl (by omega) (Nat.le_of_ble_eq_true rfl) ?_
  refine sv_if_eqB (tgt := 35) dX1_deliver_16 (by decide) (fun c16 => ?_) (fun c16 => ?_)
  · have hc : (a_in sz 1 9999 && a_in fl 0 31) = false := by rw [show a_in sz 1 9999 = false from c16]; rfl
    refine sv_iconst (nI 0) dX1_deliver_35 (by decide +kernel) ?_
    refine sv_tI (y := b_I true) (by rw [hc] at hd; first | rfl | cases hd) ?_
    refine sv_csR _ cr_A okX1_requireArgument ks_X1_98 dX1_deliver_36 rfl rfl (by omega) (Nat.le_of_ble_eq_true rfl) ?_
    refine sv_aload_n dX1_deliver_39 rfl ?_
    refine sv_get fg_X1_44 dX1_deliver_40 (sx_rd_c hx) rfl ?_
    refine sv_iload_n dX1_deliver_43 rfl ?_
    refine sv_cvR _ (cc_isFull hV hi) okX2_isFull kv_X1_409 (sx_rd_c hv1) rfl dX1_deliver_44 rfl rfl (by omega) (Nat.le_of_ble_eq_true rfl) ?_
    refine sv_if_neB (tgt := 54) dX1_deliver_47 (by decide) (fun c47 => ?_) (fun c47 => ?_)
    · exact absurd h (by rw [c47]; decide)
    · refine sv_iconst (nI 1) dX1_deliver_50 (by decide +kernel) ?_
      refine sv_goto (tgt := 55) dX1_deliver_51 (by decide) ?_
      refine sv_tI (y := b_I true) rfl ?_
      refine sv_csR _ cr_S okX1_requireState ks_X1_86 dX1_deliver_55 rfl rfl (by omega) (Nat.le_of_ble_eq_true rfl) ?_
      refine sv_aload_n dX1_deliver_58 rfl ?_
      refine sv_cvP _ (cc_change (A := A_st A 0) hX0 hF0 hz) okX1_change kv_X1_325 (sx_rd_c hx) rfl dX1_deliver_59 rfl rfl (by omega) (Nat.le_of_ble_eq_true rfl) ?_
      intro v6 τ4 hp5
      obtain ⟨a, rfl, nl2, ow2, Λ2, ea, hA2, hB2, FG2⟩ := hp5
      have hv2 := hA2.2.1.1.1.1
      have hx2 := hA2.1.1
      have hvl2 := hA2.2.1.1.1.2.1
      obtain ⟨mcb2, fb2, hlb2, -⟩ := id hvl2
      have hBb := (hA2.2.1.1.1.2.2.2.1 i hi).1
      have hbb := hBb.1
      have hm31 : (a_b (A_v (A_sn (s_rm (A_st A 0)) [])) i).2.2.length < 30 := hm29
      have hc62 := hA2.2.2.2.1 i hi
      refine sv_get fg_X1_173 dX1_deliver_62 (sx_rd_c hv2) rfl ?_
      refine sv_iload_n dX1_deliver_65 rfl ?_
      refine sv_cvR _ (cj_get hvl2 (i := i) hi) okJ2_get kv_X1_186 (sx_rd_c hlb2) rfl dX1_deliver_66 rfl rfl (by omega) (Nat.le_of_ble_eq_true rfl) ?_
      refine sv_cast (C0 := "") (sx_rd_c hbb) rfl q1452 dX1_deliver_69 ?_
      refine sv_iload_n dX1_deliver_72 rfl ?_
      refine sv_iload_n dX1_deliver_73 rfl ?_
      refine sv_cvP _ (cc_badd hBb (sz := sz) (fl := fl) (by omega)) okX6_add kv_X1_413 (sx_rd_c hbb) rfl dX1_deliver_74 rfl rfl (by omega) (Nat.le_of_ble_eq_true rfl) ?_
      intro v9 τ7 hp8
      obtain ⟨rfl, am, ar2, cap2, k1, k2, k3, k4, hB3, F3⟩ := hp8
      have hw3 : w_V (v_co (A_v (A_sn (s_rm (A_st A 0)) [])) i sz fl) := w_V_co hA2.2.1.2.2.1 hm29
      have hA3 := c_A_b F3 hA2 hi (fun q z => z) hB3 rfl k3 (fun q hq => gd_new hq k4) (by omega) hw3
      have hx3 := hA3.1.1
      have hF3l : c_B 2 260 _ τ7 := ⟨(c_B_F F3).1, by have h8 := (c_B_F F3).2.1; omega, by have h8 := (c_B_F F3).2.2; omega⟩
      refine sv_istore dX1_deliver_77 (by decide) ?_
      refine sv_aload_n dX1_deliver_79 rfl ?_
      refine sv_get fg_X1_44 dX1_deliver_80 (sx_rd_c hx3) rfl ?_
      refine sv_aload_n dX1_deliver_83 rfl ?_
      refine sv_get fg_X1_64 dX1_deliver_84 (sx_rd_c hx3) rfl ?_
      refine sv_cvP _ (cc_tellIdle hA3.2.1 (by show 0 + 700 ≤ 5000; omega)) okX2_tellIdle kv_X1_332 (sx_rd_c hA3.2.1.1.1.1) rfl dX1_deliver_87 rfl rfl (by omega) (Nat.le_of_ble_eq_true rfl) ?_
      intro v12 τ10 hp11
      obtain ⟨rfl, ow8, cap8, hJ8, hT8⟩ := hp11
      obtain ⟨hA9, hB9⟩ := c_A_ti hA3 hJ8 hT8 (Nat.zero_le _)
      refine sv_iload dX1_deliver_90 rfl ?_
      refine sv_iret rfl rfl dX1_deliver_92 ?_
      exact c_R_ok (x := x_del (A_st A 0) i sz fl) rfl ti_t (c_S_B (c_A_K hA9) (c_B_t hB2 (c_B_t hF3l hB9 (Nat.le_refl _) (Nat.le_refl _)) (Nat.le_refl _) (Nat.le_refl _)) (by omega) (by omega))
  · refine sv_iload_n dX1_deliver_19 rfl ?_
    refine sv_i2l dX1_deliver_20 ?_
    refine sv_lconst 0 dX1_deliver_21 (by decide) ?_
    refine sv_ldc2 q1849 dX1_deliver_22 ?_
    refine sv_csR _ cc_inRange okX1_inRange ks_X1_94 dX1_deliver_25 rfl rfl (by omega) (Nat.le_of_ble_eq_true rfl) ?_
    refine sv_if_eqB (tgt := 35) dX1_deliver_28 (by decide) (fun c28 => ?_) (fun c28 => ?_)
    · have hc : (a_in sz 1 9999 && a_in fl 0 31) = false := by rw [show a_in sz 1 9999 = true from c16, show a_in fl 0 31 = false from c28]; rfl
      refine sv_iconst (nI 0) dX1_deliver_35 (by decide +kernel) ?_
      refine sv_tI (y := b_I true) (by rw [hc] at hd; first | rfl | cases hd) ?_
      refine sv_csR _ cr_A okX1_requireArgument ks_X1_98 dX1_deliver_36 rfl rfl (by omega) (Nat.le_of_ble_eq_true rfl) ?_
      refine sv_aload_n dX1_deliver_39 rfl ?_
      refine sv_get fg_X1_44 dX1_deliver_40 (sx_rd_c hx) rfl ?_
      refine sv_iload_n dX1_deliver_43 rfl ?_
      refine sv_cvR _ (cc_isFull hV hi) okX2_isFull kv_X1_409 (sx_rd_c hv1) rfl dX1_deliver_44 rfl rfl (by omega) (Nat.le_of_ble_eq_true rfl) ?_
      refine sv_if_neB (tgt := 54) dX1_deliver_47 (by decide) (fun c47 => ?_) (fun c47 => ?_)
      · exact absurd h (by rw [c47]; decide)
      · refine sv_iconst (nI 1) dX1_deliver_50 (by decide +kernel) ?_
        refine sv_goto (tgt := 55) dX1_deliver_51 (by decide) ?_
        refine sv_tI (y := b_I true) rfl ?_
        refine sv_csR _ cr_S okX1_requireState ks_X1_86 dX1_deliver_55 rfl rfl (by omega) (Nat.le_of_ble_eq_true rfl) ?_
        refine sv_aload_n dX1_deliver_58 rfl ?_
        refine sv_cvP _ (cc_change (A := A_st A 0) hX0 hF0 hz) okX1_change kv_X1_325 (sx_rd_c hx) rfl dX1_deliver_59 rfl rfl (by omega) (Nat.le_of_ble_eq_true rfl) ?_
        intro v15 τ13 hp14
        obtain ⟨a, rfl, nl2, ow2, Λ2, ea, hA2, hB2, FG2⟩ := hp14
        have hv2 := hA2.2.1.1.1.1
        have hx2 := hA2.1.1
        have hvl2 := hA2.2.1.1.1.2.1
        obtain ⟨mcb2, fb2, hlb2, -⟩ := id hvl2
        have hBb := (hA2.2.1.1.1.2.2.2.1 i hi).1
        have hbb := hBb.1
        have hm31 : (a_b (A_v (A_sn (s_rm (A_st A 0)) [])) i).2.2.length < 30 := hm29
        have hc62 := hA2.2.2.2.1 i hi
        refine sv_get fg_X1_173 dX1_deliver_62 (sx_rd_c hv2) rfl ?_
        refine sv_iload_n dX1_deliver_65 rfl ?_
        refine sv_cvR _ (cj_get hvl2 (i := i) hi) okJ2_get kv_X1_186 (sx_rd_c hlb2) rfl dX1_deliver_66 rfl rfl (by omega) (Nat.le_of_ble_eq_true rfl) ?_
        refine sv_cast (C0 := "") (sx_rd_c hbb) rfl q1452 dX1_deliver_69 ?_
        refine sv_iload_n dX1_deliver_72 rfl ?_
        refine sv_iload_n dX1_deliver_73 rfl ?_
        refine sv_cvP _ (cc_badd hBb (sz := sz) (fl := fl) (by omega)) okX6_add kv_X1_413 (sx_rd_c hbb) rfl dX1_deliver_74 rfl rfl (by omega) (Nat.le_of_ble_eq_true rfl) ?_
        intro v18 τ16 hp17
        obtain ⟨rfl, am, ar2, cap2, k1, k2, k3, k4, hB3, F3⟩ := hp17
        have hw3 : w_V (v_co (A_v (A_sn (s_rm (A_st A 0)) [])) i sz fl) := w_V_co hA2.2.1.2.2.1 hm29
        have hA3 := c_A_b F3 hA2 hi (fun q z => z) hB3 rfl k3 (fun q hq => gd_new hq k4) (by omega) hw3
        have hx3 := hA3.1.1
        have hF3l : c_B 2 260 _ τ16 := ⟨(c_B_F F3).1, by have h8 := (c_B_F F3).2.1; omega, by have h8 := (c_B_F F3).2.2; omega⟩
        refine sv_istore dX1_deliver_77 (by decide) ?_
        refine sv_aload_n dX1_deliver_79 rfl ?_
        refine sv_get fg_X1_44 dX1_deliver_80 (sx_rd_c hx3) rfl ?_
        refine sv_aload_n dX1_deliver_83 rfl ?_
        refine sv_get fg_X1_64 dX1_deliver_84 (sx_rd_c hx3) rfl ?_
        refine sv_cvP _ (cc_tellIdle hA3.2.1 (by show 0 + 700 ≤ 5000; omega)) okX2_tellIdle kv_X1_332 (sx_rd_c hA3.2.1.1.1.1) rfl dX1_deliver_87 rfl rfl (by omega) (Nat.le_of_ble_eq_true rfl) ?_
        intro v21 τ19 hp20
        obtain ⟨rfl, ow8, cap8, hJ8, hT8⟩ := hp20
        obtain ⟨hA9, hB9⟩ := c_A_ti hA3 hJ8 hT8 (Nat.zero_le _)
        refine sv_iload dX1_deliver_90 rfl ?_
        refine sv_iret rfl rfl dX1_deliver_92 ?_
        exact c_R_ok (x := x_del (A_st A 0) i sz fl) rfl ti_t (c_S_B (c_A_K hA9) (c_B_t hB2 (c_B_t hF3l hB9 (Nat.le_refl _) (Nat.le_refl _)) (Nat.le_refl _) (Nat.le_refl _)) (by omega) (by omega))
    · have hc : (a_in sz 1 9999 && a_in fl 0 31) = true := by rw [show a_in sz 1 9999 = true from c16, show a_in fl 0 31 = true from c28]; rfl
      refine sv_iconst (nI 1) dX1_deliver_31 (by decide +kernel) ?_
      refine sv_goto (tgt := 36) dX1_deliver_32 (by decide) ?_
      refine sv_tI (y := b_I true) (by rw [hc] at hd; first | rfl | cases hd) ?_
      refine sv_csR _ cr_A okX1_requireArgument ks_X1_98 dX1_deliver_36 rfl rfl (by omega) (Nat.le_of_ble_eq_true rfl) ?_
      refine sv_aload_n dX1_deliver_39 rfl ?_
      refine sv_get fg_X1_44 dX1_deliver_40 (sx_rd_c hx) rfl ?_
      refine sv_iload_n dX1_deliver_43 rfl ?_
      refine sv_cvR _ (cc_isFull hV hi) okX2_isFull kv_X1_409 (sx_rd_c hv1) rfl dX1_deliver_44 rfl rfl (by omega) (Nat.le_of_ble_eq_true rfl) ?_
      refine sv_if_neB (tgt := 54) dX1_deliver_47 (by decide) (fun c47 => ?_) (fun c47 => ?_)
      · exact absurd h (by rw [c47]; decide)
      · refine sv_iconst (nI 1) dX1_deliver_50 (by decide +kernel) ?_
        refine sv_goto (tgt := 55) dX1_deliver_51 (by decide) ?_
        refine sv_tI (y := b_I true) rfl ?_
        refine sv_csR _ cr_S okX1_requireState ks_X1_86 dX1_deliver_55 rfl rfl (by omega) (Nat.le_of_ble_eq_true rfl) ?_
        refine sv_aload_n dX1_deliver_58 rfl ?_
        refine sv_cvP _ (cc_change (A := A_st A 0) hX0 hF0 hz) okX1_change kv_X1_325 (sx_rd_c hx) rfl dX1_deliver_59 rfl rfl (by omega) (Nat.le_of_ble_eq_true rfl) ?_
        intro v24 τ22 hp23
        obtain ⟨a, rfl, nl2, ow2, Λ2, ea, hA2, hB2, FG2⟩ := hp23
        have hv2 := hA2.2.1.1.1.1
        have hx2 := hA2.1.1
        have hvl2 := hA2.2.1.1.1.2.1
        obtain ⟨mcb2, fb2, hlb2, -⟩ := id hvl2
        have hBb := (hA2.2.1.1.1.2.2.2.1 i hi).1
        have hbb := hBb.1
        have hm31 : (a_b (A_v (A_sn (s_rm (A_st A 0)) [])) i).2.2.length < 30 := hm29
        have hc62 := hA2.2.2.2.1 i hi
        refine sv_get fg_X1_173 dX1_deliver_62 (sx_rd_c hv2) rfl ?_
        refine sv_iload_n dX1_deliver_65 rfl ?_
        refine sv_cvR _ (cj_get hvl2 (i := i) hi) okJ2_get kv_X1_186 (sx_rd_c hlb2) rfl dX1_deliver_66 rfl rfl (by omega) (Nat.le_of_ble_eq_true rfl) ?_
        refine sv_cast (C0 := "") (sx_rd_c hbb) rfl q1452 dX1_deliver_69 ?_
        refine sv_iload_n dX1_deliver_72 rfl ?_
        refine sv_iload_n dX1_deliver_73 rfl ?_
        refine sv_cvP _ (cc_badd hBb (sz := sz) (fl := fl) (by omega)) okX6_add kv_X1_413 (sx_rd_c hbb) rfl dX1_deliver_74 rfl rfl (by omega) (Nat.le_of_ble_eq_true rfl) ?_
        intro v27 τ25 hp26
        obtain ⟨rfl, am, ar2, cap2, k1, k2, k3, k4, hB3, F3⟩ := hp26
        have hw3 : w_V (v_co (A_v (A_sn (s_rm (A_st A 0)) [])) i sz fl) := w_V_co hA2.2.1.2.2.1 hm29
        have hA3 := c_A_b F3 hA2 hi (fun q z => z) hB3 rfl k3 (fun q hq => gd_new hq k4) (by omega) hw3
        have hx3 := hA3.1.1
        have hF3l : c_B 2 260 _ τ25 := ⟨(c_B_F F3).1, by have h8 := (c_B_F F3).2.1; omega, by have h8 := (c_B_F F3).2.2; omega⟩
        refine sv_istore dX1_deliver_77 (by decide) ?_
        refine sv_aload_n dX1_deliver_79 rfl ?_
        refine sv_get fg_X1_44 dX1_deliver_80 (sx_rd_c hx3) rfl ?_
        refine sv_aload_n dX1_deliver_83 rfl ?_
        refine sv_get fg_X1_64 dX1_deliver_84 (sx_rd_c hx3) rfl ?_
        refine sv_cvP _ (cc_tellIdle hA3.2.1 (by show 0 + 700 ≤ 5000; omega)) okX2_tellIdle kv_X1_332 (sx_rd_c hA3.2.1.1.1.1) rfl dX1_deliver_87 rfl rfl (by omega) (Nat.le_of_ble_eq_true rfl) ?_
        intro v30 τ28 hp29
        obtain ⟨rfl, ow8, cap8, hJ8, hT8⟩ := hp29
        obtain ⟨hA9, hB9⟩ := c_A_ti hA3 hJ8 hT8 (Nat.zero_le _)
        refine sv_iload dX1_deliver_90 rfl ?_
        refine sv_iret rfl rfl dX1_deliver_92 ?_
        exact c_R_ok (x := x_del (A_st A 0) i sz fl) rfl ti_t (c_S_B (c_A_K hA9) (c_B_t hB2 (c_B_t hF3l hB9 (Nat.le_refl _) (Nat.le_refl _)) (Nat.le_refl _) (Nat.le_refl _)) (by omega) (by omega))
theorem pm_del (hK : c_K G mu oc σ A) {z : Nat} (hz : g_Z G z) {t : Nat} (ho : o_V t (A_v A)) {b sz fl : Int32} : sx_C G 100 YX1_deliver [.ref (mu 0), .int b, .int sz, .int fl] σ (c_R ["java/lang/IndexOutOfBoundsException", "java/lang/IllegalArgumentException", "java/lang/IllegalStateException"] G mu oc σ (sp_del A b sz fl)) := by
  have hnb : (A_v A).2.1.length ≤ 3 := by obtain ⟨_, _, _, ⟨_, _, _, hw⟩, _⟩ := hK; exact hw.1.1
  have hms : ∀ i, i < (A_v A).2.1.length → (a_ms (A_v A) i).length ≤ 30 := by obtain ⟨_, _, _, ⟨_, _, _, hw⟩, _⟩ := hK; exact hw.1.2.2
  unfold sp_del
  refine c_3 hK (fun h => cpx_del1 hK h) (fun h1 h2 => ?_) (fun h1 h2 h3 => ?_) (fun h1 h2 h3 => ?_)
  · obtain ⟨i, hi, rfl⟩ := i_in_of (by omega) h1
    exact cpx_del2 hK hi h2
  · rw [h1, Bool.true_and] at h3
    obtain ⟨i, hi, rfl⟩ := i_in_of (by omega) h1
    rw [nI_clamp (by omega), a_room1 (hms i hi)] at h3
    exact cpx_del3 hK hi h2 (by simpa using h3)
  · rw [h1, Bool.true_and] at h3
    obtain ⟨i, hi, rfl⟩ := i_in_of (by omega) h1
    rw [nI_clamp (by omega), a_room1 (hms i hi)] at h3
    rw [nI_clamp (by omega)]
    exact cp_del hK hz hi ho h2 (by simpa using h3)
end CM9
