set_option maxRecDepth 100000
section CQA
variable {G : sx_G} {σ τ : sx_St} {mu : Nat → Nat} {oc lo sv nl cap : Nat} {ow : Nat → Nat} {Λ : Nat → Nat → Nat → Nat} {A : a_A} {V : a_V} {W : Nat → Prop} {c sl : Nat} {N : List a_N}
theorem com_s {s o k : Nat} : n_com V s o (k + 1) = n_com V s o k + (if !(decide (e_w (a_es V o) (a_e V s k).1 = -1)) then 1 else 0) := by
  unfold n_com
  rw [List.range_succ, List.countP_append]
  exact congrArg _ (by rw [List.countP_cons, List.countP_nil, Nat.zero_add])
theorem cpx_com1 (hK : c_K G mu oc σ A) {s o : Int32} (hi : i_in s (A_v A).2.2.length = false) : sx_C G 100 YX1_common [.ref (mu 0), .int s, .int o] σ (c_X0 "java/lang/IndexOutOfBoundsException" σ) := by
  refine sx_body (by decide) (Nat.le_of_ble_eq_true rfl) ?_
  obtain ⟨sv, nl, hX, hF, hN⟩ := hK
  obtain ⟨Λ0, hV, hzz, hw⟩ := id hF
  have hx := hX.1
  have hnb := hw.1.1
  have hns := hw.1.2.1
  have hX0 : c_X G mu (sx_n σ) oc σ sv nl (A_st A 0) := hX
  have hF0 : c_F G mu (sx_n σ) σ sv (A_v (A_st A 0)) := hF
  have hv1 := hV.1
  refine sv_aload_n dX1_common_0 rfl ?_
  refine sv_iload_n dX1_common_1 rfl ?_
  refine sv_cv _ (cgx_sesAt hx hV hi) okX1_sessionAt (sx_rd_c hx) rfl kv_X1_240.1 kv_X1_240.2.1 kv_X1_240.2.2 dX1_common_2 rfl rfl (by omega) (Nat.le_of_ble_eq_true rfl) (fun v τ h => by obtain ⟨q, e, _⟩ := h; cases e) (fun E q τ h => ?_)
  obtain ⟨q9, e9, F9⟩ := h
  cases e9
  refine sv_out (fun x hx => by cases hx) ?_
  exact ⟨_, rfl, F9⟩
theorem cpx_com2 (hK : c_K G mu oc σ A) {j : Nat} (hj : j < (A_v A).2.2.length) {o : Int32} (hi : i_in o (A_v A).2.2.length = false) : sx_C G 100 YX1_common [.ref (mu 0), .int (nI j), .int o] σ (c_X0 "java/lang/IndexOutOfBoundsException" σ) := by
  refine sx_body (by decide) (Nat.le_of_ble_eq_true rfl) ?_
  obtain ⟨sv, nl, hX, hF, hN⟩ := hK
  obtain ⟨Λ0, hV, hzz, hw⟩ := id hF
  have hx := hX.1
  have hnb := hw.1.1
  have hns := hw.1.2.1
  have hX0 : c_X G mu (sx_n σ) oc σ sv nl (A_st A 0) := hX
  have hF0 : c_F G mu (sx_n σ) σ sv (A_v (A_st A 0)) := hF
  have hv1 := hV.1
  refine sv_aload_n dX1_common_0 rfl ?_
  refine sv_iload_n dX1_common_1 rfl ?_
  refine sv_cvR _ (cg_sesAt hx hV hj) okX1_sessionAt kv_X1_240 (sx_rd_c hx) rfl dX1_common_2 rfl rfl (by omega) (Nat.le_of_ble_eq_true rfl) ?_
  refine sv_astore_n dX1_common_5 (by decide) ?_
  refine sv_aload_n dX1_common_6 rfl ?_
  refine sv_iload_n dX1_common_7 rfl ?_
  refine sv_cv _ (cgx_sesAt hx hV hi) okX1_sessionAt (sx_rd_c hx) rfl kv_X1_240.1 kv_X1_240.2.1 kv_X1_240.2.2 dX1_common_8 rfl rfl (by omega) (Nat.le_of_ble_eq_true rfl) (fun v τ h => by obtain ⟨q, e, _⟩ := h; cases e) (fun E q τ h => ?_)
  obtain ⟨q9, e9, F9⟩ := h
  cases e9
  refine sv_out (fun x hx => by cases hx) ?_
  exact ⟨_, rfl, F9⟩
theorem cp_com0 (hK : c_K G mu oc σ A) {j : Nat} (hj : j < (A_v A).2.2.length) {o : Nat} (ho : o < (A_v A).2.2.length) {sv nl : Nat} {Λ0 : Nat → Nat → Nat → Nat} (hx : sx_c σ (mu 0) = some (.inr (0, [.ref sv, .ref (mu 1), .ref (mu 3), .ref nl, .ref (mu 4), .int (nI (A_i A).length), .int (A_c A), .int (A_p A), .ref (mu 5)]))) (hV : k_V G σ sv Λ0 (A_v A)) (hw : w_V (A_v A)) : sx_C G 100 YX1_common [.ref (mu 0), .int (nI j), .int (nI o)] σ (c_R ["java/lang/IndexOutOfBoundsException"] G mu oc σ ((p_com (A_v A) j o, A_st A 0))) := by
  have loop : ∀ r k, k ≤ (a_es (A_v A) j).length → (a_es (A_v A) j).length + 1 ≤ k + r → (k = 0 ∨ o_I (a_bx (A_v A) j) = o_I (a_bx (A_v A) o)) → sx_V G 100 YX1_common 19 [some (.ref (mu 0)), some (.int (nI j)), some (.int (nI o)), some (.ref (Λ0 3 j 0)), some (.ref (Λ0 3 o 0)), some (.int (nI (n_com (A_v A) j o k))), some (.int (nI k))] [] σ (c_R ["java/lang/IndexOutOfBoundsException"] G mu oc σ ((p_com (A_v A) j o, A_st A 0))) := by
    intro r
    induction r with
    | zero => intro k h1 h2; omega
    | succ r ih =>
    intro k hk1 hk2 hkb
    obtain ⟨fu0, ft0, fa0, hso, hu0, ht0, hac0, -, -, eu0, -⟩ := k_V_ses hV hj
    obtain ⟨fu1, ft1, fa1, hso2, -⟩ := k_V_ses hV ho
    have hel := hw.2.1 j hj
    have hel2 := hw.2.1 o ho
    refine sv_iload dX1_common_19 rfl ?_
    refine sv_aload_n dX1_common_21 rfl ?_
    refine sv_get fg_X1_257 dX1_common_22 (sx_rd_c hso) rfl ?_
    refine sv_icmp_geN (tgt := 75) dX1_common_25 (by decide) (by omega) (by omega) (fun c25 => ?_) (fun c25 => ?_)
    · obtain rfl : k = (a_es (A_v A) j).length := by omega
      have hz : nI (n_com (A_v A) j o (a_es (A_v A) j).length) = p_com (A_v A) j o := by
        unfold p_com
        by_cases hc : (a_bx (A_v A) j).isSome = true ∧ o_I (a_bx (A_v A) j) = o_I (a_bx (A_v A) o)
        · rw [if_pos hc]
        · rw [if_neg hc]
          have hl0 : (a_es (A_v A) j).length = 0 := by
            rcases hkb with e | e
            · exact e
            · cases hq : a_bx (A_v A) j with
              | none => rw [hw.2.2.2 j hj hq]; rfl
              | some b => exact absurd ⟨by rw [hq]; rfl, e⟩ hc
          rw [hl0]; exact nI_0
      refine sv_iload dX1_common_75 rfl ?_
      refine sv_iret rfl rfl dX1_common_77 ?_
      exact c_R_q hK hz
    · refine sv_aload_n dX1_common_28 rfl ?_
      refine sv_get fg_X1_194 dX1_common_29 (sx_rd_c hso) rfl ?_
      refine sv_aload dX1_common_32 rfl ?_
      refine sv_get fg_X1_194 dX1_common_34 (sx_rd_c hso2) rfl ?_
      refine sv_icmp_ne (tgt := 75) dX1_common_37 (by decide) (fun c37 => ?_) (fun c37 => ?_)
      · obtain rfl : k = 0 := by rcases hkb with e | e; exact e; exact absurd e c37
        have hz : nI (n_com (A_v A) j o 0) = p_com (A_v A) j o := by unfold p_com; rw [if_neg (fun z => c37 z.2)]; exact nI_0
        refine sv_iload dX1_common_75 rfl ?_
        refine sv_iret rfl rfl dX1_common_77 ?_
        exact c_R_q hK hz
      · refine sv_iload dX1_common_40 rfl ?_
        refine sv_aload dX1_common_42 rfl ?_
        refine sv_aload_n dX1_common_44 rfl ?_
        refine sv_get fg_X1_278 dX1_common_45 (sx_rd_c hso) rfl ?_
        refine sv_iload dX1_common_48 rfl ?_
        refine sv_iald dX1_common_50 (sx_rd_c hu0) (vp_in_nI (by omega) (by omega)) ?_
        rw [nI_clamp (show k < 2 ^ 31 by omega)]
        refine sv_cvR _ (cc_sfind (hV.2.2.2.2 o ho).1) okX8_find kv_X1_285 (sx_rd_c hso2) rfl dX1_common_51 rfl rfl (by omega) (Nat.le_of_ble_eq_true rfl) ?_
        refine sv_iconst (-1) dX1_common_54 (by decide +kernel) ?_
        refine sv_icmp_eq (tgt := 62) dX1_common_55 (by decide) (fun c55 => ?_) (fun c55 => ?_)
        · obtain ⟨cq, hcqf⟩ : ∃ c : Bool, c = false := ⟨_, rfl⟩
          have hcq : nI 0 = b_I cq := by rw [hcqf]; rfl
          have hcc : (if !(decide (e_w (a_es (A_v A) o) (a_e (A_v A) j k).1 = -1)) then 1 else 0) = (if cq then 1 else 0) := by rw [hcqf, show (a_e (A_v A) j k).1 = fu0 k from (eu0 k (by omega)).symm, decide_eq_true ((ew_m1 hel2).mpr ((o_I_m1 _ (fi_31 hel2)).mp c55))]; rfl
          refine sv_iconst (nI 0) dX1_common_62 (by decide +kernel) ?_
          refine sv_tI (y := b_I cq) hcq ?_
          refine sv_csR _ (cc_count (c := cq)) okX1_count ks_X1_250 dX1_common_63 rfl rfl (by omega) (Nat.le_of_ble_eq_true rfl) ?_
          refine sv_iaddN dX1_common_66 ?_
          have hz9 : nI (n_com (A_v A) j o k) + nI (if cq then 1 else 0) = nI (n_com (A_v A) j o (k + 1)) := by rw [nI_add, com_s, hcc]
          first | rw [hz9] | (rw [nI_add] at hz9; rw [hz9])
          refine sv_istore dX1_common_67 (by decide) ?_
          refine sv_iincN dX1_common_69 rfl (by decide) ?_
          refine sv_goto (tgt := 19) dX1_common_72 (by decide) ?_
          exact ih (k + 1) (by omega) (by omega) (Or.inr c37)
        · obtain ⟨cq, hcqf⟩ : ∃ c : Bool, c = true := ⟨_, rfl⟩
          have hcq : nI 1 = b_I cq := by rw [hcqf]; rfl
          have hcc : (if !(decide (e_w (a_es (A_v A) o) (a_e (A_v A) j k).1 = -1)) then 1 else 0) = (if cq then 1 else 0) := by rw [hcqf, show (a_e (A_v A) j k).1 = fu0 k from (eu0 k (by omega)).symm, decide_eq_false (fun z => c55 ((o_I_m1 _ (fi_31 hel2)).mpr ((ew_m1 hel2).mp z)))]; rfl
          refine sv_iconst (nI 1) dX1_common_58 (by decide +kernel) ?_
          refine sv_goto (tgt := 63) dX1_common_59 (by decide) ?_
          refine sv_tI (y := b_I cq) hcq ?_
          refine sv_csR _ (cc_count (c := cq)) okX1_count ks_X1_250 dX1_common_63 rfl rfl (by omega) (Nat.le_of_ble_eq_true rfl) ?_
          refine sv_iaddN dX1_common_66 ?_
          have hz9 : nI (n_com (A_v A) j o k) + nI (if cq then 1 else 0) = nI (n_com (A_v A) j o (k + 1)) := by rw [nI_add, com_s, hcc]
          first | rw [hz9] | (rw [nI_add] at hz9; rw [hz9])
          refine sv_istore dX1_common_67 (by decide) ?_
          refine sv_iincN dX1_common_69 rfl (by decide) ?_
          refine sv_goto (tgt := 19) dX1_common_72 (by decide) ?_
          exact ih (k + 1) (by omega) (by omega) (Or.inr c37)
  refine sx_body (by decide) (Nat.le_of_ble_eq_true rfl) ?_
  have hel := hw.2.1 j hj
  refine sv_aload_n dX1_common_0 rfl ?_
  refine sv_iload_n dX1_common_1 rfl ?_
  refine sv_cvR _ (cg_sesAt hx hV hj) okX1_sessionAt kv_X1_240 (sx_rd_c hx) rfl dX1_common_2 rfl rfl (by omega) (Nat.le_of_ble_eq_true rfl) ?_
  refine sv_astore_n dX1_common_5 (by decide) ?_
  refine sv_aload_n dX1_common_6 rfl ?_
  refine sv_iload_n dX1_common_7 rfl ?_
  refine sv_cvR _ (cg_sesAt hx hV ho) okX1_sessionAt kv_X1_240 (sx_rd_c hx) rfl dX1_common_8 rfl rfl (by omega) (Nat.le_of_ble_eq_true rfl) ?_
  refine sv_astore dX1_common_11 (by decide) ?_
  refine sv_iconst (nI 0) dX1_common_13 (by decide +kernel) ?_
  refine sv_istore dX1_common_14 (by decide) ?_
  refine sv_iconst (nI 0) dX1_common_16 (by decide +kernel) ?_
  refine sv_istore dX1_common_17 (by decide) ?_
  exact loop 62 0 (by omega) (by omega) (Or.inl rfl)
theorem pm_com (hK : c_K G mu oc σ A) {s o : Int32} : sx_C G 100 YX1_common [.ref (mu 0), .int s, .int o] σ (c_R ["java/lang/IndexOutOfBoundsException"] G mu oc σ (sp_com A s o)) := by
  have hns : (A_v A).2.2.length ≤ 4 := by obtain ⟨_, _, _, ⟨_, _, _, hw⟩, _⟩ := hK; exact hw.1.2.1
  have hnb : (A_v A).2.1.length ≤ 3 := by obtain ⟨_, _, _, ⟨_, _, _, hw⟩, _⟩ := hK; exact hw.1.1
  unfold sp_com
  refine c_1 hK (fun h => ?_) (fun h => ?_)
  · cases h1 : i_in s (A_v A).2.2.length with
    | false => exact cpx_com1 hK h1
    | true =>
      rw [h1, Bool.true_and] at h
      obtain ⟨j, hj, rfl⟩ := i_in_of (by omega) h1
      exact cpx_com2 hK hj h
  · rw [Bool.and_eq_true] at h
    obtain ⟨j, hj, rfl⟩ := i_in_of (by omega) h.1
    obtain ⟨o, ho, rfl⟩ := i_in_of (by omega) h.2
    rw [nI_clamp (by omega), nI_clamp (by omega)]
    have hK0 := hK
    obtain ⟨sv, nl, hX, ⟨Λ0, hV, hzz, hw⟩, hN⟩ := hK
    exact cp_com0 hK0 hj ho hX.1 hV hw
end CQA
