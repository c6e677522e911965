set_option maxRecDepth 100000
section CQ4
variable {G : sx_G} {σ τ : sx_St} {mu : Nat → Nat} {oc lo sv nl cap : Nat} {ow : Nat → Nat} {Λ : Nat → Nat → Nat → Nat} {A : a_A} {V : a_V} {W : Nat → Prop} {c sl : Nat} {N : List a_N}
theorem i_b0 (x : Int32) : decide (x >>> (nI 0 &&& 31) &&& 1 = 1) = !(decide (x &&& 1 = 0)) := by
  have h := bv_bit x.toBitVec 0 (by decide)
  rw [show (nI 0 &&& 31 : Int32) = 0 by decide +kernel]
  have e1 : (x >>> (0 : Int32) &&& 1 = 1) ↔ (x.toBitVec.sshiftRight 0 &&& 1#32 = 1#32) := by
    rw [← Int32.toBitVec_inj, Int32.toBitVec_and, Int32.toBitVec_shiftRight]
    exact Iff.rfl
  have e2 : (x &&& 1 = 0) ↔ (x.toBitVec &&& BitVec.twoPow 32 0 = 0#32) := by
    rw [← Int32.toBitVec_inj, Int32.toBitVec_and]
    exact Iff.rfl
  rw [← decide_not]
  exact decide_eq_decide.mpr (e1.trans (h.trans (not_congr e2.symm)))
theorem f_us_s {es : List a_E} {k : Nat} (h : es.findIdx? (fun e => decide (e.2 &&& 1 = 0)) = some k) : f_us es = nI (k + 1) := by unfold f_us; rw [h]
theorem f_us_n {es : List a_E} (h : es.findIdx? (fun e => decide (e.2 &&& 1 = 0)) = none) : f_us es = -1 := by unfold f_us; rw [h]
theorem cpx_fus (hK : c_K G mu oc σ A) {s : Int32} (hi : i_in s (A_v A).2.2.length = false) : sx_C G 100 YX1_firstUnseen [.ref (mu 0), .int s] σ (c_X0 "java/lang/IndexOutOfBoundsException" σ) := by
  refine sx_body (by decide) (Nat.le_of_ble_eq_true rfl) ?_
  obtain ⟨sv, nl, hX, hF, hN⟩ := hK
  obtain ⟨Λ0, hV, hzz, hw⟩ := id hF
  have hx := hX.1
  have hnb := hw.1.1
  have hns := hw.1.2.1
  have hX0 : c_X G mu (sx_n σ) oc σ sv nl (A_st A 0) := hX
  have hF0 : c_F G mu (sx_n σ) σ sv (A_v (A_st A 0)) := hF
  have hv1 := hV.1
  refine sv_aload_n dX1_firstUnseen_0 rfl ?_
  refine sv_iload_n dX1_firstUnseen_1 rfl ?_
  refine sv_cv _ (cgx_sesAt hx hV hi) okX1_sessionAt (sx_rd_c hx) rfl kv_X1_240.1 kv_X1_240.2.1 kv_X1_240.2.2 dX1_firstUnseen_2 rfl rfl (by omega) (Nat.le_of_ble_eq_true rfl) (fun v τ h => by obtain ⟨q, e, _⟩ := h; cases e) (fun E q τ h => ?_)
  obtain ⟨q9, e9, F9⟩ := h
  cases e9
  refine sv_out (fun x hx => by cases hx) ?_
  exact ⟨_, rfl, F9⟩
theorem cp_fus0 (hK : c_K G mu oc σ A) {j : Nat} (hj : j < (A_v A).2.2.length) {sv nl : Nat} {Λ0 : Nat → Nat → Nat → Nat} (hx : sx_c σ (mu 0) = some (.inr (0, [.ref sv, .ref (mu 1), .ref (mu 3), .ref nl, .ref (mu 4), .int (nI (A_i A).length), .int (A_c A), .int (A_p A), .ref (mu 5)]))) (hV : k_V G σ sv Λ0 (A_v A)) (hw : w_V (A_v A)) : sx_C G 100 YX1_firstUnseen [.ref (mu 0), .int (nI j)] σ (c_R ["java/lang/IndexOutOfBoundsException"] G mu oc σ ((f_us (a_es (A_v A) j), A_st A 0))) := by
  have loop : ∀ r k, k ≤ (a_es (A_v A) j).length → (a_es (A_v A) j).length + 1 ≤ k + r → (∀ i, i < k → decide (((a_es (A_v A) j).getD i (0, 0)).2 &&& 1 = 0) = false) → sx_V G 100 YX1_firstUnseen 8 [some (.ref (mu 0)), some (.int (nI j)), some (.ref (Λ0 3 j 0)), some (.int (nI k))] [] σ (c_R ["java/lang/IndexOutOfBoundsException"] G mu oc σ ((f_us (a_es (A_v A) j), A_st A 0))) := by
    intro r
    induction r with
    | zero => intro k h1 h2; omega
    | succ r ih =>
    intro k hk1 hk2 hk3
    obtain ⟨fu0, ft0, fa0, hso, hu0, ht0, hac0, -, -, eu0, et0, -⟩ := k_V_ses hV hj
    have hel := hw.2.1 j hj
    refine sv_iload_n dX1_firstUnseen_8 rfl ?_
    refine sv_aload_n dX1_firstUnseen_9 rfl ?_
    refine sv_get fg_X1_257 dX1_firstUnseen_10 (sx_rd_c hso) rfl ?_
    refine sv_icmp_geN (tgt := 39) dX1_firstUnseen_13 (by decide) (by omega) (by omega) (fun c13 => ?_) (fun c13 => ?_)
    · have hz := fi_n (l := (a_es (A_v A) j)) (p := fun e => decide (e.2 &&& 1 = 0)) (0, 0) (fun i hi => hk3 i (by omega))
      refine sv_iconst (-1) dX1_firstUnseen_39 (by decide +kernel) ?_
      refine sv_iret rfl rfl dX1_firstUnseen_40 ?_
      first | exact c_R_q hK (f_us_n hz).symm | exact c_R_q hK (f_us_s hz).symm
    · refine sv_aload_n dX1_firstUnseen_16 rfl ?_
      refine sv_get fg_X1_282 dX1_firstUnseen_17 (sx_rd_c hso) rfl ?_
      refine sv_iload_n dX1_firstUnseen_20 rfl ?_
      refine sv_iald dX1_firstUnseen_21 (sx_rd_c ht0) (vp_in_nI (by omega) (by omega)) ?_
      rw [nI_clamp (show k < 2 ^ 31 by omega)]
      refine sv_iconst (nI 0) dX1_firstUnseen_22 (by decide +kernel) ?_
      refine sv_csR _ cc_has okX1_has ks_X1_296 dX1_firstUnseen_23 rfl rfl (by omega) (Nat.le_of_ble_eq_true rfl) ?_
      have e9 : decide (ft0 k >>> (nI 0 &&& 31) &&& 1 = 1) = !(decide (((a_es (A_v A) j).getD k (0, 0)).2 &&& 1 = 0)) := by rw [et0 k (by omega)]; exact i_b0 _
      rw [e9]
      refine sv_if_neB (tgt := 33) dX1_firstUnseen_26 (by decide) (fun c26 => ?_) (fun c26 => ?_)
      · have hq : decide (((a_es (A_v A) j).getD k (0, 0)).2 &&& 1 = 0) = false := by simpa using c26
        refine sv_iincN dX1_firstUnseen_33 rfl (by decide) ?_
        refine sv_goto (tgt := 8) dX1_firstUnseen_36 (by decide) ?_
        refine ih (k + 1) (by omega) (by omega) (fun i hi => ?_)
        by_cases hik : i = k
        · rw [hik]; exact hq
        · exact hk3 i (by omega)
      · have hq : decide (((a_es (A_v A) j).getD k (0, 0)).2 &&& 1 = 0) = true := by simpa using c26
        have hz := fi_s (l := (a_es (A_v A) j)) (p := fun e => decide (e.2 &&& 1 = 0)) (0, 0) (show k < _ by omega) (fun i hi => hk3 i hi) hq
        refine sv_iload_n dX1_firstUnseen_29 rfl ?_
        refine sv_iconst (nI 1) dX1_firstUnseen_30 (by decide +kernel) ?_
        refine sv_iaddN dX1_firstUnseen_31 ?_
        refine sv_iret rfl rfl dX1_firstUnseen_32 ?_
        first | exact c_R_q hK (f_us_n hz).symm | exact c_R_q hK (f_us_s hz).symm
  refine sx_body (by decide) (Nat.le_of_ble_eq_true rfl) ?_
  have hel := hw.2.1 j hj
  have hv1 := hV.1
  refine sv_aload_n dX1_firstUnseen_0 rfl ?_
  refine sv_iload_n dX1_firstUnseen_1 rfl ?_
  refine sv_cvR _ (cg_sesAt hx hV hj) okX1_sessionAt kv_X1_240 (sx_rd_c hx) rfl dX1_firstUnseen_2 rfl rfl (by omega) (Nat.le_of_ble_eq_true rfl) ?_
  refine sv_astore_n dX1_firstUnseen_5 (by decide) ?_
  refine sv_iconst (nI 0) dX1_firstUnseen_6 (by decide +kernel) ?_
  refine sv_istore_n dX1_firstUnseen_7 (by decide) ?_
  exact loop 62 0 (by omega) (by omega) (fun i hi => absurd hi (Nat.not_lt_zero i))
theorem pm_fus (hK : c_K G mu oc σ A) {s : Int32} : sx_C G 100 YX1_firstUnseen [.ref (mu 0), .int s] σ (c_R ["java/lang/IndexOutOfBoundsException"] G mu oc σ (sp_fus A s)) := by
  have hns : (A_v A).2.2.length ≤ 4 := by obtain ⟨_, _, _, ⟨_, _, _, hw⟩, _⟩ := hK; exact hw.1.2.1
  have hnb : (A_v A).2.1.length ≤ 3 := by obtain ⟨_, _, _, ⟨_, _, _, hw⟩, _⟩ := hK; exact hw.1.1
  unfold sp_fus
  refine c_1 hK (fun h => cpx_fus hK h) (fun h => ?_)
  obtain ⟨j, hj, rfl⟩ := i_in_of (by omega) h
  rw [nI_clamp (by omega)]
  have hK0 := hK
  obtain ⟨sv, nl, hX, ⟨Λ0, hV, hzz, hw⟩, hN⟩ := hK
  exact cp_fus0 hK0 hj hX.1 hV hw
end CQ4
