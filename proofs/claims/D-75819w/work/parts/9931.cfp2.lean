set_option maxRecDepth 100000
section CFP
variable {G : sx_G} {σ τ : sx_St} {mu : Nat → Nat} {oc lo sv nl cap : Nat} {ow : Nat → Nat} {Λ : Nat → Nat → Nat → Nat} {A : a_A} {V : a_V} {W : Nat → Prop} {c sl : Nat} {N : List a_N}
/-- unseen, mean -/
def f_uns (V : a_V) (b : Nat) : UInt32 := if (a_ms V b).length = 0 then FP.fconst0 else FP.fdiv (FP.i2f (nI ((a_ms V b).length - a_fm V b 1))) (FP.i2f (nI (a_ms V b).length))
def f_mea (V : a_V) (b : Nat) : UInt64 := if (a_ms V b).length = 0 then FP.dconst0 else FP.ddiv (FP.i2d (a_szs V b)) (FP.i2d (nI (a_ms V b).length))
def sp_uns (A : a_A) (b : Int32) : Value × a_A := if i_in b (A_v A).2.1.length = true then (.float (f_uns (A_v A) b.toNatClampNeg), A_st A 0) else (.float FP.fconst0, A_st A 1)
def sp_mea (A : a_A) (b : Int32) : Value × a_A := if i_in b (A_v A).2.1.length = true then (.double (f_mea (A_v A) b.toNatClampNeg), A_st A 0) else (.double FP.dconst0, A_st A 1)
/-- what a public method hands back, of any kind -/
def c_RV (es : List String) (G : sx_G) (mu : Nat → Nat) (oc : Nat) (σ : sx_St) (r : Value × a_A) (o : sx_O) (τ : sx_St) : Prop := ((A_t r.2 = 0 ∧ o = .inl (some r.1)) ∨ ∃ k q E, es[k]? = some E ∧ A_t r.2 = nI (k + 1) ∧ o = .inr (E, q)) ∧ c_S G mu oc σ τ r.2
theorem c_RV_q {es : List String} {v : Value} {c s : Nat} (h : c_K G mu oc σ A) (F : h_F (fun _ => False) c s σ τ) (hc : c ≤ 8000) (hs : s ≤ 90000) : c_RV es G mu oc σ (v, A_st A 0) (.inl (some v)) τ := ⟨Or.inl ⟨rfl, rfl⟩, c_S_0 (c_K_t h 0) F hc hs⟩
theorem c_RV_x {E : String} {es : List String} {k d : Nat} {Y : sx_Y} {av : List Value} {v : Value} (hK : c_K G mu oc σ A) (he : es[k]? = some E) {x : Int32} (hx : x = nI (k + 1)) (h : sx_C G d Y av σ (c_X0 E σ)) : sx_C G d Y av σ (c_RV es G mu oc σ (v, A_st A x)) := by
  refine sx_C_Q h ?_
  rintro o τ ⟨q, rfl, F⟩
  exact ⟨Or.inr ⟨k, q, E, he, hx, rfl⟩, c_S_0 (c_K_t hK _) F (by omega) (by omega)⟩
theorem cpx_uns (hK : c_K G mu oc σ A) {b : Int32} (hi : i_in b (A_v A).2.1.length = false) : sx_C G 100 YX1_unseen [.ref (mu 0), .int b] σ (c_X0 "java/lang/IndexOutOfBoundsException" σ) := by
  refine sx_body (by decide) (Nat.le_of_ble_eq_true rfl) ?_
  obtain ⟨sv, nl, hX, hF, hN⟩ := hK
  obtain ⟨Λ0, hV, hzz, hw⟩ := id hF
  have hx := hX.1
  have hnb := hw.1.1
  have hns := hw.1.2.1
  have hX0 : c_X G mu (sx_n σ) oc σ sv nl (A_st A 0) := hX
  have hF0 : c_F G mu (sx_n σ) σ sv (A_v (A_st A 0)) := hF
  have hv1 := hV.1
  refine sv_aload_n dX1_unseen_0 rfl ?_
  refine sv_iload_n dX1_unseen_1 rfl ?_
  refine sv_cv _ (cgx_boxAt hx hV hi) okX1_boxAt (sx_rd_c hx) rfl kv_X1_197.1 kv_X1_197.2.1 kv_X1_197.2.2 dX1_unseen_2 rfl rfl (by omega) (Nat.le_of_ble_eq_true rfl) (fun v τ h => by obtain ⟨q, e, _⟩ := h; cases e) (fun E q τ h => ?_)
  obtain ⟨q9, e9, F9⟩ := h
  cases e9
  refine sv_out (fun x hx => by cases hx) ?_
  exact ⟨_, rfl, F9⟩
theorem cpx_mea (hK : c_K G mu oc σ A) {b : Int32} (hi : i_in b (A_v A).2.1.length = false) : sx_C G 100 YX1_mean [.ref (mu 0), .int b] σ (c_X0 "java/lang/IndexOutOfBoundsException" σ) := by
  refine sx_body (by decide) (Nat.le_of_ble_eq_true rfl) ?_
  obtain ⟨sv, nl, hX, hF, hN⟩ := hK
  obtain ⟨Λ0, hV, hzz, hw⟩ := id hF
  have hx := hX.1
  have hnb := hw.1.1
  have hns := hw.1.2.1
  have hX0 : c_X G mu (sx_n σ) oc σ sv nl (A_st A 0) := hX
  have hF0 : c_F G mu (sx_n σ) σ sv (A_v (A_st A 0)) := hF
  have hv1 := hV.1
  refine sv_aload_n dX1_mean_0 rfl ?_
  refine sv_iload_n dX1_mean_1 rfl ?_
  refine sv_cv _ (cgx_boxAt hx hV hi) okX1_boxAt (sx_rd_c hx) rfl kv_X1_197.1 kv_X1_197.2.1 kv_X1_197.2.2 dX1_mean_2 rfl rfl (by omega) (Nat.le_of_ble_eq_true rfl) (fun v τ h => by obtain ⟨q, e, _⟩ := h; cases e) (fun E q τ h => ?_)
  obtain ⟨q9, e9, F9⟩ := h
  cases e9
  refine sv_out (fun x hx => by cases hx) ?_
  exact ⟨_, rfl, F9⟩
theorem cp_uns (hK : c_K G mu oc σ A) {i : Nat} (hi : i < (A_v A).2.1.length) (hG : g_L G) : sx_C G 100 YX1_unseen [.ref (mu 0), .int (nI i)] σ (c_RV ["java/lang/IndexOutOfBoundsException"] G mu oc σ (.float (f_uns (A_v A) i), A_st A 0)) := by
  refine sx_body (by decide) (Nat.le_of_ble_eq_true rfl) ?_
  have hK0 := hK
  obtain ⟨sv, nl, hX, hF, hN⟩ := hK
  obtain ⟨Λ0, hV, hzz, hw⟩ := id hF
  have hx := hX.1
  have hnb := hw.1.1
  have hns := hw.1.2.1
  have hX0 : c_X G mu (sx_n σ) oc σ sv nl (A_st A 0) := hX
  have hF0 : c_F G mu (sx_n σ) σ sv (A_v (A_st A 0)) := hF
  have hv1 := hV.1
  have hB0 := (hV.2.2.2.1 i hi).1
  have hbb := hB0.1
  have hlm9 := hB0.2.1
  obtain ⟨mcm, fm, hlm, -⟩ := id hlm9
  have hml := hw.1.2.2 i hi
  refine sv_aload_n dX1_unseen_0 rfl ?_
  refine sv_iload_n dX1_unseen_1 rfl ?_
  refine sv_cvR _ (cg_boxAt hx hV hi) okX1_boxAt kv_X1_197 (sx_rd_c hx) rfl dX1_unseen_2 rfl rfl (by omega) (Nat.le_of_ble_eq_true rfl) ?_
  refine sv_astore_n dX1_unseen_5 (by decide) ?_
  refine sv_aload_n dX1_unseen_6 rfl ?_
  refine sv_get fg_X1_203 dX1_unseen_7 (sx_rd_c hbb) rfl ?_
  refine sv_cvR _ (cj_isEmpty hlm9) okJ2_isEmpty kv_X1_300 (sx_rd_c hlm) rfl dX1_unseen_10 rfl rfl (by omega) (Nat.le_of_ble_eq_true rfl) ?_
  refine sv_if_eqB (tgt := 20) dX1_unseen_13 (by decide) (fun c13 => ?_) (fun c13 => ?_)
  · have hne : ¬ (a_ms (A_v A) i).length = 0 := of_decide_eq_false c13
    have hv9 : f_uns (A_v A) i = FP.fdiv (FP.i2f (nI ((a_ms (A_v A) i).length - a_fm (A_v A) i 1))) (FP.i2f (nI (a_ms (A_v A) i).length)) := if_neg hne
    rw [hv9]
    refine sv_aload_n dX1_unseen_20 rfl ?_
    refine sv_iconst (nI 0) dX1_unseen_21 (by decide +kernel) ?_
    refine sv_csP _ (cm_flagged hG) okX1_flagged ks_X1_211 dX1_unseen_22 rfl rfl (by omega) (Nat.le_of_ble_eq_true rfl) ?_
    intro v6 τ4 hp5
    obtain ⟨te, rfl, hte, htc, F1⟩ := hp5
    have hB1 := k_B_fr F1 hB0 (fun z => z) (fun z => z) (fun z => z) (fun _ _ z => z)
    refine sv_csP _ (cm_not hG) okX1_not ks_X1_214 dX1_unseen_25 rfl rfl (by omega) (Nat.le_of_ble_eq_true rfl) ?_
    intro v9 τ7 hp8
    obtain ⟨te2, rfl, hte2, htc2, F2⟩ := hp8
    have F12 := h_F_u (U := fun _ => False) F1 F2 (fun _ _ z => z) (fun _ _ z => z) (Nat.le_refl _) (Nat.le_refl _)
    have htc := h_F_c F2 htc (fun z => z)
    have hB2 := k_B_fr F12 hB0 (fun z => z) (fun z => z) (fun z => z) (fun _ _ z => z)
    have hbb2 := hB2.1
    obtain ⟨_, _, hlm2, -⟩ := id hB2.2.1
    refine sv_cvR _ (cc_many (n := 2) (p := fun m => !(decide (m.2.2 >>> (nI 0 &&& 31) &&& 1 = 1))) hB2 hG (Or.inr (Or.inr (Or.inl ⟨te, _, sx_rd_c htc2, Or.inr (Or.inl ⟨_, sx_rd_c htc, fun m => rfl⟩), fun m => rfl⟩)))) okX6_many kv_X1_217 (sx_rd_c hB2.1) rfl dX1_unseen_28 rfl rfl (by omega) (Nat.le_of_ble_eq_true rfl) ?_
    refine sv_tI (y := nI ((a_ms (A_v A) i).length - a_fm (A_v A) i 1)) (congrArg nI fm_not) ?_
    refine sv_i2f dX1_unseen_31 ?_
    refine sv_aload_n dX1_unseen_32 rfl ?_
    refine sv_get fg_X1_203 dX1_unseen_33 (sx_rd_c hbb2) rfl ?_
    refine sv_cvR _ (cj_size hB2.2.1) okJ2_size kv_X1_176 (sx_rd_c hlm2) rfl dX1_unseen_36 rfl rfl (by omega) (Nat.le_of_ble_eq_true rfl) ?_
    refine sv_tI (y := nI (a_ms (A_v A) i).length) rfl ?_
    refine sv_i2f dX1_unseen_39 ?_
    refine sv_fdiv dX1_unseen_40 (fp_fd _ (by omega) (by omega)) ?_
    refine sv_fret rfl dX1_unseen_41 ?_
    exact c_RV_q hK0 F12 (by omega) (by omega)
  · have hv9 : f_uns (A_v A) i = FP.fconst0 := if_pos (of_decide_eq_true c13)
    rw [hv9]
    refine sv_fconst0 dX1_unseen_16 ?_
    refine sv_goto (tgt := 41) dX1_unseen_17 (by decide) ?_
    refine sv_fret rfl dX1_unseen_41 ?_
    exact c_RV_q hK0 (c := 0) (s := 0) h_F_r (by omega) (by omega)
theorem cp_mea (hK : c_K G mu oc σ A) {i : Nat} (hi : i < (A_v A).2.1.length) : sx_C G 100 YX1_mean [.ref (mu 0), .int (nI i)] σ (c_RV ["java/lang/IndexOutOfBoundsException"] G mu oc σ (.double (f_mea (A_v A) i), A_st A 0)) := by
  refine sx_body (by decide) (Nat.le_of_ble_eq_true rfl) ?_
  have hK0 := hK
  obtain ⟨sv, nl, hX, hF, hN⟩ := hK
  obtain ⟨Λ0, hV, hzz, hw⟩ := id hF
  have hx := hX.1
  have hnb := hw.1.1
  have hns := hw.1.2.1
  have hX0 : c_X G mu (sx_n σ) oc σ sv nl (A_st A 0) := hX
  have hF0 : c_F G mu (sx_n σ) σ sv (A_v (A_st A 0)) := hF
  have hv1 := hV.1
  have hB0 := (hV.2.2.2.1 i hi).1
  have hbb := hB0.1
  have hlm9 := hB0.2.1
  obtain ⟨mcm, fm, hlm, -⟩ := id hlm9
  have hml := hw.1.2.2 i hi
  refine sv_aload_n dX1_mean_0 rfl ?_
  refine sv_iload_n dX1_mean_1 rfl ?_
  refine sv_cvR _ (cg_boxAt hx hV hi) okX1_boxAt kv_X1_197 (sx_rd_c hx) rfl dX1_mean_2 rfl rfl (by omega) (Nat.le_of_ble_eq_true rfl) ?_
  refine sv_astore_n dX1_mean_5 (by decide) ?_
  refine sv_aload_n dX1_mean_6 rfl ?_
  refine sv_get fg_X1_203 dX1_mean_7 (sx_rd_c hbb) rfl ?_
  refine sv_cvR _ (cj_isEmpty hlm9) okJ2_isEmpty kv_X1_300 (sx_rd_c hlm) rfl dX1_mean_10 rfl rfl (by omega) (Nat.le_of_ble_eq_true rfl) ?_
  refine sv_if_eqB (tgt := 20) dX1_mean_13 (by decide) (fun c13 => ?_) (fun c13 => ?_)
  · have hne : ¬ (a_ms (A_v A) i).length = 0 := of_decide_eq_false c13
    have hv9 : f_mea (A_v A) i = FP.ddiv (FP.i2d (a_szs (A_v A) i)) (FP.i2d (nI (a_ms (A_v A) i).length)) := if_neg hne
    rw [hv9]
    refine sv_aload_n dX1_mean_20 rfl ?_
    refine sv_cvR _ (cc_sizes hB0) okX6_sizes kv_X1_208 (sx_rd_c hbb) rfl dX1_mean_21 rfl rfl (by omega) (Nat.le_of_ble_eq_true rfl) ?_
    refine sv_tI (y := a_szs (A_v A) i) rfl ?_
    refine sv_i2d dX1_mean_24 ?_
    refine sv_aload_n dX1_mean_25 rfl ?_
    refine sv_get fg_X1_203 dX1_mean_26 (sx_rd_c hbb) rfl ?_
    refine sv_cvR _ (cj_size hlm9) okJ2_size kv_X1_176 (sx_rd_c hlm) rfl dX1_mean_29 rfl rfl (by omega) (Nat.le_of_ble_eq_true rfl) ?_
    refine sv_tI (y := nI (a_ms (A_v A) i).length) rfl ?_
    refine sv_i2d dX1_mean_32 ?_
    refine sv_ddiv dX1_mean_33 (fp_dd _ (by omega) (by omega)) ?_
    refine sv_dret rfl dX1_mean_34 ?_
    exact c_RV_q hK0 (c := 0) (s := 0) h_F_r (by omega) (by omega)
  · have hv9 : f_mea (A_v A) i = FP.dconst0 := if_pos (of_decide_eq_true c13)
    rw [hv9]
    refine sv_dconst0 dX1_mean_16 ?_
    refine sv_goto (tgt := 34) dX1_mean_17 (by decide) ?_
    refine sv_dret rfl dX1_mean_34 ?_
    exact c_RV_q hK0 (c := 0) (s := 0) h_F_r (by omega) (by omega)
theorem pm_uns (hK : c_K G mu oc σ A) (hG : g_L G) {b : Int32} : sx_C G 100 YX1_unseen [.ref (mu 0), .int b] σ (c_RV ["java/lang/IndexOutOfBoundsException"] G mu oc σ (sp_uns A b)) := by
  have hns : (A_v A).2.2.length ≤ 4 := by obtain ⟨_, _, _, ⟨_, _, _, hw⟩, _⟩ := hK; exact hw.1.2.1
  have hnb : (A_v A).2.1.length ≤ 3 := by obtain ⟨_, _, _, ⟨_, _, _, hw⟩, _⟩ := hK; exact hw.1.1
  unfold sp_uns
  by_cases h : i_in b (A_v A).2.1.length = true
  · rw [if_pos h]
    obtain ⟨i, hi, rfl⟩ := i_in_of (by omega) h
    rw [nI_clamp (by omega)]
    exact cp_uns hK hi hG
  · rw [if_neg h]
    exact c_RV_x (k := 0) hK rfl (by decide +kernel) (cpx_uns hK (Bool.eq_false_iff.mpr h))
theorem pm_mea (hK : c_K G mu oc σ A) (hG : g_L G) {b : Int32} : sx_C G 100 YX1_mean [.ref (mu 0), .int b] σ (c_RV ["java/lang/IndexOutOfBoundsException"] G mu oc σ (sp_mea A b)) := by
  have hns : (A_v A).2.2.length ≤ 4 := by obtain ⟨_, _, _, ⟨_, _, _, hw⟩, _⟩ := hK; exact hw.1.2.1
  have hnb : (A_v A).2.1.length ≤ 3 := by obtain ⟨_, _, _, ⟨_, _, _, hw⟩, _⟩ := hK; exact hw.1.1
  unfold sp_mea
  by_cases h : i_in b (A_v A).2.1.length = true
  · rw [if_pos h]
    obtain ⟨i, hi, rfl⟩ := i_in_of (by omega) h
    rw [nI_clamp (by omega)]
    exact cp_mea hK hi
  · rw [if_neg h]
    exact c_RV_x (k := 0) hK rfl (by decide +kernel) (cpx_mea hK (Bool.eq_false_iff.mpr h))
end CFP
