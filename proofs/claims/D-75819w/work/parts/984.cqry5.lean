set_option maxRecDepth 100000
section CQ5
variable {G : sx_G} {σ τ : sx_St} {mu : Nat → Nat} {oc lo sv nl cap : Nat} {ow : Nat → Nat} {Λ : Nat → Nat → Nat → Nat} {A : a_A} {V : a_V} {W : Nat → Prop} {c sl : Nat} {N : List a_N}
theorem ew_m1 {es : List a_E} {u : Int32} (hl : es.length ≤ 60) : e_w es u = -1 ↔ es.findIdx? (fun e => e.1 == u) = none := by
  unfold e_w
  cases h : es.findIdx? (fun e => e.1 == u) with
  | none => exact ⟨fun _ => rfl, fun _ => rfl⟩
  | some k =>
    rw [List.findIdx?_eq_some_iff_getElem] at h
    have h1 := h.1
    refine ⟨fun z => ?_, fun z => by cases z⟩
    have z : (nI (k + 1)).toInt = (-1 : Int32).toInt := congrArg Int32.toInt z
    rw [nI_toInt (by omega)] at z
    have : ((-1 : Int32).toInt) = -1 := rfl
    omega
theorem fi_31 {es : List a_E} {p : a_E → Bool} (hl : es.length ≤ 60) : ∀ k, es.findIdx? p = some k → k < 2 ^ 31 := fun k h => by
  rw [List.findIdx?_eq_some_iff_getElem] at h
  have := h.1
  omega
theorem cpx_hol (hK : c_K G mu oc σ A) {b u : Int32} (hi : i_in b (A_v A).2.1.length = false) : sx_C G 100 YX1_holders [.ref (mu 0), .int b, .int u] σ (c_X0 "java/lang/IndexOutOfBoundsException" σ) := by
  refine sx_body (by decide) (Nat.le_of_ble_eq_true rfl) ?_
  obtain ⟨sv, nl, hX, hF, hN⟩ := hK
  obtain ⟨Λ0, hV, hzz, hw⟩ := id hF
  have hx := hX.1
  have hnb := hw.1.1
  have hns := hw.1.2.1
  have hX0 : c_X G mu (sx_n σ) oc σ sv nl (A_st A 0) := hX
  have hF0 : c_F G mu (sx_n σ) σ sv (A_v (A_st A 0)) := hF
  have hv1 := hV.1
  refine sv_aload_n dX1_holders_0 rfl ?_
  refine sv_iload_n dX1_holders_1 rfl ?_
  refine sv_cv _ (cgx_boxAt hx hV hi) okX1_boxAt (sx_rd_c hx) rfl kv_X1_197.1 kv_X1_197.2.1 kv_X1_197.2.2 dX1_holders_2 rfl rfl (by omega) (Nat.le_of_ble_eq_true rfl) (fun v τ h => by obtain ⟨q, e, _⟩ := h; cases e) (fun E q τ h => ?_)
  obtain ⟨q9, e9, F9⟩ := h
  cases e9
  refine sv_out (fun x hx => by cases hx) ?_
  exact ⟨_, rfl, F9⟩
theorem cp_hol0 (hK : c_K G mu oc σ A) {i : Nat} (hi : i < (A_v A).2.1.length) {u : Int32} {sv nl : Nat} {Λ0 : Nat → Nat → Nat → Nat} (hx : sx_c σ (mu 0) = some (.inr (0, [.ref sv, .ref (mu 1), .ref (mu 3), .ref nl, .ref (mu 4), .int (nI (A_i A).length), .int (A_c A), .int (A_p A), .ref (mu 5)]))) (hV : k_V G σ sv Λ0 (A_v A)) (hw : w_V (A_v A)) : sx_C G 100 YX1_holders [.ref (mu 0), .int (nI i), .int u] σ (c_R ["java/lang/IndexOutOfBoundsException"] G mu oc σ ((z_f (g_hol (A_v A) (nI i) u) (A_v A).2.2.length, A_st A 0))) := by
  have loop : ∀ r k (y : Option Value), k ≤ (A_v A).2.2.length → (A_v A).2.2.length + 1 ≤ k + r → sx_V G 100 YX1_holders 12 [some (.ref (mu 0)), some (.int (nI i)), some (.int u), some (.ref (Λ0 1 i 0)), some (.int (z_f (g_hol (A_v A) (nI i) u) k)), some (.int (nI k)), y] [] σ (c_R ["java/lang/IndexOutOfBoundsException"] G mu oc σ ((z_f (g_hol (A_v A) (nI i) u) (A_v A).2.2.length, A_st A 0))) := by
    intro r
    induction r with
    | zero => intro k y h1 h2; omega
    | succ r ih =>
    intro k y hk1 hk2
    have hv1 := hV.1
    have hv3 := hV.2.2.1
    obtain ⟨mcs, fs, hls, -⟩ := id hv3
    have hns := hw.1.2.1
    have hnb := hw.1.1
    refine sv_iload dX1_holders_12 rfl ?_
    refine sv_aload_n dX1_holders_14 rfl ?_
    refine sv_get fg_X1_44 dX1_holders_15 (sx_rd_c hx) rfl ?_
    refine sv_get fg_X1_177 dX1_holders_18 (sx_rd_c hv1) rfl ?_
    refine sv_cvR _ (cj_size hv3) okJ2_size kv_X1_176 (sx_rd_c hls) rfl dX1_holders_21 rfl rfl (by omega) (Nat.le_of_ble_eq_true rfl) ?_
    refine sv_icmp_geN (tgt := 82) dX1_holders_24 (by decide) (by omega) (by omega) (fun c24 => ?_) (fun c24 => ?_)
    · obtain rfl : k = (A_v A).2.2.length := by omega
      refine sv_iload dX1_holders_82 rfl ?_
      refine sv_iret rfl rfl dX1_holders_84 ?_
      exact c_R_q hK rfl
    · have hk : k < (A_v A).2.2.length := by omega
      refine sv_aload_n dX1_holders_27 rfl ?_
      refine sv_get fg_X1_44 dX1_holders_28 (sx_rd_c hx) rfl ?_
      refine sv_get fg_X1_177 dX1_holders_31 (sx_rd_c hv1) rfl ?_
      refine sv_iload dX1_holders_34 rfl ?_
      refine sv_cvR _ (cj_get hv3 (i := k) hk) okJ2_get kv_X1_186 (sx_rd_c hls) rfl dX1_holders_36 rfl rfl (by omega) (Nat.le_of_ble_eq_true rfl) ?_
      obtain ⟨fu0, ft0, fa0, hsk, -⟩ := k_V_ses hV hk
      have hek := hw.2.1 k hk
      refine sv_cast (C0 := "") (sx_rd_c hsk) rfl q1218 dX1_holders_39 ?_
      refine sv_astore dX1_holders_42 (by decide) ?_
      refine sv_iload dX1_holders_44 rfl ?_
      refine sv_aload dX1_holders_46 rfl ?_
      refine sv_get fg_X1_194 dX1_holders_48 (sx_rd_c hsk) rfl ?_
      refine sv_iload_n dX1_holders_51 rfl ?_
      refine sv_icmp_ne (tgt := 72) dX1_holders_52 (by decide) (fun c52 => ?_) (fun c52 => ?_)
      · have hz9 : z_f (g_hol (A_v A) (nI i) u) k ||| nI 0 = z_f (g_hol (A_v A) (nI i) u) (k + 1) := by show _ = _ ||| (if o_I (a_bx (A_v A) k) = nI i ∧ ¬ e_w (a_es (A_v A) k) u = -1 then a_bit k else 0); rw [if_neg (fun z => c52 z.1), nI_0]
        refine sv_iconst (nI 0) dX1_holders_72 (by decide +kernel) ?_
        refine sv_ior dX1_holders_73 ?_
        rw [hz9]
        refine sv_istore dX1_holders_74 (by decide) ?_
        refine sv_iincN dX1_holders_76 rfl (by decide) ?_
        refine sv_goto (tgt := 12) dX1_holders_79 (by decide) ?_
        exact ih (k + 1) _ (by omega) (by omega)
      · refine sv_aload dX1_holders_55 rfl ?_
        refine sv_iload_n dX1_holders_57 rfl ?_
        refine sv_cvR _ (cc_sfind (hV.2.2.2.2 k hk).1) okX8_find kv_X1_285 (sx_rd_c hsk) rfl dX1_holders_58 rfl rfl (by omega) (Nat.le_of_ble_eq_true rfl) ?_
        refine sv_iconst (-1) dX1_holders_61 (by decide +kernel) ?_
        refine sv_icmp_eq (tgt := 72) dX1_holders_62 (by decide) (fun c62 => ?_) (fun c62 => ?_)
        · have hz9 : z_f (g_hol (A_v A) (nI i) u) k ||| nI 0 = z_f (g_hol (A_v A) (nI i) u) (k + 1) := by show _ = _ ||| (if o_I (a_bx (A_v A) k) = nI i ∧ ¬ e_w (a_es (A_v A) k) u = -1 then a_bit k else 0); rw [if_neg (fun z => z.2 ((ew_m1 hek).mpr ((o_I_m1 _ (fi_31 hek)).mp c62))), nI_0]
          refine sv_iconst (nI 0) dX1_holders_72 (by decide +kernel) ?_
          refine sv_ior dX1_holders_73 ?_
          rw [hz9]
          refine sv_istore dX1_holders_74 (by decide) ?_
          refine sv_iincN dX1_holders_76 rfl (by decide) ?_
          refine sv_goto (tgt := 12) dX1_holders_79 (by decide) ?_
          exact ih (k + 1) _ (by omega) (by omega)
        · have hz9 : z_f (g_hol (A_v A) (nI i) u) k ||| (nI 1 <<< (nI k &&& 31)) = z_f (g_hol (A_v A) (nI i) u) (k + 1) := by show _ = _ ||| (if o_I (a_bx (A_v A) k) = nI i ∧ ¬ e_w (a_es (A_v A) k) u = -1 then a_bit k else 0); rw [if_pos ⟨c52, fun z => c62 ((o_I_m1 _ (fi_31 hek)).mpr ((ew_m1 hek).mp z))⟩]; rfl
          refine sv_iconst (nI 1) dX1_holders_65 (by decide +kernel) ?_
          refine sv_iload dX1_holders_66 rfl ?_
          refine sv_ishl dX1_holders_68 ?_
          refine sv_goto (tgt := 73) dX1_holders_69 (by decide) ?_
          refine sv_ior dX1_holders_73 ?_
          rw [hz9]
          refine sv_istore dX1_holders_74 (by decide) ?_
          refine sv_iincN dX1_holders_76 rfl (by decide) ?_
          refine sv_goto (tgt := 12) dX1_holders_79 (by decide) ?_
          exact ih (k + 1) _ (by omega) (by omega)
  refine sx_body (by decide) (Nat.le_of_ble_eq_true rfl) ?_
  have hv1 := hV.1
  have hv3 := hV.2.2.1
  obtain ⟨mcs, fs, hls, -⟩ := id hv3
  have hns := hw.1.2.1
  have hnb := hw.1.1
  refine sv_aload_n dX1_holders_0 rfl ?_
  refine sv_iload_n dX1_holders_1 rfl ?_
  refine sv_cvR _ (cg_boxAt hx hV hi) okX1_boxAt kv_X1_197 (sx_rd_c hx) rfl dX1_holders_2 rfl rfl (by omega) (Nat.le_of_ble_eq_true rfl) ?_
  refine sv_astore_n dX1_holders_5 (by decide) ?_
  refine sv_iconst (nI 0) dX1_holders_6 (by decide +kernel) ?_
  refine sv_tI (y := 0) nI_0 ?_
  refine sv_istore dX1_holders_7 (by decide) ?_
  refine sv_iconst (nI 0) dX1_holders_9 (by decide +kernel) ?_
  refine sv_istore dX1_holders_10 (by decide) ?_
  exact loop 6 0 none (by omega) (by omega)
theorem pm_hol (hK : c_K G mu oc σ A) {b u : Int32} : sx_C G 100 YX1_holders [.ref (mu 0), .int b, .int u] σ (c_R ["java/lang/IndexOutOfBoundsException"] G mu oc σ (sp_hol A b u)) := by
  have hns : (A_v A).2.2.length ≤ 4 := by obtain ⟨_, _, _, ⟨_, _, _, hw⟩, _⟩ := hK; exact hw.1.2.1
  have hnb : (A_v A).2.1.length ≤ 3 := by obtain ⟨_, _, _, ⟨_, _, _, hw⟩, _⟩ := hK; exact hw.1.1
  unfold sp_hol
  refine c_1 hK (fun h => cpx_hol hK h) (fun h => ?_)
  obtain ⟨i, hi, rfl⟩ := i_in_of (by omega) h
  have hK0 := hK
  obtain ⟨sv, nl, hX, ⟨Λ0, hV, hzz, hw⟩, hN⟩ := hK
  exact cp_hol0 hK0 hi hX.1 hV hw
end CQ5
