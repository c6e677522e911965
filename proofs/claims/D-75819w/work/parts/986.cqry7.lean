set_option maxRecDepth 100000
section CQ7
variable {G : sx_G} {σ τ : sx_St} {mu : Nat → Nat} {oc lo sv nl cap : Nat} {ow : Nat → Nat} {Λ : Nat → Nat → Nat → Nat} {A : a_A} {V : a_V} {W : Nat → Prop} {c sl : Nat} {N : List a_N}
theorem cpx_lar (hK : c_K G mu oc σ A) {s : Int32} (hi : i_in s (A_v A).2.2.length = false) : sx_C G 100 YX1_largest [.ref (mu 0), .int s] σ (c_X0 "java/lang/IndexOutOfBoundsException" σ) := by
  refine sx_body (by decide) (Nat.le_of_ble_eq_true rfl) ?_
  obtain ⟨sv, nl, hX, hF, hN⟩ := hK
  obtain ⟨Λ0, hV, hzz, hw⟩ := id hF
  have hx := hX.1
  have hnb := hw.1.1
  have hns := hw.1.2.1
  have hX0 : c_X G mu (sx_n σ) oc σ sv nl (A_st A 0) := hX
  have hF0 : c_F G mu (sx_n σ) σ sv (A_v (A_st A 0)) := hF
  have hv1 := hV.1
  refine sv_aload_n dX1_largest_0 rfl ?_
  refine sv_iload_n dX1_largest_1 rfl ?_
  refine sv_cv _ (cgx_sesAt hx hV hi) okX1_sessionAt (sx_rd_c hx) rfl kv_X1_240.1 kv_X1_240.2.1 kv_X1_240.2.2 dX1_largest_2 rfl rfl (by omega) (Nat.le_of_ble_eq_true rfl) (fun v τ h => by obtain ⟨q, e, _⟩ := h; cases e) (fun E q τ h => ?_)
  obtain ⟨q9, e9, F9⟩ := h
  cases e9
  refine sv_out (fun x hx => by cases hx) ?_
  exact ⟨_, rfl, F9⟩
theorem cp_lar0 (hK : c_K G mu oc σ A) {j : Nat} (hj : j < (A_v A).2.2.length) {sv nl : Nat} {Λ0 : Nat → Nat → Nat → Nat} (hx : sx_c σ (mu 0) = some (.inr (0, [.ref sv, .ref (mu 1), .ref (mu 3), .ref nl, .ref (mu 4), .int (nI (A_i A).length), .int (A_c A), .int (A_p A), .ref (mu 5)]))) (hV : k_V G σ sv Λ0 (A_v A)) (hw : w_V (A_v A)) : sx_C G 100 YX1_largest [.ref (mu 0), .int (nI j)] σ (c_R ["java/lang/IndexOutOfBoundsException"] G mu oc σ (((z_l (A_v A) j (a_es (A_v A) j).length).1, A_st A 0))) := by
  have loop : ∀ r k (bo : Option Nat) (y : Option Value), k ≤ (a_es (A_v A) j).length → (a_es (A_v A) j).length + 1 ≤ k + r → (∀ q, bo = some q → q < 2 ^ 31) → n_at bo = (z_l (A_v A) j k).1 → 0 ≤ (z_l (A_v A) j k).2 → sx_V G 100 YX1_largest 14 [some (.ref (mu 0)), some (.int (nI j)), some (.ref (Λ0 3 j 0)), some (.int (o_I bo)), some (.int (z_l (A_v A) j k).2), some (.int (nI k)), y] [] σ (c_R ["java/lang/IndexOutOfBoundsException"] G mu oc σ (((z_l (A_v A) j (a_es (A_v A) j).length).1, A_st A 0))) := by
    intro r
    induction r with
    | zero => intro k bo y h1 h2; omega
    | succ r ih =>
    intro k bo y hk1 hk2 hbo hn h0
    have hv1 := hV.1
    obtain ⟨fu0, ft0, fa0, hso, -⟩ := k_V_ses hV hj
    have hel := hw.2.1 j hj
    refine sv_iload dX1_largest_14 rfl ?_
    refine sv_aload_n dX1_largest_16 rfl ?_
    refine sv_get fg_X1_257 dX1_largest_17 (sx_rd_c hso) rfl ?_
    refine sv_icmp_geN (tgt := 69) dX1_largest_20 (by decide) (by omega) (by omega) (fun c20 => ?_) (fun c20 => ?_)
    · obtain rfl : k = (a_es (A_v A) j).length := by omega
      refine sv_iload_n dX1_largest_69 rfl ?_
      refine sv_csR _ (cc_numAt hbo) okX1_numberAt ks_X1_286 dX1_largest_70 rfl rfl (by omega) (Nat.le_of_ble_eq_true rfl) ?_
      refine sv_iret rfl rfl dX1_largest_73 ?_
      exact c_R_q hK hn
    · have hk : k < (a_es (A_v A) j).length := by omega
      obtain ⟨b, hbx⟩ : ∃ b, a_bx (A_v A) j = some b := by
        cases hq : a_bx (A_v A) j with
        | none => rw [hw.2.2.2 j hj hq] at hk; exact absurd hk (Nat.not_lt_zero _)
        | some b => exact ⟨b, rfl⟩
      have hb := hw.2.2.1 j b hj hbx
      refine sv_aload_n dX1_largest_23 rfl ?_
      refine sv_get fg_X1_44 dX1_largest_24 (sx_rd_c hx) rfl ?_
      refine sv_aload_n dX1_largest_27 rfl ?_
      refine sv_iload dX1_largest_28 rfl ?_
      refine sv_cvR _ (cc_at hV hj hbx hb hk) okX2_at kv_X1_274 (sx_rd_c hv1) rfl dX1_largest_30 rfl rfl (by omega) (Nat.le_of_ble_eq_true rfl) ?_
      refine sv_astoreq dX1_largest_33 (by decide) ?_
      refine sv_aloadq dX1_largest_35 rfl ?_
      refine sv_ifnullq (tgt := 63) dX1_largest_37 (by decide) (fun c37 => ?_) (fun a37 c37 => ?_)
      · have hmo := Option.map_eq_none_iff.mp c37
        have hzs : (z_l (A_v A) j (k + 1)) = if a_sz (A_v A) j k ≤ (z_l (A_v A) j k).2 then (z_l (A_v A) j k) else (nI (k + 1), a_sz (A_v A) j k) := rfl
        have hzl : (z_l (A_v A) j (k + 1)) = (z_l (A_v A) j k) := by rw [hzs]; exact if_pos (by unfold a_sz; rw [hbx, hmo]; exact h0)
        refine sv_iincN dX1_largest_63 rfl (by decide) ?_
        refine sv_goto (tgt := 14) dX1_largest_66 (by decide) ?_
        have hih := ih (k + 1) bo (va_rf ((a_mo (A_v A) j k).map (Λ0 2 b))) (by omega) (by omega) hbo (by rw [hzl]; exact hn) (by rw [hzl]; exact h0)
        rw [hzl] at hih
        exact hih
      · obtain ⟨m, hmo, -⟩ := Option.map_eq_some_iff.mp c37
        have hm : m < (a_ms (A_v A) b).length := a_find_lt ((a_mo_e hbx).symm.trans hmo)
        have hmm : sx_c σ (Λ0 2 b m) = some (.inr (6, [.int (a_m (A_v A) b m).1, .int (a_m (A_v A) b m).2.1, .int (a_m (A_v A) b m).2.2])) := (hV.2.2.2.1 b hb).1.2.2 m hm
        have hsz : a_sz (A_v A) j k = (a_m (A_v A) b m).2.1 := by unfold a_sz; rw [hbx, hmo]
        refine sv_aloadq dX1_largest_40 rfl ?_
        refine sv_topR (a := (Λ0 2 b m)) (by rw [hmo]; rfl) ?_
        refine sv_get fg_X1_232 dX1_largest_42 (sx_rd_c hmm) rfl ?_
        refine sv_iload dX1_largest_45 rfl ?_
        refine sv_icmp_gt (tgt := 53) dX1_largest_47 (by decide) (fun c47 => ?_) (fun c47 => ?_)
        · have hzs : (z_l (A_v A) j (k + 1)) = if a_sz (A_v A) j k ≤ (z_l (A_v A) j k).2 then (z_l (A_v A) j k) else (nI (k + 1), a_sz (A_v A) j k) := rfl
          have hzl : (z_l (A_v A) j (k + 1)) = (nI (k + 1), (a_m (A_v A) b m).2.1) := by rw [hzs, hsz]; exact if_neg (Int32.not_le.mpr c47)
          refine sv_iload dX1_largest_53 rfl ?_
          refine sv_istore_n dX1_largest_55 (by decide) ?_
          refine sv_aloadq dX1_largest_56 rfl ?_
          refine sv_topR (a := (Λ0 2 b m)) (by rw [hmo]; rfl) ?_
          refine sv_get fg_X1_232 dX1_largest_58 (sx_rd_c hmm) rfl ?_
          refine sv_istore dX1_largest_61 (by decide) ?_
          refine sv_iincN dX1_largest_63 rfl (by decide) ?_
          refine sv_goto (tgt := 14) dX1_largest_66 (by decide) ?_
          have hih := ih (k + 1) (some k) (va_rf ((a_mo (A_v A) j k).map (Λ0 2 b))) (by omega) (by omega) (fun q hq => by cases hq; omega) (by rw [hzl]; rfl) (by rw [hzl]; exact Int32.le_of_lt (Int32.lt_of_le_of_lt h0 c47))
          rw [hzl] at hih
          exact hih
        · have hzs : (z_l (A_v A) j (k + 1)) = if a_sz (A_v A) j k ≤ (z_l (A_v A) j k).2 then (z_l (A_v A) j k) else (nI (k + 1), a_sz (A_v A) j k) := rfl
          have hzl : (z_l (A_v A) j (k + 1)) = (z_l (A_v A) j k) := by rw [hzs]; exact if_pos (by rw [hsz]; exact Int32.not_lt.mp c47)
          refine sv_goto (tgt := 63) dX1_largest_50 (by decide) ?_
          refine sv_iincN dX1_largest_63 rfl (by decide) ?_
          refine sv_goto (tgt := 14) dX1_largest_66 (by decide) ?_
          have hih := ih (k + 1) bo (va_rf ((a_mo (A_v A) j k).map (Λ0 2 b))) (by omega) (by omega) hbo (by rw [hzl]; exact hn) (by rw [hzl]; exact h0)
          rw [hzl] at hih
          exact hih
  refine sx_body (by decide) (Nat.le_of_ble_eq_true rfl) ?_
  have hel := hw.2.1 j hj
  refine sv_aload_n dX1_largest_0 rfl ?_
  refine sv_iload_n dX1_largest_1 rfl ?_
  refine sv_cvR _ (cg_sesAt hx hV hj) okX1_sessionAt kv_X1_240 (sx_rd_c hx) rfl dX1_largest_2 rfl rfl (by omega) (Nat.le_of_ble_eq_true rfl) ?_
  refine sv_astore_n dX1_largest_5 (by decide) ?_
  refine sv_iconst (-1) dX1_largest_6 (by decide +kernel) ?_
  refine sv_istore_n dX1_largest_7 (by decide) ?_
  refine sv_iconst (nI 0) dX1_largest_8 (by decide +kernel) ?_
  refine sv_tI (y := 0) nI_0 ?_
  refine sv_istore dX1_largest_9 (by decide) ?_
  refine sv_iconst (nI 0) dX1_largest_11 (by decide +kernel) ?_
  refine sv_istore dX1_largest_12 (by decide) ?_
  exact loop 62 0 none none (by omega) (by omega) (fun q hq => by cases hq) rfl (Int32.le_refl _)
theorem pm_lar (hK : c_K G mu oc σ A) {s : Int32} : sx_C G 100 YX1_largest [.ref (mu 0), .int s] σ (c_R ["java/lang/IndexOutOfBoundsException"] G mu oc σ (sp_lar A s)) := by
  have hns : (A_v A).2.2.length ≤ 4 := by obtain ⟨_, _, _, ⟨_, _, _, hw⟩, _⟩ := hK; exact hw.1.2.1
  have hnb : (A_v A).2.1.length ≤ 3 := by obtain ⟨_, _, _, ⟨_, _, _, hw⟩, _⟩ := hK; exact hw.1.1
  unfold sp_lar
  refine c_1 hK (fun h => cpx_lar hK h) (fun h => ?_)
  obtain ⟨j, hj, rfl⟩ := i_in_of (by omega) h
  rw [nI_clamp (by omega)]
  have hK0 := hK
  obtain ⟨sv, nl, hX, ⟨Λ0, hV, hzz, hw⟩, hN⟩ := hK
  exact cp_lar0 hK0 hj hX.1 hV hw
end CQ7
