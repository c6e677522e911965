set_option maxRecDepth 100000
section CQ8
variable {G : sx_G} {σ τ : sx_St} {mu : Nat → Nat} {oc lo sv nl cap : Nat} {ow : Nat → Nat} {Λ : Nat → Nat → Nat → Nat} {A : a_A} {V : a_V} {W : Nat → Prop} {c sl : Nat} {N : List a_N}
theorem cp_sta0 (hK : c_K G mu oc σ A) (hG : g_L G) {t : Nat} (ho : o_V t (A_v A)) (ht6 : t ≤ 1000) {sv nl : Nat} {Λ0 : Nat → Nat → Nat → Nat} (hx : sx_c σ (mu 0) = some (.inr (0, [.ref sv, .ref (mu 1), .ref (mu 3), .ref nl, .ref (mu 4), .int (nI (A_i A).length), .int (A_c A), .int (A_p A), .ref (mu 5)]))) (hV : k_V G σ sv Λ0 (A_v A)) (hw : w_V (A_v A)) (hzz : k_z (c_Zm mu (sx_n σ)) sv Λ0 (A_v A)) : sx_C G 100 YX1_stale [.ref (mu 0)] σ (c_R [] G mu oc σ ((z_f (g_sta (A_v A)) (A_v A).2.2.length, A_st A 0))) := by
  have loop : ∀ r k (y : Option Value) (τ : sx_St), k ≤ (A_v A).2.2.length → (A_v A).2.2.length + 1 ≤ k + r → h_F (fun _ => False) k (2 * k) σ τ → sx_V G 100 YX1_stale 4 [some (.ref (mu 0)), some (.int (z_f (g_sta (A_v A)) k)), some (.int (nI k)), y] [] τ (c_R [] G mu oc σ ((z_f (g_sta (A_v A)) (A_v A).2.2.length, A_st A 0))) := by
    intro r
    induction r with
    | zero => intro k y τ h1 h2; omega
    | succ r ih =>
    intro k y τ hk1 hk2 FF9
    have hK2 := c_K_0 hK FF9
    have hx2 := h_F_c FF9 hx (fun z => z)
    have hV2 := k_V_Z hV hzz FF9 (fun _ _ z => z)
    have hv1 := hV2.1
    have hv3 := hV2.2.2.1
    obtain ⟨mcs, fs, hls, -⟩ := id hv3
    have hns := hw.1.2.1
    have hnb := hw.1.1
    refine sv_iload_n dX1_stale_4 rfl ?_
    refine sv_aload_n dX1_stale_5 rfl ?_
    refine sv_get fg_X1_44 dX1_stale_6 (sx_rd_c hx2) rfl ?_
    refine sv_get fg_X1_177 dX1_stale_9 (sx_rd_c hv1) rfl ?_
    refine sv_cvR _ (cj_size hv3) okJ2_size kv_X1_176 (sx_rd_c hls) rfl dX1_stale_12 rfl rfl (by omega) (Nat.le_of_ble_eq_true rfl) ?_
    refine sv_icmp_geN (tgt := 65) dX1_stale_15 (by decide) (by omega) (by omega) (fun c15 => ?_) (fun c15 => ?_)
    · obtain rfl : k = (A_v A).2.2.length := by omega
      refine sv_iload_n dX1_stale_65 rfl ?_
      refine sv_iret rfl rfl dX1_stale_66 ?_
      exact c_R_f hK FF9 (by omega) (by omega) rfl
    · have hk : k < (A_v A).2.2.length := by omega
      refine sv_aload_n dX1_stale_18 rfl ?_
      refine sv_get fg_X1_44 dX1_stale_19 (sx_rd_c hx2) rfl ?_
      refine sv_get fg_X1_177 dX1_stale_22 (sx_rd_c hv1) rfl ?_
      refine sv_iload_n dX1_stale_25 rfl ?_
      refine sv_cvR _ (cj_get hv3 (i := k) hk) okJ2_get kv_X1_186 (sx_rd_c hls) rfl dX1_stale_26 rfl rfl (by omega) (Nat.le_of_ble_eq_true rfl) ?_
      obtain ⟨fu0, ft0, fa0, hsk, -⟩ := k_V_ses hV2 hk
      refine sv_cast (C0 := "") (sx_rd_c hsk) rfl q1218 dX1_stale_29 ?_
      refine sv_astore_n dX1_stale_32 (by decide) ?_
      refine sv_iload_n dX1_stale_33 rfl ?_
      refine sv_aload_n dX1_stale_34 rfl ?_
      refine sv_get fg_X1_194 dX1_stale_35 (sx_rd_c hsk) rfl ?_
      refine sv_iconst (-1) dX1_stale_38 (by decide +kernel) ?_
      refine sv_icmp_eq (tgt := 56) dX1_stale_39 (by decide) (fun c39 => ?_) (fun c39 => ?_)
      · have hbn : a_bx (A_v A) k = none := (o_I_m1 _ (fun q h => by have h8 := hw.2.2.1 k q hk h; omega)).mp c39
        have hz9 : z_f (g_sta (A_v A)) k ||| nI 0 = z_f (g_sta (A_v A)) (k + 1) := by show _ = _ ||| (if (a_bx (A_v A) k).isSome = true ∧ a_upd (A_v A) k = false then a_bit k else 0); rw [if_neg (fun z => by rw [hbn] at z; cases z.1), nI_0]
        have F2 := h_F_w (c' := k + 1) (s' := 2 * (k + 1)) FF9 (fun _ _ z => z) (by omega) (by omega)
        refine sv_iconst (nI 0) dX1_stale_56 (by decide +kernel) ?_
        refine sv_ior dX1_stale_57 ?_
        rw [hz9]
        refine sv_istore_n dX1_stale_58 (by decide) ?_
        refine sv_iincN dX1_stale_59 rfl (by decide) ?_
        refine sv_goto (tgt := 4) dX1_stale_62 (by decide) ?_
        exact ih (k + 1) _ _ (by omega) (by omega) F2
      · have hbn : (a_bx (A_v A) k).isSome = true := by cases hq : a_bx (A_v A) k with | none => rw [hq] at c39; exact absurd rfl c39 | some b => rfl
        refine sv_aload_n dX1_stale_42 rfl ?_
        refine sv_aload_n dX1_stale_43 rfl ?_
        refine sv_cvP _ (cc_isTold hK2 hG ho ht6 hk hx2 hV2 hw) okX1_isTold kv_X1_292 (sx_rd_c hx2) rfl dX1_stale_44 rfl rfl (by omega) (Nat.le_of_ble_eq_true rfl) ?_
        intro v6 τ4 hp5
        obtain ⟨rfl, F1⟩ := hp5
        have F2 := h_F_u (U := fun _ => False) (c2 := k + 1) (s2 := 2 * (k + 1)) FF9 F1 (fun _ _ z => z) (fun _ _ z => z) (by omega) (by omega)
        refine sv_if_neB (tgt := 56) dX1_stale_47 (by decide) (fun c47 => ?_) (fun c47 => ?_)
        · have hz9 : z_f (g_sta (A_v A)) k ||| nI 0 = z_f (g_sta (A_v A)) (k + 1) := by show _ = _ ||| (if (a_bx (A_v A) k).isSome = true ∧ a_upd (A_v A) k = false then a_bit k else 0); rw [if_neg (fun z => by rw [c47] at z; cases z.2), nI_0]
          refine sv_iconst (nI 0) dX1_stale_56 (by decide +kernel) ?_
          refine sv_ior dX1_stale_57 ?_
          rw [hz9]
          refine sv_istore_n dX1_stale_58 (by decide) ?_
          refine sv_iincN dX1_stale_59 rfl (by decide) ?_
          refine sv_goto (tgt := 4) dX1_stale_62 (by decide) ?_
          exact ih (k + 1) _ _ (by omega) (by omega) F2
        · have hz9 : z_f (g_sta (A_v A)) k ||| (nI 1 <<< (nI k &&& 31)) = z_f (g_sta (A_v A)) (k + 1) := by show _ = _ ||| (if (a_bx (A_v A) k).isSome = true ∧ a_upd (A_v A) k = false then a_bit k else 0); rw [if_pos ⟨hbn, c47⟩]; rfl
          refine sv_iconst (nI 1) dX1_stale_50 (by decide +kernel) ?_
          refine sv_iload_n dX1_stale_51 rfl ?_
          refine sv_ishl dX1_stale_52 ?_
          refine sv_goto (tgt := 57) dX1_stale_53 (by decide) ?_
          refine sv_ior dX1_stale_57 ?_
          rw [hz9]
          refine sv_istore_n dX1_stale_58 (by decide) ?_
          refine sv_iincN dX1_stale_59 rfl (by decide) ?_
          refine sv_goto (tgt := 4) dX1_stale_62 (by decide) ?_
          exact ih (k + 1) _ _ (by omega) (by omega) F2
  refine sx_body (by decide) (Nat.le_of_ble_eq_true rfl) ?_
  have hns := hw.1.2.1
  refine sv_iconst (nI 0) dX1_stale_0 (by decide +kernel) ?_
  refine sv_tI (y := 0) nI_0 ?_
  refine sv_istore_n dX1_stale_1 (by decide) ?_
  refine sv_iconst (nI 0) dX1_stale_2 (by decide +kernel) ?_
  refine sv_istore_n dX1_stale_3 (by decide) ?_
  exact loop 6 0 none σ (by omega) (by omega) h_F_r
theorem pm_sta (hK : c_K G mu oc σ A) (hG : g_L G) {t : Nat} (ho : o_V t (A_v A)) (ht6 : t ≤ 1000) : sx_C G 100 YX1_stale [.ref (mu 0)] σ (c_R [] G mu oc σ (sp_sta A)) := by
  have hK0 := hK
  obtain ⟨sv, nl, hX, ⟨Λ0, hV, hzz, hw⟩, hN⟩ := hK
  exact cp_sta0 hK0 hG ho ht6 hX.1 hV hw hzz
end CQ8
