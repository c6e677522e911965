set_option maxRecDepth 100000
section CQ6
variable {G : sx_G} {σ τ : sx_St} {mu : Nat → Nat} {oc lo sv nl cap : Nat} {ow : Nat → Nat} {Λ : Nat → Nat → Nat → Nat} {A : a_A} {V : a_V} {W : Nat → Prop} {c sl : Nat} {N : List a_N}
theorem cc_sesIn {sv nl : Nat} {Λ0 : Nat → Nat → Nat → Nat} (hx : sx_c σ (mu 0) = some (.inr (0, [.ref sv, .ref (mu 1), .ref (mu 3), .ref nl, .ref (mu 4), .int (nI (A_i A).length), .int (A_c A), .int (A_p A), .ref (mu 5)]))) (hV : k_V G σ sv Λ0 (A_v A)) (hw : w_V (A_v A)) {i : Nat} : sx_Cr G 3 YX1_sessionsIn [.ref (mu 0), .int (nI i)] σ (some (.int (a_sel (A_v A) (nI i)))) σ := by
  have loop : ∀ r k, k ≤ (A_v A).2.2.length → (A_v A).2.2.length + 1 ≤ k + r → sx_V G 3 YX1_sessionsIn 4 [some (.ref (mu 0)), some (.int (nI i)), some (.int (z_f (fun x s => x ||| (if o_I (a_bx (A_v A) s) = nI i then a_bit s else 0)) k)), some (.int (nI k))] [] σ (fun o τ => ∃ v, o = .inl v ∧ (v = some (.int (z_f (fun x s => x ||| (if o_I (a_bx (A_v A) s) = nI i then a_bit s else 0)) (A_v A).2.2.length)) ∧ τ = σ)) := by
    intro r
    induction r with
    | zero => intro k h1 h2; omega
    | succ r ih =>
    intro k hk1 hk2
    have hv1 := hV.1
    have hv3 := hV.2.2.1
    obtain ⟨mcs, fs, hls, -⟩ := id hv3
    have hns := hw.1.2.1
    have hnb := hw.1.1
    refine sv_iload_n dX1_sessionsIn_4 rfl ?_
    refine sv_aload_n dX1_sessionsIn_5 rfl ?_
    refine sv_get fg_X1_44 dX1_sessionsIn_6 (sx_rd_c hx) rfl ?_
    refine sv_get fg_X1_177 dX1_sessionsIn_9 (sx_rd_c hv1) rfl ?_
    refine sv_cvR _ (cj_size hv3) okJ2_size kv_X1_176 (sx_rd_c hls) rfl dX1_sessionsIn_12 rfl rfl (by omega) (Nat.le_of_ble_eq_true rfl) ?_
    refine sv_icmp_geN (tgt := 55) dX1_sessionsIn_15 (by decide) (by omega) (by omega) (fun c15 => ?_) (fun c15 => ?_)
    · obtain rfl : k = (A_v A).2.2.length := by omega
      refine sv_iload_n dX1_sessionsIn_55 rfl ?_
      refine sv_iret rfl rfl dX1_sessionsIn_56 ?_
      exact ⟨_, rfl, rfl, rfl⟩
    · have hk : k < (A_v A).2.2.length := by omega
      refine sv_iload_n dX1_sessionsIn_18 rfl ?_
      refine sv_aload_n dX1_sessionsIn_19 rfl ?_
      refine sv_get fg_X1_44 dX1_sessionsIn_20 (sx_rd_c hx) rfl ?_
      refine sv_get fg_X1_177 dX1_sessionsIn_23 (sx_rd_c hv1) rfl ?_
      refine sv_iload_n dX1_sessionsIn_26 rfl ?_
      refine sv_cvR _ (cj_get hv3 (i := k) hk) okJ2_get kv_X1_186 (sx_rd_c hls) rfl dX1_sessionsIn_27 rfl rfl (by omega) (Nat.le_of_ble_eq_true rfl) ?_
      obtain ⟨fu0, ft0, fa0, hsk, -⟩ := k_V_ses hV hk
      have hek := hw.2.1 k hk
      refine sv_cast (C0 := "") (sx_rd_c hsk) rfl q1218 dX1_sessionsIn_30 ?_
      refine sv_get fg_X1_194 dX1_sessionsIn_33 (sx_rd_c hsk) rfl ?_
      refine sv_iload_n dX1_sessionsIn_36 rfl ?_
      refine sv_icmp_ne (tgt := 46) dX1_sessionsIn_37 (by decide) (fun c37 => ?_) (fun c37 => ?_)
      · have hz9 : z_f (fun x s => x ||| (if o_I (a_bx (A_v A) s) = nI i then a_bit s else 0)) k ||| nI 0 = z_f (fun x s => x ||| (if o_I (a_bx (A_v A) s) = nI i then a_bit s else 0)) (k + 1) := by show _ = _ ||| (if o_I (a_bx (A_v A) k) = nI i then a_bit k else 0); rw [if_neg c37, nI_0]
        refine sv_iconst (nI 0) dX1_sessionsIn_46 (by decide +kernel) ?_
        refine sv_ior dX1_sessionsIn_47 ?_
        rw [hz9]
        refine sv_istore_n dX1_sessionsIn_48 (by decide) ?_
        refine sv_iincN dX1_sessionsIn_49 rfl (by decide) ?_
        refine sv_goto (tgt := 4) dX1_sessionsIn_52 (by decide) ?_
        exact ih (k + 1) (by omega) (by omega)
      · have hz9 : z_f (fun x s => x ||| (if o_I (a_bx (A_v A) s) = nI i then a_bit s else 0)) k ||| (nI 1 <<< (nI k &&& 31)) = z_f (fun x s => x ||| (if o_I (a_bx (A_v A) s) = nI i then a_bit s else 0)) (k + 1) := by show _ = _ ||| (if o_I (a_bx (A_v A) k) = nI i then a_bit k else 0); rw [if_pos c37]; rfl
        refine sv_iconst (nI 1) dX1_sessionsIn_40 (by decide +kernel) ?_
        refine sv_iload_n dX1_sessionsIn_41 rfl ?_
        refine sv_ishl dX1_sessionsIn_42 ?_
        refine sv_goto (tgt := 47) dX1_sessionsIn_43 (by decide) ?_
        refine sv_ior dX1_sessionsIn_47 ?_
        rw [hz9]
        refine sv_istore_n dX1_sessionsIn_48 (by decide) ?_
        refine sv_iincN dX1_sessionsIn_49 rfl (by decide) ?_
        refine sv_goto (tgt := 4) dX1_sessionsIn_52 (by decide) ?_
        exact ih (k + 1) (by omega) (by omega)
  refine sx_body (by decide) (Nat.le_of_ble_eq_true rfl) ?_
  have hv1 := hV.1
  have hv3 := hV.2.2.1
  obtain ⟨mcs, fs, hls, -⟩ := id hv3
  have hns := hw.1.2.1
  have hnb := hw.1.1
  refine sv_iconst (nI 0) dX1_sessionsIn_0 (by decide +kernel) ?_
  refine sv_tI (y := 0) nI_0 ?_
  refine sv_istore_n dX1_sessionsIn_1 (by decide) ?_
  refine sv_iconst (nI 0) dX1_sessionsIn_2 (by decide +kernel) ?_
  refine sv_istore_n dX1_sessionsIn_3 (by decide) ?_
  exact loop 6 0 (by omega) (by omega)
end CQ6
