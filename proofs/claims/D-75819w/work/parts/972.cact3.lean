set_option maxRecDepth 100000
section CXD
variable {G : sx_G} {σ τ : sx_St} {mu : Nat → Nat} {n oc lo sv nl cap : Nat} {ow : Nat → Nat} {Λ : Nat → Nat → Nat → Nat} {A B : a_A}
theorem cc_begin (hX : c_X G mu (sx_n σ) oc σ sv nl A) (hF : c_F G mu (sx_n σ) σ sv (A_v A)) {z : Nat} (hz : g_Z G z) {s : Nat} (hs : s < (A_v A).2.2.length) : sx_Cp G 11 YX1_begin [.ref (mu 0), .int (nI s)] σ (fun v τ => ∃ a nl2 ow2 Λ2, v = some (.ref (Λ2 3 s 0)) ∧ a = sx_n σ ∧ c_A G mu oc a τ a nl2 ow2 Λ2 0 (s_be A s) ∧ c_B 170 2620 σ τ ∧ h_F (fun q => q = mu 0 ∨ q = mu 1 ∨ q = mu 2 ∨ sx_n σ ≤ q) 170 2620 σ τ) := by
  refine sx_body (by decide) (Nat.le_of_ble_eq_true rfl) ?_
  have hx := hX.1
  refine sv_aload_n dX1_begin_0 rfl ?_
  refine sv_cvP _ (cc_change hX hF hz) okX1_change kv_X1_325 (sx_rd_c hx) rfl dX1_begin_1 rfl rfl (by omega) (Nat.le_of_ble_eq_true rfl) ?_
  intro v22 τ20 hp21
  obtain ⟨a, rfl, nl2, ow2, Λ2, ea, hA2, hB2, FG2⟩ := hp21
  obtain ⟨hv1, hv2, hv3, hv4, hv5⟩ := id hA2.2.1.1.1
  obtain ⟨mcs, fs, hls, -⟩ := id hv3
  obtain ⟨fu, ft, fa, hso, hu, ht, hac, ⟨n1, n2, n3⟩, hl, eu, et, ea2⟩ := k_V_ses hA2.2.1.1.1 (show s < (A_v (A_sn (s_rm A) [])).2.2.length from hs)
  refine sv_get fg_X1_177 dX1_begin_4 (sx_rd_c hv1) rfl ?_
  refine sv_iload_n dX1_begin_7 rfl ?_
  refine sv_cvR _ (cj_get hv3 (i := s) hs) okJ2_get kv_X1_186 (sx_rd_c hls) rfl dX1_begin_8 rfl rfl (by omega) (Nat.le_of_ble_eq_true rfl) ?_
  refine sv_cast (C0 := "") (sx_rd_c hso) rfl q1218 dX1_begin_11 ?_
  refine sv_astore_n dX1_begin_14 (by decide) ?_
  refine sv_aload_n dX1_begin_15 rfl ?_
  refine sv_get fg_X1_304 dX1_begin_16 (sx_rd_c hso) rfl ?_
  refine sv_iconst (nI 0) dX1_begin_19 (by decide +kernel) ?_
  refine sv_dup2 dX1_begin_20 rfl rfl ?_
  refine sv_iald dX1_begin_21 (sx_rd_c hac) (vp_in_nI (by omega) (by omega)) ?_
  rw [nI_clamp (show 0 < 2 ^ 31 by omega)]
  refine sv_iconst (nI 1) dX1_begin_22 (by decide +kernel) ?_
  refine sv_iadd dX1_begin_23 ?_
  refine sv_iast dX1_begin_24 hac (vp_in_nI (by omega) (by omega)) ?_
  rw [nI_clamp (show 0 < 2 ^ 31 by omega)]
  refine hs_up hac (fun τ23 F24 h25 N26 Z27 => ?_)
  have h25 : sx_c τ23 ((Λ2 3 s 3)) = some (.inl (sg_a G 0, 5, .inl ((upd fa 0 _)))) := h25
  have hv1' := h_F_c F24 hv1 (e_kn hv1 hac rfl)
  have hls' := h_F_c F24 hls (e_kn hls hac rfl)
  have hso' := h_F_c F24 hso (e_kn hso hac rfl)
  refine sv_aload_n dX1_begin_25 rfl ?_
  refine sv_aret (Or.inr ⟨_, rfl⟩) (Or.inl ⟨_, rfl⟩) rfl dX1_begin_26 ?_
  have h8 := h25
  rw [n_1] at h8
  have hA3 := c_A_s F24 hA2 (show s < (A_v (A_sn (s_rm A) [])).2.2.length from hs) (fun q z => Or.inr (Or.inr (Or.inr z))) (k_S_ac (hv5 s hs).1 F24 hac h8 (by decide)) rfl (w_V_ac hA2.2.1.2.2.1 hs)
  exact ⟨_, rfl, a, nl2, ow2, Λ2, rfl, ea, hA3, c_B_t hB2 (c_B_F F24) (by omega) (by omega), h_F_u FG2 F24 (fun _ _ z => z) (fun q _ z => Or.inr (Or.inr (Or.inr (by have h7 := hA2.2.1.1.2.2.1 q (by rw [z, (hA2.2.1.1.2.1.2.2.2.2.2.2 s hs).2.2.2.1]; omega); exact Nat.le_trans (Nat.le_of_eq ea.symm) h7)))) (by omega) (by omega)⟩
theorem cc_end (hA : c_A G mu oc lo σ sv nl ow Λ cap A) {s : Nat} (hs : s < (A_v A).2.2.length) {all : Bool} (hlen : (A_n A).length ≤ 100) : sx_Cp G 11 YX1_end [.ref (mu 0), .int (nI s), .int (b_I all)] σ (fun v τ => v = some (.int (nI ((A_n (s_te A s all)).length - (A_n A).length))) ∧ ∃ ow2 cap2, c_A G mu oc lo τ sv nl ow2 Λ cap2 (s_en A s all) ∧ c_B 1500 10000 σ τ) := by
  refine sx_body (by decide) (Nat.le_of_ble_eq_true rfl) ?_
  have hx := hA.1.1
  have hv1x := hA.2.1.1.1.1
  refine sv_aload_n dX1_end_0 rfl ?_
  refine sv_get fg_X1_44 dX1_end_1 (sx_rd_c hx) rfl ?_
  refine sv_iload_n dX1_end_4 rfl ?_
  refine sv_iload_n dX1_end_5 rfl ?_
  refine sv_aload_n dX1_end_6 rfl ?_
  refine sv_get fg_X1_64 dX1_end_7 (sx_rd_c hx) rfl ?_
  refine sv_cvP _ (cc_tell hA.2.1 hs (all := all) (by omega)) okX2_tell kv_X1_328 (sx_rd_c hv1x) rfl dX1_end_10 rfl rfl (by omega) (Nat.le_of_ble_eq_true rfl) ?_
  intro v30 τ28 hp29
  obtain ⟨rfl, ow3, cap3, hJ3, hT3⟩ := hp29
  have hk3 := kp_te A s all
  have hA3 := c_A_T hA hJ3 hT3 hk3
  have hx3 := (c_X_lo hA.1 hT3.2.2 (fun _ z => z) hA.2.2.2.2).1
  have hv3x := hA3.2.1.1.1.1
  refine sv_istore_n dX1_end_13 (by decide) ?_
  refine sv_aload_n dX1_end_14 rfl ?_
  refine sv_get fg_X1_44 dX1_end_15 (sx_rd_c hx3) rfl ?_
  refine sv_aload_n dX1_end_18 rfl ?_
  refine sv_get fg_X1_64 dX1_end_19 (sx_rd_c hx3) rfl ?_
  refine sv_cvP _ (cc_tellIdle hA3.2.1 (by have := hk3.2.2.2.2.2.1; omega)) okX2_tellIdle kv_X1_332 (sx_rd_c hv3x) rfl dX1_end_22 rfl rfl (by omega) (Nat.le_of_ble_eq_true rfl) ?_
  intro v33 τ31 hp32
  obtain ⟨rfl, ow4, cap4, hJ4, hT4⟩ := hp32
  refine sv_iload_n dX1_end_25 rfl ?_
  refine sv_iret rfl rfl dX1_end_26 ?_
  have hk4 := kp_ti 5 (s_te A s all) 0
  have hA4 := c_A_T hA3 hJ4 hT4 hk4
  have b1 := hk3.2.2.2.2.2.1
  have b2 := hk4.2.2.2.2.2.1
  have b3 := hJ4.2.2.2.2
  have b4 := hJ3.2.2.2.2
  have b5 := hk3.2.2.2.2.1
  have b6 := hk4.2.2.2.2.1
  have b7 := hT3.2.1
  have b8 := hT4.2.1
  exact ⟨_, rfl, rfl, ow4, cap4, hA4, c_B_t (c_B_F hT3.2.2) (c_B_F hT4.2.2) (by omega) (by omega)⟩
end CXD
