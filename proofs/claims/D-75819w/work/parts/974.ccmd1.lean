set_option maxRecDepth 100000
section CM1
variable {G : sx_G} {σ τ : sx_St} {mu : Nat → Nat} {oc : Nat} {A : a_A}
theorem can_j {V : a_V} {j : Nat} (hj : j < V.2.2.length) (hn : V.2.2.length ≤ 4) : a_can V (nI j) = ((a_bx V j).isSome && !(a_id V j)) := by
  unfold a_can
  rw [i_in_nI hj (by omega), nI_clamp (by omega), Bool.true_and]
theorem chg_j {V : a_V} {j : Nat} (hj : j < V.2.2.length) (hn : V.2.2.length ≤ 4) : a_chg V (nI j) = ((a_bx V j).isSome && !(a_id V j) && !(a_rd V j)) := by
  unfold a_chg
  rw [can_j hj hn, nI_clamp (by omega)]
theorem k_S_id {so u t ac nm c sl : Nat} {S : a_S} {b : Bool} (hS : k_S G σ so u t ac nm S) (F : h_F (fun q => q = so) c sl σ τ) (h : sx_c τ so = some (.inr (7, [.ref nm, .int (o_I S.2.1), .int (nI S.2.2.2.2.2.2.length), .int S.2.2.2.2.1, .int (b_I S.2.2.1), .int (b_I b), .ref u, .ref t, .ref ac]))) : k_S G τ so u t ac nm (S_id S b) := by
  obtain ⟨fu, ft, fa, a1, a2, a3, a4, a5⟩ := hS
  exact ⟨fu, ft, fa, h, h_F_c F a2 (e_kn a2 a1 rfl), h_F_c F a3 (e_kn a3 a1 rfl), h_F_c F a4 (e_kn a4 a1 rfl), a5⟩
theorem cpx_noop1 (hK : c_K G mu oc σ A) {s : Int32} (hi : i_in s (A_v A).2.2.length = false) : sx_C G 20 YX1_noop [.ref (mu 0), .int s] σ (c_X0 "java/lang/IndexOutOfBoundsException" σ) := by
  refine sx_body (by decide) (Nat.le_of_ble_eq_true rfl) ?_
  obtain ⟨sv, nl, hX, hF, hN⟩ := hK
  obtain ⟨Λ0, hV, hzz, hw⟩ := id hF
  have hx := hX.1
  have hnb := hw.1.1
  have hns := hw.1.2.1
  have hX0 : c_X G mu (sx_n σ) oc σ sv nl (A_st A 0) := hX
  have hF0 : c_F G mu (sx_n σ) σ sv (A_v (A_st A 0)) := hF
  refine sv_aload_n dX1_noop_0 rfl ?_
  refine sv_iload_n dX1_noop_1 rfl ?_
  refine sv_cv _ (cgx_sesAt hx hV hi) okX1_sessionAt (sx_rd_c hx) rfl kv_X1_240.1 kv_X1_240.2.1 kv_X1_240.2.2 dX1_noop_2 rfl rfl (by omega) (Nat.le_of_ble_eq_true rfl) (fun v τ h => by obtain ⟨q, e, _⟩ := h; cases e) (fun E q τ h => ?_)
  obtain ⟨q9, e9, F9⟩ := h
  cases e9
  refine sv_out (fun x hx => by cases hx) ?_
  exact ⟨_, rfl, F9⟩
theorem cpx_noop2 (hK : c_K G mu oc σ A) {j : Nat} (hj : j < (A_v A).2.2.length) (h : ((a_bx (A_v A) j).isSome && !(a_id (A_v A) j)) = false) : sx_C G 20 YX1_noop [.ref (mu 0), .int (nI j)] σ (c_X0 "java/lang/IllegalStateException" σ) := by
  refine sx_body (by decide) (Nat.le_of_ble_eq_true rfl) ?_
  obtain ⟨sv, nl, hX, hF, hN⟩ := hK
  obtain ⟨Λ0, hV, hzz, hw⟩ := id hF
  have hx := hX.1
  have hnb := hw.1.1
  have hns := hw.1.2.1
  have hX0 : c_X G mu (sx_n σ) oc σ sv nl (A_st A 0) := hX
  have hF0 : c_F G mu (sx_n σ) σ sv (A_v (A_st A 0)) := hF
  have hbl : ∀ b, a_bx (A_v A) j = some b → b < 100 := fun b hb => by have := hw.2.2.1 j b hj hb; omega
  refine sv_aload_n dX1_noop_0 rfl ?_
  refine sv_iload_n dX1_noop_1 rfl ?_
  refine sv_cvR _ (cg_sesAt hx hV hj) okX1_sessionAt kv_X1_240 (sx_rd_c hx) rfl dX1_noop_2 rfl rfl (by omega) (Nat.le_of_ble_eq_true rfl) ?_
  refine sv_cs _ (cgx_open hV hj hbl h) okX1_requireOpen ks_X1_343.1 ks_X1_343.2 dX1_noop_5 rfl rfl (by omega) (Nat.le_of_ble_eq_true rfl) (fun v τ h => by obtain ⟨q, e, _⟩ := h; cases e) (fun E q τ h => ?_)
  obtain ⟨q9, e9, F9⟩ := h
  cases e9
  refine sv_out (fun x hx => by cases hx) ?_
  exact ⟨_, rfl, F9⟩
theorem cpx_idle1 (hK : c_K G mu oc σ A) {s : Int32} (hi : i_in s (A_v A).2.2.length = false) : sx_C G 20 YX1_startIdle [.ref (mu 0), .int s] σ (c_X0 "java/lang/IndexOutOfBoundsException" σ) := by
  refine sx_body (by decide) (Nat.le_of_ble_eq_true rfl) ?_
  obtain ⟨sv, nl, hX, hF, hN⟩ := hK
  obtain ⟨Λ0, hV, hzz, hw⟩ := id hF
  have hx := hX.1
  have hnb := hw.1.1
  have hns := hw.1.2.1
  have hX0 : c_X G mu (sx_n σ) oc σ sv nl (A_st A 0) := hX
  have hF0 : c_F G mu (sx_n σ) σ sv (A_v (A_st A 0)) := hF
  refine sv_aload_n dX1_startIdle_0 rfl ?_
  refine sv_iload_n dX1_startIdle_1 rfl ?_
  refine sv_cv _ (cgx_sesAt hx hV hi) okX1_sessionAt (sx_rd_c hx) rfl kv_X1_240.1 kv_X1_240.2.1 kv_X1_240.2.2 dX1_startIdle_2 rfl rfl (by omega) (Nat.le_of_ble_eq_true rfl) (fun v τ h => by obtain ⟨q, e, _⟩ := h; cases e) (fun E q τ h => ?_)
  obtain ⟨q9, e9, F9⟩ := h
  cases e9
  refine sv_out (fun x hx => by cases hx) ?_
  exact ⟨_, rfl, F9⟩
theorem cpx_idle2 (hK : c_K G mu oc σ A) {j : Nat} (hj : j < (A_v A).2.2.length) (h : ((a_bx (A_v A) j).isSome && !(a_id (A_v A) j)) = false) : sx_C G 20 YX1_startIdle [.ref (mu 0), .int (nI j)] σ (c_X0 "java/lang/IllegalStateException" σ) := by
  refine sx_body (by decide) (Nat.le_of_ble_eq_true rfl) ?_
  obtain ⟨sv, nl, hX, hF, hN⟩ := hK
  obtain ⟨Λ0, hV, hzz, hw⟩ := id hF
  have hx := hX.1
  have hnb := hw.1.1
  have hns := hw.1.2.1
  have hX0 : c_X G mu (sx_n σ) oc σ sv nl (A_st A 0) := hX
  have hF0 : c_F G mu (sx_n σ) σ sv (A_v (A_st A 0)) := hF
  have hbl : ∀ b, a_bx (A_v A) j = some b → b < 100 := fun b hb => by have := hw.2.2.1 j b hj hb; omega
  refine sv_aload_n dX1_startIdle_0 rfl ?_
  refine sv_iload_n dX1_startIdle_1 rfl ?_
  refine sv_cvR _ (cg_sesAt hx hV hj) okX1_sessionAt kv_X1_240 (sx_rd_c hx) rfl dX1_startIdle_2 rfl rfl (by omega) (Nat.le_of_ble_eq_true rfl) ?_
  refine sv_cs _ (cgx_open hV hj hbl h) okX1_requireOpen ks_X1_343.1 ks_X1_343.2 dX1_startIdle_5 rfl rfl (by omega) (Nat.le_of_ble_eq_true rfl) (fun v τ h => by obtain ⟨q, e, _⟩ := h; cases e) (fun E q τ h => ?_)
  obtain ⟨q9, e9, F9⟩ := h
  cases e9
  refine sv_out (fun x hx => by cases hx) ?_
  exact ⟨_, rfl, F9⟩
theorem cp_noop (hK : c_K G mu oc σ A) {z : Nat} (hz : g_Z G z) {j : Nat} (hj : j < (A_v A).2.2.length) (h : ((a_bx (A_v A) j).isSome && !(a_id (A_v A) j)) = true) : sx_C G 20 YX1_noop [.ref (mu 0), .int (nI j)] σ (c_R ["java/lang/IndexOutOfBoundsException", "java/lang/IllegalStateException"] G mu oc σ ((nI (A_n (s_te (s_be (A_st A 0) j) j true)).length, s_en (s_be (A_st A 0) j) j true))) := by
  refine sx_body (by decide) (Nat.le_of_ble_eq_true rfl) ?_
  obtain ⟨sv, nl, hX, hF, hN⟩ := hK
  obtain ⟨Λ0, hV, hzz, hw⟩ := id hF
  have hx := hX.1
  have hnb := hw.1.1
  have hns := hw.1.2.1
  have hX0 : c_X G mu (sx_n σ) oc σ sv nl (A_st A 0) := hX
  have hF0 : c_F G mu (sx_n σ) σ sv (A_v (A_st A 0)) := hF
  have hbl : ∀ b, a_bx (A_v A) j = some b → b < 100 := fun b hb => by have := hw.2.2.1 j b hj hb; omega
  refine sv_aload_n dX1_noop_0 rfl ?_
  refine sv_iload_n dX1_noop_1 rfl ?_
  refine sv_cvR _ (cg_sesAt hx hV hj) okX1_sessionAt kv_X1_240 (sx_rd_c hx) rfl dX1_noop_2 rfl rfl (by omega) (Nat.le_of_ble_eq_true rfl) ?_
  refine sv_csR _ (cg_open hV hj hbl h) okX1_requireOpen ks_X1_343 dX1_noop_5 rfl rfl (by omega) (Nat.le_of_ble_eq_true rfl) ?_
  refine sv_aload_n dX1_noop_8 rfl ?_
  refine sv_iload_n dX1_noop_9 rfl ?_
  refine sv_cvP _ (cc_begin (A := A_st A 0) hX0 hF0 hz hj) okX1_begin kv_X1_336 (sx_rd_c hx) rfl dX1_noop_10 rfl rfl (by omega) (Nat.le_of_ble_eq_true rfl) ?_
  intro v6 τ4 hp5
  obtain ⟨a, nl2, ow2, Λ2, rfl, ea, hA2, hB2, FG2⟩ := hp5
  have hx2 := hA2.1.1
  have hj2 : j < (A_v (s_be (A_st A 0) j)).2.2.length := by rw [be_len]; exact hj
  refine sv_astore_n dX1_noop_13 (by decide) ?_
  refine sv_aload_n dX1_noop_14 rfl ?_
  refine sv_iload_n dX1_noop_15 rfl ?_
  refine sv_iconst (nI 1) dX1_noop_16 (by decide +kernel) ?_
  refine sv_tI (y := b_I true) rfl ?_
  refine sv_cvP _ (cc_end hA2 hj2 (all := true) (Nat.zero_le _)) okX1_end kv_X1_347 (sx_rd_c hx2) rfl dX1_noop_17 rfl rfl (by omega) (Nat.le_of_ble_eq_true rfl) ?_
  intro v9 τ7 hp8
  obtain ⟨rfl, ow9, cap9, hA9, hB9⟩ := hp8
  refine sv_iret rfl rfl dX1_noop_20 ?_
  have hk8 := kp_te (s_be (A_st A 0) j) j true
  have hk9 := kp_ti 5 (s_te (s_be (A_st A 0) j) j true) 0
  refine ⟨Or.inl ⟨?_, by first | rfl | exact congrArg (fun v => Sum.inl (some (Value.int v))) (congrArg nI (Nat.sub_zero _))⟩, c_S_B (c_A_K hA9) (c_B_t hB2 hB9 (Nat.le_refl _) (Nat.le_refl _)) (by omega) (by omega)⟩
  exact (hk9.2.2.2.2.2.2.2.2.2.2.2.2).trans (hk8.2.2.2.2.2.2.2.2.2.2.2.2)
theorem cp_idle (hK : c_K G mu oc σ A) {z : Nat} (hz : g_Z G z) {j : Nat} (hj : j < (A_v A).2.2.length) (h : ((a_bx (A_v A) j).isSome && !(a_id (A_v A) j)) = true) : sx_C G 20 YX1_startIdle [.ref (mu 0), .int (nI j)] σ (c_R ["java/lang/IndexOutOfBoundsException", "java/lang/IllegalStateException"] G mu oc σ ((nI (A_n (s_te (s_id (s_be (A_st A 0) j) j true) j true)).length, s_en (s_id (s_be (A_st A 0) j) j true) j true))) := by
  refine sx_body (by decide) (Nat.le_of_ble_eq_true rfl) ?_
  obtain ⟨sv, nl, hX, hF, hN⟩ := hK
  obtain ⟨Λ0, hV, hzz, hw⟩ := id hF
  have hx := hX.1
  have hnb := hw.1.1
  have hns := hw.1.2.1
  have hX0 : c_X G mu (sx_n σ) oc σ sv nl (A_st A 0) := hX
  have hF0 : c_F G mu (sx_n σ) σ sv (A_v (A_st A 0)) := hF
  have hbl : ∀ b, a_bx (A_v A) j = some b → b < 100 := fun b hb => by have := hw.2.2.1 j b hj hb; omega
  refine sv_aload_n dX1_startIdle_0 rfl ?_
  refine sv_iload_n dX1_startIdle_1 rfl ?_
  refine sv_cvR _ (cg_sesAt hx hV hj) okX1_sessionAt kv_X1_240 (sx_rd_c hx) rfl dX1_startIdle_2 rfl rfl (by omega) (Nat.le_of_ble_eq_true rfl) ?_
  refine sv_csR _ (cg_open hV hj hbl h) okX1_requireOpen ks_X1_343 dX1_startIdle_5 rfl rfl (by omega) (Nat.le_of_ble_eq_true rfl) ?_
  refine sv_aload_n dX1_startIdle_8 rfl ?_
  refine sv_iload_n dX1_startIdle_9 rfl ?_
  refine sv_cvP _ (cc_begin (A := A_st A 0) hX0 hF0 hz hj) okX1_begin kv_X1_336 (sx_rd_c hx) rfl dX1_startIdle_10 rfl rfl (by omega) (Nat.le_of_ble_eq_true rfl) ?_
  intro v12 τ10 hp11
  obtain ⟨a, nl2, ow2, Λ2, rfl, ea, hA2, hB2, FG2⟩ := hp11
  have hx2 := hA2.1.1
  have hj2 : j < (A_v (s_be (A_st A 0) j)).2.2.length := by rw [be_len]; exact hj
  refine sv_iconst (nI 1) dX1_startIdle_13 (by decide +kernel) ?_
  have hS2 := (hA2.2.1.1.1.2.2.2.2 j hj2).1
  obtain ⟨fu, ft, fa, hso, -⟩ := id hS2
  refine sv_tI (y := b_I true) rfl ?_
  refine sv_put fp_X1_254 dX1_startIdle_14 hso (b_I_nar _) (b_I_fit _) (Nat.le_of_ble_eq_true rfl) ?_
  refine hs_up hso (fun τ13 F14 h15 N16 Z17 => ?_)
  have h15 : sx_c τ13 ((Λ2 3 j 0)) = some (.inr (7, [.ref (Λ2 3 j 4), .int (o_I (a_s (A_v (s_be (A_st A 0) j)) j).2.1), .int (nI (a_s (A_v (s_be (A_st A 0) j)) j).2.2.2.2.2.2.length), .int (a_s (A_v (s_be (A_st A 0) j)) j).2.2.2.2.1, .int (b_I (a_s (A_v (s_be (A_st A 0) j)) j).2.2.1), .int (b_I true), .ref (Λ2 3 j 1), .ref (Λ2 3 j 2), .ref (Λ2 3 j 3)])) := h15
  have hx2' := h_F_c F14 hx2 (e_kn hx2 hso rfl)
  refine sv_aload_n dX1_startIdle_17 rfl ?_
  refine sv_iload_n dX1_startIdle_18 rfl ?_
  refine sv_iconst (nI 1) dX1_startIdle_19 (by decide +kernel) ?_
  have hA3 := c_A_s F14 hA2 hj2 (fun q z => Or.inl z) (k_S_id hS2 F14 h15) rfl (w_V_id hA2.2.1.2.2.1 hj2)
  have hA3 : c_A G mu oc a _ a nl2 ow2 Λ2 0 (s_id (s_be (A_st A 0) j) j true) := hA3
  have hj3 : j < (A_v (s_id (s_be (A_st A 0) j) j true)).2.2.length := by show j < (a_us _ _ _).2.2.length; rw [a_us_n]; exact hj2
  have hB2 := c_B_t hB2 (c_B_F F14) (Nat.le_refl _) (Nat.le_refl _)
  refine sv_tI (y := b_I true) rfl ?_
  refine sv_cvP _ (cc_end hA3 hj3 (all := true) (Nat.zero_le _)) okX1_end kv_X1_347 (sx_rd_c hx2') rfl dX1_startIdle_20 rfl rfl (by omega) (Nat.le_of_ble_eq_true rfl) ?_
  intro v20 τ18 hp19
  obtain ⟨rfl, ow9, cap9, hA9, hB9⟩ := hp19
  refine sv_iret rfl rfl dX1_startIdle_23 ?_
  have hk8 := kp_te (s_id (s_be (A_st A 0) j) j true) j true
  have hk9 := kp_ti 5 (s_te (s_id (s_be (A_st A 0) j) j true) j true) 0
  refine ⟨Or.inl ⟨?_, by first | rfl | exact congrArg (fun v => Sum.inl (some (Value.int v))) (congrArg nI (Nat.sub_zero _))⟩, c_S_B (c_A_K hA9) (c_B_t hB2 hB9 (Nat.le_refl _) (Nat.le_refl _)) (by omega) (by omega)⟩
  exact (hk9.2.2.2.2.2.2.2.2.2.2.2.2).trans (hk8.2.2.2.2.2.2.2.2.2.2.2.2)
theorem cpx_stop1 (hK : c_K G mu oc σ A) {s : Int32} (hi : i_in s (A_v A).2.2.length = false) : sx_C G 20 YX1_stopIdle [.ref (mu 0), .int s] σ (c_X0 "java/lang/IndexOutOfBoundsException" σ) := by
  refine sx_body (by decide) (Nat.le_of_ble_eq_true rfl) ?_
  obtain ⟨sv, nl, hX, hF, hN⟩ := hK
  obtain ⟨Λ0, hV, hzz, hw⟩ := id hF
  have hx := hX.1
  have hnb := hw.1.1
  have hns := hw.1.2.1
  have hX0 : c_X G mu (sx_n σ) oc σ sv nl (A_st A 0) := hX
  have hF0 : c_F G mu (sx_n σ) σ sv (A_v (A_st A 0)) := hF
  refine sv_aload_n dX1_stopIdle_0 rfl ?_
  refine sv_iload_n dX1_stopIdle_1 rfl ?_
  refine sv_cv _ (cgx_sesAt hx hV hi) okX1_sessionAt (sx_rd_c hx) rfl kv_X1_240.1 kv_X1_240.2.1 kv_X1_240.2.2 dX1_stopIdle_2 rfl rfl (by omega) (Nat.le_of_ble_eq_true rfl) (fun v τ h => by obtain ⟨q, e, _⟩ := h; cases e) (fun E q τ h => ?_)
  obtain ⟨q9, e9, F9⟩ := h
  cases e9
  refine sv_out (fun x hx => by cases hx) ?_
  exact ⟨_, rfl, F9⟩
theorem cpx_stop2 (hK : c_K G mu oc σ A) {j : Nat} (hj : j < (A_v A).2.2.length) (h : a_id (A_v A) j = false) : sx_C G 20 YX1_stopIdle [.ref (mu 0), .int (nI j)] σ (c_X0 "java/lang/IllegalStateException" σ) := by
  refine sx_body (by decide) (Nat.le_of_ble_eq_true rfl) ?_
  obtain ⟨sv, nl, hX, hF, hN⟩ := hK
  obtain ⟨Λ0, hV, hzz, hw⟩ := id hF
  have hx := hX.1
  have hnb := hw.1.1
  have hns := hw.1.2.1
  have hX0 : c_X G mu (sx_n σ) oc σ sv nl (A_st A 0) := hX
  have hF0 : c_F G mu (sx_n σ) σ sv (A_v (A_st A 0)) := hF
  obtain ⟨fu0, ft0, fa0, hso, -⟩ := k_V_ses hV hj
  refine sv_aload_n dX1_stopIdle_0 rfl ?_
  refine sv_iload_n dX1_stopIdle_1 rfl ?_
  refine sv_cvR _ (cg_sesAt hx hV hj) okX1_sessionAt kv_X1_240 (sx_rd_c hx) rfl dX1_stopIdle_2 rfl rfl (by omega) (Nat.le_of_ble_eq_true rfl) ?_
  refine sv_get fg_X1_254 dX1_stopIdle_5 (sx_rd_c hso) rfl ?_
  refine sv_tI (y := b_I false) (by rw [h]) ?_
  refine sv_cs _ cx_S okX1_requireState ks_X1_86.1 ks_X1_86.2 dX1_stopIdle_8 rfl rfl (by omega) (Nat.le_of_ble_eq_true rfl) (fun v τ h => by obtain ⟨q, e, _⟩ := h; cases e) (fun E q τ h => ?_)
  obtain ⟨q9, e9, F9⟩ := h
  cases e9
  refine sv_out (fun x hx => by cases hx) ?_
  exact ⟨_, rfl, F9⟩
theorem cp_stop (hK : c_K G mu oc σ A) {z : Nat} (hz : g_Z G z) {j : Nat} (hj : j < (A_v A).2.2.length) (h : a_id (A_v A) j = true) : sx_C G 20 YX1_stopIdle [.ref (mu 0), .int (nI j)] σ (c_R ["java/lang/IndexOutOfBoundsException", "java/lang/IllegalStateException"] G mu oc σ ((nI (A_n (s_te (s_id (s_be (A_st A 0) j) j false) j true)).length, s_en (s_id (s_be (A_st A 0) j) j false) j true))) := by
  refine sx_body (by decide) (Nat.le_of_ble_eq_true rfl) ?_
  obtain ⟨sv, nl, hX, hF, hN⟩ := hK
  obtain ⟨Λ0, hV, hzz, hw⟩ := id hF
  have hx := hX.1
  have hnb := hw.1.1
  have hns := hw.1.2.1
  have hX0 : c_X G mu (sx_n σ) oc σ sv nl (A_st A 0) := hX
  have hF0 : c_F G mu (sx_n σ) σ sv (A_v (A_st A 0)) := hF
  obtain ⟨fu0, ft0, fa0, hso, -⟩ := k_V_ses hV hj
  refine sv_aload_n dX1_stopIdle_0 rfl ?_
  refine sv_iload_n dX1_stopIdle_1 rfl ?_
  refine sv_cvR _ (cg_sesAt hx hV hj) okX1_sessionAt kv_X1_240 (sx_rd_c hx) rfl dX1_stopIdle_2 rfl rfl (by omega) (Nat.le_of_ble_eq_true rfl) ?_
  refine sv_get fg_X1_254 dX1_stopIdle_5 (sx_rd_c hso) rfl ?_
  refine sv_tI (y := b_I true) (by rw [h]) ?_
  refine sv_csR _ cr_S okX1_requireState ks_X1_86 dX1_stopIdle_8 rfl rfl (by omega) (Nat.le_of_ble_eq_true rfl) ?_
  refine sv_aload_n dX1_stopIdle_11 rfl ?_
  refine sv_iload_n dX1_stopIdle_12 rfl ?_
  refine sv_cvP _ (cc_begin (A := A_st A 0) hX0 hF0 hz hj) okX1_begin kv_X1_336 (sx_rd_c hx) rfl dX1_stopIdle_13 rfl rfl (by omega) (Nat.le_of_ble_eq_true rfl) ?_
  intro v23 τ21 hp22
  obtain ⟨a, nl2, ow2, Λ2, rfl, ea, hA2, hB2, FG2⟩ := hp22
  have hx2 := hA2.1.1
  have hj2 : j < (A_v (s_be (A_st A 0) j)).2.2.length := by rw [be_len]; exact hj
  refine sv_iconst (nI 0) dX1_stopIdle_16 (by decide +kernel) ?_
  have hS2 := (hA2.2.1.1.1.2.2.2.2 j hj2).1
  obtain ⟨fu, ft, fa, hso, -⟩ := id hS2
  refine sv_tI (y := b_I false) rfl ?_
  refine sv_put fp_X1_254 dX1_stopIdle_17 hso (b_I_nar _) (b_I_fit _) (Nat.le_of_ble_eq_true rfl) ?_
  refine hs_up hso (fun τ24 F25 h26 N27 Z28 => ?_)
  have h26 : sx_c τ24 ((Λ2 3 j 0)) = some (.inr (7, [.ref (Λ2 3 j 4), .int (o_I (a_s (A_v (s_be (A_st A 0) j)) j).2.1), .int (nI (a_s (A_v (s_be (A_st A 0) j)) j).2.2.2.2.2.2.length), .int (a_s (A_v (s_be (A_st A 0) j)) j).2.2.2.2.1, .int (b_I (a_s (A_v (s_be (A_st A 0) j)) j).2.2.1), .int (b_I false), .ref (Λ2 3 j 1), .ref (Λ2 3 j 2), .ref (Λ2 3 j 3)])) := h26
  have hx2' := h_F_c F25 hx2 (e_kn hx2 hso rfl)
  refine sv_aload_n dX1_stopIdle_20 rfl ?_
  refine sv_iload_n dX1_stopIdle_21 rfl ?_
  refine sv_iconst (nI 1) dX1_stopIdle_22 (by decide +kernel) ?_
  have hA3 := c_A_s F25 hA2 hj2 (fun q z => Or.inl z) (k_S_id hS2 F25 h26) rfl (w_V_id hA2.2.1.2.2.1 hj2)
  have hA3 : c_A G mu oc a _ a nl2 ow2 Λ2 0 (s_id (s_be (A_st A 0) j) j false) := hA3
  have hj3 : j < (A_v (s_id (s_be (A_st A 0) j) j false)).2.2.length := by show j < (a_us _ _ _).2.2.length; rw [a_us_n]; exact hj2
  have hB2 := c_B_t hB2 (c_B_F F25) (Nat.le_refl _) (Nat.le_refl _)
  refine sv_tI (y := b_I true) rfl ?_
  refine sv_cvP _ (cc_end hA3 hj3 (all := true) (Nat.zero_le _)) okX1_end kv_X1_347 (sx_rd_c hx2') rfl dX1_stopIdle_23 rfl rfl (by omega) (Nat.le_of_ble_eq_true rfl) ?_
  intro v31 τ29 hp30
  obtain ⟨rfl, ow9, cap9, hA9, hB9⟩ := hp30
  refine sv_iret rfl rfl dX1_stopIdle_26 ?_
  have hk8 := kp_te (s_id (s_be (A_st A 0) j) j false) j true
  have hk9 := kp_ti 5 (s_te (s_id (s_be (A_st A 0) j) j false) j true) 0
  refine ⟨Or.inl ⟨?_, by first | rfl | exact congrArg (fun v => Sum.inl (some (Value.int v))) (congrArg nI (Nat.sub_zero _))⟩, c_S_B (c_A_K hA9) (c_B_t hB2 hB9 (Nat.le_refl _) (Nat.le_refl _)) (by omega) (by omega)⟩
  exact (hk9.2.2.2.2.2.2.2.2.2.2.2.2).trans (hk8.2.2.2.2.2.2.2.2.2.2.2.2)
theorem pm_noop (hK : c_K G mu oc σ A) {z : Nat} (hz : g_Z G z) {s : Int32} : sx_C G 20 YX1_noop [.ref (mu 0), .int s] σ (c_R ["java/lang/IndexOutOfBoundsException", "java/lang/IllegalStateException"] G mu oc σ (sp_noop A s)) := by
  have hns : (A_v A).2.2.length ≤ 4 := by obtain ⟨_, _, _, ⟨_, _, _, hw⟩, _⟩ := hK; exact hw.1.2.1
  rw [sp_noop_2]
  refine c_2 hK (fun h => cpx_noop1 hK h) (fun h1 h2 => ?_) (fun h1 h2 => ?_)
  · obtain ⟨j, hj, rfl⟩ := i_in_of (by omega) h1
    rw [can_j hj hns] at h2
    exact cpx_noop2 hK hj h2
  · obtain ⟨j, hj, rfl⟩ := i_in_of (by omega) h1
    rw [can_j hj hns] at h2
    rw [nI_clamp (by omega)]
    exact cp_noop hK hz hj h2
theorem pm_idle (hK : c_K G mu oc σ A) {z : Nat} (hz : g_Z G z) {s : Int32} : sx_C G 20 YX1_startIdle [.ref (mu 0), .int s] σ (c_R ["java/lang/IndexOutOfBoundsException", "java/lang/IllegalStateException"] G mu oc σ (sp_idle A s)) := by
  have hns : (A_v A).2.2.length ≤ 4 := by obtain ⟨_, _, _, ⟨_, _, _, hw⟩, _⟩ := hK; exact hw.1.2.1
  rw [sp_idle_2]
  refine c_2 hK (fun h => cpx_idle1 hK h) (fun h1 h2 => ?_) (fun h1 h2 => ?_)
  · obtain ⟨j, hj, rfl⟩ := i_in_of (by omega) h1
    rw [can_j hj hns] at h2
    exact cpx_idle2 hK hj h2
  · obtain ⟨j, hj, rfl⟩ := i_in_of (by omega) h1
    rw [can_j hj hns] at h2
    rw [nI_clamp (by omega)]
    exact cp_idle hK hz hj h2
theorem pm_stop (hK : c_K G mu oc σ A) {z : Nat} (hz : g_Z G z) {s : Int32} : sx_C G 20 YX1_stopIdle [.ref (mu 0), .int s] σ (c_R ["java/lang/IndexOutOfBoundsException", "java/lang/IllegalStateException"] G mu oc σ (sp_stop A s)) := by
  have hns : (A_v A).2.2.length ≤ 4 := by obtain ⟨_, _, _, ⟨_, _, _, hw⟩, _⟩ := hK; exact hw.1.2.1
  rw [sp_stop_2]
  refine c_2 hK (fun h => cpx_stop1 hK h) (fun h1 h2 => ?_) (fun h1 h2 => ?_)
  · obtain ⟨j, hj, rfl⟩ := i_in_of (by omega) h1
    rw [nI_clamp (by omega)] at h2
    exact cpx_stop2 hK hj h2
  · obtain ⟨j, hj, rfl⟩ := i_in_of (by omega) h1
    rw [nI_clamp (by omega)] at h2
    rw [nI_clamp (by omega)]
    exact cp_stop hK hz hj h2
end CM1
