set_option maxRecDepth 100000
section CQ1
variable {G : sx_G} {σ τ : sx_St} {mu : Nat → Nat} {oc lo sv nl cap : Nat} {ow : Nat → Nat} {Λ : Nat → Nat → Nat → Nat} {A : a_A} {V : a_V} {W : Nat → Prop} {c sl : Nat} {N : List a_N}
/-- what is asked, with some made on the way -/
theorem c_R_f {es : List String} {v w : Int32} {c s : Nat} (h : c_K G mu oc σ A) (F : h_F (fun _ => False) c s σ τ) (hc : c ≤ 8000) (hs : s ≤ 90000) (e : v = w) : c_R es G mu oc σ (w, A_st A 0) (.inl (some (.int v))) τ := c_R_ok (x := (w, A_st A 0)) e rfl (c_S_0 (c_K_t h 0) F hc hs)
def n_at (o : Option Nat) : Int32 := match o with
  | some i => nI (i + 1)
  | none => -1
theorem e_w_at {es : List a_E} {u : Int32} : n_at (es.findIdx? (fun e => e.1 == u)) = e_w es u := by
  unfold e_w n_at
  cases es.findIdx? (fun e => e.1 == u) <;> rfl
theorem cpx_idx (hK : c_K G mu oc σ A) {b u : Int32} (hi : i_in b (A_v A).2.1.length = false) : sx_C G 100 YX1_indexOf [.ref (mu 0), .int b, .int u] σ (c_X0 "java/lang/IndexOutOfBoundsException" σ) := by
  refine sx_body (by decide) (Nat.le_of_ble_eq_true rfl) ?_
  obtain ⟨sv, nl, hX, hF, hN⟩ := hK
  obtain ⟨Λ0, hV, hzz, hw⟩ := id hF
  have hx := hX.1
  have hnb := hw.1.1
  have hns := hw.1.2.1
  have hX0 : c_X G mu (sx_n σ) oc σ sv nl (A_st A 0) := hX
  have hF0 : c_F G mu (sx_n σ) σ sv (A_v (A_st A 0)) := hF
  have hv1 := hV.1
  refine sv_aload_n dX1_indexOf_0 rfl ?_
  refine sv_iload_n dX1_indexOf_1 rfl ?_
  refine sv_cv _ (cgx_boxAt hx hV hi) okX1_boxAt (sx_rd_c hx) rfl kv_X1_197.1 kv_X1_197.2.1 kv_X1_197.2.2 dX1_indexOf_2 rfl rfl (by omega) (Nat.le_of_ble_eq_true rfl) (fun v τ h => by obtain ⟨q, e, _⟩ := h; cases e) (fun E q τ h => ?_)
  obtain ⟨q9, e9, F9⟩ := h
  cases e9
  refine sv_out (fun x hx => by cases hx) ?_
  exact ⟨_, rfl, F9⟩
theorem cp_idx (hK : c_K G mu oc σ A) {i : Nat} (hi : i < (A_v A).2.1.length) {u : Int32} : sx_C G 100 YX1_indexOf [.ref (mu 0), .int (nI i), .int u] σ (c_R ["java/lang/IndexOutOfBoundsException"] G mu oc σ ((o_I (a_find (a_ms (A_v A) i) u), A_st A 0))) := by
  refine sx_body (by decide) (Nat.le_of_ble_eq_true rfl) ?_
  have hK0 := hK
  obtain ⟨sv, nl, hX, hF, hN⟩ := hK
  obtain ⟨Λ0, hV, hzz, hw⟩ := id hF
  have hx := hX.1
  have hnb := hw.1.1
  have hns := hw.1.2.1
  have hX0 : c_X G mu (sx_n σ) oc σ sv nl (A_st A 0) := hX
  have hF0 : c_F G mu (sx_n σ) σ sv (A_v (A_st A 0)) := hF
  have hv1 := hV.1
  refine sv_aload_n dX1_indexOf_0 rfl ?_
  refine sv_iload_n dX1_indexOf_1 rfl ?_
  refine sv_cvR _ (cg_boxAt hx hV hi) okX1_boxAt kv_X1_197 (sx_rd_c hx) rfl dX1_indexOf_2 rfl rfl (by omega) (Nat.le_of_ble_eq_true rfl) ?_
  refine sv_iload_n dX1_indexOf_5 rfl ?_
  refine sv_cvR _ (cc_bfind (hV.2.2.2.1 i hi).1) okX6_find kv_X1_237 (sx_rd_c (hV.2.2.2.1 i hi).1.1) rfl dX1_indexOf_6 rfl rfl (by omega) (Nat.le_of_ble_eq_true rfl) ?_
  refine sv_iret rfl rfl dX1_indexOf_9 ?_
  exact c_R_q hK0 rfl
theorem pm_idx (hK : c_K G mu oc σ A) {b u : Int32} : sx_C G 100 YX1_indexOf [.ref (mu 0), .int b, .int u] σ (c_R ["java/lang/IndexOutOfBoundsException"] G mu oc σ (sp_idx A b u)) := by
  have hns : (A_v A).2.2.length ≤ 4 := by obtain ⟨_, _, _, ⟨_, _, _, hw⟩, _⟩ := hK; exact hw.1.2.1
  have hnb : (A_v A).2.1.length ≤ 3 := by obtain ⟨_, _, _, ⟨_, _, _, hw⟩, _⟩ := hK; exact hw.1.1
  unfold sp_idx
  refine c_1 hK (fun h => cpx_idx hK h) (fun h => ?_)
  obtain ⟨i, hi, rfl⟩ := i_in_of (by omega) h
  rw [nI_clamp (by omega)]
  exact cp_idx hK hi
theorem cc_numAt {o : Option Nat} (ho : ∀ k, o = some k → k < 2 ^ 31) : sx_Cr G 1 YX1_numberAt [.int (o_I o)] σ (some (.int (n_at o))) σ := by
  refine sx_body (by decide) (Nat.le_of_ble_eq_true rfl) ?_
  refine sv_iload_n dX1_numberAt_0 rfl ?_
  refine sv_iconst (-1) dX1_numberAt_1 (by decide +kernel) ?_
  refine sv_icmp_ne (tgt := 9) dX1_numberAt_2 (by decide) (fun c2 => ?_) (fun c2 => ?_)
  · obtain ⟨i, rfl⟩ : ∃ i, o = some i := by cases o with | none => exact absurd rfl c2 | some i => exact ⟨i, rfl⟩
    refine sv_iload_n dX1_numberAt_9 rfl ?_
    refine sv_iconst (nI 1) dX1_numberAt_10 (by decide +kernel) ?_
    refine sv_iadd dX1_numberAt_11 ?_
    refine sv_iret rfl rfl dX1_numberAt_12 ?_
    first | exact ⟨_, rfl, rfl, rfl⟩ | exact ⟨_, rfl, r_I (nI_add _ _), rfl⟩
  · obtain rfl : o = none := (o_I_m1 o ho).mp c2
    refine sv_iconst (-1) dX1_numberAt_5 (by decide +kernel) ?_
    refine sv_goto (tgt := 12) dX1_numberAt_6 (by decide) ?_
    refine sv_iret rfl rfl dX1_numberAt_12 ?_
    first | exact ⟨_, rfl, rfl, rfl⟩ | exact ⟨_, rfl, r_I (nI_add _ _), rfl⟩
theorem cpx_num (hK : c_K G mu oc σ A) {s : Int32} {u : Int32} (hi : i_in s (A_v A).2.2.length = false) : sx_C G 100 YX1_numberOf [.ref (mu 0), .int s, .int u] σ (c_X0 "java/lang/IndexOutOfBoundsException" σ) := by
  refine sx_body (by decide) (Nat.le_of_ble_eq_true rfl) ?_
  obtain ⟨sv, nl, hX, hF, hN⟩ := hK
  obtain ⟨Λ0, hV, hzz, hw⟩ := id hF
  have hx := hX.1
  have hnb := hw.1.1
  have hns := hw.1.2.1
  have hX0 : c_X G mu (sx_n σ) oc σ sv nl (A_st A 0) := hX
  have hF0 : c_F G mu (sx_n σ) σ sv (A_v (A_st A 0)) := hF
  have hv1 := hV.1
  refine sv_aload_n dX1_numberOf_0 rfl ?_
  refine sv_iload_n dX1_numberOf_1 rfl ?_
  refine sv_cv _ (cgx_sesAt hx hV hi) okX1_sessionAt (sx_rd_c hx) rfl kv_X1_240.1 kv_X1_240.2.1 kv_X1_240.2.2 dX1_numberOf_2 rfl rfl (by omega) (Nat.le_of_ble_eq_true rfl) (fun v τ h => by obtain ⟨q, e, _⟩ := h; cases e) (fun E q τ h => ?_)
  obtain ⟨q9, e9, F9⟩ := h
  cases e9
  refine sv_out (fun x hx => by cases hx) ?_
  exact ⟨_, rfl, F9⟩
theorem cp_num (hK : c_K G mu oc σ A) {j : Nat} (hj : j < (A_v A).2.2.length) {u : Int32} : sx_C G 100 YX1_numberOf [.ref (mu 0), .int (nI j), .int u] σ (c_R ["java/lang/IndexOutOfBoundsException"] G mu oc σ ((e_w (a_es (A_v A) j) u, A_st A 0))) := by
  refine sx_body (by decide) (Nat.le_of_ble_eq_true rfl) ?_
  have hK0 := hK
  obtain ⟨sv, nl, hX, hF, hN⟩ := hK
  obtain ⟨Λ0, hV, hzz, hw⟩ := id hF
  have hx := hX.1
  have hnb := hw.1.1
  have hns := hw.1.2.1
  have hX0 : c_X G mu (sx_n σ) oc σ sv nl (A_st A 0) := hX
  have hF0 : c_F G mu (sx_n σ) σ sv (A_v (A_st A 0)) := hF
  have hv1 := hV.1
  have hel := hw.2.1 j hj
  obtain ⟨fu0, ft0, fa0, hso, -⟩ := k_V_ses hV hj
  refine sv_aload_n dX1_numberOf_0 rfl ?_
  refine sv_iload_n dX1_numberOf_1 rfl ?_
  refine sv_cvR _ (cg_sesAt hx hV hj) okX1_sessionAt kv_X1_240 (sx_rd_c hx) rfl dX1_numberOf_2 rfl rfl (by omega) (Nat.le_of_ble_eq_true rfl) ?_
  refine sv_iload_n dX1_numberOf_5 rfl ?_
  refine sv_cvR _ (cc_sfind (hV.2.2.2.2 j hj).1) okX8_find kv_X1_285 (sx_rd_c hso) rfl dX1_numberOf_6 rfl rfl (by omega) (Nat.le_of_ble_eq_true rfl) ?_
  refine sv_csR _ (cc_numAt (o := (a_es (A_v A) j).findIdx? (fun e => e.1 == u)) (fun k hk => by rw [List.findIdx?_eq_some_iff_getElem] at hk; have := hk.1; omega)) okX1_numberAt ks_X1_286 dX1_numberOf_9 rfl rfl (by omega) (Nat.le_of_ble_eq_true rfl) ?_
  refine sv_iret rfl rfl dX1_numberOf_12 ?_
  exact c_R_q hK0 e_w_at
theorem pm_num (hK : c_K G mu oc σ A) {u : Int32} {s : Int32} : sx_C G 100 YX1_numberOf [.ref (mu 0), .int s, .int u] σ (c_R ["java/lang/IndexOutOfBoundsException"] G mu oc σ (sp_num A s u)) := by
  have hns : (A_v A).2.2.length ≤ 4 := by obtain ⟨_, _, _, ⟨_, _, _, hw⟩, _⟩ := hK; exact hw.1.2.1
  have hnb : (A_v A).2.1.length ≤ 3 := by obtain ⟨_, _, _, ⟨_, _, _, hw⟩, _⟩ := hK; exact hw.1.1
  unfold sp_num
  refine c_1 hK (fun h => cpx_num hK h) (fun h => ?_)
  obtain ⟨j, hj, rfl⟩ := i_in_of (by omega) h
  rw [nI_clamp (by omega)]
  exact cp_num hK hj
theorem cpx_acc1 (hK : c_K G mu oc σ A) {s x : Int32} (hi : i_in s (A_v A).2.2.length = false) : sx_C G 100 YX1_account [.ref (mu 0), .int s, .int x] σ (c_X0 "java/lang/IndexOutOfBoundsException" σ) := by
  refine sx_body (by decide) (Nat.le_of_ble_eq_true rfl) ?_
  obtain ⟨sv, nl, hX, hF, hN⟩ := hK
  obtain ⟨Λ0, hV, hzz, hw⟩ := id hF
  have hx := hX.1
  have hnb := hw.1.1
  have hns := hw.1.2.1
  have hX0 : c_X G mu (sx_n σ) oc σ sv nl (A_st A 0) := hX
  have hF0 : c_F G mu (sx_n σ) σ sv (A_v (A_st A 0)) := hF
  have hv1 := hV.1
  refine sv_aload_n dX1_account_0 rfl ?_
  refine sv_iload_n dX1_account_1 rfl ?_
  refine sv_cv _ (cgx_sesAt hx hV hi) okX1_sessionAt (sx_rd_c hx) rfl kv_X1_240.1 kv_X1_240.2.1 kv_X1_240.2.2 dX1_account_2 rfl rfl (by omega) (Nat.le_of_ble_eq_true rfl) (fun v τ h => by obtain ⟨q, e, _⟩ := h; cases e) (fun E q τ h => ?_)
  obtain ⟨q9, e9, F9⟩ := h
  cases e9
  refine sv_out (fun x hx => by cases hx) ?_
  exact ⟨_, rfl, F9⟩
theorem cpx_acc2 (hK : c_K G mu oc σ A) {j : Nat} (hj : j < (A_v A).2.2.length) {x : Int32} (h : a_in x 0 4 = false) : sx_C G 100 YX1_account [.ref (mu 0), .int (nI j), .int x] σ (c_X0 "java/lang/IllegalArgumentException" σ) := by
  refine sx_body (by decide) (Nat.le_of_ble_eq_true rfl) ?_
  obtain ⟨sv, nl, hX, hF, hN⟩ := hK
  obtain ⟨Λ0, hV, hzz, hw⟩ := id hF
  have hx := hX.1
  have hnb := hw.1.1
  have hns := hw.1.2.1
  have hX0 : c_X G mu (sx_n σ) oc σ sv nl (A_st A 0) := hX
  have hF0 : c_F G mu (sx_n σ) σ sv (A_v (A_st A 0)) := hF
  have hv1 := hV.1
  refine sv_aload_n dX1_account_0 rfl ?_
  refine sv_iload_n dX1_account_1 rfl ?_
  refine sv_cvR _ (cg_sesAt hx hV hj) okX1_sessionAt kv_X1_240 (sx_rd_c hx) rfl dX1_account_2 rfl rfl (by omega) (Nat.le_of_ble_eq_true rfl) ?_
  refine sv_astore_n dX1_account_5 (by decide) ?_
  refine sv_iload_n dX1_account_6 rfl ?_
  refine sv_i2l dX1_account_7 ?_
  refine sv_lconst 0 dX1_account_8 (by decide) ?_
  refine sv_ldc2 q1419 dX1_account_9 ?_
  refine sv_csR _ cc_inRange okX1_inRange ks_X1_94 dX1_account_12 rfl rfl (by omega) (Nat.le_of_ble_eq_true rfl) ?_
  refine sv_tI (y := b_I false) (congrArg b_I h) ?_
  refine sv_cs _ cx_A okX1_requireArgument ks_X1_98.1 ks_X1_98.2 dX1_account_15 rfl rfl (by omega) (Nat.le_of_ble_eq_true rfl) (fun v τ h => by obtain ⟨q, e, _⟩ := h; cases e) (fun E q τ h => ?_)
  obtain ⟨q9, e9, F9⟩ := h
  cases e9
  refine sv_out (fun x hx => by cases hx) ?_
  exact ⟨_, rfl, F9⟩
theorem cp_acc (hK : c_K G mu oc σ A) {j : Nat} (hj : j < (A_v A).2.2.length) {w : Nat} (hw5 : w < 5) (h : a_in (nI w) 0 4 = true) : sx_C G 100 YX1_account [.ref (mu 0), .int (nI j), .int (nI w)] σ (c_R ["java/lang/IndexOutOfBoundsException", "java/lang/IllegalArgumentException"] G mu oc σ ((a_ac (A_v A) j w, A_st A 0))) := by
  refine sx_body (by decide) (Nat.le_of_ble_eq_true rfl) ?_
  have hK0 := hK
  obtain ⟨sv, nl, hX, hF, hN⟩ := hK
  obtain ⟨Λ0, hV, hzz, hw⟩ := id hF
  have hx := hX.1
  have hnb := hw.1.1
  have hns := hw.1.2.1
  have hX0 : c_X G mu (sx_n σ) oc σ sv nl (A_st A 0) := hX
  have hF0 : c_F G mu (sx_n σ) σ sv (A_v (A_st A 0)) := hF
  have hv1 := hV.1
  obtain ⟨fu0, ft0, fa0, hso, hu0, ht0, hac0, -, -, -, -, eac⟩ := k_V_ses hV hj
  refine sv_aload_n dX1_account_0 rfl ?_
  refine sv_iload_n dX1_account_1 rfl ?_
  refine sv_cvR _ (cg_sesAt hx hV hj) okX1_sessionAt kv_X1_240 (sx_rd_c hx) rfl dX1_account_2 rfl rfl (by omega) (Nat.le_of_ble_eq_true rfl) ?_
  refine sv_astore_n dX1_account_5 (by decide) ?_
  refine sv_iload_n dX1_account_6 rfl ?_
  refine sv_i2l dX1_account_7 ?_
  refine sv_lconst 0 dX1_account_8 (by decide) ?_
  refine sv_ldc2 q1419 dX1_account_9 ?_
  refine sv_csR _ cc_inRange okX1_inRange ks_X1_94 dX1_account_12 rfl rfl (by omega) (Nat.le_of_ble_eq_true rfl) ?_
  refine sv_tI (y := b_I true) (congrArg b_I h) ?_
  refine sv_csR _ cr_A okX1_requireArgument ks_X1_98 dX1_account_15 rfl rfl (by omega) (Nat.le_of_ble_eq_true rfl) ?_
  refine sv_aload_n dX1_account_18 rfl ?_
  refine sv_get fg_X1_304 dX1_account_19 (sx_rd_c hso) rfl ?_
  refine sv_iload_n dX1_account_22 rfl ?_
  refine sv_iald dX1_account_23 (sx_rd_c hac0) (vp_in_nI (by omega) (by omega)) ?_
  rw [nI_clamp (show w < 2 ^ 31 by omega)]
  refine sv_iret rfl rfl dX1_account_24 ?_
  exact c_R_q hK0 (eac w hw5)
theorem pm_acc (hK : c_K G mu oc σ A) {s x : Int32} : sx_C G 100 YX1_account [.ref (mu 0), .int s, .int x] σ (c_R ["java/lang/IndexOutOfBoundsException", "java/lang/IllegalArgumentException"] G mu oc σ (sp_acc A s x)) := by
  have hns : (A_v A).2.2.length ≤ 4 := by obtain ⟨_, _, _, ⟨_, _, _, hw⟩, _⟩ := hK; exact hw.1.2.1
  have hnb : (A_v A).2.1.length ≤ 3 := by obtain ⟨_, _, _, ⟨_, _, _, hw⟩, _⟩ := hK; exact hw.1.1
  unfold sp_acc
  refine c_2 hK (fun h => cpx_acc1 hK h) (fun h1 h2 => ?_) (fun h1 h2 => ?_)
  · obtain ⟨j, hj, rfl⟩ := i_in_of (by omega) h1
    exact cpx_acc2 hK hj h2
  · obtain ⟨j, hj, rfl⟩ := i_in_of (by omega) h1
    obtain ⟨w, rfl, ew, hw⟩ := a_in_of h2
    rw [nI_clamp (by omega), ew]
    exact cp_acc hK hj (by have : ((4 : Int32).toInt) = 4 := rfl; omega) h2
theorem cpx_thn1 (hK : c_K G mu oc σ A) {s k : Int32} (hi : i_in s (A_v A).2.2.length = false) : sx_C G 100 YX1_numberThen [.ref (mu 0), .int s, .int k] σ (c_X0 "java/lang/IndexOutOfBoundsException" σ) := by
  refine sx_body (by decide) (Nat.le_of_ble_eq_true rfl) ?_
  obtain ⟨sv, nl, hX, hF, hN⟩ := hK
  obtain ⟨Λ0, hV, hzz, hw⟩ := id hF
  have hx := hX.1
  have hnb := hw.1.1
  have hns := hw.1.2.1
  have hX0 : c_X G mu (sx_n σ) oc σ sv nl (A_st A 0) := hX
  have hF0 : c_F G mu (sx_n σ) σ sv (A_v (A_st A 0)) := hF
  have hv1 := hV.1
  refine sv_aload_n dX1_numberThen_0 rfl ?_
  refine sv_iload_n dX1_numberThen_1 rfl ?_
  refine sv_cv _ (cgx_sesAt hx hV hi) okX1_sessionAt (sx_rd_c hx) rfl kv_X1_240.1 kv_X1_240.2.1 kv_X1_240.2.2 dX1_numberThen_2 rfl rfl (by omega) (Nat.le_of_ble_eq_true rfl) (fun v τ h => by obtain ⟨q, e, _⟩ := h; cases e) (fun E q τ h => ?_)
  obtain ⟨q9, e9, F9⟩ := h
  cases e9
  refine sv_out (fun x hx => by cases hx) ?_
  exact ⟨_, rfl, F9⟩
theorem cpx_thn2 (hK : c_K G mu oc σ A) {j : Nat} (hj : j < (A_v A).2.2.length) {k : Int32} (h : i_en k (a_es (A_v A) j).length = false) : sx_C G 100 YX1_numberThen [.ref (mu 0), .int (nI j), .int k] σ (c_X0 "java/lang/IndexOutOfBoundsException" σ) := by
  refine sx_body (by decide) (Nat.le_of_ble_eq_true rfl) ?_
  obtain ⟨sv, nl, hX, hF, hN⟩ := hK
  obtain ⟨Λ0, hV, hzz, hw⟩ := id hF
  have hx := hX.1
  have hnb := hw.1.1
  have hns := hw.1.2.1
  have hX0 : c_X G mu (sx_n σ) oc σ sv nl (A_st A 0) := hX
  have hF0 : c_F G mu (sx_n σ) σ sv (A_v (A_st A 0)) := hF
  have hv1 := hV.1
  refine sv_aload_n dX1_numberThen_0 rfl ?_
  refine sv_iload_n dX1_numberThen_1 rfl ?_
  refine sv_cvR _ (cg_sesAt hx hV hj) okX1_sessionAt kv_X1_240 (sx_rd_c hx) rfl dX1_numberThen_2 rfl rfl (by omega) (Nat.le_of_ble_eq_true rfl) ?_
  refine sv_astore_n dX1_numberThen_5 (by decide) ?_
  refine sv_aload_n dX1_numberThen_6 rfl ?_
  refine sv_iload_n dX1_numberThen_7 rfl ?_
  refine sv_cs _ (cgx_ent hV hj h) okX1_requireEntry ks_X1_270.1 ks_X1_270.2 dX1_numberThen_8 rfl rfl (by omega) (Nat.le_of_ble_eq_true rfl) (fun v τ h => by obtain ⟨q, e, _⟩ := h; cases e) (fun E q τ h => ?_)
  obtain ⟨q9, e9, F9⟩ := h
  cases e9
  refine sv_out (fun x hx => by cases hx) ?_
  exact ⟨_, rfl, F9⟩
theorem a_pe_le9 {j : Nat} (hw : w_V V) (hj : j < V.2.2.length) : a_pe V j < 2 ^ 30 := by
  have g1 := a_gm_le V j (a_es V j).length
  have g2 := a_om_le V j
  have g3 := hw.2.1 j hj
  unfold a_pe
  split <;> omega
theorem o_ls9 {t : Nat} (ho : o_V t V) (ht : t ≤ 1000) {j b : Nat} (hj : j < V.2.2.length) (hbx : a_bx V j = some b) (hb : b < V.2.1.length) : (a_ls V j).toInt < 2147483647 := by
  have h1 : a_ls V j < (a_b V b).2.1 := (ho.2.2 j hj).2.1 b hbx
  have h2 := (ho.2.1 b hb).1.2
  rw [Int32.lt_iff_toInt_lt] at h1
  omega
theorem cpx_pen (hK : c_K G mu oc σ A) {s : Int32} (hi : i_in s (A_v A).2.2.length = false) : sx_C G 100 YX1_pending [.ref (mu 0), .int s] σ (c_X0 "java/lang/IndexOutOfBoundsException" σ) := by
  refine sx_body (by decide) (Nat.le_of_ble_eq_true rfl) ?_
  obtain ⟨sv, nl, hX, hF, hN⟩ := hK
  obtain ⟨Λ0, hV, hzz, hw⟩ := id hF
  have hx := hX.1
  have hnb := hw.1.1
  have hns := hw.1.2.1
  have hX0 : c_X G mu (sx_n σ) oc σ sv nl (A_st A 0) := hX
  have hF0 : c_F G mu (sx_n σ) σ sv (A_v (A_st A 0)) := hF
  have hv1 := hV.1
  refine sv_aload_n dX1_pending_0 rfl ?_
  refine sv_get fg_X1_44 dX1_pending_1 (sx_rd_c hx) rfl ?_
  refine sv_aload_n dX1_pending_4 rfl ?_
  refine sv_iload_n dX1_pending_5 rfl ?_
  refine sv_cv _ (cgx_sesAt hx hV hi) okX1_sessionAt (sx_rd_c hx) rfl kv_X1_240.1 kv_X1_240.2.1 kv_X1_240.2.2 dX1_pending_6 rfl rfl (by omega) (Nat.le_of_ble_eq_true rfl) (fun v τ h => by obtain ⟨q, e, _⟩ := h; cases e) (fun E q τ h => ?_)
  obtain ⟨q9, e9, F9⟩ := h
  cases e9
  refine sv_out (fun x hx => by cases hx) ?_
  exact ⟨_, rfl, F9⟩
theorem cp_pen (hK : c_K G mu oc σ A) {j : Nat} (hj : j < (A_v A).2.2.length) (hG : g_L G) {t : Nat} (ho : o_V t (A_v A)) (ht6 : t ≤ 1000) : sx_C G 100 YX1_pending [.ref (mu 0), .int (nI j)] σ (c_R ["java/lang/IndexOutOfBoundsException"] G mu oc σ ((nI (a_pe (A_v A) j), A_st A 0))) := by
  refine sx_body (by decide) (Nat.le_of_ble_eq_true rfl) ?_
  have hK0 := hK
  obtain ⟨sv, nl, hX, hF, hN⟩ := hK
  obtain ⟨Λ0, hV, hzz, hw⟩ := id hF
  have hx := hX.1
  have hnb := hw.1.1
  have hns := hw.1.2.1
  have hX0 : c_X G mu (sx_n σ) oc σ sv nl (A_st A 0) := hX
  have hF0 : c_F G mu (sx_n σ) σ sv (A_v (A_st A 0)) := hF
  have hv1 := hV.1
  have hl9 : ∀ b, a_bx (A_v A) j = some b → (a_ls (A_v A) j).toInt < 2147483647 := fun b hbx => o_ls9 ho ht6 hj hbx (hw.2.2.1 j b hj hbx)
  refine sv_aload_n dX1_pending_0 rfl ?_
  refine sv_get fg_X1_44 dX1_pending_1 (sx_rd_c hx) rfl ?_
  refine sv_aload_n dX1_pending_4 rfl ?_
  refine sv_iload_n dX1_pending_5 rfl ?_
  refine sv_cvR _ (cg_sesAt hx hV hj) okX1_sessionAt kv_X1_240 (sx_rd_c hx) rfl dX1_pending_6 rfl rfl (by omega) (Nat.le_of_ble_eq_true rfl) ?_
  refine sv_cvP _ (cc_pending hG hV hj (fun b hb => hw.2.2.1 j b hj hb) (fun hb => hw.2.2.2 j hj hb) hl9) okX2_pending kv_X1_289 (sx_rd_c hv1) rfl dX1_pending_9 rfl rfl (by omega) (Nat.le_of_ble_eq_true rfl) ?_
  intro v6 τ4 hp5
  obtain ⟨rfl, F1⟩ := hp5
  refine sv_iret rfl rfl dX1_pending_12 ?_
  exact c_R_f hK0 F1 (by omega) (by omega) rfl
theorem pm_pen (hK : c_K G mu oc σ A) (hG : g_L G) {t : Nat} (ho : o_V t (A_v A)) (ht6 : t ≤ 1000) {s : Int32} : sx_C G 100 YX1_pending [.ref (mu 0), .int s] σ (c_R ["java/lang/IndexOutOfBoundsException"] G mu oc σ (sp_pen A s)) := by
  have hns : (A_v A).2.2.length ≤ 4 := by obtain ⟨_, _, _, ⟨_, _, _, hw⟩, _⟩ := hK; exact hw.1.2.1
  have hnb : (A_v A).2.1.length ≤ 3 := by obtain ⟨_, _, _, ⟨_, _, _, hw⟩, _⟩ := hK; exact hw.1.1
  unfold sp_pen
  refine c_1 hK (fun h => cpx_pen hK h) (fun h => ?_)
  obtain ⟨j, hj, rfl⟩ := i_in_of (by omega) h
  rw [nI_clamp (by omega)]
  exact cp_pen hK hj hG ho ht6
theorem cc_isTold (hK : c_K G mu oc σ A) (hG : g_L G) {t : Nat} (ho : o_V t (A_v A)) (ht6 : t ≤ 1000) {j : Nat} (hj : j < (A_v A).2.2.length) {sv nl : Nat} {Λ0 : Nat → Nat → Nat → Nat} (hx : sx_c σ (mu 0) = some (.inr (0, [.ref sv, .ref (mu 1), .ref (mu 3), .ref nl, .ref (mu 4), .int (nI (A_i A).length), .int (A_c A), .int (A_p A), .ref (mu 5)]))) (hV : k_V G σ sv Λ0 (A_v A)) (hw : w_V (A_v A)) : sx_Cp G 95 YX1_isTold [.ref (mu 0), .ref (Λ0 3 j 0)] σ (fun v τ => v = some (.int (b_I (a_upd (A_v A) j))) ∧ h_F (fun q => False) 1 2 σ τ) := by
  refine sx_body (by decide) (Nat.le_of_ble_eq_true rfl) ?_
  have hv1 := hV.1
  have hl9 : ∀ b, a_bx (A_v A) j = some b → (a_ls (A_v A) j).toInt < 2147483647 := fun b hbx => o_ls9 ho ht6 hj hbx (hw.2.2.1 j b hj hbx)
  obtain ⟨fu0, ft0, fa0, hso, -⟩ := k_V_ses hV hj
  have hpl := a_pe_le9 hw hj
  refine sv_aload_n dX1_isTold_0 rfl ?_
  refine sv_get fg_X1_194 dX1_isTold_1 (sx_rd_c hso) rfl ?_
  refine sv_iconst (-1) dX1_isTold_4 (by decide +kernel) ?_
  refine sv_icmp_eq (tgt := 23) dX1_isTold_5 (by decide) (fun c5 => ?_) (fun c5 => ?_)
  · have hbn : a_bx (A_v A) j = none := (o_I_m1 _ (fun k h => by have h8 := hw.2.2.1 j k hj h; have h9 := hw.1.1; omega)).mp c5
    have F1 : h_F (fun q => False) 1 2 σ σ := h_F_r
    have hv : b_I (a_upd (A_v A) j) = nI 0 := by unfold a_upd; rw [hbn]; rfl
    refine sv_iconst (nI 0) dX1_isTold_23 (by decide +kernel) ?_
    refine sv_iret (by first | exact b_I_nar _ | rfl) rfl dX1_isTold_24 ?_
    exact ⟨_, rfl, r_I hv.symm, F1⟩
  · have hbn : (a_bx (A_v A) j).isSome = true := by cases hq : a_bx (A_v A) j with | none => rw [hq] at c5; exact absurd rfl c5 | some b => rfl
    refine sv_aload_n dX1_isTold_8 rfl ?_
    refine sv_get fg_X1_44 dX1_isTold_9 (sx_rd_c hx) rfl ?_
    refine sv_aload_n dX1_isTold_12 rfl ?_
    refine sv_cvP _ (cc_pending hG hV hj (fun b hb => hw.2.2.1 j b hj hb) (fun hb => hw.2.2.2 j hj hb) hl9) okX2_pending kv_X1_289 (sx_rd_c hv1) rfl dX1_isTold_13 rfl rfl (by omega) (Nat.le_of_ble_eq_true rfl) ?_
    intro v9 τ7 hp8
    obtain ⟨rfl, F1⟩ := hp8
    refine sv_if_neN (tgt := 23) dX1_isTold_16 (by decide) (by omega) (fun c16 => ?_) (fun c16 => ?_)
    · have hv : b_I (a_upd (A_v A) j) = nI 0 := by unfold a_upd; rw [hbn, decide_eq_false (by omega)]; rfl
      refine sv_iconst (nI 0) dX1_isTold_23 (by decide +kernel) ?_
      refine sv_iret (by first | exact b_I_nar _ | rfl) rfl dX1_isTold_24 ?_
      exact ⟨_, rfl, r_I hv.symm, F1⟩
    · have hv : b_I (a_upd (A_v A) j) = nI 1 := by unfold a_upd; rw [hbn, decide_eq_true (by omega)]; rfl
      refine sv_iconst (nI 1) dX1_isTold_19 (by decide +kernel) ?_
      refine sv_goto (tgt := 24) dX1_isTold_20 (by decide) ?_
      refine sv_iret (by first | exact b_I_nar _ | rfl) rfl dX1_isTold_24 ?_
      exact ⟨_, rfl, r_I hv.symm, F1⟩
theorem cpx_cur (hK : c_K G mu oc σ A) {s : Int32} (hi : i_in s (A_v A).2.2.length = false) : sx_C G 100 YX1_isCurrent [.ref (mu 0), .int s] σ (c_X0 "java/lang/IndexOutOfBoundsException" σ) := by
  refine sx_body (by decide) (Nat.le_of_ble_eq_true rfl) ?_
  obtain ⟨sv, nl, hX, hF, hN⟩ := hK
  obtain ⟨Λ0, hV, hzz, hw⟩ := id hF
  have hx := hX.1
  have hnb := hw.1.1
  have hns := hw.1.2.1
  have hX0 : c_X G mu (sx_n σ) oc σ sv nl (A_st A 0) := hX
  have hF0 : c_F G mu (sx_n σ) σ sv (A_v (A_st A 0)) := hF
  have hv1 := hV.1
  refine sv_aload_n dX1_isCurrent_0 rfl ?_
  refine sv_aload_n dX1_isCurrent_1 rfl ?_
  refine sv_iload_n dX1_isCurrent_2 rfl ?_
  refine sv_cv _ (cgx_sesAt hx hV hi) okX1_sessionAt (sx_rd_c hx) rfl kv_X1_240.1 kv_X1_240.2.1 kv_X1_240.2.2 dX1_isCurrent_3 rfl rfl (by omega) (Nat.le_of_ble_eq_true rfl) (fun v τ h => by obtain ⟨q, e, _⟩ := h; cases e) (fun E q τ h => ?_)
  obtain ⟨q9, e9, F9⟩ := h
  cases e9
  refine sv_out (fun x hx => by cases hx) ?_
  exact ⟨_, rfl, F9⟩
theorem cp_cur (hK : c_K G mu oc σ A) {j : Nat} (hj : j < (A_v A).2.2.length) (hG : g_L G) {t : Nat} (ho : o_V t (A_v A)) (ht6 : t ≤ 1000) : sx_C G 100 YX1_isCurrent [.ref (mu 0), .int (nI j)] σ (c_R ["java/lang/IndexOutOfBoundsException"] G mu oc σ ((b_I (a_upd (A_v A) j), A_st A 0))) := by
  refine sx_body (by decide) (Nat.le_of_ble_eq_true rfl) ?_
  have hK0 := hK
  obtain ⟨sv, nl, hX, hF, hN⟩ := hK
  obtain ⟨Λ0, hV, hzz, hw⟩ := id hF
  have hx := hX.1
  have hnb := hw.1.1
  have hns := hw.1.2.1
  have hX0 : c_X G mu (sx_n σ) oc σ sv nl (A_st A 0) := hX
  have hF0 : c_F G mu (sx_n σ) σ sv (A_v (A_st A 0)) := hF
  have hv1 := hV.1
  refine sv_aload_n dX1_isCurrent_0 rfl ?_
  refine sv_aload_n dX1_isCurrent_1 rfl ?_
  refine sv_iload_n dX1_isCurrent_2 rfl ?_
  refine sv_cvR _ (cg_sesAt hx hV hj) okX1_sessionAt kv_X1_240 (sx_rd_c hx) rfl dX1_isCurrent_3 rfl rfl (by omega) (Nat.le_of_ble_eq_true rfl) ?_
  refine sv_cvP _ (cc_isTold hK0 hG ho ht6 hj hx hV hw) okX1_isTold kv_X1_292 (sx_rd_c hx) rfl dX1_isCurrent_6 rfl rfl (by omega) (Nat.le_of_ble_eq_true rfl) ?_
  intro v12 τ10 hp11
  obtain ⟨rfl, F1⟩ := hp11
  refine sv_iret (by first | exact b_I_nar _ | rfl) rfl dX1_isCurrent_9 ?_
  exact c_R_f hK0 F1 (by omega) (by omega) rfl
theorem pm_cur (hK : c_K G mu oc σ A) (hG : g_L G) {t : Nat} (ho : o_V t (A_v A)) (ht6 : t ≤ 1000) {s : Int32} : sx_C G 100 YX1_isCurrent [.ref (mu 0), .int s] σ (c_R ["java/lang/IndexOutOfBoundsException"] G mu oc σ (sp_cur A s)) := by
  have hns : (A_v A).2.2.length ≤ 4 := by obtain ⟨_, _, _, ⟨_, _, _, hw⟩, _⟩ := hK; exact hw.1.2.1
  have hnb : (A_v A).2.1.length ≤ 3 := by obtain ⟨_, _, _, ⟨_, _, _, hw⟩, _⟩ := hK; exact hw.1.1
  unfold sp_cur
  refine c_1 hK (fun h => cpx_cur hK h) (fun h => ?_)
  obtain ⟨j, hj, rfl⟩ := i_in_of (by omega) h
  rw [nI_clamp (by omega)]
  exact cp_cur hK hj hG ho ht6
theorem mo_go {j k : Nat} : a_go V j k = (a_mo V j k).isNone := rfl
theorem cp_thn (hK : c_K G mu oc σ A) {j : Nat} (hj : j < (A_v A).2.2.length) {f : Nat} (hf : f < (a_es (A_v A) j).length) : sx_C G 100 YX1_numberThen [.ref (mu 0), .int (nI j), .int (nI (f + 1))] σ (c_R ["java/lang/IndexOutOfBoundsException"] G mu oc σ ((if a_go (A_v A) j f then -1 else nI (a_th (A_v A) j 0 (f + 1)), A_st A 0))) := by
  refine sx_body (by decide) (Nat.le_of_ble_eq_true rfl) ?_
  have hK0 := hK
  obtain ⟨sv, nl, hX, hF, hN⟩ := hK
  obtain ⟨Λ0, hV, hzz, hw⟩ := id hF
  have hx := hX.1
  have hnb := hw.1.1
  have hns := hw.1.2.1
  have hX0 : c_X G mu (sx_n σ) oc σ sv nl (A_st A 0) := hX
  have hF0 : c_F G mu (sx_n σ) σ sv (A_v (A_st A 0)) := hF
  have hv1 := hV.1
  have hel := hw.2.1 j hj
  obtain ⟨b, hbx⟩ : ∃ b, a_bx (A_v A) j = some b := by
    cases hq : a_bx (A_v A) j with
    | none => rw [hw.2.2.2 j hj hq] at hf; exact absurd hf (Nat.not_lt_zero _)
    | some b => exact ⟨b, rfl⟩
  have hb := hw.2.2.1 j b hj hbx
  have hgm := th_gm (V := A_v A) (s := j) (f := 0) (f + 1)
  have hg0 : a_gm (A_v A) j 0 = 0 := rfl
  rw [hg0, Nat.zero_add, Nat.add_zero] at hgm
  refine sv_aload_n dX1_numberThen_0 rfl ?_
  refine sv_iload_n dX1_numberThen_1 rfl ?_
  refine sv_cvR _ (cg_sesAt hx hV hj) okX1_sessionAt kv_X1_240 (sx_rd_c hx) rfl dX1_numberThen_2 rfl rfl (by omega) (Nat.le_of_ble_eq_true rfl) ?_
  refine sv_astore_n dX1_numberThen_5 (by decide) ?_
  refine sv_aload_n dX1_numberThen_6 rfl ?_
  refine sv_iload_n dX1_numberThen_7 rfl ?_
  refine sv_csR _ (cg_ent hV hj (i_en_nI hf (by omega))) okX1_requireEntry ks_X1_270 dX1_numberThen_8 rfl rfl (by omega) (Nat.le_of_ble_eq_true rfl) ?_
  refine sv_aload_n dX1_numberThen_11 rfl ?_
  refine sv_get fg_X1_44 dX1_numberThen_12 (sx_rd_c hx) rfl ?_
  refine sv_aload_n dX1_numberThen_15 rfl ?_
  refine sv_iload_n dX1_numberThen_16 rfl ?_
  refine sv_iconst (nI 1) dX1_numberThen_17 (by decide +kernel) ?_
  refine sv_isubN dX1_numberThen_18 (by omega) ?_
  refine sv_cvR _ (cc_at hV hj hbx hb hf) okX2_at kv_X1_274 (sx_rd_c hv1) rfl dX1_numberThen_19 rfl rfl (by omega) (Nat.le_of_ble_eq_true rfl) ?_
  refine sv_ifnonnullq (tgt := 29) dX1_numberThen_22 (by decide) (fun a22 c22 => ?_) (fun c22 => ?_)
  · have hgo : a_go (A_v A) j f = false := by obtain ⟨m, hmo, -⟩ := Option.map_eq_some_iff.mp c22; rw [mo_go, hmo]; rfl
    refine sv_iload_n dX1_numberThen_29 rfl ?_
    refine sv_aload_n dX1_numberThen_30 rfl ?_
    refine sv_get fg_X1_44 dX1_numberThen_31 (sx_rd_c hx) rfl ?_
    refine sv_aload_n dX1_numberThen_34 rfl ?_
    refine sv_iload_n dX1_numberThen_35 rfl ?_
    refine sv_cvR _ (cc_gone hV hj (n := f + 1) (by omega) (fun b hb => hw.2.2.1 j b hj hb) (fun hb => hw.2.2.2 j hj hb)) okX2_gone kv_X1_259 (sx_rd_c hv1) rfl dX1_numberThen_36 rfl rfl (by omega) (Nat.le_of_ble_eq_true rfl) ?_
    refine sv_isubN dX1_numberThen_39 (by omega) ?_
    refine sv_iret rfl rfl dX1_numberThen_40 ?_
    rw [hgo]
    first | exact c_R_q hK0 rfl | exact c_R_q hK0 (congrArg nI (by omega))
  · have hgo : a_go (A_v A) j f = true := by rw [mo_go, Option.map_eq_none_iff.mp c22]; rfl
    refine sv_iconst (-1) dX1_numberThen_25 (by decide +kernel) ?_
    refine sv_goto (tgt := 40) dX1_numberThen_26 (by decide) ?_
    refine sv_iret rfl rfl dX1_numberThen_40 ?_
    rw [hgo]
    first | exact c_R_q hK0 rfl | exact c_R_q hK0 (congrArg nI (by omega))
theorem pm_thn (hK : c_K G mu oc σ A) {s k : Int32} : sx_C G 100 YX1_numberThen [.ref (mu 0), .int s, .int k] σ (c_R ["java/lang/IndexOutOfBoundsException"] G mu oc σ (sp_thn A s k)) := by
  have hw : w_V (A_v A) := by obtain ⟨_, _, _, ⟨_, _, _, hw⟩, _⟩ := hK; exact hw
  have hns := hw.1.2.1
  unfold sp_thn
  refine c_1 hK (fun h => ?_) (fun h => ?_)
  · unfold a_isE at h
    cases h1 : i_in s (A_v A).2.2.length with
    | false => exact cpx_thn1 hK h1
    | true =>
      obtain ⟨j, hj, rfl⟩ := i_in_of (by omega) h1
      rw [h1, Bool.true_and, nI_clamp (by omega)] at h
      exact cpx_thn2 hK hj h
  · unfold a_isE at h
    rw [Bool.and_eq_true] at h
    obtain ⟨j, hj, rfl⟩ := i_in_of (by omega) h.1
    have h2 := h.2
    have hel := hw.2.1 j hj
    rw [nI_clamp (by omega)] at h2 ⊢
    obtain ⟨f, hf, rfl⟩ := i_en_of (by omega) h2
    rw [nI_clamp (by omega)]
    exact cp_thn hK hj hf
end CQ1
