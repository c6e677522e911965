set_option maxRecDepth 100000
section CME
variable {G : sx_G} {σ τ : sx_St} {mu : Nat → Nat} {oc lo sv nl cap : Nat} {ow : Nat → Nat} {Λ : Nat → Nat → Nat → Nat} {A : a_A} {V : a_V} {W : Nat → Prop} {c sl : Nat} {N : List a_N}
theorem mv_cnt {t : Nat} (ho : o_V t V) (ht : t ≤ 1000) {s c b f u : Nat} (hs : s < V.2.2.length) (hbx : a_bx V s = some c) (hc : c < V.2.1.length) (hl : (a_mf V s f u).length ≤ 60) : (a_ms (v_cs V b (a_mf V s f u)) c).countP (r_g (a_es V s) f u) = (a_mf V s f u).length := by
  have hE : E_lt (a_es V s) := (ho.2.2 s hs).1.2.1
  obtain ⟨l', h1, h2⟩ := v_cs_ms (V := V) (b := b) (c := c) (l := a_mf V s f u)
  have h3 : l'.countP (r_g (a_es V s) f u) = 0 := by
    refine List.countP_eq_zero.mpr (fun y hy hr => ?_)
    rw [r_g_iff hE] at hr
    obtain ⟨i, g1, g2, g3, g4⟩ := hr
    obtain ⟨k, w1, w2⟩ := h2 y hy
    have w3 := (o_far ho ht hc (show k ≤ 60 by omega)).1
    have w4 : ((a_es V s).getD i (0, 0)).1 < (a_b V c).2.1 := o_uid ho hs hbx g3
    rw [g4, w2] at w4
    exact Int32.lt_irrefl (Int32.lt_of_lt_of_le w4 w3)
  rw [h1, List.countP_append, h3, List.countP_eq_length_filter, Nat.add_zero, a_mf_e hbx]
theorem room_30 {t b k : Nat} (ho : o_V t V) (hl : (a_ms V b).length ≤ 30) (hk : k ≤ 60) (h : a_room V b k = true) : k = 0 ∨ (a_ms V b).length + k ≤ 30 := by
  unfold a_room at h
  rw [Bool.or_eq_true] at h
  rcases h with h | h
  · exact Or.inl (of_decide_eq_true h)
  · have h := of_decide_eq_true h
    rw [Int32.le_iff_toInt_le, nI_toInt (by omega)] at h
    have := ho.1.2
    exact Or.inr (by omega)
theorem w_V_cs9 {b : Nat} {l : List a_M} (hw : w_V V) (hb : b < V.2.1.length) (h : l.length = 0 ∨ (a_ms V b).length + l.length ≤ 30) : w_V (v_cs V b l) := by
  have h30 := hw.1.2.2 b hb
  refine w_V_b hw ?_
  show (a_ms V b ++ n_um _ l).length ≤ 30
  rw [List.length_append, n_um_l]
  omega
theorem cpx_cpy1 (hK : c_K G mu oc σ A) {s k l b : Int32} (hi : i_in b (A_v A).2.1.length = false) : sx_C G 100 YX1_copy [.ref (mu 0), .int s, .int k, .int l, .int b] σ (c_X0 "java/lang/IndexOutOfBoundsException" σ) := by
  refine sx_body (by decide) (Nat.le_of_ble_eq_true rfl) ?_
  obtain ⟨sv, nl, hX, hF, hN⟩ := hK
  obtain ⟨Λ0, hV, hzz, hw⟩ := id hF
  have hx := hX.1
  have hnb := hw.1.1
  have hns := hw.1.2.1
  have hX0 : c_X G mu (sx_n σ) oc σ sv nl (A_st A 0) := hX
  have hF0 : c_F G mu (sx_n σ) σ sv (A_v (A_st A 0)) := hF
  refine sv_aload_n dX1_copy_0 rfl ?_
  refine sv_iload dX1_copy_1 rfl ?_
  refine sv_cv _ (cgx_boxAt hx hV hi) okX1_boxAt (sx_rd_c hx) rfl kv_X1_197.1 kv_X1_197.2.1 kv_X1_197.2.2 dX1_copy_3 rfl rfl (by omega) (Nat.le_of_ble_eq_true rfl) (fun v τ h => by obtain ⟨q, e, _⟩ := h; cases e) (fun E q τ h => ?_)
  obtain ⟨q9, e9, F9⟩ := h
  cases e9
  refine sv_out (fun x hx => by cases hx) ?_
  exact ⟨_, rfl, F9⟩
theorem cpx_cpy2 (hK : c_K G mu oc σ A) {i : Nat} (hi : i < (A_v A).2.1.length) {s k l : Int32} (h : a_are (A_v A) s k l = false) : sx_C G 100 YX1_copy [.ref (mu 0), .int s, .int k, .int l, .int (nI i)] σ (c_X0 "java/lang/IndexOutOfBoundsException" σ) := by
  refine sx_body (by decide) (Nat.le_of_ble_eq_true rfl) ?_
  obtain ⟨sv, nl, hX, hF, hN⟩ := hK
  obtain ⟨Λ0, hV, hzz, hw⟩ := id hF
  have hx := hX.1
  have hnb := hw.1.1
  have hns := hw.1.2.1
  have hX0 : c_X G mu (sx_n σ) oc σ sv nl (A_st A 0) := hX
  have hF0 : c_F G mu (sx_n σ) σ sv (A_v (A_st A 0)) := hF
  refine sv_aload_n dX1_copy_0 rfl ?_
  refine sv_iload dX1_copy_1 rfl ?_
  refine sv_cvR _ (cg_boxAt hx hV hi) okX1_boxAt kv_X1_197 (sx_rd_c hx) rfl dX1_copy_3 rfl rfl (by omega) (Nat.le_of_ble_eq_true rfl) ?_
  refine sv_astore dX1_copy_6 (by decide) ?_
  refine sv_aload_n dX1_copy_8 rfl ?_
  refine sv_iload_n dX1_copy_9 rfl ?_
  refine sv_iload_n dX1_copy_10 rfl ?_
  refine sv_iload_n dX1_copy_11 rfl ?_
  refine sv_cv _ (cgx_rng hx hV hns h) okX1_rangeOf (sx_rd_c hx) rfl kv_X1_351.1 kv_X1_351.2.1 kv_X1_351.2.2 dX1_copy_12 rfl rfl (by omega) (Nat.le_of_ble_eq_true rfl) (fun v τ h => by obtain ⟨q, e, _⟩ := h; cases e) (fun E q τ h => ?_)
  obtain ⟨q9, e9, F9⟩ := h
  cases e9
  refine sv_out (fun x hx => by cases hx) ?_
  exact ⟨_, rfl, F9⟩
theorem cpx_cpy3 (hK : c_K G mu oc σ A) {i : Nat} (hi : i < (A_v A).2.1.length) {j : Nat} (hj : j < (A_v A).2.2.length) {k l : Int32} (hk : i_en k (a_es (A_v A) j).length = true) (hl2 : i_en l (a_es (A_v A) j).length = true) (hle : ¬ k ≤ l) : sx_C G 100 YX1_copy [.ref (mu 0), .int (nI j), .int k, .int l, .int (nI i)] σ (c_X0 "java/lang/IllegalArgumentException" σ) := by
  refine sx_body (by decide) (Nat.le_of_ble_eq_true rfl) ?_
  obtain ⟨sv, nl, hX, hF, hN⟩ := hK
  obtain ⟨Λ0, hV, hzz, hw⟩ := id hF
  have hx := hX.1
  have hnb := hw.1.1
  have hns := hw.1.2.1
  have hX0 : c_X G mu (sx_n σ) oc σ sv nl (A_st A 0) := hX
  have hF0 : c_F G mu (sx_n σ) σ sv (A_v (A_st A 0)) := hF
  refine sv_aload_n dX1_copy_0 rfl ?_
  refine sv_iload dX1_copy_1 rfl ?_
  refine sv_cvR _ (cg_boxAt hx hV hi) okX1_boxAt kv_X1_197 (sx_rd_c hx) rfl dX1_copy_3 rfl rfl (by omega) (Nat.le_of_ble_eq_true rfl) ?_
  refine sv_astore dX1_copy_6 (by decide) ?_
  refine sv_aload_n dX1_copy_8 rfl ?_
  refine sv_iload_n dX1_copy_9 rfl ?_
  refine sv_iload_n dX1_copy_10 rfl ?_
  refine sv_iload_n dX1_copy_11 rfl ?_
  refine sv_cv _ (cgx_rng4 hx hV hj hk hl2 hle) okX1_rangeOf (sx_rd_c hx) rfl kv_X1_351.1 kv_X1_351.2.1 kv_X1_351.2.2 dX1_copy_12 rfl rfl (by omega) (Nat.le_of_ble_eq_true rfl) (fun v τ h => by obtain ⟨q, e, _⟩ := h; cases e) (fun E q τ h => ?_)
  obtain ⟨q9, e9, F9⟩ := h
  cases e9
  refine sv_out (fun x hx => by cases hx) ?_
  exact ⟨_, rfl, F9⟩
theorem cpx_cpy4 (hK : c_K G mu oc σ A) {i : Nat} (hi : i < (A_v A).2.1.length) {j : Nat} (hj : j < (A_v A).2.2.length) {f u : Nat} (hf : f < (a_es (A_v A) j).length) (hu : u < (a_es (A_v A) j).length) (hfu : f ≤ u) (h : ((a_bx (A_v A) j).isSome && !(a_id (A_v A) j)) = false) : sx_C G 100 YX1_copy [.ref (mu 0), .int (nI j), .int (nI (f + 1)), .int (nI (u + 1)), .int (nI i)] σ (c_X0 "java/lang/IllegalStateException" σ) := by
  refine sx_body (by decide) (Nat.le_of_ble_eq_true rfl) ?_
  obtain ⟨sv, nl, hX, hF, hN⟩ := hK
  obtain ⟨Λ0, hV, hzz, hw⟩ := id hF
  have hx := hX.1
  have hnb := hw.1.1
  have hns := hw.1.2.1
  have hX0 : c_X G mu (sx_n σ) oc σ sv nl (A_st A 0) := hX
  have hF0 : c_F G mu (sx_n σ) σ sv (A_v (A_st A 0)) := hF
  have hbl : ∀ b, a_bx (A_v A) j = some b → b < 100 := fun b hb => by have := hw.2.2.1 j b hj hb; omega
  have hel := hw.2.1 j hj
  have hk1 : i_en (nI (f + 1)) (a_es (A_v A) j).length = true := i_en_nI hf (by omega)
  have hk2 : i_en (nI (u + 1)) (a_es (A_v A) j).length = true := i_en_nI hu (by omega)
  have hle : nI (f + 1) ≤ nI (u + 1) := (nI_leI (by omega) (by omega)).mpr (by omega)
  refine sv_aload_n dX1_copy_0 rfl ?_
  refine sv_iload dX1_copy_1 rfl ?_
  refine sv_cvR _ (cg_boxAt hx hV hi) okX1_boxAt kv_X1_197 (sx_rd_c hx) rfl dX1_copy_3 rfl rfl (by omega) (Nat.le_of_ble_eq_true rfl) ?_
  refine sv_astore dX1_copy_6 (by decide) ?_
  refine sv_aload_n dX1_copy_8 rfl ?_
  refine sv_iload_n dX1_copy_9 rfl ?_
  refine sv_iload_n dX1_copy_10 rfl ?_
  refine sv_iload_n dX1_copy_11 rfl ?_
  refine sv_cvR _ (cg_rng hx hV hj hk1 hk2 hle) okX1_rangeOf kv_X1_351 (sx_rd_c hx) rfl dX1_copy_12 rfl rfl (by omega) (Nat.le_of_ble_eq_true rfl) ?_
  refine sv_astore dX1_copy_15 (by decide) ?_
  refine sv_aload dX1_copy_17 rfl ?_
  refine sv_cs _ (cgx_open hV hj hbl h) okX1_requireOpen ks_X1_343.1 ks_X1_343.2 dX1_copy_19 rfl rfl (by omega) (Nat.le_of_ble_eq_true rfl) (fun v τ h => by obtain ⟨q, e, _⟩ := h; cases e) (fun E q τ h => ?_)
  obtain ⟨q9, e9, F9⟩ := h
  cases e9
  refine sv_out (fun x hx => by cases hx) ?_
  exact ⟨_, rfl, F9⟩
theorem cpx_cpy5 (hK : c_K G mu oc σ A) {i : Nat} (hi : i < (A_v A).2.1.length) {j : Nat} (hj : j < (A_v A).2.2.length) {f u : Nat} (hf : f < (a_es (A_v A) j).length) (hu : u < (a_es (A_v A) j).length) (hfu : f ≤ u) (h : ((a_bx (A_v A) j).isSome && !(a_id (A_v A) j)) = true) (hr : a_room (A_v A) i (a_th (A_v A) j f (u + 1 - f)) = false) : sx_C G 100 YX1_copy [.ref (mu 0), .int (nI j), .int (nI (f + 1)), .int (nI (u + 1)), .int (nI i)] σ (c_X0 "java/lang/IllegalStateException" σ) := by
  refine sx_body (by decide) (Nat.le_of_ble_eq_true rfl) ?_
  obtain ⟨sv, nl, hX, hF, hN⟩ := hK
  obtain ⟨Λ0, hV, hzz, hw⟩ := id hF
  have hx := hX.1
  have hnb := hw.1.1
  have hns := hw.1.2.1
  have hX0 : c_X G mu (sx_n σ) oc σ sv nl (A_st A 0) := hX
  have hF0 : c_F G mu (sx_n σ) σ sv (A_v (A_st A 0)) := hF
  have hbl : ∀ b, a_bx (A_v A) j = some b → b < 100 := fun b hb => by have := hw.2.2.1 j b hj hb; omega
  have hel := hw.2.1 j hj
  have hk1 : i_en (nI (f + 1)) (a_es (A_v A) j).length = true := i_en_nI hf (by omega)
  have hk2 : i_en (nI (u + 1)) (a_es (A_v A) j).length = true := i_en_nI hu (by omega)
  have hle : nI (f + 1) ≤ nI (u + 1) := (nI_leI (by omega) (by omega)).mpr (by omega)
  refine sv_aload_n dX1_copy_0 rfl ?_
  refine sv_iload dX1_copy_1 rfl ?_
  refine sv_cvR _ (cg_boxAt hx hV hi) okX1_boxAt kv_X1_197 (sx_rd_c hx) rfl dX1_copy_3 rfl rfl (by omega) (Nat.le_of_ble_eq_true rfl) ?_
  refine sv_astore dX1_copy_6 (by decide) ?_
  refine sv_aload_n dX1_copy_8 rfl ?_
  refine sv_iload_n dX1_copy_9 rfl ?_
  refine sv_iload_n dX1_copy_10 rfl ?_
  refine sv_iload_n dX1_copy_11 rfl ?_
  refine sv_cvR _ (cg_rng hx hV hj hk1 hk2 hle) okX1_rangeOf kv_X1_351 (sx_rd_c hx) rfl dX1_copy_12 rfl rfl (by omega) (Nat.le_of_ble_eq_true rfl) ?_
  refine sv_astore dX1_copy_15 (by decide) ?_
  refine sv_aload dX1_copy_17 rfl ?_
  refine sv_csR _ (cg_open hV hj hbl h) okX1_requireOpen ks_X1_343 dX1_copy_19 rfl rfl (by omega) (Nat.le_of_ble_eq_true rfl) ?_
  refine sv_aload_n dX1_copy_22 rfl ?_
  refine sv_aload dX1_copy_23 rfl ?_
  refine sv_iload_n dX1_copy_25 rfl ?_
  refine sv_iload_n dX1_copy_26 rfl ?_
  refine sv_iload dX1_copy_27 rfl ?_
  refine sv_cv _ (cgx_room hx hV hj hi hw hfu hu hr) okX1_requireRoom (sx_rd_c hx) rfl kv_X1_396.1 kv_X1_396.2.1 kv_X1_396.2.2 dX1_copy_29 rfl rfl (by omega) (Nat.le_of_ble_eq_true rfl) (fun v τ h => by obtain ⟨q, e, _⟩ := h; cases e) (fun E q τ h => ?_)
  obtain ⟨q9, e9, F9⟩ := h
  cases e9
  refine sv_out (fun x hx => by cases hx) ?_
  exact ⟨_, rfl, F9⟩
theorem cp_cpy (hK : c_K G mu oc σ A) {z : Nat} (hz : g_Z G z) (hG : g_L G) {i : Nat} (hi : i < (A_v A).2.1.length) {j : Nat} (hj : j < (A_v A).2.2.length) {f u : Nat} (hf : f < (a_es (A_v A) j).length) (hu : u < (a_es (A_v A) j).length) (hfu : f ≤ u) {t : Nat} (ho : o_V t (A_v A)) (h : ((a_bx (A_v A) j).isSome && !(a_id (A_v A) j)) = true) (hr : a_room (A_v A) i (a_th (A_v A) j f (u + 1 - f)) = true) : sx_C G 100 YX1_copy [.ref (mu 0), .int (nI j), .int (nI (f + 1)), .int (nI (u + 1)), .int (nI i)] σ (c_R ["java/lang/IndexOutOfBoundsException", "java/lang/IllegalArgumentException", "java/lang/IllegalStateException"] G mu oc σ (x_cpy (A_st A 0) j f (u + 1) i)) := by
  refine sx_body (by decide) (Nat.le_of_ble_eq_true rfl) ?_
  have hK0 := hK
  obtain ⟨sv, nl, hX, hF, hN⟩ := hK
  obtain ⟨Λ0, hV, hzz, hw⟩ := id hF
  have hx := hX.1
  have hnb := hw.1.1
  have hns := hw.1.2.1
  have hX0 : c_X G mu (sx_n σ) oc σ sv nl (A_st A 0) := hX
  have hF0 : c_F G mu (sx_n σ) σ sv (A_v (A_st A 0)) := hF
  have hbl : ∀ b, a_bx (A_v A) j = some b → b < 100 := fun b hb => by have := hw.2.2.1 j b hj hb; omega
  obtain ⟨b, hbx⟩ := Option.isSome_iff_exists.mp (show (a_bx (A_v A) j).isSome = true by cases hq : (a_bx (A_v A) j).isSome with | true => rfl | false => rw [hq] at h; cases h)
  have hb := hw.2.2.1 j b hj hbx
  have hm30 := hw.1.2.2 b hb
  have hel := hw.2.1 j hj
  have hk1 : i_en (nI (f + 1)) (a_es (A_v A) j).length = true := i_en_nI hf (by omega)
  have hk2 : i_en (nI (u + 1)) (a_es (A_v A) j).length = true := i_en_nI hu (by omega)
  have hle : nI (f + 1) ≤ nI (u + 1) := (nI_leI (by omega) (by omega)).mpr (by omega)
  refine sv_aload_n dX1_copy_0 rfl ?_
  refine sv_iload dX1_copy_1 rfl ?_
  refine sv_cvR _ (cg_boxAt hx hV hi) okX1_boxAt kv_X1_197 (sx_rd_c hx) rfl dX1_copy_3 rfl rfl (by omega) (Nat.le_of_ble_eq_true rfl) ?_
  refine sv_astore dX1_copy_6 (by decide) ?_
  refine sv_aload_n dX1_copy_8 rfl ?_
  refine sv_iload_n dX1_copy_9 rfl ?_
  refine sv_iload_n dX1_copy_10 rfl ?_
  refine sv_iload_n dX1_copy_11 rfl ?_
  refine sv_cvR _ (cg_rng hx hV hj hk1 hk2 hle) okX1_rangeOf kv_X1_351 (sx_rd_c hx) rfl dX1_copy_12 rfl rfl (by omega) (Nat.le_of_ble_eq_true rfl) ?_
  refine sv_astore dX1_copy_15 (by decide) ?_
  refine sv_aload dX1_copy_17 rfl ?_
  refine sv_csR _ (cg_open hV hj hbl h) okX1_requireOpen ks_X1_343 dX1_copy_19 rfl rfl (by omega) (Nat.le_of_ble_eq_true rfl) ?_
  refine sv_aload_n dX1_copy_22 rfl ?_
  refine sv_aload dX1_copy_23 rfl ?_
  refine sv_iload_n dX1_copy_25 rfl ?_
  refine sv_iload_n dX1_copy_26 rfl ?_
  refine sv_iload dX1_copy_27 rfl ?_
  refine sv_cvR _ (cg_room hx hV hj hi hw hfu hu hr) okX1_requireRoom kv_X1_396 (sx_rd_c hx) rfl dX1_copy_29 rfl rfl (by omega) (Nat.le_of_ble_eq_true rfl) ?_
  refine sv_aload_n dX1_copy_32 rfl ?_
  refine sv_iload_n dX1_copy_33 rfl ?_
  refine sv_cvP _ (cc_begin (A := A_st A 0) hX0 hF0 hz hj) okX1_begin kv_X1_336 (sx_rd_c hx) rfl dX1_copy_34 rfl rfl (by omega) (Nat.le_of_ble_eq_true rfl) ?_
  intro v6 τ4 hp5
  obtain ⟨a, nl2, ow2, Λ2, rfl, ea, hA2, hB2, FG2⟩ := hp5
  have hx2 := hA2.1.1
  have hj2 : j < (A_v (s_be (A_st A 0) j)).2.2.length := by rw [be_len]; exact hj
  refine sv_astore dX1_copy_37 (by decide) ?_
  refine sv_aload_n dX1_copy_39 rfl ?_
  refine sv_get fg_X1_44 dX1_copy_40 (sx_rd_c hx2) rfl ?_
  refine sv_aload_n dX1_copy_43 rfl ?_
  refine sv_aload dX1_copy_44 rfl ?_
  refine sv_cvR _ (cc_boxOf hx2 hA2.2.1.1.1 hj2 hb ((be_bx _ _ hj).trans hbx)) okX1_boxOf kv_X1_355 (sx_rd_c hx2) rfl dX1_copy_46 rfl rfl (by omega) (Nat.le_of_ble_eq_true rfl) ?_
  refine sv_aload_n dX1_copy_49 rfl ?_
  refine sv_get fg_X1_44 dX1_copy_50 (sx_rd_c hx2) rfl ?_
  refine sv_aload dX1_copy_53 rfl ?_
  refine sv_iload_n dX1_copy_55 rfl ?_
  refine sv_iload_n dX1_copy_56 rfl ?_
  refine sv_cvP _ (cm_range hG) okX2_range kv_X1_359 (sx_rd_c hA2.2.1.1.1.1) rfl dX1_copy_57 rfl rfl (by omega) (Nat.le_of_ble_eq_true rfl) ?_
  intro v9 τ7 hp8
  obtain ⟨te, rfl, hte, htc, F1⟩ := hp8
  have hA4 := c_A_0 F1 hA2
  have hx4 := hA4.1.1
  have hv4 := hA4.2.1.1.1.1
  have hvl4 := hA4.2.1.1.1.2.1
  obtain ⟨mcb4, fb4, hlb4, -⟩ := id hvl4
  have hS4 := (hA4.2.1.1.1.2.2.2.2 j hj2).1
  have hbb4 := (hA4.2.1.1.1.2.2.2.1 i hi).1.1
  have hP4 : k_P G 1 _ te (p_rg (a_es (A_v (s_be (A_st A 0) j)) j) (nI (f + 1)) (nI (u + 1))) := Or.inr (Or.inr (Or.inr (Or.inr (Or.inr (Or.inr (Or.inr (Or.inr (Or.inr (Or.inr ⟨_, _, _, _, _, _, _, _, sx_rd_c htc, hS4, fun m => rfl⟩)))))))))
  have ees : a_es (A_v (s_be (A_st A 0) j)) j = a_es (A_v A) j := v_ac_es hj
  have hbx2 : a_bx (A_v (s_be (A_st A 0) j)) j = some b := (be_bx (A_st A 0) _ hj).trans hbx
  have hpe : ∀ m, (p_rg (a_es (A_v (s_be (A_st A 0) j)) j) (nI (f + 1)) (nI (u + 1))) m = r_g (a_es (A_v (s_be (A_st A 0) j)) j) f (u + 1) m := fun m => p_rg_e (by rw [ees]; exact hel) (by rw [ees]; exact hf) (by rw [ees]; exact hu)
  have efl : (a_ms (A_v (s_be (A_st A 0) j)) b).filter (p_rg (a_es (A_v (s_be (A_st A 0) j)) j) (nI (f + 1)) (nI (u + 1))) = (a_mf (A_v (s_be (A_st A 0) j)) j f (u + 1)) := by rw [a_mf_e hbx2]; exact List.filter_congr (fun m _ => hpe m)
  have hoB : o_V t (A_v (s_be (A_st A 0) j)) := be_o (A := A_st A 0) ho j hj
  have hth : a_th (A_v A) j f (u + 1 - f) = (a_mf (A_v (s_be (A_st A 0) j)) j f (u + 1)).length := (be_th (A := A_st A 0) (s := j) hj).symm.trans (by rw [th_fl hoB hj2 hbx2 hb (u + 1 - f) (by rw [ees]; omega), a_mf_e hbx2, show f + (u + 1 - f) = u + 1 by omega])
  have hmfl : (a_mf (A_v (s_be (A_st A 0) j)) j f (u + 1)).length ≤ 60 := by rw [← hth]; have := a_th_le (A_v A) j f (u + 1 - f); omega
  have hi30 := hw.1.2.2 i hi
  have hroom : (a_mf (A_v (s_be (A_st A 0) j)) j f (u + 1)).length = 0 ∨ (a_ms (A_v (s_be (A_st A 0) j)) i).length + (a_mf (A_v (s_be (A_st A 0) j)) j f (u + 1)).length ≤ 30 := by have h8 := room_30 ho hi30 (by rw [hth]; exact hmfl) hr; rw [hth] at h8; exact h8
  refine sv_aload_n dX1_copy_60 rfl ?_
  refine sv_get fg_X1_44 dX1_copy_61 (sx_rd_c hx4) rfl ?_
  refine sv_get fg_X1_173 dX1_copy_64 (sx_rd_c hv4) rfl ?_
  refine sv_iload dX1_copy_67 rfl ?_
  refine sv_cvR _ (cj_get hvl4 (i := i) hi) okJ2_get kv_X1_186 (sx_rd_c hlb4) rfl dX1_copy_69 rfl rfl (by omega) (Nat.le_of_ble_eq_true rfl) ?_
  refine sv_cast (C0 := "") (sx_rd_c hbb4) rfl q1452 dX1_copy_72 ?_
  refine sv_cvP _ (cc_copy hG hA4.2.1.1 hA4.2.1.2.2.2.1 hA4.2.2.2.1 hb hi hP4 hm30 (by rw [efl]; exact hroom)) okX2_copy kv_X1_400 (sx_rd_c hv4) rfl dX1_copy_75 rfl rfl (by omega) (Nat.le_of_ble_eq_true rfl) ?_
  intro v12 τ10 hp11
  obtain ⟨rfl, ow5, Λ5, hI5, hE5, hc5, hP5, hO5, F5⟩ := hp11
  rw [efl] at hI5 hc5
  have hw6 := w_V_cs9 hA4.2.1.2.2.1 hi hroom
  have hA6 : c_A G mu oc a τ10 a nl2 ow5 Λ5 0 (A_sv (s_be (A_st A 0) j) (v_cs (A_v (s_be (A_st A 0) j)) i (a_mf (A_v (s_be (A_st A 0) j)) j f (u + 1)))) := c_A_cp hA4 hI5 hE5 hc5 hO5 F5 hw6
  have hx6 := hA6.1.1
  have hj6 : j < (A_v (A_sv (s_be (A_st A 0) j) (v_cs (A_v (s_be (A_st A 0) j)) i (a_mf (A_v (s_be (A_st A 0) j)) j f (u + 1))))).2.2.length := hj2
  have hB6 : c_B 300 12000 σ τ10 := c_B_t hB2 (c_B_t (c_B_F F1) (c_B_F F5) (Nat.le_refl _) (Nat.le_refl _)) (by omega) (by omega)
  refine sv_istore dX1_copy_78 (by decide) ?_
  refine sv_aload_n dX1_copy_80 rfl ?_
  refine sv_iload_n dX1_copy_81 rfl ?_
  refine sv_iconst (nI 1) dX1_copy_82 (by decide +kernel) ?_
  refine sv_tI (y := b_I true) rfl ?_
  refine sv_cvP _ (cc_end hA6 hj6 (all := true) (Nat.zero_le _)) okX1_end kv_X1_347 (sx_rd_c hx6) rfl dX1_copy_83 rfl rfl (by omega) (Nat.le_of_ble_eq_true rfl) ?_
  intro v15 τ13 hp14
  obtain ⟨rfl, ow9, cap9, hA9, hB9⟩ := hp14
  refine sv_istore dX1_copy_86 (by decide) ?_
  refine sv_iload dX1_copy_88 rfl ?_
  refine sv_iret rfl rfl dX1_copy_90 ?_
  exact c_R_ok (x := x_cpy (A_st A 0) j f (u + 1) i) (congrArg (fun l => nI (List.length l)) efl) en_t (c_S_B (c_A_K hA9) (c_B_t hB6 hB9 (Nat.le_refl _) (Nat.le_refl _)) (by omega) (by omega))
theorem pm_cpy (hK : c_K G mu oc σ A) {z : Nat} (hz : g_Z G z) (hG : g_L G) {t : Nat} (ho : o_V t (A_v A)) {s k l b : Int32} : sx_C G 100 YX1_copy [.ref (mu 0), .int s, .int k, .int l, .int b] σ (c_R ["java/lang/IndexOutOfBoundsException", "java/lang/IllegalArgumentException", "java/lang/IllegalStateException"] G mu oc σ (sp_cpy A s k l b)) := by
  have hw : w_V (A_v A) := by obtain ⟨_, _, _, ⟨_, _, _, hw⟩, _⟩ := hK; exact hw
  have hns := hw.1.2.1
  have hnb := hw.1.1
  unfold sp_cpy
  refine c_3 hK (fun h => ?_) (fun h1 h2 => ?_) (fun h1 h2 h3 => ?_) (fun h1 h2 h3 => ?_)
  · unfold a_X at h
    cases hb : i_in b (A_v A).2.1.length with
    | false => exact cpx_cpy1 hK hb
    | true =>
      rw [hb, Bool.and_true] at h
      obtain ⟨i, hi, rfl⟩ := i_in_of (by omega) hb
      exact cpx_cpy2 hK hi h
  all_goals have hX := h1
  all_goals unfold a_X at h1
  all_goals rw [Bool.and_eq_true] at h1
  all_goals obtain ⟨j, f, u, hj, hf, hu, rfl, rfl, rfl, ej, ek, el⟩ := a_are_of hw h1.1
  all_goals obtain ⟨i, hi, rfl⟩ := i_in_of (by omega) h1.2
  all_goals have hel := hw.2.1 j hj
  · exact cpx_cpy3 hK hi hj (i_en_nI hf (by omega)) (i_en_nI hu (by omega)) (of_decide_eq_false h2)
  all_goals unfold a_Z at h3
  all_goals rw [hX, h2, Bool.true_and, Bool.true_and, ej, ek, el, nI_clamp (show i < 2 ^ 31 by omega), can_j hj hns] at h3
  all_goals have hfu := of_decide_eq_true h2
  all_goals rw [nI_leI (by omega) (by omega)] at hfu
  · cases h4 : ((a_bx (A_v A) j).isSome && !(a_id (A_v A) j)) with
    | false => exact cpx_cpy4 hK hi hj hf hu (by omega) h4
    | true =>
      rw [h4, Bool.true_and] at h3
      exact cpx_cpy5 hK hi hj hf hu (by omega) h4 h3
  · rw [ej, ek, el, nI_clamp (show i < 2 ^ 31 by omega)]
    rw [Bool.and_eq_true] at h3
    exact cp_cpy hK hz hG hi hj hf hu (by omega) ho h3.1 h3.2
theorem cpx_mov1 (hK : c_K G mu oc σ A) {s k l b : Int32} (hi : i_in b (A_v A).2.1.length = false) : sx_C G 100 YX1_move [.ref (mu 0), .int s, .int k, .int l, .int b] σ (c_X0 "java/lang/IndexOutOfBoundsException" σ) := by
  refine sx_body (by decide) (Nat.le_of_ble_eq_true rfl) ?_
  obtain ⟨sv, nl, hX, hF, hN⟩ := hK
  obtain ⟨Λ0, hV, hzz, hw⟩ := id hF
  have hx := hX.1
  have hnb := hw.1.1
  have hns := hw.1.2.1
  have hX0 : c_X G mu (sx_n σ) oc σ sv nl (A_st A 0) := hX
  have hF0 : c_F G mu (sx_n σ) σ sv (A_v (A_st A 0)) := hF
  refine sv_aload_n dX1_move_0 rfl ?_
  refine sv_iload dX1_move_1 rfl ?_
  refine sv_cv _ (cgx_boxAt hx hV hi) okX1_boxAt (sx_rd_c hx) rfl kv_X1_197.1 kv_X1_197.2.1 kv_X1_197.2.2 dX1_move_3 rfl rfl (by omega) (Nat.le_of_ble_eq_true rfl) (fun v τ h => by obtain ⟨q, e, _⟩ := h; cases e) (fun E q τ h => ?_)
  obtain ⟨q9, e9, F9⟩ := h
  cases e9
  refine sv_out (fun x hx => by cases hx) ?_
  exact ⟨_, rfl, F9⟩
theorem cpx_mov2 (hK : c_K G mu oc σ A) {i : Nat} (hi : i < (A_v A).2.1.length) {s k l : Int32} (h : a_are (A_v A) s k l = false) : sx_C G 100 YX1_move [.ref (mu 0), .int s, .int k, .int l, .int (nI i)] σ (c_X0 "java/lang/IndexOutOfBoundsException" σ) := by
  refine sx_body (by decide) (Nat.le_of_ble_eq_true rfl) ?_
  obtain ⟨sv, nl, hX, hF, hN⟩ := hK
  obtain ⟨Λ0, hV, hzz, hw⟩ := id hF
  have hx := hX.1
  have hnb := hw.1.1
  have hns := hw.1.2.1
  have hX0 : c_X G mu (sx_n σ) oc σ sv nl (A_st A 0) := hX
  have hF0 : c_F G mu (sx_n σ) σ sv (A_v (A_st A 0)) := hF
  refine sv_aload_n dX1_move_0 rfl ?_
  refine sv_iload dX1_move_1 rfl ?_
  refine sv_cvR _ (cg_boxAt hx hV hi) okX1_boxAt kv_X1_197 (sx_rd_c hx) rfl dX1_move_3 rfl rfl (by omega) (Nat.le_of_ble_eq_true rfl) ?_
  refine sv_astore dX1_move_6 (by decide) ?_
  refine sv_aload_n dX1_move_8 rfl ?_
  refine sv_iload_n dX1_move_9 rfl ?_
  refine sv_iload_n dX1_move_10 rfl ?_
  refine sv_iload_n dX1_move_11 rfl ?_
  refine sv_cv _ (cgx_rng hx hV hns h) okX1_rangeOf (sx_rd_c hx) rfl kv_X1_351.1 kv_X1_351.2.1 kv_X1_351.2.2 dX1_move_12 rfl rfl (by omega) (Nat.le_of_ble_eq_true rfl) (fun v τ h => by obtain ⟨q, e, _⟩ := h; cases e) (fun E q τ h => ?_)
  obtain ⟨q9, e9, F9⟩ := h
  cases e9
  refine sv_out (fun x hx => by cases hx) ?_
  exact ⟨_, rfl, F9⟩
theorem cpx_mov3 (hK : c_K G mu oc σ A) {i : Nat} (hi : i < (A_v A).2.1.length) {j : Nat} (hj : j < (A_v A).2.2.length) {k l : Int32} (hk : i_en k (a_es (A_v A) j).length = true) (hl2 : i_en l (a_es (A_v A) j).length = true) (hle : ¬ k ≤ l) : sx_C G 100 YX1_move [.ref (mu 0), .int (nI j), .int k, .int l, .int (nI i)] σ (c_X0 "java/lang/IllegalArgumentException" σ) := by
  refine sx_body (by decide) (Nat.le_of_ble_eq_true rfl) ?_
  obtain ⟨sv, nl, hX, hF, hN⟩ := hK
  obtain ⟨Λ0, hV, hzz, hw⟩ := id hF
  have hx := hX.1
  have hnb := hw.1.1
  have hns := hw.1.2.1
  have hX0 : c_X G mu (sx_n σ) oc σ sv nl (A_st A 0) := hX
  have hF0 : c_F G mu (sx_n σ) σ sv (A_v (A_st A 0)) := hF
  refine sv_aload_n dX1_move_0 rfl ?_
  refine sv_iload dX1_move_1 rfl ?_
  refine sv_cvR _ (cg_boxAt hx hV hi) okX1_boxAt kv_X1_197 (sx_rd_c hx) rfl dX1_move_3 rfl rfl (by omega) (Nat.le_of_ble_eq_true rfl) ?_
  refine sv_astore dX1_move_6 (by decide) ?_
  refine sv_aload_n dX1_move_8 rfl ?_
  refine sv_iload_n dX1_move_9 rfl ?_
  refine sv_iload_n dX1_move_10 rfl ?_
  refine sv_iload_n dX1_move_11 rfl ?_
  refine sv_cv _ (cgx_rng4 hx hV hj hk hl2 hle) okX1_rangeOf (sx_rd_c hx) rfl kv_X1_351.1 kv_X1_351.2.1 kv_X1_351.2.2 dX1_move_12 rfl rfl (by omega) (Nat.le_of_ble_eq_true rfl) (fun v τ h => by obtain ⟨q, e, _⟩ := h; cases e) (fun E q τ h => ?_)
  obtain ⟨q9, e9, F9⟩ := h
  cases e9
  refine sv_out (fun x hx => by cases hx) ?_
  exact ⟨_, rfl, F9⟩
theorem cpx_mov4 (hK : c_K G mu oc σ A) {i : Nat} (hi : i < (A_v A).2.1.length) {j : Nat} (hj : j < (A_v A).2.2.length) {f u : Nat} (hf : f < (a_es (A_v A) j).length) (hu : u < (a_es (A_v A) j).length) (hfu : f ≤ u) (h : ((a_bx (A_v A) j).isSome && !(a_id (A_v A) j) && !(a_rd (A_v A) j)) = false) : sx_C G 100 YX1_move [.ref (mu 0), .int (nI j), .int (nI (f + 1)), .int (nI (u + 1)), .int (nI i)] σ (c_X0 "java/lang/IllegalStateException" σ) := by
  refine sx_body (by decide) (Nat.le_of_ble_eq_true rfl) ?_
  obtain ⟨sv, nl, hX, hF, hN⟩ := hK
  obtain ⟨Λ0, hV, hzz, hw⟩ := id hF
  have hx := hX.1
  have hnb := hw.1.1
  have hns := hw.1.2.1
  have hX0 : c_X G mu (sx_n σ) oc σ sv nl (A_st A 0) := hX
  have hF0 : c_F G mu (sx_n σ) σ sv (A_v (A_st A 0)) := hF
  have hbl : ∀ b, a_bx (A_v A) j = some b → b < 100 := fun b hb => by have := hw.2.2.1 j b hj hb; omega
  have hel := hw.2.1 j hj
  have hk1 : i_en (nI (f + 1)) (a_es (A_v A) j).length = true := i_en_nI hf (by omega)
  have hk2 : i_en (nI (u + 1)) (a_es (A_v A) j).length = true := i_en_nI hu (by omega)
  have hle : nI (f + 1) ≤ nI (u + 1) := (nI_leI (by omega) (by omega)).mpr (by omega)
  refine sv_aload_n dX1_move_0 rfl ?_
  refine sv_iload dX1_move_1 rfl ?_
  refine sv_cvR _ (cg_boxAt hx hV hi) okX1_boxAt kv_X1_197 (sx_rd_c hx) rfl dX1_move_3 rfl rfl (by omega) (Nat.le_of_ble_eq_true rfl) ?_
  refine sv_astore dX1_move_6 (by decide) ?_
  refine sv_aload_n dX1_move_8 rfl ?_
  refine sv_iload_n dX1_move_9 rfl ?_
  refine sv_iload_n dX1_move_10 rfl ?_
  refine sv_iload_n dX1_move_11 rfl ?_
  refine sv_cvR _ (cg_rng hx hV hj hk1 hk2 hle) okX1_rangeOf kv_X1_351 (sx_rd_c hx) rfl dX1_move_12 rfl rfl (by omega) (Nat.le_of_ble_eq_true rfl) ?_
  refine sv_astore dX1_move_15 (by decide) ?_
  refine sv_aload dX1_move_17 rfl ?_
  refine sv_cs _ (cgx_wr hV hj hbl h) okX1_requireWriter ks_X1_375.1 ks_X1_375.2 dX1_move_19 rfl rfl (by omega) (Nat.le_of_ble_eq_true rfl) (fun v τ h => by obtain ⟨q, e, _⟩ := h; cases e) (fun E q τ h => ?_)
  obtain ⟨q9, e9, F9⟩ := h
  cases e9
  refine sv_out (fun x hx => by cases hx) ?_
  exact ⟨_, rfl, F9⟩
theorem cpx_mov5 (hK : c_K G mu oc σ A) {i : Nat} (hi : i < (A_v A).2.1.length) {j : Nat} (hj : j < (A_v A).2.2.length) {f u : Nat} (hf : f < (a_es (A_v A) j).length) (hu : u < (a_es (A_v A) j).length) (hfu : f ≤ u) (h : ((a_bx (A_v A) j).isSome && !(a_id (A_v A) j) && !(a_rd (A_v A) j)) = true) (hr : a_room (A_v A) i (a_th (A_v A) j f (u + 1 - f)) = false) : sx_C G 100 YX1_move [.ref (mu 0), .int (nI j), .int (nI (f + 1)), .int (nI (u + 1)), .int (nI i)] σ (c_X0 "java/lang/IllegalStateException" σ) := by
  refine sx_body (by decide) (Nat.le_of_ble_eq_true rfl) ?_
  obtain ⟨sv, nl, hX, hF, hN⟩ := hK
  obtain ⟨Λ0, hV, hzz, hw⟩ := id hF
  have hx := hX.1
  have hnb := hw.1.1
  have hns := hw.1.2.1
  have hX0 : c_X G mu (sx_n σ) oc σ sv nl (A_st A 0) := hX
  have hF0 : c_F G mu (sx_n σ) σ sv (A_v (A_st A 0)) := hF
  have hbl : ∀ b, a_bx (A_v A) j = some b → b < 100 := fun b hb => by have := hw.2.2.1 j b hj hb; omega
  have hel := hw.2.1 j hj
  have hk1 : i_en (nI (f + 1)) (a_es (A_v A) j).length = true := i_en_nI hf (by omega)
  have hk2 : i_en (nI (u + 1)) (a_es (A_v A) j).length = true := i_en_nI hu (by omega)
  have hle : nI (f + 1) ≤ nI (u + 1) := (nI_leI (by omega) (by omega)).mpr (by omega)
  refine sv_aload_n dX1_move_0 rfl ?_
  refine sv_iload dX1_move_1 rfl ?_
  refine sv_cvR _ (cg_boxAt hx hV hi) okX1_boxAt kv_X1_197 (sx_rd_c hx) rfl dX1_move_3 rfl rfl (by omega) (Nat.le_of_ble_eq_true rfl) ?_
  refine sv_astore dX1_move_6 (by decide) ?_
  refine sv_aload_n dX1_move_8 rfl ?_
  refine sv_iload_n dX1_move_9 rfl ?_
  refine sv_iload_n dX1_move_10 rfl ?_
  refine sv_iload_n dX1_move_11 rfl ?_
  refine sv_cvR _ (cg_rng hx hV hj hk1 hk2 hle) okX1_rangeOf kv_X1_351 (sx_rd_c hx) rfl dX1_move_12 rfl rfl (by omega) (Nat.le_of_ble_eq_true rfl) ?_
  refine sv_astore dX1_move_15 (by decide) ?_
  refine sv_aload dX1_move_17 rfl ?_
  refine sv_csR _ (cg_wr hV hj hbl h) okX1_requireWriter ks_X1_375 dX1_move_19 rfl rfl (by omega) (Nat.le_of_ble_eq_true rfl) ?_
  refine sv_aload_n dX1_move_22 rfl ?_
  refine sv_aload dX1_move_23 rfl ?_
  refine sv_iload_n dX1_move_25 rfl ?_
  refine sv_iload_n dX1_move_26 rfl ?_
  refine sv_iload dX1_move_27 rfl ?_
  refine sv_cv _ (cgx_room hx hV hj hi hw hfu hu hr) okX1_requireRoom (sx_rd_c hx) rfl kv_X1_396.1 kv_X1_396.2.1 kv_X1_396.2.2 dX1_move_29 rfl rfl (by omega) (Nat.le_of_ble_eq_true rfl) (fun v τ h => by obtain ⟨q, e, _⟩ := h; cases e) (fun E q τ h => ?_)
  obtain ⟨q9, e9, F9⟩ := h
  cases e9
  refine sv_out (fun x hx => by cases hx) ?_
  exact ⟨_, rfl, F9⟩
theorem cp_mov (hK : c_K G mu oc σ A) {z : Nat} (hz : g_Z G z) (hG : g_L G) {i : Nat} (hi : i < (A_v A).2.1.length) {j : Nat} (hj : j < (A_v A).2.2.length) {f u : Nat} (hf : f < (a_es (A_v A) j).length) (hu : u < (a_es (A_v A) j).length) (hfu : f ≤ u) {t : Nat} (ho : o_V t (A_v A)) (ht6 : t ≤ 1000) (h : ((a_bx (A_v A) j).isSome && !(a_id (A_v A) j) && !(a_rd (A_v A) j)) = true) (hr : a_room (A_v A) i (a_th (A_v A) j f (u + 1 - f)) = true) : sx_C G 100 YX1_move [.ref (mu 0), .int (nI j), .int (nI (f + 1)), .int (nI (u + 1)), .int (nI i)] σ (c_R ["java/lang/IndexOutOfBoundsException", "java/lang/IllegalArgumentException", "java/lang/IllegalStateException"] G mu oc σ (x_mov (A_st A 0) j f (u + 1) i)) := by
  refine sx_body (by decide) (Nat.le_of_ble_eq_true rfl) ?_
  have hK0 := hK
  obtain ⟨sv, nl, hX, hF, hN⟩ := hK
  obtain ⟨Λ0, hV, hzz, hw⟩ := id hF
  have hx := hX.1
  have hnb := hw.1.1
  have hns := hw.1.2.1
  have hX0 : c_X G mu (sx_n σ) oc σ sv nl (A_st A 0) := hX
  have hF0 : c_F G mu (sx_n σ) σ sv (A_v (A_st A 0)) := hF
  have hbl : ∀ b, a_bx (A_v A) j = some b → b < 100 := fun b hb => by have := hw.2.2.1 j b hj hb; omega
  obtain ⟨b, hbx⟩ := Option.isSome_iff_exists.mp (show (a_bx (A_v A) j).isSome = true by cases hq : (a_bx (A_v A) j).isSome with | true => rfl | false => rw [hq] at h; cases h)
  have hb := hw.2.2.1 j b hj hbx
  have hm30 := hw.1.2.2 b hb
  have hel := hw.2.1 j hj
  have hk1 : i_en (nI (f + 1)) (a_es (A_v A) j).length = true := i_en_nI hf (by omega)
  have hk2 : i_en (nI (u + 1)) (a_es (A_v A) j).length = true := i_en_nI hu (by omega)
  have hle : nI (f + 1) ≤ nI (u + 1) := (nI_leI (by omega) (by omega)).mpr (by omega)
  refine sv_aload_n dX1_move_0 rfl ?_
  refine sv_iload dX1_move_1 rfl ?_
  refine sv_cvR _ (cg_boxAt hx hV hi) okX1_boxAt kv_X1_197 (sx_rd_c hx) rfl dX1_move_3 rfl rfl (by omega) (Nat.le_of_ble_eq_true rfl) ?_
  refine sv_astore dX1_move_6 (by decide) ?_
  refine sv_aload_n dX1_move_8 rfl ?_
  refine sv_iload_n dX1_move_9 rfl ?_
  refine sv_iload_n dX1_move_10 rfl ?_
  refine sv_iload_n dX1_move_11 rfl ?_
  refine sv_cvR _ (cg_rng hx hV hj hk1 hk2 hle) okX1_rangeOf kv_X1_351 (sx_rd_c hx) rfl dX1_move_12 rfl rfl (by omega) (Nat.le_of_ble_eq_true rfl) ?_
  refine sv_astore dX1_move_15 (by decide) ?_
  refine sv_aload dX1_move_17 rfl ?_
  refine sv_csR _ (cg_wr hV hj hbl h) okX1_requireWriter ks_X1_375 dX1_move_19 rfl rfl (by omega) (Nat.le_of_ble_eq_true rfl) ?_
  refine sv_aload_n dX1_move_22 rfl ?_
  refine sv_aload dX1_move_23 rfl ?_
  refine sv_iload_n dX1_move_25 rfl ?_
  refine sv_iload_n dX1_move_26 rfl ?_
  refine sv_iload dX1_move_27 rfl ?_
  refine sv_cvR _ (cg_room hx hV hj hi hw hfu hu hr) okX1_requireRoom kv_X1_396 (sx_rd_c hx) rfl dX1_move_29 rfl rfl (by omega) (Nat.le_of_ble_eq_true rfl) ?_
  refine sv_aload_n dX1_move_32 rfl ?_
  refine sv_iload_n dX1_move_33 rfl ?_
  refine sv_cvP _ (cc_begin (A := A_st A 0) hX0 hF0 hz hj) okX1_begin kv_X1_336 (sx_rd_c hx) rfl dX1_move_34 rfl rfl (by omega) (Nat.le_of_ble_eq_true rfl) ?_
  intro v18 τ16 hp17
  obtain ⟨a, nl2, ow2, Λ2, rfl, ea, hA2, hB2, FG2⟩ := hp17
  have hx2 := hA2.1.1
  have hj2 : j < (A_v (s_be (A_st A 0) j)).2.2.length := by rw [be_len]; exact hj
  refine sv_astore dX1_move_37 (by decide) ?_
  refine sv_aload_n dX1_move_39 rfl ?_
  refine sv_get fg_X1_44 dX1_move_40 (sx_rd_c hx2) rfl ?_
  refine sv_aload dX1_move_43 rfl ?_
  refine sv_iload_n dX1_move_45 rfl ?_
  refine sv_iload_n dX1_move_46 rfl ?_
  refine sv_cvP _ (cm_range hG) okX2_range kv_X1_359 (sx_rd_c hA2.2.1.1.1.1) rfl dX1_move_47 rfl rfl (by omega) (Nat.le_of_ble_eq_true rfl) ?_
  intro v21 τ19 hp20
  obtain ⟨te, rfl, hte, htc, F1⟩ := hp20
  have hA4 := c_A_0 F1 hA2
  have hx4 := hA4.1.1
  have hv4 := hA4.2.1.1.1.1
  have hvl4 := hA4.2.1.1.1.2.1
  obtain ⟨mcb4, fb4, hlb4, -⟩ := id hvl4
  have hS4 := (hA4.2.1.1.1.2.2.2.2 j hj2).1
  have hbb4 := (hA4.2.1.1.1.2.2.2.1 i hi).1.1
  have hP4 : k_P G 1 _ te (p_rg (a_es (A_v (s_be (A_st A 0) j)) j) (nI (f + 1)) (nI (u + 1))) := Or.inr (Or.inr (Or.inr (Or.inr (Or.inr (Or.inr (Or.inr (Or.inr (Or.inr (Or.inr ⟨_, _, _, _, _, _, _, _, sx_rd_c htc, hS4, fun m => rfl⟩)))))))))
  have ees : a_es (A_v (s_be (A_st A 0) j)) j = a_es (A_v A) j := v_ac_es hj
  have hbx2 : a_bx (A_v (s_be (A_st A 0) j)) j = some b := (be_bx (A_st A 0) _ hj).trans hbx
  have hpe : ∀ m, (p_rg (a_es (A_v (s_be (A_st A 0) j)) j) (nI (f + 1)) (nI (u + 1))) m = r_g (a_es (A_v (s_be (A_st A 0) j)) j) f (u + 1) m := fun m => p_rg_e (by rw [ees]; exact hel) (by rw [ees]; exact hf) (by rw [ees]; exact hu)
  have efl : (a_ms (A_v (s_be (A_st A 0) j)) b).filter (p_rg (a_es (A_v (s_be (A_st A 0) j)) j) (nI (f + 1)) (nI (u + 1))) = (a_mf (A_v (s_be (A_st A 0) j)) j f (u + 1)) := by rw [a_mf_e hbx2]; exact List.filter_congr (fun m _ => hpe m)
  have hoB : o_V t (A_v (s_be (A_st A 0) j)) := be_o (A := A_st A 0) ho j hj
  have hth : a_th (A_v A) j f (u + 1 - f) = (a_mf (A_v (s_be (A_st A 0) j)) j f (u + 1)).length := (be_th (A := A_st A 0) (s := j) hj).symm.trans (by rw [th_fl hoB hj2 hbx2 hb (u + 1 - f) (by rw [ees]; omega), a_mf_e hbx2, show f + (u + 1 - f) = u + 1 by omega])
  have hmfl : (a_mf (A_v (s_be (A_st A 0) j)) j f (u + 1)).length ≤ 60 := by rw [← hth]; have := a_th_le (A_v A) j f (u + 1 - f); omega
  have hi30 := hw.1.2.2 i hi
  have hroom : (a_mf (A_v (s_be (A_st A 0) j)) j f (u + 1)).length = 0 ∨ (a_ms (A_v (s_be (A_st A 0) j)) i).length + (a_mf (A_v (s_be (A_st A 0) j)) j f (u + 1)).length ≤ 30 := by have h8 := room_30 ho hi30 (by rw [hth]; exact hmfl) hr; rw [hth] at h8; exact h8
  refine sv_astore dX1_move_50 (by decide) ?_
  refine sv_aload_n dX1_move_52 rfl ?_
  refine sv_get fg_X1_44 dX1_move_53 (sx_rd_c hx4) rfl ?_
  refine sv_aload_n dX1_move_56 rfl ?_
  refine sv_aload dX1_move_57 rfl ?_
  refine sv_cvR _ (cc_boxOf hx4 hA4.2.1.1.1 hj2 hb hbx2) okX1_boxOf kv_X1_355 (sx_rd_c hx4) rfl dX1_move_59 rfl rfl (by omega) (Nat.le_of_ble_eq_true rfl) ?_
  refine sv_aload dX1_move_62 rfl ?_
  refine sv_aload_n dX1_move_64 rfl ?_
  refine sv_get fg_X1_44 dX1_move_65 (sx_rd_c hx4) rfl ?_
  refine sv_get fg_X1_173 dX1_move_68 (sx_rd_c hv4) rfl ?_
  refine sv_iload dX1_move_71 rfl ?_
  refine sv_cvR _ (cj_get hvl4 (i := i) hi) okJ2_get kv_X1_186 (sx_rd_c hlb4) rfl dX1_move_73 rfl rfl (by omega) (Nat.le_of_ble_eq_true rfl) ?_
  refine sv_cast (C0 := "") (sx_rd_c hbb4) rfl q1452 dX1_move_76 ?_
  refine sv_cvP _ (cc_copy hG hA4.2.1.1 hA4.2.1.2.2.2.1 hA4.2.2.2.1 hb hi hP4 hm30 (by rw [efl]; exact hroom)) okX2_copy kv_X1_400 (sx_rd_c hv4) rfl dX1_move_79 rfl rfl (by omega) (Nat.le_of_ble_eq_true rfl) ?_
  intro v24 τ22 hp23
  obtain ⟨rfl, ow5, Λ5, hI5, hE5, hc5, hP5, hO5, F5⟩ := hp23
  rw [efl] at hI5 hc5
  have hw6 := w_V_cs9 hA4.2.1.2.2.1 hi hroom
  have hA6 : c_A G mu oc a τ22 a nl2 ow5 Λ5 0 (A_sv (s_be (A_st A 0) j) (v_cs (A_v (s_be (A_st A 0) j)) i (a_mf (A_v (s_be (A_st A 0) j)) j f (u + 1)))) := c_A_cp hA4 hI5 hE5 hc5 hO5 F5 hw6
  have hx6 := hA6.1.1
  have hj6 : j < (A_v (A_sv (s_be (A_st A 0) j) (v_cs (A_v (s_be (A_st A 0) j)) i (a_mf (A_v (s_be (A_st A 0) j)) j f (u + 1))))).2.2.length := hj2
  have hB6 : c_B 300 12000 σ τ22 := c_B_t hB2 (c_B_t (c_B_F F1) (c_B_F F5) (Nat.le_refl _) (Nat.le_refl _)) (by omega) (by omega)
  refine sv_istore dX1_move_82 (by decide) ?_
  refine sv_aload_n dX1_move_84 rfl ?_
  refine sv_aload dX1_move_85 rfl ?_
  rw [← hE5.2.1 j 0]
  have hb6 : b < (A_v (A_sv (s_be (A_st A 0) j) (v_cs (A_v (s_be (A_st A 0) j)) i (a_mf (A_v (s_be (A_st A 0) j)) j f (u + 1))))).2.1.length := by show b < (a_ub _ _ _).2.1.length; rw [a_ub_n]; exact hb
  have hbx6 : a_bx (A_v (A_sv (s_be (A_st A 0) j) (v_cs (A_v (s_be (A_st A 0) j)) i (a_mf (A_v (s_be (A_st A 0) j)) j f (u + 1))))) j = some b := hbx2
  refine sv_cvR _ (cc_boxOf hx6 hA6.2.1.1.1 hj6 hb6 hbx6) okX1_boxOf kv_X1_355 (sx_rd_c hx6) rfl dX1_move_87 rfl rfl (by omega) (Nat.le_of_ble_eq_true rfl) ?_
  have hB7 := (hA6.2.1.1.1.2.2.2.1 b hb6).1
  have hm7 : (a_b (A_v (A_sv (s_be (A_st A 0) j) (v_cs (A_v (s_be (A_st A 0) j)) i (a_mf (A_v (s_be (A_st A 0) j)) j f (u + 1))))) b).2.2.length ≤ 30 := hw6.1.2.2 b hb6
  refine sv_aload dX1_move_90 rfl ?_
  refine sv_cvP _ (cc_bremove hB7 hG hP5 (by omega)) okX6_remove kv_X1_386 (sx_rd_c hB7.1) rfl dX1_move_92 rfl rfl (by omega) (Nat.le_of_ble_eq_true rfl) ?_
  intro v27 τ25 hp26
  obtain ⟨rfl, g7, hB8, hg8, F8⟩ := hp26
  have ef8 : (a_ms (A_v (A_sv (s_be (A_st A 0) j) (v_cs (A_v (s_be (A_st A 0) j)) i (a_mf (A_v (s_be (A_st A 0) j)) j f (u + 1))))) b).filter (fun m => !((p_rg (a_es (A_v (s_be (A_st A 0) j)) j) (nI (f + 1)) (nI (u + 1))) m)) = (a_ms (A_v (A_sv (s_be (A_st A 0) j) (v_cs (A_v (s_be (A_st A 0) j)) i (a_mf (A_v (s_be (A_st A 0) j)) j f (u + 1))))) b).filter (fun y => !(r_g (a_es (A_v (s_be (A_st A 0) j)) j) f (u + 1) y)) := List.filter_congr (fun m _ => by rw [hpe m])
  have hw8 : w_V (v_bm (A_v (A_sv (s_be (A_st A 0) j) (v_cs (A_v (s_be (A_st A 0) j)) i (a_mf (A_v (s_be (A_st A 0) j)) j f (u + 1))))) b ((a_ms (A_v (A_sv (s_be (A_st A 0) j) (v_cs (A_v (s_be (A_st A 0) j)) i (a_mf (A_v (s_be (A_st A 0) j)) j f (u + 1))))) b).filter (fun m => !((p_rg (a_es (A_v (s_be (A_st A 0) j)) j) (nI (f + 1)) (nI (u + 1))) m)))) := w_V_bm hw6 (Nat.le_trans (List.length_filter_le _ _) (hw6.1.2.2 b hb6))
  have hA8 := c_A_b F8 hA6 hb6 (fun q z => Or.inr z) hB8 rfl (Or.inl rfl) (fun i hi => Or.inl (hg8 i hi)) (hc5 b hb6) hw8
  have hA8 : c_A G mu oc a τ25 a nl2 _ _ 0 (A_sv (A_sv (s_be (A_st A 0) j) (v_cs (A_v (s_be (A_st A 0) j)) i (a_mf (A_v (s_be (A_st A 0) j)) j f (u + 1)))) (v_bm (A_v (A_sv (s_be (A_st A 0) j) (v_cs (A_v (s_be (A_st A 0) j)) i (a_mf (A_v (s_be (A_st A 0) j)) j f (u + 1))))) b ((a_ms (A_v (A_sv (s_be (A_st A 0) j) (v_cs (A_v (s_be (A_st A 0) j)) i (a_mf (A_v (s_be (A_st A 0) j)) j f (u + 1))))) b).filter (fun m => !((p_rg (a_es (A_v (s_be (A_st A 0) j)) j) (nI (f + 1)) (nI (u + 1))) m))))) := hA8
  rw [ef8] at hA8
  have hx8 := hA8.1.1
  have ec8 : (a_ms (A_v (A_sv (s_be (A_st A 0) j) (v_cs (A_v (s_be (A_st A 0) j)) i (a_mf (A_v (s_be (A_st A 0) j)) j f (u + 1))))) b).countP (p_rg (a_es (A_v (s_be (A_st A 0) j)) j) (nI (f + 1)) (nI (u + 1))) = (a_mf (A_v (s_be (A_st A 0) j)) j f (u + 1)).length := (List.countP_congr (fun m _ => by rw [hpe m])).trans (mv_cnt hoB ht6 hj2 hbx2 hb hmfl)
  refine sv_istore dX1_move_95 (by decide) ?_
  refine sv_aload_n dX1_move_97 rfl ?_
  refine sv_iload_n dX1_move_98 rfl ?_
  refine sv_iconst (nI 1) dX1_move_99 (by decide +kernel) ?_
  refine sv_tI (y := b_I true) rfl ?_
  refine sv_cvP _ (cc_end hA8 hj6 (all := true) (Nat.zero_le _)) okX1_end kv_X1_347 (sx_rd_c hx8) rfl dX1_move_100 rfl rfl (by omega) (Nat.le_of_ble_eq_true rfl) ?_
  intro v30 τ28 hp29
  obtain ⟨rfl, ow9, cap9, hA9, hB9⟩ := hp29
  refine sv_istore dX1_move_103 (by decide) ?_
  refine sv_iload dX1_move_105 rfl ?_
  refine sv_iret rfl rfl dX1_move_107 ?_
  have hbs : a_bs (A_v (s_be (A_st A 0) j)) j = b := a_bs_e hbx2
  have hsp : x_mov (A_st A 0) j f (u + 1) i = (nI (a_mf (A_v (s_be (A_st A 0) j)) j f (u + 1)).length, s_en (A_sv (A_sv (s_be (A_st A 0) j) (v_cs (A_v (s_be (A_st A 0) j)) i (a_mf (A_v (s_be (A_st A 0) j)) j f (u + 1)))) (v_bm (A_v (A_sv (s_be (A_st A 0) j) (v_cs (A_v (s_be (A_st A 0) j)) i (a_mf (A_v (s_be (A_st A 0) j)) j f (u + 1))))) b ((a_ms (A_v (A_sv (s_be (A_st A 0) j) (v_cs (A_v (s_be (A_st A 0) j)) i (a_mf (A_v (s_be (A_st A 0) j)) j f (u + 1))))) b).filter (fun y => !(r_g (a_es (A_v (s_be (A_st A 0) j)) j) f (u + 1) y))))) j true) := by unfold x_mov v_mv; rw [hbs]; rfl
  rw [hsp]
  exact c_R_ok (x := (_, s_en _ j true)) (congrArg nI ec8) en_t (c_S_B (c_A_K hA9) (c_B_t hB6 (c_B_t (c_B_F F8) hB9 (Nat.le_refl _) (Nat.le_refl _)) (Nat.le_refl _) (Nat.le_refl _)) (by omega) (by omega))
theorem pm_mov (hK : c_K G mu oc σ A) {z : Nat} (hz : g_Z G z) (hG : g_L G) {t : Nat} (ho : o_V t (A_v A)) (ht6 : t ≤ 1000) {s k l b : Int32} : sx_C G 100 YX1_move [.ref (mu 0), .int s, .int k, .int l, .int b] σ (c_R ["java/lang/IndexOutOfBoundsException", "java/lang/IllegalArgumentException", "java/lang/IllegalStateException"] G mu oc σ (sp_mov A s k l b)) := by
  have hw : w_V (A_v A) := by obtain ⟨_, _, _, ⟨_, _, _, hw⟩, _⟩ := hK; exact hw
  have hns := hw.1.2.1
  have hnb := hw.1.1
  unfold sp_mov
  refine c_3 hK (fun h => ?_) (fun h1 h2 => ?_) (fun h1 h2 h3 => ?_) (fun h1 h2 h3 => ?_)
  · unfold a_X at h
    cases hb : i_in b (A_v A).2.1.length with
    | false => exact cpx_mov1 hK hb
    | true =>
      rw [hb, Bool.and_true] at h
      obtain ⟨i, hi, rfl⟩ := i_in_of (by omega) hb
      exact cpx_mov2 hK hi h
  all_goals have hX := h1
  all_goals unfold a_X at h1
  all_goals rw [Bool.and_eq_true] at h1
  all_goals obtain ⟨j, f, u, hj, hf, hu, rfl, rfl, rfl, ej, ek, el⟩ := a_are_of hw h1.1
  all_goals obtain ⟨i, hi, rfl⟩ := i_in_of (by omega) h1.2
  all_goals have hel := hw.2.1 j hj
  · exact cpx_mov3 hK hi hj (i_en_nI hf (by omega)) (i_en_nI hu (by omega)) (of_decide_eq_false h2)
  all_goals unfold a_Z at h3
  all_goals rw [hX, h2, Bool.true_and, Bool.true_and, ej, ek, el, nI_clamp (show i < 2 ^ 31 by omega), chg_j hj hns] at h3
  all_goals have hfu := of_decide_eq_true h2
  all_goals rw [nI_leI (by omega) (by omega)] at hfu
  · cases h4 : ((a_bx (A_v A) j).isSome && !(a_id (A_v A) j) && !(a_rd (A_v A) j)) with
    | false => exact cpx_mov4 hK hi hj hf hu (by omega) h4
    | true =>
      rw [h4, Bool.true_and] at h3
      exact cpx_mov5 hK hi hj hf hu (by omega) h4 h3
  · rw [ej, ek, el, nI_clamp (show i < 2 ^ 31 by omega)]
    rw [Bool.and_eq_true] at h3
    exact cp_mov hK hz hG hi hj hf hu (by omega) ho ht6 h3.1 h3.2
end CME
