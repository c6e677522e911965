set_option maxRecDepth 100000
section CMC2
variable {G : sx_G} {σ τ : sx_St} {mu : Nat → Nat} {oc lo sv nl cap : Nat} {ow : Nat → Nat} {Λ : Nat → Nat → Nat → Nat} {A : a_A} {V : a_V} {W : Nat → Prop} {c sl : Nat} {N : List a_N}
theorem v_2_e {b s : Nat} {L : List a_M} (hs : s < V.2.2.length) : v_2 V b L s (a_es V s) = v_bm V b L := by
  unfold v_2
  show a_us (v_bm V b L) s (a_s (v_bm V b L) s) = v_bm V b L
  have hs : s < (v_bm V b L).2.2.length := hs
  generalize v_bm V b L = U at hs ⊢
  unfold a_us a_s
  rw [List.getD_eq_getElem?_getD, List.getElem?_eq_getElem hs]
  simp
theorem fm_at {es : List a_E} {ms : List a_M} {f k i m : Nat} {g : Int32 → Int32} (h : E_lt es) (hf : f ≤ i) (hi : i < k) (hk : i < es.length) (hn : a_find ms (es.getD i (0, 0)).1 = some m) : ((ms.map (f_m es f k g)).getD m (0, 0, 0)).2.2 = g (ms.getD m (0, 0, 0)).2.2 := by
  obtain ⟨pre, x, post, rfl, rfl, hx, -⟩ := a_find_s hn
  have hr := r_g_mono (Nat.succ_le_of_lt hi) (r_g_s (m := x) h hf hk hx.symm).1
  have e1 : ((pre ++ x :: post).map (f_m es f k g)).getD pre.length (0, 0, 0) = f_m es f k g x := by simp [List.getD_eq_getElem?_getD]
  have e2 : (pre ++ x :: post).getD pre.length (0, 0, 0) = x := by simp [List.getD_eq_getElem?_getD]
  rw [e1, e2]
  unfold f_m
  rw [if_pos hr]
theorem cpx_sto1 (hK : c_K G mu oc σ A) {s k l md fl sl : Int32} (h : a_are (A_v A) s k l = false) : sx_C G 100 YX1_store [.ref (mu 0), .int s, .int k, .int l, .int md, .int fl, .int sl] σ (c_X0 "java/lang/IndexOutOfBoundsException" σ) := by
  refine sx_body (by decide) (Nat.le_of_ble_eq_true rfl) ?_
  obtain ⟨sv, nl, hX, hF, hN⟩ := hK
  obtain ⟨Λ0, hV, hzz, hw⟩ := id hF
  have hx := hX.1
  have hnb := hw.1.1
  have hns := hw.1.2.1
  have hX0 : c_X G mu (sx_n σ) oc σ sv nl (A_st A 0) := hX
  have hF0 : c_F G mu (sx_n σ) σ sv (A_v (A_st A 0)) := hF
  refine sv_aload_n dX1_store_0 rfl ?_
  refine sv_iload_n dX1_store_1 rfl ?_
  refine sv_iload_n dX1_store_2 rfl ?_
  refine sv_iload_n dX1_store_3 rfl ?_
  refine sv_cv _ (cgx_rng hx hV hns h) okX1_rangeOf (sx_rd_c hx) rfl kv_X1_351.1 kv_X1_351.2.1 kv_X1_351.2.2 dX1_store_4 rfl rfl (by omega) (Nat.le_of_ble_eq_true rfl) (fun v τ h => by obtain ⟨q, e, _⟩ := h; cases e) (fun E q τ h => ?_)
  obtain ⟨q9, e9, F9⟩ := h
  cases e9
  refine sv_out (fun x hx => by cases hx) ?_
  exact ⟨_, rfl, F9⟩
theorem cpx_sto2 (hK : c_K G mu oc σ A) {j : Nat} (hj : j < (A_v A).2.2.length) {k l md fl sl : Int32} (hk : i_en k (a_es (A_v A) j).length = true) (hl2 : i_en l (a_es (A_v A) j).length = true) (hle : ¬ k ≤ l) : sx_C G 100 YX1_store [.ref (mu 0), .int (nI j), .int k, .int l, .int md, .int fl, .int sl] σ (c_X0 "java/lang/IllegalArgumentException" σ) := by
  refine sx_body (by decide) (Nat.le_of_ble_eq_true rfl) ?_
  obtain ⟨sv, nl, hX, hF, hN⟩ := hK
  obtain ⟨Λ0, hV, hzz, hw⟩ := id hF
  have hx := hX.1
  have hnb := hw.1.1
  have hns := hw.1.2.1
  have hX0 : c_X G mu (sx_n σ) oc σ sv nl (A_st A 0) := hX
  have hF0 : c_F G mu (sx_n σ) σ sv (A_v (A_st A 0)) := hF
  refine sv_aload_n dX1_store_0 rfl ?_
  refine sv_iload_n dX1_store_1 rfl ?_
  refine sv_iload_n dX1_store_2 rfl ?_
  refine sv_iload_n dX1_store_3 rfl ?_
  refine sv_cv _ (cgx_rng4 hx hV hj hk hl2 hle) okX1_rangeOf (sx_rd_c hx) rfl kv_X1_351.1 kv_X1_351.2.1 kv_X1_351.2.2 dX1_store_4 rfl rfl (by omega) (Nat.le_of_ble_eq_true rfl) (fun v τ h => by obtain ⟨q, e, _⟩ := h; cases e) (fun E q τ h => ?_)
  obtain ⟨q9, e9, F9⟩ := h
  cases e9
  refine sv_out (fun x hx => by cases hx) ?_
  exact ⟨_, rfl, F9⟩
theorem cpx_sto3 (hK : c_K G mu oc σ A) {j : Nat} (hj : j < (A_v A).2.2.length) {k l md fl sl : Int32} (hk : i_en k (a_es (A_v A) j).length = true) (hl2 : i_en l (a_es (A_v A) j).length = true) (hle : k ≤ l) (h : (a_in md 0 2 && a_in fl 0 31) = false) : sx_C G 100 YX1_store [.ref (mu 0), .int (nI j), .int k, .int l, .int md, .int fl, .int sl] σ (c_X0 "java/lang/IllegalArgumentException" σ) := by
  refine sx_body (by decide) (Nat.le_of_ble_eq_true rfl) ?_
  obtain ⟨sv, nl, hX, hF, hN⟩ := hK
  obtain ⟨Λ0, hV, hzz, hw⟩ := id hF
  have hx := hX.1
  have hnb := hw.1.1
  have hns := hw.1.2.1
  have hX0 : c_X G mu (sx_n σ) oc σ sv nl (A_st A 0) := hX
  have hF0 : c_F G mu (sx_n σ) σ sv (A_v (A_st A 0)) := hF
  refine sv_aload_n dX1_store_0 rfl ?_
  refine sv_iload_n dX1_store_1 rfl ?_
  refine sv_iload_n dX1_store_2 rfl ?_
  refine sv_iload_n dX1_store_3 rfl ?_
  refine sv_cvR _ (cg_rng hx hV hj hk hl2 hle) okX1_rangeOf kv_X1_351 (sx_rd_c hx) rfl dX1_store_4 rfl rfl (by omega) (Nat.le_of_ble_eq_true rfl) ?_
  refine sv_astore dX1_store_7 (by decide) ?_
  refine sv_iload dX1_store_9 rfl ?_
  refine sv_iload dX1_store_11 rfl ?_
  refine sv_cs _ (cgx_fl h) okX1_requireFlags ks_X1_371.1 ks_X1_371.2 dX1_store_13 rfl rfl (by omega) (Nat.le_of_ble_eq_true rfl) (fun v τ h => by obtain ⟨q, e, _⟩ := h; cases e) (fun E q τ h => ?_)
  obtain ⟨q9, e9, F9⟩ := h
  cases e9
  refine sv_out (fun x hx => by cases hx) ?_
  exact ⟨_, rfl, F9⟩
theorem cpx_sto4 (hK : c_K G mu oc σ A) {j : Nat} (hj : j < (A_v A).2.2.length) {k l md fl sl : Int32} (hk : i_en k (a_es (A_v A) j).length = true) (hl2 : i_en l (a_es (A_v A) j).length = true) (hle : k ≤ l) (hfl : (a_in md 0 2 && a_in fl 0 31) = true) (h : ((a_bx (A_v A) j).isSome && !(a_id (A_v A) j) && !(a_rd (A_v A) j)) = false) : sx_C G 100 YX1_store [.ref (mu 0), .int (nI j), .int k, .int l, .int md, .int fl, .int sl] σ (c_X0 "java/lang/IllegalStateException" σ) := by
  refine sx_body (by decide) (Nat.le_of_ble_eq_true rfl) ?_
  obtain ⟨sv, nl, hX, hF, hN⟩ := hK
  obtain ⟨Λ0, hV, hzz, hw⟩ := id hF
  have hx := hX.1
  have hnb := hw.1.1
  have hns := hw.1.2.1
  have hX0 : c_X G mu (sx_n σ) oc σ sv nl (A_st A 0) := hX
  have hF0 : c_F G mu (sx_n σ) σ sv (A_v (A_st A 0)) := hF
  have hbl : ∀ b, a_bx (A_v A) j = some b → b < 100 := fun b hb => by have := hw.2.2.1 j b hj hb; omega
  refine sv_aload_n dX1_store_0 rfl ?_
  refine sv_iload_n dX1_store_1 rfl ?_
  refine sv_iload_n dX1_store_2 rfl ?_
  refine sv_iload_n dX1_store_3 rfl ?_
  refine sv_cvR _ (cg_rng hx hV hj hk hl2 hle) okX1_rangeOf kv_X1_351 (sx_rd_c hx) rfl dX1_store_4 rfl rfl (by omega) (Nat.le_of_ble_eq_true rfl) ?_
  refine sv_astore dX1_store_7 (by decide) ?_
  refine sv_iload dX1_store_9 rfl ?_
  refine sv_iload dX1_store_11 rfl ?_
  refine sv_csR _ (cg_fl hfl) okX1_requireFlags ks_X1_371 dX1_store_13 rfl rfl (by omega) (Nat.le_of_ble_eq_true rfl) ?_
  refine sv_aload dX1_store_16 rfl ?_
  refine sv_cs _ (cgx_wr hV hj hbl h) okX1_requireWriter ks_X1_375.1 ks_X1_375.2 dX1_store_18 rfl rfl (by omega) (Nat.le_of_ble_eq_true rfl) (fun v τ h => by obtain ⟨q, e, _⟩ := h; cases e) (fun E q τ h => ?_)
  obtain ⟨q9, e9, F9⟩ := h
  cases e9
  refine sv_out (fun x hx => by cases hx) ?_
  exact ⟨_, rfl, F9⟩
theorem cp_stof (hK : c_K G mu oc σ A) {z : Nat} (hz : g_Z G z) (hG : g_L G) {j : Nat} (hj : j < (A_v A).2.2.length) {f u : Nat} (hf : f < (a_es (A_v A) j).length) (hu : u < (a_es (A_v A) j).length) (hfu : f ≤ u) {md fl : Int32} (hfl : (a_in md 0 2 && a_in fl 0 31) = true) (h : ((a_bx (A_v A) j).isSome && !(a_id (A_v A) j) && !(a_rd (A_v A) j)) = true) : sx_C G 100 YX1_store [.ref (mu 0), .int (nI j), .int (nI (f + 1)), .int (nI (u + 1)), .int md, .int fl, .int (b_I false)] σ (c_R ["java/lang/IndexOutOfBoundsException", "java/lang/IllegalArgumentException", "java/lang/IllegalStateException"] G mu oc σ (x_sto (A_st A 0) j f (u + 1) md fl false)) := by
  refine sx_body (by decide) (Nat.le_of_ble_eq_true rfl) ?_
  have hK0 := hK
  obtain ⟨sv, nl, hX, hF, hN⟩ := hK
  obtain ⟨Λ0, hV, hzz, hw⟩ := id hF
  have hx := hX.1
  have hnb := hw.1.1
  have hns := hw.1.2.1
  have hX0 : c_X G mu (sx_n σ) oc σ sv nl (A_st A 0) := hX
  have hF0 : c_F G mu (sx_n σ) σ sv (A_v (A_st A 0)) := hF
  have hbl : ∀ b, a_bx (A_v A) j = some b → b < 100 := fun b hb => by have := hw.2.2.1 j b hj hb; omega
  obtain ⟨b, hbx⟩ := Option.isSome_iff_exists.mp (show (a_bx (A_v A) j).isSome = true by cases hq : (a_bx (A_v A) j).isSome with | true => rfl | false => rw [hq] at h; cases h)
  have hb := hw.2.2.1 j b hj hbx
  have hm30 := hw.1.2.2 b hb
  have hel := hw.2.1 j hj
  have hk1 : i_en (nI (f + 1)) (a_es (A_v A) j).length = true := i_en_nI hf (by omega)
  have hk2 : i_en (nI (u + 1)) (a_es (A_v A) j).length = true := i_en_nI hu (by omega)
  have hle : nI (f + 1) ≤ nI (u + 1) := (nI_leI (by omega) (by omega)).mpr (by omega)
  refine sv_aload_n dX1_store_0 rfl ?_
  refine sv_iload_n dX1_store_1 rfl ?_
  refine sv_iload_n dX1_store_2 rfl ?_
  refine sv_iload_n dX1_store_3 rfl ?_
  refine sv_cvR _ (cg_rng hx hV hj hk1 hk2 hle) okX1_rangeOf kv_X1_351 (sx_rd_c hx) rfl dX1_store_4 rfl rfl (by omega) (Nat.le_of_ble_eq_true rfl) ?_
  refine sv_astore dX1_store_7 (by decide) ?_
  refine sv_iload dX1_store_9 rfl ?_
  refine sv_iload dX1_store_11 rfl ?_
  refine sv_csR _ (cg_fl hfl) okX1_requireFlags ks_X1_371 dX1_store_13 rfl rfl (by omega) (Nat.le_of_ble_eq_true rfl) ?_
  refine sv_aload dX1_store_16 rfl ?_
  refine sv_csR _ (cg_wr hV hj hbl h) okX1_requireWriter ks_X1_375 dX1_store_18 rfl rfl (by omega) (Nat.le_of_ble_eq_true rfl) ?_
  refine sv_aload_n dX1_store_21 rfl ?_
  refine sv_iload_n dX1_store_22 rfl ?_
  refine sv_cvP _ (cc_begin (A := A_st A 0) hX0 hF0 hz hj) okX1_begin kv_X1_336 (sx_rd_c hx) rfl dX1_store_23 rfl rfl (by omega) (Nat.le_of_ble_eq_true rfl) ?_
  intro v6 τ4 hp5
  obtain ⟨a, nl2, ow2, Λ2, rfl, ea, hA2, hB2, FG2⟩ := hp5
  have hx2 := hA2.1.1
  have hj2 : j < (A_v (s_be (A_st A 0) j)).2.2.length := by rw [be_len]; exact hj
  refine sv_astore dX1_store_26 (by decide) ?_
  refine sv_aload_n dX1_store_28 rfl ?_
  refine sv_aload dX1_store_29 rfl ?_
  refine sv_cvR _ (cc_boxOf hx2 hA2.2.1.1.1 hj2 hb ((be_bx _ _ hj).trans hbx)) okX1_boxOf kv_X1_355 (sx_rd_c hx2) rfl dX1_store_31 rfl rfl (by omega) (Nat.le_of_ble_eq_true rfl) ?_
  refine sv_aload_n dX1_store_34 rfl ?_
  refine sv_get fg_X1_44 dX1_store_35 (sx_rd_c hx2) rfl ?_
  refine sv_aload dX1_store_38 rfl ?_
  refine sv_iload_n dX1_store_40 rfl ?_
  refine sv_iload_n dX1_store_41 rfl ?_
  refine sv_cvP _ (cm_range hG) okX2_range kv_X1_359 (sx_rd_c hA2.2.1.1.1.1) rfl dX1_store_42 rfl rfl (by omega) (Nat.le_of_ble_eq_true rfl) ?_
  intro v9 τ7 hp8
  obtain ⟨te, rfl, hte, htc, F1⟩ := hp8
  refine sv_iload dX1_store_45 rfl ?_
  refine sv_iload dX1_store_47 rfl ?_
  refine sv_csP _ (cm_changed hG (Bool.and_eq_true _ _ ▸ hfl).1) okX1_changed ks_X1_378 dX1_store_49 rfl rfl (by omega) (Nat.le_of_ble_eq_true rfl) ?_
  intro v12 τ10 hp11
  obtain ⟨ch, rfl, hch, hkc, F2⟩ := hp11
  have hA4 := c_A_0 F2 (c_A_0 F1 hA2)
  have htc := h_F_c F2 htc (fun z => z)
  have hBb := (hA4.2.1.1.1.2.2.2.1 b hb).1
  have hS4 := (hA4.2.1.1.1.2.2.2.2 j hj2).1
  have hP4 : k_P G 1 _ te (p_rg (a_es (A_v (s_be (A_st A 0) j)) j) (nI (f + 1)) (nI (u + 1))) := Or.inr (Or.inr (Or.inr (Or.inr (Or.inr (Or.inr (Or.inr (Or.inr (Or.inr (Or.inr ⟨_, _, _, _, _, _, _, _, sx_rd_c htc, hS4, fun m => rfl⟩)))))))))
  have hm31 : (a_b (A_v (s_be (A_st A 0) j)) b).2.2.length ≤ 30 := hm30
  refine sv_cvP _ (cc_bchange hBb hG hP4 hkc (by omega)) okX6_change kv_X1_366 (sx_rd_c hBb.1) rfl dX1_store_52 rfl rfl (by omega) (Nat.le_of_ble_eq_true rfl) ?_
  intro v15 τ13 hp14
  obtain ⟨rfl, g2, hB3, hg3, F3⟩ := hp14
  have hw3 : w_V (v_bm (A_v (s_be (A_st A 0) j)) b ((a_ms (A_v (s_be (A_st A 0) j)) b).map (m_F (p_rg (a_es (A_v (s_be (A_st A 0) j)) j) (nI (f + 1)) (nI (u + 1))) (fun x => a_fb x md fl)))) := w_V_bm hA2.2.1.2.2.1 (by rw [List.length_map]; exact hm30)
  have hA5 := c_A_b F3 hA4 hb (fun q z => Or.inr (Or.inr z)) hB3 rfl (Or.inl rfl) (fun i hi => hg3 i (by rw [List.length_map] at hi; exact hi)) (hA2.2.2.2.1 b hb) hw3
  have ees : a_es (A_v (s_be (A_st A 0) j)) j = a_es (A_v A) j := v_ac_es hj
  have hpe : ∀ m, (p_rg (a_es (A_v (s_be (A_st A 0) j)) j) (nI (f + 1)) (nI (u + 1))) m = r_g (a_es (A_v (s_be (A_st A 0) j)) j) f (u + 1) m := fun m => p_rg_e (by rw [ees]; exact hel) (by rw [ees]; exact hf) (by rw [ees]; exact hu)
  have em : ((a_ms (A_v (s_be (A_st A 0) j)) b).map (m_F (p_rg (a_es (A_v (s_be (A_st A 0) j)) j) (nI (f + 1)) (nI (u + 1))) (fun x => a_fb x md fl))) = ((a_ms (A_v (s_be (A_st A 0) j)) b).map (f_m (a_es (A_v (s_be (A_st A 0) j)) j) f (u + 1) (fun x => a_fb x md fl))) := List.map_congr_left (fun m hm => by unfold m_F f_m; rw [hpe m])
  have ec : (a_ms (A_v (s_be (A_st A 0) j)) b).countP (m_cq (p_rg (a_es (A_v (s_be (A_st A 0) j)) j) (nI (f + 1)) (nI (u + 1))) (fun x => a_fb x md fl)) = n_st (A_v (s_be (A_st A 0) j)) j b f (u + 1) md fl := List.countP_congr (fun m hm => by unfold m_cq; rw [hpe m])
  have hF3l : c_B 30 90 _ τ13 := ⟨(c_B_F F3).1, by have h8 := (c_B_F F3).2.1; omega, by have h8 := (c_B_F F3).2.2; omega⟩
  have hB5 : c_B 250 3000 σ τ13 := c_B_t hB2 (c_B_t (c_B_F F1) (c_B_t (c_B_F F2) hF3l (Nat.le_refl _) (Nat.le_refl _)) (Nat.le_refl _) (Nat.le_refl _)) (by omega) (by omega)
  have hbs : a_bs (A_v (s_be (A_st A 0) j)) j = b := a_bs_e ((be_bx (A_st A 0) j hj).trans hbx)
  obtain ⟨Λ3, eΛ3⟩ : ∃ L, L = Λ_b Λ2 b (Λ2 1 b 2) (Λ2 1 b 3) g2 := ⟨_, rfl⟩
  have e30 : Λ2 3 j 0 = Λ3 3 j 0 := by rw [eΛ3, Λ_b_3]
  have hA5 : c_A G mu oc a τ13 a nl2 _ _ 0 (A_sv (s_be (A_st A 0) j) (v_bm (A_v (s_be (A_st A 0) j)) b ((a_ms (A_v (s_be (A_st A 0) j)) b).map (m_F (p_rg (a_es (A_v (s_be (A_st A 0) j)) j) (nI (f + 1)) (nI (u + 1))) (fun x => a_fb x md fl))))) := hA5
  rw [em] at hA5
  rw [← eΛ3] at hA5
  have hA5 : c_A G mu oc a τ13 a nl2 _ Λ3 0 (A_sv (s_be (A_st A 0) j) (v_bm (A_v (s_be (A_st A 0) j)) b ((a_ms (A_v (s_be (A_st A 0) j)) b).map (f_m (a_es (A_v (s_be (A_st A 0) j)) j) f (u + 1) (fun x => a_fb x md fl))))) := hA5
  have hx3 := hA5.1.1
  refine sv_istore dX1_store_55 (by decide) ?_
  refine sv_iload_n dX1_store_57 rfl ?_
  refine sv_iconst (nI 1) dX1_store_58 (by decide +kernel) ?_
  refine sv_isubN dX1_store_59 (by omega) ?_
  refine sv_istore dX1_store_60 (by decide) ?_
  refine sv_iload dX1_store_62 rfl ?_
  refine sv_iload_n dX1_store_64 rfl ?_
  refine sv_icmp_geN (tgt := 110) dX1_store_65 (by decide) (by omega) (by omega) (fun c65 => ?_) (fun c65 => ?_)
  · omega
  · refine sv_iload dX1_store_68 rfl ?_
    refine sv_if_eqB (tgt := 110) dX1_store_70 (by decide) (fun c70 => ?_) (fun c70 => ?_)
    · refine sv_aload_n dX1_store_110 rfl ?_
      refine sv_iload_n dX1_store_111 rfl ?_
      refine sv_iconst (nI 0) dX1_store_112 (by decide +kernel) ?_
      refine sv_tI (y := b_I false) rfl ?_
      refine sv_cvP _ (cc_end hA5 hj2 (all := false) (Nat.zero_le _)) okX1_end kv_X1_347 (sx_rd_c hx3) rfl dX1_store_113 rfl rfl (by omega) (Nat.le_of_ble_eq_true rfl) ?_
      intro v18 τ16 hp17
      obtain ⟨rfl, ow9, cap9, hA9, hB9⟩ := hp17
      refine sv_istore dX1_store_116 (by decide) ?_
      refine sv_iload dX1_store_118 rfl ?_
      refine sv_iret rfl rfl dX1_store_120 ?_
      have hsp : x_sto (A_st A 0) j f (u + 1) md fl false = (nI (n_st (A_v (s_be (A_st A 0) j)) j b f (u + 1) md fl), s_en (A_sv (s_be (A_st A 0) j) (v_2 (A_v (s_be (A_st A 0) j)) b ((a_ms (A_v (s_be (A_st A 0) j)) b).map (f_m (a_es (A_v (s_be (A_st A 0) j)) j) f (u + 1) (fun x => a_fb x md fl))) j (e_st false (a_es (A_v (s_be (A_st A 0) j)) j) (a_ms (A_v (s_be (A_st A 0) j)) b) f (u + 1) (fun x => a_fb x md fl)))) j false) := by unfold x_sto v_st; rw [hbs]
      rw [hsp]
      have eE : A_sv (s_be (A_st A 0) j) (v_2 (A_v (s_be (A_st A 0) j)) b ((a_ms (A_v (s_be (A_st A 0) j)) b).map (f_m (a_es (A_v (s_be (A_st A 0) j)) j) f (u + 1) (fun x => a_fb x md fl))) j (e_st false (a_es (A_v (s_be (A_st A 0) j)) j) (a_ms (A_v (s_be (A_st A 0) j)) b) f (u + 1) (fun x => a_fb x md fl))) = A_sv (s_be (A_st A 0) j) (v_bm (A_v (s_be (A_st A 0) j)) b ((a_ms (A_v (s_be (A_st A 0) j)) b).map (f_m (a_es (A_v (s_be (A_st A 0) j)) j) f (u + 1) (fun x => a_fb x md fl)))) := congrArg (A_sv (s_be (A_st A 0) j)) (v_2_e hj2)
      rw [eE]
      exact c_R_ok (x := (_, s_en _ j false)) (congrArg nI ec) en_t (c_S_B (c_A_K hA9) (c_B_t hB5 hB9 (Nat.le_refl _) (Nat.le_refl _)) (by omega) (by omega))
    · cases c70
theorem cp_stot (hK : c_K G mu oc σ A) {z : Nat} (hz : g_Z G z) (hG : g_L G) {j : Nat} (hj : j < (A_v A).2.2.length) {f u : Nat} (hf : f < (a_es (A_v A) j).length) (hu : u < (a_es (A_v A) j).length) (hfu : f ≤ u) {md fl : Int32} {t : Nat} (ho : o_V t (A_v A)) (hfl : (a_in md 0 2 && a_in fl 0 31) = true) (h : ((a_bx (A_v A) j).isSome && !(a_id (A_v A) j) && !(a_rd (A_v A) j)) = true) : sx_C G 100 YX1_store [.ref (mu 0), .int (nI j), .int (nI (f + 1)), .int (nI (u + 1)), .int md, .int fl, .int (b_I true)] σ (c_R ["java/lang/IndexOutOfBoundsException", "java/lang/IllegalArgumentException", "java/lang/IllegalStateException"] G mu oc σ (x_sto (A_st A 0) j f (u + 1) md fl true)) := by
  have loop : ∀ (a nl2 b q7 : Nat) (ow3 : Nat → Nat) (Λ3 : Nat → Nat → Nat → Nat) (w : Int32), a_bx (A_v A) j = some b → w = nI (n_st (A_v (s_be (A_st A 0) j)) j b f (u + 1) md fl) → ∀ r i (y : Option Value) (τ : sx_St), c_A G mu oc a τ a nl2 ow3 Λ3 0 (A_sv (s_be (A_st A 0) j) (v_2 (A_v (s_be (A_st A 0) j)) b ((a_ms (A_v (s_be (A_st A 0) j)) b).map (f_m (a_es (A_v (s_be (A_st A 0) j)) j) f (u + 1) (fun x => a_fb x md fl))) j (e_st true (a_es (A_v (s_be (A_st A 0) j)) j) (a_ms (A_v (s_be (A_st A 0) j)) b) f i (fun x => a_fb x md fl)))) → c_B 250 3000 σ τ → f ≤ i → i ≤ u + 1 → u + 2 ≤ i + r → sx_V G 100 YX1_store 62 [some (.ref (mu 0)), some (.int (nI j)), some (.int (nI (f + 1))), some (.int (nI (u + 1))), some (.int md), some (.int fl), some (.int (b_I true)), some (.ref q7), some (.ref (Λ3 3 j 0)), some (.int w), some (.int (nI i)), y] [] τ (c_R ["java/lang/IndexOutOfBoundsException", "java/lang/IllegalArgumentException", "java/lang/IllegalStateException"] G mu oc σ (x_sto (A_st A 0) j f (u + 1) md fl true)) := by
    intro a nl2 b q7 ow3 Λ3 w hbx hwv r
    induction r with
    | zero => intro i y τ hA2 hB5 h1 h2 h3; omega
    | succ r ih =>
    intro i y τ hA2 hB5 hi1 hi2 hi3
    have hx2 := hA2.1.1
    have hj2 : j < (A_v (s_be (A_st A 0) j)).2.2.length := by rw [be_len]; exact hj
    have hj3 : j < (A_v (A_sv (s_be (A_st A 0) j) (v_2 (A_v (s_be (A_st A 0) j)) b ((a_ms (A_v (s_be (A_st A 0) j)) b).map (f_m (a_es (A_v (s_be (A_st A 0) j)) j) f (u + 1) (fun x => a_fb x md fl))) j (e_st true (a_es (A_v (s_be (A_st A 0) j)) j) (a_ms (A_v (s_be (A_st A 0) j)) b) f i (fun x => a_fb x md fl))))).2.2.length := by show j < (v_2 _ _ _ _ _).2.2.length; rw [v_2_n]; exact hj2
    have ees : a_es (A_v (s_be (A_st A 0) j)) j = a_es (A_v A) j := v_ac_es hj
    have hbx2 : a_bx (A_v (s_be (A_st A 0) j)) j = some b := (be_bx (A_st A 0) _ hj).trans hbx
    have hbs := a_bs_e hbx2
    have hbx3 : a_bx (A_v (A_sv (s_be (A_st A 0) j) (v_2 (A_v (s_be (A_st A 0) j)) b ((a_ms (A_v (s_be (A_st A 0) j)) b).map (f_m (a_es (A_v (s_be (A_st A 0) j)) j) f (u + 1) (fun x => a_fb x md fl))) j (e_st true (a_es (A_v (s_be (A_st A 0) j)) j) (a_ms (A_v (s_be (A_st A 0) j)) b) f i (fun x => a_fb x md fl))))) j = some b := (v_2_bx hj2).trans hbx2
    have hb3 := hA2.2.1.2.2.1.2.2.1 j b hj3 hbx3
    have hb : b < (A_v (s_be (A_st A 0) j)).2.1.length := Nat.lt_of_lt_of_eq hb3 v_2_m
    have hes : a_es (A_v (A_sv (s_be (A_st A 0) j) (v_2 (A_v (s_be (A_st A 0) j)) b ((a_ms (A_v (s_be (A_st A 0) j)) b).map (f_m (a_es (A_v (s_be (A_st A 0) j)) j) f (u + 1) (fun x => a_fb x md fl))) j (e_st true (a_es (A_v (s_be (A_st A 0) j)) j) (a_ms (A_v (s_be (A_st A 0) j)) b) f i (fun x => a_fb x md fl))))) j = e_st true (a_es (A_v (s_be (A_st A 0) j)) j) (a_ms (A_v (s_be (A_st A 0) j)) b) f i (fun x => a_fb x md fl) := v_2_es hj2
    have hms : a_ms (A_v (A_sv (s_be (A_st A 0) j) (v_2 (A_v (s_be (A_st A 0) j)) b ((a_ms (A_v (s_be (A_st A 0) j)) b).map (f_m (a_es (A_v (s_be (A_st A 0) j)) j) f (u + 1) (fun x => a_fb x md fl))) j (e_st true (a_es (A_v (s_be (A_st A 0) j)) j) (a_ms (A_v (s_be (A_st A 0) j)) b) f i (fun x => a_fb x md fl))))) b = ((a_ms (A_v (s_be (A_st A 0) j)) b).map (f_m (a_es (A_v (s_be (A_st A 0) j)) j) f (u + 1) (fun x => a_fb x md fl))) := v_2_ms hb
    have hesl : (a_es (A_v (A_sv (s_be (A_st A 0) j) (v_2 (A_v (s_be (A_st A 0) j)) b ((a_ms (A_v (s_be (A_st A 0) j)) b).map (f_m (a_es (A_v (s_be (A_st A 0) j)) j) f (u + 1) (fun x => a_fb x md fl))) j (e_st true (a_es (A_v (s_be (A_st A 0) j)) j) (a_ms (A_v (s_be (A_st A 0) j)) b) f i (fun x => a_fb x md fl))))) j).length = (a_es (A_v A) j).length := by rw [hes, e_st_l, ees]
    have hel := hA2.2.1.2.2.1.2.1 j hj3
    have hE : E_lt (a_es (A_v (s_be (A_st A 0) j)) j) := by rw [ees]; exact (ho.2.2 j hj).1.2.1
    have hmo0 : a_mo (A_v (A_sv (s_be (A_st A 0) j) (v_2 (A_v (s_be (A_st A 0) j)) b ((a_ms (A_v (s_be (A_st A 0) j)) b).map (f_m (a_es (A_v (s_be (A_st A 0) j)) j) f (u + 1) (fun x => a_fb x md fl))) j (e_st true (a_es (A_v (s_be (A_st A 0) j)) j) (a_ms (A_v (s_be (A_st A 0) j)) b) f i (fun x => a_fb x md fl))))) j i = a_mo (A_v (s_be (A_st A 0) j)) j i := a_mo_2 hj2 hb hbx2 (fun m => f_m_1 m) e_st_1
    obtain ⟨fu2, ft2, fa2, hso2, hu2, ht2, hac2, -⟩ := k_V_ses hA2.2.1.1.1 hj3
    refine sv_iload dX1_store_62 rfl ?_
    refine sv_iload_n dX1_store_64 rfl ?_
    refine sv_icmp_geN (tgt := 110) dX1_store_65 (by decide) (by omega) (by omega) (fun c65 => ?_) (fun c65 => ?_)
    · obtain rfl : i = u + 1 := by omega
      refine sv_aload_n dX1_store_110 rfl ?_
      refine sv_iload_n dX1_store_111 rfl ?_
      refine sv_iconst (nI 0) dX1_store_112 (by decide +kernel) ?_
      refine sv_tI (y := b_I false) rfl ?_
      refine sv_cvP _ (cc_end hA2 hj3 (all := false) (Nat.zero_le _)) okX1_end kv_X1_347 (sx_rd_c hx2) rfl dX1_store_113 rfl rfl (by omega) (Nat.le_of_ble_eq_true rfl) ?_
      intro v21 τ19 hp20
      obtain ⟨rfl, ow9, cap9, hA9, hB9⟩ := hp20
      refine sv_istore dX1_store_116 (by decide) ?_
      refine sv_iload dX1_store_118 rfl ?_
      refine sv_iret rfl rfl dX1_store_120 ?_
      have hsp : x_sto (A_st A 0) j f (u + 1) md fl true = (nI (n_st (A_v (s_be (A_st A 0) j)) j b f (u + 1) md fl), s_en (A_sv (s_be (A_st A 0) j) (v_2 (A_v (s_be (A_st A 0) j)) b ((a_ms (A_v (s_be (A_st A 0) j)) b).map (f_m (a_es (A_v (s_be (A_st A 0) j)) j) f (u + 1) (fun x => a_fb x md fl))) j (e_st true (a_es (A_v (s_be (A_st A 0) j)) j) (a_ms (A_v (s_be (A_st A 0) j)) b) f (u + 1) (fun x => a_fb x md fl)))) j false) := by unfold x_sto v_st; rw [hbs]
      rw [hsp]
      exact c_R_ok (x := (_, s_en _ j false)) hwv en_t (c_S_B (c_A_K hA9) (c_B_t hB5 hB9 (Nat.le_refl _) (Nat.le_refl _)) (by omega) (by omega))
    · refine sv_iload dX1_store_68 rfl ?_
      refine sv_if_eqB (tgt := 110) dX1_store_70 (by decide) (fun c70 => ?_) (fun c70 => ?_)
      · cases c70
      · refine sv_aload_n dX1_store_73 rfl ?_
        refine sv_get fg_X1_44 dX1_store_74 (sx_rd_c hx2) rfl ?_
        refine sv_aload dX1_store_77 rfl ?_
        refine sv_iload dX1_store_79 rfl ?_
        refine sv_cvR _ (cc_at hA2.2.1.1.1 hj3 hbx3 hb3 (show i < (a_es (A_v (A_sv (s_be (A_st A 0) j) (v_2 (A_v (s_be (A_st A 0) j)) b ((a_ms (A_v (s_be (A_st A 0) j)) b).map (f_m (a_es (A_v (s_be (A_st A 0) j)) j) f (u + 1) (fun x => a_fb x md fl))) j (e_st true (a_es (A_v (s_be (A_st A 0) j)) j) (a_ms (A_v (s_be (A_st A 0) j)) b) f i (fun x => a_fb x md fl))))) j).length by rw [hesl]; omega)) okX2_at kv_X1_274 (sx_rd_c hA2.2.1.1.1.1) rfl dX1_store_81 rfl rfl (by omega) (Nat.le_of_ble_eq_true rfl) ?_
        refine sv_astoreq dX1_store_84 (by decide) ?_
        refine sv_aloadq dX1_store_86 rfl ?_
        refine sv_ifnullq (tgt := 104) dX1_store_88 (by decide) (fun c88 => ?_) (fun a88 c88 => ?_)
        · have hmo := Option.map_eq_none_iff.mp c88
          rw [hmo0] at hmo
          have hfn : a_find (a_ms (A_v (s_be (A_st A 0) j)) b) ((a_es (A_v (s_be (A_st A 0) j)) j).getD i (0, 0)).1 = none := (a_mo_e hbx2).symm.trans hmo
          have hst : e_st true (a_es (A_v (s_be (A_st A 0) j)) j) (a_ms (A_v (s_be (A_st A 0) j)) b) f (i + 1) (fun x => a_fb x md fl) = _ := e_st_n hfn
          refine sv_iincN dX1_store_104 rfl (by decide) ?_
          refine sv_goto (tgt := 62) dX1_store_107 (by decide) ?_
          exact ih (i + 1) _ τ (by rw [hst]; exact hA2) hB5 (by omega) (by omega) (by omega)
        · obtain ⟨m, hmo, e88⟩ := Option.map_eq_some_iff.mp c88
          rw [hmo0] at hmo
          have hfn : a_find (a_ms (A_v (s_be (A_st A 0) j)) b) ((a_es (A_v (s_be (A_st A 0) j)) j).getD i (0, 0)).1 = some m := (a_mo_e hbx2).symm.trans hmo
          have hm : m < (a_ms (A_v (s_be (A_st A 0) j)) b).length := a_find_lt hfn
          have hmm := (hA2.2.1.1.1.2.2.2.1 b hb3).1.2.2 m (by show m < (a_ms _ b).length; rw [hms, List.length_map]; exact hm)
          have hmm : k_M τ (Λ3 2 b m) ((a_ms (A_v (A_sv (s_be (A_st A 0) j) (v_2 (A_v (s_be (A_st A 0) j)) b ((a_ms (A_v (s_be (A_st A 0) j)) b).map (f_m (a_es (A_v (s_be (A_st A 0) j)) j) f (u + 1) (fun x => a_fb x md fl))) j (e_st true (a_es (A_v (s_be (A_st A 0) j)) j) (a_ms (A_v (s_be (A_st A 0) j)) b) f i (fun x => a_fb x md fl))))) b).getD m (0, 0, 0)) := hmm
          rw [hms] at hmm
          have hfl9 := fm_at (ms := a_ms (A_v (s_be (A_st A 0) j)) b) (g := (fun x => a_fb x md fl)) hE hi1 (show i < u + 1 by omega) (by rw [ees]; omega) hfn
          have hmm : sx_c τ (Λ3 2 b m) = some (.inr (6, [.int (((a_ms (A_v (s_be (A_st A 0) j)) b).map (f_m (a_es (A_v (s_be (A_st A 0) j)) j) f (u + 1) (fun x => a_fb x md fl))).getD m (0, 0, 0)).1, .int (((a_ms (A_v (s_be (A_st A 0) j)) b).map (f_m (a_es (A_v (s_be (A_st A 0) j)) j) f (u + 1) (fun x => a_fb x md fl))).getD m (0, 0, 0)).2.1, .int (((a_ms (A_v (s_be (A_st A 0) j)) b).map (f_m (a_es (A_v (s_be (A_st A 0) j)) j) f (u + 1) (fun x => a_fb x md fl))).getD m (0, 0, 0)).2.2])) := hmm
          refine sv_aload dX1_store_91 rfl ?_
          refine sv_get fg_X1_282 dX1_store_93 (sx_rd_c hso2) rfl ?_
          refine sv_iload dX1_store_96 rfl ?_
          refine sv_aloadq dX1_store_98 rfl ?_
          refine sv_topR (a := (Λ3 2 b m)) (by rw [hmo0, hmo]; rfl) ?_
          refine sv_get fg_X1_234 dX1_store_100 (sx_rd_c hmm) rfl ?_
          refine sv_iast dX1_store_103 ht2 (vp_in_nI (by omega) (by omega)) ?_
          rw [nI_clamp (show i < 2 ^ 31 by omega)]
          refine hs_up ht2 (fun τ22 F23 h24 N25 Z26 => ?_)
          have h24 : sx_c τ22 ((Λ3 3 j 2)) = some (.inl (sg_a G 0, 60, .inl ((upd ft2 i _)))) := h24
          have hx2' := h_F_c F23 hx2 (e_kn hx2 ht2 rfl)
          have hso2' := h_F_c F23 hso2 (e_kn hso2 ht2 rfl)
          have hmm' := h_F_c F23 hmm (e_kn hmm ht2 rfl)
          refine sv_iincN dX1_store_104 rfl (by decide) ?_
          refine sv_goto (tgt := 62) dX1_store_107 (by decide) ?_
          have hA6 := c_A_s F23 hA2 hj3 (fun q z => Or.inr (Or.inr (Or.inl z))) (k_S_to (hA2.2.1.1.1.2.2.2.2 j hj3).1 F23 ht2 h24 (by show i < (a_es _ j).length; rw [hesl]; omega)) rfl (w_V_to hA2.2.1.2.2.1 hj3)
          have ev : v_to (A_v (A_sv (s_be (A_st A 0) j) (v_2 (A_v (s_be (A_st A 0) j)) b ((a_ms (A_v (s_be (A_st A 0) j)) b).map (f_m (a_es (A_v (s_be (A_st A 0) j)) j) f (u + 1) (fun x => a_fb x md fl))) j (e_st true (a_es (A_v (s_be (A_st A 0) j)) j) (a_ms (A_v (s_be (A_st A 0) j)) b) f i (fun x => a_fb x md fl))))) j i (((a_ms (A_v (s_be (A_st A 0) j)) b).map (f_m (a_es (A_v (s_be (A_st A 0) j)) j) f (u + 1) (fun x => a_fb x md fl))).getD m (0, 0, 0)).2.2 = v_2 (A_v (s_be (A_st A 0) j)) b ((a_ms (A_v (s_be (A_st A 0) j)) b).map (f_m (a_es (A_v (s_be (A_st A 0) j)) j) f (u + 1) (fun x => a_fb x md fl))) j (e_st true (a_es (A_v (s_be (A_st A 0) j)) j) (a_ms (A_v (s_be (A_st A 0) j)) b) f (i + 1) (fun x => a_fb x md fl)) := by rw [show A_v (A_sv (s_be (A_st A 0) j) (v_2 (A_v (s_be (A_st A 0) j)) b ((a_ms (A_v (s_be (A_st A 0) j)) b).map (f_m (a_es (A_v (s_be (A_st A 0) j)) j) f (u + 1) (fun x => a_fb x md fl))) j (e_st true (a_es (A_v (s_be (A_st A 0) j)) j) (a_ms (A_v (s_be (A_st A 0) j)) b) f i (fun x => a_fb x md fl)))) = v_2 (A_v (s_be (A_st A 0) j)) b ((a_ms (A_v (s_be (A_st A 0) j)) b).map (f_m (a_es (A_v (s_be (A_st A 0) j)) j) f (u + 1) (fun x => a_fb x md fl))) j (e_st true (a_es (A_v (s_be (A_st A 0) j)) j) (a_ms (A_v (s_be (A_st A 0) j)) b) f i (fun x => a_fb x md fl)) from rfl, v_2_to hj2, e_st_s hi1 (by rw [ees]; omega) hfn, e_st_1, hfl9]
          have hA6 : c_A G mu oc a _ a nl2 ow3 Λ3 0 (A_sv (A_sv (s_be (A_st A 0) j) (v_2 (A_v (s_be (A_st A 0) j)) b ((a_ms (A_v (s_be (A_st A 0) j)) b).map (f_m (a_es (A_v (s_be (A_st A 0) j)) j) f (u + 1) (fun x => a_fb x md fl))) j (e_st true (a_es (A_v (s_be (A_st A 0) j)) j) (a_ms (A_v (s_be (A_st A 0) j)) b) f i (fun x => a_fb x md fl)))) (v_to (A_v (A_sv (s_be (A_st A 0) j) (v_2 (A_v (s_be (A_st A 0) j)) b ((a_ms (A_v (s_be (A_st A 0) j)) b).map (f_m (a_es (A_v (s_be (A_st A 0) j)) j) f (u + 1) (fun x => a_fb x md fl))) j (e_st true (a_es (A_v (s_be (A_st A 0) j)) j) (a_ms (A_v (s_be (A_st A 0) j)) b) f i (fun x => a_fb x md fl))))) j i (((a_ms (A_v (s_be (A_st A 0) j)) b).map (f_m (a_es (A_v (s_be (A_st A 0) j)) j) f (u + 1) (fun x => a_fb x md fl))).getD m (0, 0, 0)).2.2)) := hA6
          rw [ev] at hA6
          exact ih (i + 1) _ _ hA6 (c_B_t hB5 (c_B_F F23) (Nat.le_refl _) (Nat.le_refl _)) (by omega) (by omega) (by omega)
  refine sx_body (by decide) (Nat.le_of_ble_eq_true rfl) ?_
  have hK0 := hK
  obtain ⟨sv, nl, hX, hF, hN⟩ := hK
  obtain ⟨Λ0, hV, hzz, hw⟩ := id hF
  have hx := hX.1
  have hnb := hw.1.1
  have hns := hw.1.2.1
  have hX0 : c_X G mu (sx_n σ) oc σ sv nl (A_st A 0) := hX
  have hF0 : c_F G mu (sx_n σ) σ sv (A_v (A_st A 0)) := hF
  have hbl : ∀ b, a_bx (A_v A) j = some b → b < 100 := fun b hb => by have := hw.2.2.1 j b hj hb; omega
  obtain ⟨b, hbx⟩ := Option.isSome_iff_exists.mp (show (a_bx (A_v A) j).isSome = true by cases hq : (a_bx (A_v A) j).isSome with | true => rfl | false => rw [hq] at h; cases h)
  have hb := hw.2.2.1 j b hj hbx
  have hm30 := hw.1.2.2 b hb
  have hel := hw.2.1 j hj
  have hk1 : i_en (nI (f + 1)) (a_es (A_v A) j).length = true := i_en_nI hf (by omega)
  have hk2 : i_en (nI (u + 1)) (a_es (A_v A) j).length = true := i_en_nI hu (by omega)
  have hle : nI (f + 1) ≤ nI (u + 1) := (nI_leI (by omega) (by omega)).mpr (by omega)
  refine sv_aload_n dX1_store_0 rfl ?_
  refine sv_iload_n dX1_store_1 rfl ?_
  refine sv_iload_n dX1_store_2 rfl ?_
  refine sv_iload_n dX1_store_3 rfl ?_
  refine sv_cvR _ (cg_rng hx hV hj hk1 hk2 hle) okX1_rangeOf kv_X1_351 (sx_rd_c hx) rfl dX1_store_4 rfl rfl (by omega) (Nat.le_of_ble_eq_true rfl) ?_
  refine sv_astore dX1_store_7 (by decide) ?_
  refine sv_iload dX1_store_9 rfl ?_
  refine sv_iload dX1_store_11 rfl ?_
  refine sv_csR _ (cg_fl hfl) okX1_requireFlags ks_X1_371 dX1_store_13 rfl rfl (by omega) (Nat.le_of_ble_eq_true rfl) ?_
  refine sv_aload dX1_store_16 rfl ?_
  refine sv_csR _ (cg_wr hV hj hbl h) okX1_requireWriter ks_X1_375 dX1_store_18 rfl rfl (by omega) (Nat.le_of_ble_eq_true rfl) ?_
  refine sv_aload_n dX1_store_21 rfl ?_
  refine sv_iload_n dX1_store_22 rfl ?_
  refine sv_cvP _ (cc_begin (A := A_st A 0) hX0 hF0 hz hj) okX1_begin kv_X1_336 (sx_rd_c hx) rfl dX1_store_23 rfl rfl (by omega) (Nat.le_of_ble_eq_true rfl) ?_
  intro v29 τ27 hp28
  obtain ⟨a, nl2, ow2, Λ2, rfl, ea, hA2, hB2, FG2⟩ := hp28
  have hx2 := hA2.1.1
  have hj2 : j < (A_v (s_be (A_st A 0) j)).2.2.length := by rw [be_len]; exact hj
  refine sv_astore dX1_store_26 (by decide) ?_
  refine sv_aload_n dX1_store_28 rfl ?_
  refine sv_aload dX1_store_29 rfl ?_
  refine sv_cvR _ (cc_boxOf hx2 hA2.2.1.1.1 hj2 hb ((be_bx _ _ hj).trans hbx)) okX1_boxOf kv_X1_355 (sx_rd_c hx2) rfl dX1_store_31 rfl rfl (by omega) (Nat.le_of_ble_eq_true rfl) ?_
  refine sv_aload_n dX1_store_34 rfl ?_
  refine sv_get fg_X1_44 dX1_store_35 (sx_rd_c hx2) rfl ?_
  refine sv_aload dX1_store_38 rfl ?_
  refine sv_iload_n dX1_store_40 rfl ?_
  refine sv_iload_n dX1_store_41 rfl ?_
  refine sv_cvP _ (cm_range hG) okX2_range kv_X1_359 (sx_rd_c hA2.2.1.1.1.1) rfl dX1_store_42 rfl rfl (by omega) (Nat.le_of_ble_eq_true rfl) ?_
  intro v32 τ30 hp31
  obtain ⟨te, rfl, hte, htc, F1⟩ := hp31
  refine sv_iload dX1_store_45 rfl ?_
  refine sv_iload dX1_store_47 rfl ?_
  refine sv_csP _ (cm_changed hG (Bool.and_eq_true _ _ ▸ hfl).1) okX1_changed ks_X1_378 dX1_store_49 rfl rfl (by omega) (Nat.le_of_ble_eq_true rfl) ?_
  intro v35 τ33 hp34
  obtain ⟨ch, rfl, hch, hkc, F2⟩ := hp34
  have hA4 := c_A_0 F2 (c_A_0 F1 hA2)
  have htc := h_F_c F2 htc (fun z => z)
  have hBb := (hA4.2.1.1.1.2.2.2.1 b hb).1
  have hS4 := (hA4.2.1.1.1.2.2.2.2 j hj2).1
  have hP4 : k_P G 1 _ te (p_rg (a_es (A_v (s_be (A_st A 0) j)) j) (nI (f + 1)) (nI (u + 1))) := Or.inr (Or.inr (Or.inr (Or.inr (Or.inr (Or.inr (Or.inr (Or.inr (Or.inr (Or.inr ⟨_, _, _, _, _, _, _, _, sx_rd_c htc, hS4, fun m => rfl⟩)))))))))
  have hm31 : (a_b (A_v (s_be (A_st A 0) j)) b).2.2.length ≤ 30 := hm30
  refine sv_cvP _ (cc_bchange hBb hG hP4 hkc (by omega)) okX6_change kv_X1_366 (sx_rd_c hBb.1) rfl dX1_store_52 rfl rfl (by omega) (Nat.le_of_ble_eq_true rfl) ?_
  intro v38 τ36 hp37
  obtain ⟨rfl, g2, hB3, hg3, F3⟩ := hp37
  have hw3 : w_V (v_bm (A_v (s_be (A_st A 0) j)) b ((a_ms (A_v (s_be (A_st A 0) j)) b).map (m_F (p_rg (a_es (A_v (s_be (A_st A 0) j)) j) (nI (f + 1)) (nI (u + 1))) (fun x => a_fb x md fl)))) := w_V_bm hA2.2.1.2.2.1 (by rw [List.length_map]; exact hm30)
  have hA5 := c_A_b F3 hA4 hb (fun q z => Or.inr (Or.inr z)) hB3 rfl (Or.inl rfl) (fun i hi => hg3 i (by rw [List.length_map] at hi; exact hi)) (hA2.2.2.2.1 b hb) hw3
  have ees : a_es (A_v (s_be (A_st A 0) j)) j = a_es (A_v A) j := v_ac_es hj
  have hpe : ∀ m, (p_rg (a_es (A_v (s_be (A_st A 0) j)) j) (nI (f + 1)) (nI (u + 1))) m = r_g (a_es (A_v (s_be (A_st A 0) j)) j) f (u + 1) m := fun m => p_rg_e (by rw [ees]; exact hel) (by rw [ees]; exact hf) (by rw [ees]; exact hu)
  have em : ((a_ms (A_v (s_be (A_st A 0) j)) b).map (m_F (p_rg (a_es (A_v (s_be (A_st A 0) j)) j) (nI (f + 1)) (nI (u + 1))) (fun x => a_fb x md fl))) = ((a_ms (A_v (s_be (A_st A 0) j)) b).map (f_m (a_es (A_v (s_be (A_st A 0) j)) j) f (u + 1) (fun x => a_fb x md fl))) := List.map_congr_left (fun m hm => by unfold m_F f_m; rw [hpe m])
  have ec : (a_ms (A_v (s_be (A_st A 0) j)) b).countP (m_cq (p_rg (a_es (A_v (s_be (A_st A 0) j)) j) (nI (f + 1)) (nI (u + 1))) (fun x => a_fb x md fl)) = n_st (A_v (s_be (A_st A 0) j)) j b f (u + 1) md fl := List.countP_congr (fun m hm => by unfold m_cq; rw [hpe m])
  have hF3l : c_B 30 90 _ τ36 := ⟨(c_B_F F3).1, by have h8 := (c_B_F F3).2.1; omega, by have h8 := (c_B_F F3).2.2; omega⟩
  have hB5 : c_B 250 3000 σ τ36 := c_B_t hB2 (c_B_t (c_B_F F1) (c_B_t (c_B_F F2) hF3l (Nat.le_refl _) (Nat.le_refl _)) (Nat.le_refl _) (Nat.le_refl _)) (by omega) (by omega)
  have hbs : a_bs (A_v (s_be (A_st A 0) j)) j = b := a_bs_e ((be_bx (A_st A 0) j hj).trans hbx)
  obtain ⟨Λ3, eΛ3⟩ : ∃ L, L = Λ_b Λ2 b (Λ2 1 b 2) (Λ2 1 b 3) g2 := ⟨_, rfl⟩
  have e30 : Λ2 3 j 0 = Λ3 3 j 0 := by rw [eΛ3, Λ_b_3]
  have hA5 : c_A G mu oc a τ36 a nl2 _ _ 0 (A_sv (s_be (A_st A 0) j) (v_bm (A_v (s_be (A_st A 0) j)) b ((a_ms (A_v (s_be (A_st A 0) j)) b).map (m_F (p_rg (a_es (A_v (s_be (A_st A 0) j)) j) (nI (f + 1)) (nI (u + 1))) (fun x => a_fb x md fl))))) := hA5
  rw [em] at hA5
  rw [← eΛ3] at hA5
  have hA5 : c_A G mu oc a τ36 a nl2 _ Λ3 0 (A_sv (s_be (A_st A 0) j) (v_bm (A_v (s_be (A_st A 0) j)) b ((a_ms (A_v (s_be (A_st A 0) j)) b).map (f_m (a_es (A_v (s_be (A_st A 0) j)) j) f (u + 1) (fun x => a_fb x md fl))))) := hA5
  have hx3 := hA5.1.1
  refine sv_istore dX1_store_55 (by decide) ?_
  refine sv_iload_n dX1_store_57 rfl ?_
  refine sv_iconst (nI 1) dX1_store_58 (by decide +kernel) ?_
  refine sv_isubN dX1_store_59 (by omega) ?_
  refine sv_istore dX1_store_60 (by decide) ?_
  rw [e30]
  have eE : (A_sv (s_be (A_st A 0) j) (v_2 (A_v (s_be (A_st A 0) j)) b ((a_ms (A_v (s_be (A_st A 0) j)) b).map (f_m (a_es (A_v (s_be (A_st A 0) j)) j) f (u + 1) (fun x => a_fb x md fl))) j (e_st true (a_es (A_v (s_be (A_st A 0) j)) j) (a_ms (A_v (s_be (A_st A 0) j)) b) f f (fun x => a_fb x md fl)))) = A_sv (s_be (A_st A 0) j) (v_bm (A_v (s_be (A_st A 0) j)) b ((a_ms (A_v (s_be (A_st A 0) j)) b).map (f_m (a_es (A_v (s_be (A_st A 0) j)) j) f (u + 1) (fun x => a_fb x md fl)))) := by rw [e_st_0]; exact congrArg (A_sv (s_be (A_st A 0) j)) (v_2_e hj2)
  rw [← eE] at hA5
  exact loop a nl2 b _ _ Λ3 _ hbx (congrArg nI ec) (u + 3 - f) f none _ hA5 hB5 (Nat.le_refl _) (by omega) (by omega)
theorem pm_sto (hK : c_K G mu oc σ A) {z : Nat} (hz : g_Z G z) (hG : g_L G) {t : Nat} (ho : o_V t (A_v A)) {s k l md fl : Int32} {sil : Bool} : sx_C G 100 YX1_store [.ref (mu 0), .int s, .int k, .int l, .int md, .int fl, .int (b_I sil)] σ (c_R ["java/lang/IndexOutOfBoundsException", "java/lang/IllegalArgumentException", "java/lang/IllegalStateException"] G mu oc σ (sp_sto A s k l md fl sil)) := by
  have hw : w_V (A_v A) := by obtain ⟨_, _, _, ⟨_, _, _, hw⟩, _⟩ := hK; exact hw
  have hns := hw.1.2.1
  unfold sp_sto
  refine c_3 hK (fun h => cpx_sto1 hK h) (fun h1 h2 => ?_) (fun h1 h2 h3 => ?_) (fun h1 h2 h3 => ?_)
  all_goals obtain ⟨j, f, u, hj, hf, hu, rfl, rfl, rfl, ej, ek, el⟩ := a_are_of hw h1
  all_goals have hel := hw.2.1 j hj
  · cases h4 : decide (nI (f + 1) ≤ nI (u + 1)) with
    | false => exact cpx_sto2 hK hj (i_en_nI hf (by omega)) (i_en_nI hu (by omega)) (of_decide_eq_false h4)
    | true =>
      rw [h4, Bool.true_and] at h2
      exact cpx_sto3 hK hj (i_en_nI hf (by omega)) (i_en_nI hu (by omega)) (of_decide_eq_true h4) h2
  · rw [chg_j hj hns] at h3
    rw [Bool.and_eq_true] at h2
    exact cpx_sto4 hK hj (i_en_nI hf (by omega)) (i_en_nI hu (by omega)) (of_decide_eq_true h2.1) h2.2 h3
  · rw [chg_j hj hns] at h3
    rw [Bool.and_eq_true] at h2
    rw [ej, ek, el]
    have hfu := of_decide_eq_true h2.1
    rw [nI_leI (by omega) (by omega)] at hfu
    cases sil with
    | false => exact cp_stof hK hz hG hj hf hu (by omega) h2.2 h3
    | true => exact cp_stot hK hz hG hj hf hu (by omega) ho h2.2 h3
end CMC2
