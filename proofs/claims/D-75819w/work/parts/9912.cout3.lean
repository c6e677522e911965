set_option maxRecDepth 100000
section CO3
variable {ρ : sx_St} {sa cap : Nat} {O : List Int32} {G : sx_G} {σ τ : sx_St} {mu : Nat → Nat} {oc lo sv nl cap : Nat} {ow : Nat → Nat} {Λ : Nat → Nat → Nat → Nat} {A : a_A} {V : a_V} {W : Nat → Prop} {c sl : Nat} {N : List a_N}
theorem cpx_wvw (hK : c_K G mu oc σ A) {s : Int32} (hi : i_in s (A_v A).2.2.length = false) : sx_C G 100 YX1_writeView [.ref (mu 0), .int s] σ (c_X0 "java/lang/IndexOutOfBoundsException" σ) := by
  refine sx_body (by decide) (Nat.le_of_ble_eq_true rfl) ?_
  obtain ⟨sv, nl, hX, hF, hN⟩ := hK
  obtain ⟨Λ0, hV, hzz, hw⟩ := id hF
  have hx := hX.1
  have hnb := hw.1.1
  have hns := hw.1.2.1
  have hX0 : c_X G mu (sx_n σ) oc σ sv nl (A_st A 0) := hX
  have hF0 : c_F G mu (sx_n σ) σ sv (A_v (A_st A 0)) := hF
  have hv1 := hV.1
  refine sv_aload_n dX1_writeView_0 rfl ?_
  refine sv_iload_n dX1_writeView_1 rfl ?_
  refine sv_cv _ (cgx_sesAt hx hV hi) okX1_sessionAt (sx_rd_c hx) rfl kv_X1_240.1 kv_X1_240.2.1 kv_X1_240.2.2 dX1_writeView_2 rfl rfl (by omega) (Nat.le_of_ble_eq_true rfl) (fun v τ h => by obtain ⟨q, e, _⟩ := h; cases e) (fun E q τ h => ?_)
  obtain ⟨q9, e9, F9⟩ := h
  cases e9
  refine sv_out (fun x hx => by cases hx) ?_
  exact ⟨_, rfl, F9⟩
theorem gd_memE {es : List a_E} {k : Nat} (h : k < es.length) : es.getD k (0, 0) ∈ es := by
  rw [List.getD_eq_getElem?_getD, List.getElem?_eq_getElem h]
  exact List.getElem_mem h
theorem w_e_l (V : a_V) (s k : Nat) : (w_e V s k).length ≤ 23 := by
  unfold w_e
  have h1 := d_n_l (k + 1)
  have h2 := d_n_l (a_e V s k).1.toNatClampNeg
  have h3 := w_fs_l (a_e V s k).2
  simp only [List.length_append, List.length_cons]
  split <;> simp <;> omega
theorem cp_wvw0 (hK : c_K G mu oc σ A) (hC : g_C G) (hL : g_W G 16 w_L) {j : Nat} (hj : j < (A_v A).2.2.length) {t : Nat} (ho : o_V t (A_v A)) (ht6 : t ≤ 1000) {sv nl : Nat} {Λ0 : Nat → Nat → Nat → Nat} (hX : c_X G mu (sx_n σ) oc σ sv nl A) (hV : k_V G σ sv Λ0 (A_v A)) (hzz : k_z (c_Zm mu (sx_n σ)) sv Λ0 (A_v A)) (hw : w_V (A_v A)) (hN : c_Fn G mu (sx_n σ) σ nl (A_n A)) : sx_C G 100 YX1_writeView [.ref (mu 0), .int (nI j)] σ (c_R ["java/lang/IndexOutOfBoundsException"] G mu oc σ ((nI (o_t (w_e (A_v A) j) (a_es (A_v A) j).length).length, A_so (A_st A 0) (o_t (w_e (A_v A) j) (a_es (A_v A) j).length)))) := by
  have loop : ∀ r k (ρ : sx_St) sa1 cap1, k ≤ (a_es (A_v A) j).length → (a_es (A_v A) j).length + 1 ≤ k + r → k_U G ρ (mu 5) sa1 cap1 (o_t (w_e (A_v A) j) k) → k_Uf (mu 5) (mu 6) oc sa1 cap1 σ ρ → cap1 ≤ 30000 → sx_V G 100 YX1_writeView 16 [some (.ref (mu 0)), some (.int (nI j)), some (.ref (Λ0 3 j 0)), some (.int (nI k))] [] ρ (c_R ["java/lang/IndexOutOfBoundsException"] G mu oc σ ((nI (o_t (w_e (A_v A) j) (a_es (A_v A) j).length).length, A_so (A_st A 0) (o_t (w_e (A_v A) j) (a_es (A_v A) j).length)))) := by
    have hx := hX.1
    obtain ⟨fo0, z00, hsb0, hso0, hol, hoc1, hoc2, hofo, hofi⟩ := id hX.2.2.2.2.1
    have hU0 : k_U G σ (mu 5) (mu 6) oc (A_o A) := ⟨_, _, hsb0, hso0, hol, ⟨hoc1, by omega⟩, hofo, hofi⟩
    have zW : ∀ q, c_Zm mu (sx_n σ) q → ¬ (q = mu 5 ∨ q = mu 6) := fun q z w => w.elim (z.2 5 (by decide)) (z.2 6 (by decide))
    have nex : ¬ (mu 0 = mu 5 ∨ mu 0 = mu 6) := fun z => z.elim (e_kn hx hsb0 rfl) (e_kn hx hso0 rfl)
    obtain ⟨fu0, ft0, fa0, hso, hu0, ht0, -, -, -, eu0, et0, -⟩ := k_V_ses hV hj
    have hel := hw.2.1 j hj
    have hz9 := hzz.2.2.2.2.2.2 j hj
    intro r
    induction r with
    | zero => intro k ρ sa1 cap1 h1 h2; omega
    | succ r ih =>
    intro k ρ sa1 cap1 hk1 hk2 hU1 hf1 hcap1
    have hx1 := h_F_c (k_Uf_F hf1) hx nex
    have hso1 := h_F_c (k_Uf_F hf1) hso (zW _ hz9.1)
    obtain ⟨_, _, hsb1, -⟩ := id hU1
    have hlen := o_t_l (w_e (A_v A) j) 23 k (fun q hq => w_e_l _ _ _)
    refine sv_iload_n dX1_writeView_16 rfl ?_
    refine sv_aload_n dX1_writeView_17 rfl ?_
    refine sv_get fg_X1_257 dX1_writeView_18 (sx_rd_c hso1) rfl ?_
    refine sv_icmp_geN (tgt := 91) dX1_writeView_21 (by decide) (by omega) (by omega) (fun c21 => ?_) (fun c21 => ?_)
    · obtain rfl : k = (a_es (A_v A) j).length := by omega
      refine sv_aload_n dX1_writeView_91 rfl ?_
      refine sv_get fg_X1_79 dX1_writeView_92 (sx_rd_c hx1) rfl ?_
      refine sv_cvR _ (cb_len hU1) okJ8_length kv_X1_426 (sx_rd_c hsb1) rfl dX1_writeView_95 rfl rfl (by omega) (Nat.le_of_ble_eq_true rfl) ?_
      refine sv_iret rfl rfl dX1_writeView_98 ?_
      exact c_R_ok (x := (nI (o_t (w_e (A_v A) j) (a_es (A_v A) j).length).length, A_so (A_st A 0) (o_t (w_e (A_v A) j) (a_es (A_v A) j).length))) rfl rfl (c_S_out hK hU1 hf1 hcap1)
    · have hk : k < (a_es (A_v A) j).length := by omega
      obtain ⟨b, hbx⟩ : ∃ b, a_bx (A_v A) j = some b := by
        cases hq : a_bx (A_v A) j with
        | none => rw [hw.2.2.2 j hj hq] at hk; exact absurd hk (Nat.not_lt_zero _)
        | some b => exact ⟨b, rfl⟩
      have hb := hw.2.2.1 j b hj hbx
      have hoS := ho.2.2 j hj
      have hoE := hoS.1.1 (a_e (A_v A) j k) (gd_memE (es := a_es (A_v A) j) hk)
      have em1 := i32_nat (show 0 ≤ (a_e (A_v A) j k).1.toInt by have := hoE.1; omega)
      have hl1 := Int32.le_iff_toInt_le.mp hoE.2
      have hl2 := Int32.lt_iff_toInt_lt.mp (hoS.2.1 b hbx)
      have hl3 := (ho.2.1 b hb).1.2
      have hdu := d_n_l (a_e (A_v A) j k).1.toNatClampNeg
      have hdk := d_n_l (k + 1)
      have hgp := w_gp_l (o_t (w_e (A_v A) j) k)
      have hfs := w_fs_l (a_e (A_v A) j k).2
      refine sv_aload_n dX1_writeView_24 rfl ?_
      refine sv_cvP _ (cw_beg hC hx1 hU1 (by (try simp only [List.length_append, List.length_singleton]); omega)) okX1_begins kv_X1_440 (sx_rd_c hx1) rfl dX1_writeView_25 rfl rfl (by omega) (Nat.le_of_ble_eq_true rfl) ?_
      intro v4 τ5 hp6
      obtain ⟨rfl, sa7, cap8, hm9, hU10, hg11⟩ := hp6
      have hf12 := k_Uf_t hf1 hg11
      try simp only [List.length_append, List.length_singleton] at hm9
      obtain ⟨_, _, hsb13, -⟩ := id hU10
      have h14 := h_F_c (k_Uf_F hf12) hx nex
      have h15 := h_F_c (k_Uf_F hf12) hso (zW _ hz9.1)
      have h16 := h_F_c (k_Uf_F hf12) hu0 (zW _ hz9.2.1)
      have h17 := h_F_c (k_Uf_F hf12) ht0 (zW _ hz9.2.2.1)
      have h18 := h_F_c (k_Uf_F hf12) hV.1 (zW _ hzz.1)
      refine sv_aload_n dX1_writeView_28 rfl ?_
      refine sv_get fg_X1_79 dX1_writeView_29 (sx_rd_c h14) rfl ?_
      refine sv_iload_n dX1_writeView_32 rfl ?_
      refine sv_iconst (nI 1) dX1_writeView_33 (by decide +kernel) ?_
      refine sv_iaddN dX1_writeView_34 ?_
      refine sv_cvP _ (cb_api hC hU10 (n := (k + 1)) (by omega) (by simp only [List.length_append, List.length_singleton]; omega)) okJ8_append_2 kv_X1_443 (sx_rd_c hsb13) rfl dX1_writeView_35 rfl rfl (by omega) (Nat.le_of_ble_eq_true rfl) ?_
      intro v19 τ20 hp21
      obtain ⟨rfl, sa22, cap23, hm24, hU25, hg26⟩ := hp21
      have hf27 := k_Uf_t hf12 hg26
      try simp only [List.length_append, List.length_singleton] at hm24
      obtain ⟨_, _, hsb28, -⟩ := id hU25
      have h29 := h_F_c (k_Uf_F hf27) hx nex
      have h30 := h_F_c (k_Uf_F hf27) hso (zW _ hz9.1)
      have h31 := h_F_c (k_Uf_F hf27) hu0 (zW _ hz9.2.1)
      have h32 := h_F_c (k_Uf_F hf27) ht0 (zW _ hz9.2.2.1)
      have h33 := h_F_c (k_Uf_F hf27) hV.1 (zW _ hzz.1)
      refine sv_bipush (nI 58) dX1_writeView_38 (by decide +kernel) ?_
      refine sv_cvP _ (cb_app hC hU25 (c := 58) (by omega) (by simp only [List.length_append, List.length_singleton]; omega)) okJ8_append_3 kv_X1_153 (sx_rd_c hsb28) rfl dX1_writeView_40 rfl rfl (by omega) (Nat.le_of_ble_eq_true rfl) ?_
      intro v34 τ35 hp36
      obtain ⟨rfl, sa37, cap38, hm39, hU40, hg41⟩ := hp36
      have hf42 := k_Uf_t hf27 hg41
      try simp only [List.length_append, List.length_singleton] at hm39
      obtain ⟨_, _, hsb43, -⟩ := id hU40
      have h44 := h_F_c (k_Uf_F hf42) hx nex
      have h45 := h_F_c (k_Uf_F hf42) hso (zW _ hz9.1)
      have h46 := h_F_c (k_Uf_F hf42) hu0 (zW _ hz9.2.1)
      have h47 := h_F_c (k_Uf_F hf42) ht0 (zW _ hz9.2.2.1)
      have h48 := h_F_c (k_Uf_F hf42) hV.1 (zW _ hzz.1)
      refine sv_aload_n dX1_writeView_43 rfl ?_
      refine sv_get fg_X1_278 dX1_writeView_44 (sx_rd_c h45) rfl ?_
      refine sv_iload_n dX1_writeView_47 rfl ?_
      refine sv_iald dX1_writeView_48 (sx_rd_c h46) (vp_in_nI (by omega) (by omega)) ?_
      rw [nI_clamp (show k < 2 ^ 31 by omega)]
      refine sv_tI (y := nI (a_e (A_v A) j k).1.toNatClampNeg) ((eu0 k hk).trans em1.1) ?_
      refine sv_cvP _ (cb_api hC hU40 (n := (a_e (A_v A) j k).1.toNatClampNeg) (by omega) (by simp only [List.length_append, List.length_singleton]; omega)) okJ8_append_2 kv_X1_443 (sx_rd_c hsb43) rfl dX1_writeView_49 rfl rfl (by omega) (Nat.le_of_ble_eq_true rfl) ?_
      intro v49 τ50 hp51
      obtain ⟨rfl, sa52, cap53, hm54, hU55, hg56⟩ := hp51
      have hf57 := k_Uf_t hf42 hg56
      try simp only [List.length_append, List.length_singleton] at hm54
      obtain ⟨_, _, hsb58, -⟩ := id hU55
      have h59 := h_F_c (k_Uf_F hf57) hx nex
      have h60 := h_F_c (k_Uf_F hf57) hso (zW _ hz9.1)
      have h61 := h_F_c (k_Uf_F hf57) hu0 (zW _ hz9.2.1)
      have h62 := h_F_c (k_Uf_F hf57) ht0 (zW _ hz9.2.2.1)
      have h63 := h_F_c (k_Uf_F hf57) hV.1 (zW _ hzz.1)
      refine sv_pop dX1_writeView_52 rfl ?_
      refine sv_aload_n dX1_writeView_53 rfl ?_
      refine sv_aload_n dX1_writeView_54 rfl ?_
      refine sv_get fg_X1_282 dX1_writeView_55 (sx_rd_c h60) rfl ?_
      refine sv_iload_n dX1_writeView_58 rfl ?_
      refine sv_iald dX1_writeView_59 (sx_rd_c h62) (vp_in_nI (by omega) (by omega)) ?_
      rw [nI_clamp (show k < 2 ^ 31 by omega)]
      refine sv_tI (y := (a_e (A_v A) j k).2) (et0 k hk) ?_
      refine sv_cvP _ (cw_fl hC hL h59 hU55 (by simp only [List.length_append, List.length_singleton]; omega)) okX1_writeFlags kv_X1_446 (sx_rd_c h59) rfl dX1_writeView_60 rfl rfl (by omega) (Nat.le_of_ble_eq_true rfl) ?_
      intro v64 τ65 hp66
      obtain ⟨rfl, sa67, cap68, hm69, hU70, hg71⟩ := hp66
      have hf72 := k_Uf_t hf57 hg71
      try simp only [List.length_append, List.length_singleton] at hm69
      obtain ⟨_, _, hsb73, -⟩ := id hU70
      have h74 := h_F_c (k_Uf_F hf72) hx nex
      have h75 := h_F_c (k_Uf_F hf72) hso (zW _ hz9.1)
      have h76 := h_F_c (k_Uf_F hf72) hu0 (zW _ hz9.2.1)
      have h77 := h_F_c (k_Uf_F hf72) ht0 (zW _ hz9.2.2.1)
      have h78 := h_F_c (k_Uf_F hf72) hV.1 (zW _ hzz.1)
      refine sv_aload_n dX1_writeView_63 rfl ?_
      refine sv_get fg_X1_44 dX1_writeView_64 (sx_rd_c h74) rfl ?_
      refine sv_aload_n dX1_writeView_67 rfl ?_
      refine sv_iload_n dX1_writeView_68 rfl ?_
      refine sv_cvR _ (cc_at (k_V_Z hV hzz (k_Uf_F hf72) zW) hj hbx hb hk) okX2_at kv_X1_274 (sx_rd_c h78) rfl dX1_writeView_69 rfl rfl (by omega) (Nat.le_of_ble_eq_true rfl) ?_
      refine sv_ifnonnullq (tgt := 85) dX1_writeView_72 (by decide) (fun a72 c72 => ?_) (fun c72 => ?_)
      · have hgo : a_go (A_v A) j k = false := by unfold a_go; obtain ⟨m9, hm9, -⟩ := Option.map_eq_some_iff.mp c72; rw [hm9]; rfl
        refine sv_iincN dX1_writeView_85 rfl (by decide) ?_
        refine sv_goto (tgt := 16) dX1_writeView_88 (by decide) ?_
        have h58 := nI_byte 58 (by omega)
        simp only [h58, List.append_assoc, List.singleton_append] at hU70
        refine ih (k + 1) _ _ _ (by omega) (by omega) ?_ hf72 (by omega)
        rw [o_t_s (w_e (A_v A) j) k]
        show k_U G _ _ _ _ (_ ++ (d_n (k + 1) ++ (nI 58 :: (d_n (a_e (A_v A) j k).1.toNatClampNeg ++ (w_fs (a_e (A_v A) j k).2 ++ (if a_go (A_v A) j k = true then [nI 33] else []))))))
        rw [hgo]
        rw [if_neg (by decide), List.append_nil]
        simp only [List.append_assoc]
        exact hU70
      · have hgo : a_go (A_v A) j k = true := by unfold a_go; rw [Option.map_eq_none_iff.mp c72]; rfl
        refine sv_aload_n dX1_writeView_75 rfl ?_
        refine sv_get fg_X1_79 dX1_writeView_76 (sx_rd_c h74) rfl ?_
        refine sv_bipush (nI 33) dX1_writeView_79 (by decide +kernel) ?_
        refine sv_cvP _ (cb_app hC hU70 (c := 33) (by omega) (by simp only [List.length_append, List.length_singleton]; omega)) okJ8_append_3 kv_X1_153 (sx_rd_c hsb73) rfl dX1_writeView_81 rfl rfl (by omega) (Nat.le_of_ble_eq_true rfl) ?_
        intro v79 τ80 hp81
        obtain ⟨rfl, sa82, cap83, hm84, hU85, hg86⟩ := hp81
        have hf87 := k_Uf_t hf72 hg86
        try simp only [List.length_append, List.length_singleton] at hm84
        obtain ⟨_, _, hsb88, -⟩ := id hU85
        have h89 := h_F_c (k_Uf_F hf87) hx nex
        have h90 := h_F_c (k_Uf_F hf87) hso (zW _ hz9.1)
        have h91 := h_F_c (k_Uf_F hf87) hu0 (zW _ hz9.2.1)
        have h92 := h_F_c (k_Uf_F hf87) ht0 (zW _ hz9.2.2.1)
        have h93 := h_F_c (k_Uf_F hf87) hV.1 (zW _ hzz.1)
        refine sv_pop dX1_writeView_84 rfl ?_
        refine sv_iincN dX1_writeView_85 rfl (by decide) ?_
        refine sv_goto (tgt := 16) dX1_writeView_88 (by decide) ?_
        have h58 := nI_byte 58 (by omega)
        have h33 := nI_byte 33 (by omega)
        simp only [h58, h33, List.append_assoc, List.singleton_append] at hU85
        refine ih (k + 1) _ _ _ (by omega) (by omega) ?_ hf87 (by omega)
        rw [o_t_s (w_e (A_v A) j) k]
        show k_U G _ _ _ _ (_ ++ (d_n (k + 1) ++ (nI 58 :: (d_n (a_e (A_v A) j k).1.toNatClampNeg ++ (w_fs (a_e (A_v A) j k).2 ++ (if a_go (A_v A) j k = true then [nI 33] else []))))))
        rw [hgo]
        rw [if_pos rfl]
        simp only [List.append_assoc]
        exact hU85
  refine sx_body (by decide) (Nat.le_of_ble_eq_true rfl) ?_
  have hx := hX.1
  obtain ⟨fo0, z00, hsb0, hso0, hol, hoc1, hoc2, hofo, hofi⟩ := id hX.2.2.2.2.1
  have hU0 : k_U G σ (mu 5) (mu 6) oc (A_o A) := ⟨_, _, hsb0, hso0, hol, ⟨hoc1, by omega⟩, hofo, hofi⟩
  have zW : ∀ q, c_Zm mu (sx_n σ) q → ¬ (q = mu 5 ∨ q = mu 6) := fun q z w => w.elim (z.2 5 (by decide)) (z.2 6 (by decide))
  have nex : ¬ (mu 0 = mu 5 ∨ mu 0 = mu 6) := fun z => z.elim (e_kn hx hsb0 rfl) (e_kn hx hso0 rfl)
  refine sv_aload_n dX1_writeView_0 rfl ?_
  refine sv_iload_n dX1_writeView_1 rfl ?_
  refine sv_cvR _ (cg_sesAt hx hV hj) okX1_sessionAt kv_X1_240 (sx_rd_c hx) rfl dX1_writeView_2 rfl rfl (by omega) (Nat.le_of_ble_eq_true rfl) ?_
  refine sv_astore_n dX1_writeView_5 (by decide) ?_
  refine sv_aload_n dX1_writeView_6 rfl ?_
  refine sv_get fg_X1_79 dX1_writeView_7 (sx_rd_c hx) rfl ?_
  refine sv_iconst (nI 0) dX1_writeView_10 (by decide +kernel) ?_
  refine sv_cvP _ (cb_set hU0) okJ8_setLength kv_X1_437 (sx_rd_c hsb0) rfl dX1_writeView_11 rfl rfl (by omega) (Nat.le_of_ble_eq_true rfl) ?_
  intro v96 τ94 hp95
  obtain ⟨rfl, hU1, hFs⟩ := hp95
  have N97 := (hFs).1.1
  have hx' := h_F_c hFs hx (e_kn hx hsb0 rfl)
  refine sv_iconst (nI 0) dX1_writeView_14 (by decide +kernel) ?_
  refine sv_istore_n dX1_writeView_15 (by decide) ?_
  exact loop 62 0 _ _ _ (by omega) (by have := hw.2.1 j hj; omega) hU1 (k_Uf_of hFs (fun q z => Or.inl z) (Or.inl rfl) (Nat.le_refl _) (by omega) (by omega)) hoc2
theorem pm_wvw (hK : c_K G mu oc σ A) (hC : g_C G) (hL : g_W G 16 w_L) {s : Int32} {t : Nat} (ho : o_V t (A_v A)) (ht6 : t ≤ 1000) : sx_C G 100 YX1_writeView [.ref (mu 0), .int s] σ (c_R ["java/lang/IndexOutOfBoundsException"] G mu oc σ (sp_wvw A s)) := by
  have hns : (A_v A).2.2.length ≤ 4 := by obtain ⟨_, _, _, ⟨_, _, _, hw⟩, _⟩ := hK; exact hw.1.2.1
  have hnb : (A_v A).2.1.length ≤ 3 := by obtain ⟨_, _, _, ⟨_, _, _, hw⟩, _⟩ := hK; exact hw.1.1
  unfold sp_wvw
  refine c_1 hK (fun h => cpx_wvw hK h) (fun h => ?_)
  obtain ⟨j, hj, rfl⟩ := i_in_of (by omega) h
  rw [nI_clamp (by omega)]
  have hK0 := hK
  obtain ⟨sv, nl, hX, ⟨Λ0, hV, hzz, hw⟩, hN⟩ := hK
  exact cp_wvw0 hK0 hC hL hj ho ht6 hX hV hzz hw hN
theorem cp_wnt0 (hK : c_K G mu oc σ A) (hC : g_C G) (hL : g_W G 16 w_L) (hnn : ∀ n ∈ A_n A, o_n n) (hnl : (A_n A).length ≤ 1000) {sv nl : Nat} {Λ0 : Nat → Nat → Nat → Nat} (hX : c_X G mu (sx_n σ) oc σ sv nl A) (hV : k_V G σ sv Λ0 (A_v A)) (hzz : k_z (c_Zm mu (sx_n σ)) sv Λ0 (A_v A)) (hw : w_V (A_v A)) (hN : c_Fn G mu (sx_n σ) σ nl (A_n A)) : sx_C G 100 YX1_writeNotices [.ref (mu 0)] σ (c_R [] G mu oc σ (nI (o_t (fun k => w_n ((A_n A).getD k (0, 0, 0, 0))) (A_n A).length).length, A_so (A_st A 0) (o_t (fun k => w_n ((A_n A).getD k (0, 0, 0, 0))) (A_n A).length))) := by
  have loop : ∀ r k (ρ : sx_St) sa1 cap1 (y : Option Value), k ≤ (A_n A).length → (A_n A).length + 1 ≤ k + r → k_U G ρ (mu 5) sa1 cap1 (o_t (fun k => w_n ((A_n A).getD k (0, 0, 0, 0))) k) → k_Uf (mu 5) (mu 6) oc sa1 cap1 σ ρ → cap1 ≤ 30000 → sx_V G 100 YX1_writeNotices 10 [some (.ref (mu 0)), some (.int (nI k)), y] [] ρ (c_R [] G mu oc σ (nI (o_t (fun k => w_n ((A_n A).getD k (0, 0, 0, 0))) (A_n A).length).length, A_so (A_st A 0) (o_t (fun k => w_n ((A_n A).getD k (0, 0, 0, 0))) (A_n A).length))) := by
    have hx := hX.1
    obtain ⟨fo0, z00, hsb0, hso0, hol, hoc1, hoc2, hofo, hofi⟩ := id hX.2.2.2.2.1
    have hU0 : k_U G σ (mu 5) (mu 6) oc (A_o A) := ⟨_, _, hsb0, hso0, hol, ⟨hoc1, by omega⟩, hofo, hofi⟩
    have zW : ∀ q, c_Zm mu (sx_n σ) q → ¬ (q = mu 5 ∨ q = mu 6) := fun q z w => w.elim (z.2 5 (by decide)) (z.2 6 (by decide))
    have nex : ¬ (mu 0 = mu 5 ∨ mu 0 = mu 6) := fun z => z.elim (e_kn hx hsb0 rfl) (e_kn hx hso0 rfl)
    intro r
    induction r with
    | zero => intro k ρ sa1 cap1 y h1 h2; omega
    | succ r ih =>
    intro k ρ sa1 cap1 y hk1 hk2 hU1 hf1 hcap1
    have hx1 := h_F_c (k_Uf_F hf1) hx nex
    have hN1 := c_Fn_fr hN (k_Uf_F hf1) zW (Nat.le_refl _)
    obtain ⟨vsn1, hnl1⟩ := fn_c hN1
    obtain ⟨_, _, hsb1, -⟩ := id hU1
    have hlen := o_t_l (fun k => w_n ((A_n A).getD k (0, 0, 0, 0))) 10 k (fun q hq => w_n_l (hnn _ (by show (A_n A).getD q (0, 0, 0, 0) ∈ _; rw [List.getD_eq_getElem?_getD, List.getElem?_eq_getElem (show q < (A_n A).length by omega)]; exact List.getElem_mem _)))
    refine sv_iload_n dX1_writeNotices_10 rfl ?_
    refine sv_aload_n dX1_writeNotices_11 rfl ?_
    refine sv_get fg_X1_64 dX1_writeNotices_12 (sx_rd_c hx1) rfl ?_
    refine sv_cvR _ (fn_size hN1) okJ2_size kv_X1_176 (sx_rd_c hnl1) rfl dX1_writeNotices_15 rfl rfl (by omega) (Nat.le_of_ble_eq_true rfl) ?_
    refine sv_icmp_geN (tgt := 118) dX1_writeNotices_18 (by decide) (by omega) (by omega) (fun c18 => ?_) (fun c18 => ?_)
    · obtain rfl : k = (A_n A).length := by omega
      refine sv_aload_n dX1_writeNotices_118 rfl ?_
      refine sv_get fg_X1_79 dX1_writeNotices_119 (sx_rd_c hx1) rfl ?_
      refine sv_cvR _ (cb_len hU1) okJ8_length kv_X1_426 (sx_rd_c hsb1) rfl dX1_writeNotices_122 rfl rfl (by omega) (Nat.le_of_ble_eq_true rfl) ?_
      refine sv_iret rfl rfl dX1_writeNotices_125 ?_
      exact c_R_ok (x := (nI (o_t (fun k => w_n ((A_n A).getD k (0, 0, 0, 0))) (A_n A).length).length, A_so (A_st A 0) (o_t (fun k => w_n ((A_n A).getD k (0, 0, 0, 0))) (A_n A).length))) rfl rfl (c_S_out hK hU1 hf1 hcap1)
    · have hk : k < (A_n A).length := by omega
      obtain ⟨na, capn, gn, hLn, hzna, hgn⟩ : ∃ na capn gn, k_L G σ nl na capn (A_n A).length gn ∧ c_Zm mu (sx_n σ) na ∧ ∀ k, k < (A_n A).length → k_Nt σ (gn k) ((A_n A).getD k (0, 0, 0, 0)) ∧ c_Zm mu (sx_n σ) (gn k) := by
        rcases hN.2 with ⟨-, e⟩ | ⟨na, capn, gn, g1, g2, g3⟩
        · rw [e] at hk; exact absurd hk (Nat.not_lt_zero _)
        · exact ⟨na, capn, gn, g1, g2, g3⟩
      have hnk : sx_c σ (gn k) = some (.inr (8, [.int ((A_n A).getD k (0, 0, 0, 0)).1, .int ((A_n A).getD k (0, 0, 0, 0)).2.1, .int ((A_n A).getD k (0, 0, 0, 0)).2.2.1, .int ((A_n A).getD k (0, 0, 0, 0)).2.2.2])) := (hgn k hk).1
      have hnk1 := h_F_c (k_Uf_F hf1) hnk (zW _ (hgn k hk).2)
      have hon : o_n ((A_n A).getD k (0, 0, 0, 0)) := hnn _ (by rw [List.getD_eq_getElem?_getD, List.getElem?_eq_getElem hk]; exact List.getElem_mem hk)
      have em1 := i32_nat hon.1.1
      have em2 := i32_nat hon.2.1.1
      have hb1 := hon.1.2
      have hb2 := hon.2.1.2
      have hdu := d_n_l ((A_n A).getD k (0, 0, 0, 0)).1.toNatClampNeg
      have hds := d_n_l ((A_n A).getD k (0, 0, 0, 0)).2.2.1.toNatClampNeg
      have hgp := w_gp_l (o_t (fun k => w_n ((A_n A).getD k (0, 0, 0, 0))) k)
      have hfs := w_fs_l ((A_n A).getD k (0, 0, 0, 0)).2.2.2
      refine sv_aload_n dX1_writeNotices_21 rfl ?_
      refine sv_get fg_X1_64 dX1_writeNotices_22 (sx_rd_c hx1) rfl ?_
      refine sv_iload_n dX1_writeNotices_25 rfl ?_
      refine sv_cvR _ (cj_get (k_L_fr (k_Uf_F hf1) hLn (zW _ hN.1) (zW _ hzna)) (i := k) hk) okJ2_get kv_X1_186 (sx_rd_c hnl1) rfl dX1_writeNotices_26 rfl rfl (by omega) (Nat.le_of_ble_eq_true rfl) ?_
      refine sv_cast (C0 := "") (sx_rd_c hnk1) rfl q1352 dX1_writeNotices_29 ?_
      refine sv_astore_n dX1_writeNotices_32 (by decide) ?_
      refine sv_aload_n dX1_writeNotices_33 rfl ?_
      refine sv_cvP _ (cw_beg hC hx1 hU1 (by (try simp only [List.length_append, List.length_singleton]); omega)) okX1_begins kv_X1_440 (sx_rd_c hx1) rfl dX1_writeNotices_34 rfl rfl (by omega) (Nat.le_of_ble_eq_true rfl) ?_
      intro v98 τ99 hp100
      obtain ⟨rfl, sa101, cap102, hm103, hU104, hg105⟩ := hp100
      have hf106 := k_Uf_t hf1 hg105
      try simp only [List.length_append, List.length_singleton] at hm103
      obtain ⟨_, _, hsb107, -⟩ := id hU104
      have h108 := h_F_c (k_Uf_F hf106) hx nex
      have h109 := h_F_c (k_Uf_F hf106) hnk (zW _ (hgn k hk).2)
      refine sv_aload_n dX1_writeNotices_37 rfl ?_
      refine sv_get fg_X1_79 dX1_writeNotices_38 (sx_rd_c h108) rfl ?_
      refine sv_aload_n dX1_writeNotices_41 rfl ?_
      refine sv_get fg_X1_449 dX1_writeNotices_42 (sx_rd_c h109) rfl ?_
      refine sv_tI (y := nI ((A_n A).getD k (0, 0, 0, 0)).1.toNatClampNeg) em1.1 ?_
      refine sv_cvP _ (cb_api hC hU104 (n := ((A_n A).getD k (0, 0, 0, 0)).1.toNatClampNeg) (by omega) (by simp only [List.length_append, List.length_singleton]; omega)) okJ8_append_2 kv_X1_443 (sx_rd_c hsb107) rfl dX1_writeNotices_45 rfl rfl (by omega) (Nat.le_of_ble_eq_true rfl) ?_
      intro v110 τ111 hp112
      obtain ⟨rfl, sa113, cap114, hm115, hU116, hg117⟩ := hp112
      have hf118 := k_Uf_t hf106 hg117
      try simp only [List.length_append, List.length_singleton] at hm115
      obtain ⟨_, _, hsb119, -⟩ := id hU116
      have h120 := h_F_c (k_Uf_F hf118) hx nex
      have h121 := h_F_c (k_Uf_F hf118) hnk (zW _ (hgn k hk).2)
      refine sv_aload_n dX1_writeNotices_48 rfl ?_
      refine sv_get fg_X1_452 dX1_writeNotices_49 (sx_rd_c h121) rfl ?_
      refine sv_if_ne (tgt := 60) dX1_writeNotices_52 (by decide) (fun c52 => ?_) (fun c52 => ?_)
      · refine sv_aload_n dX1_writeNotices_60 rfl ?_
        refine sv_get fg_X1_452 dX1_writeNotices_61 (sx_rd_c h121) rfl ?_
        refine sv_iconst (nI 1) dX1_writeNotices_64 (by decide +kernel) ?_
        refine sv_icmp_ne (tgt := 73) dX1_writeNotices_65 (by decide) (fun c65 => ?_) (fun c65 => ?_)
        · refine sv_bipush (nI 43) dX1_writeNotices_73 (by decide +kernel) ?_
          refine sv_cvP _ (cb_app hC hU116 (c := 43) (by omega) (by simp only [List.length_append, List.length_singleton]; omega)) okJ8_append_3 kv_X1_153 (sx_rd_c hsb119) rfl dX1_writeNotices_75 rfl rfl (by omega) (Nat.le_of_ble_eq_true rfl) ?_
          intro v122 τ123 hp124
          obtain ⟨rfl, sa125, cap126, hm127, hU128, hg129⟩ := hp124
          have hf130 := k_Uf_t hf118 hg129
          try simp only [List.length_append, List.length_singleton] at hm127
          obtain ⟨_, _, hsb131, -⟩ := id hU128
          have h132 := h_F_c (k_Uf_F hf130) hx nex
          have h133 := h_F_c (k_Uf_F hf130) hnk (zW _ (hgn k hk).2)
          refine sv_aload_n dX1_writeNotices_78 rfl ?_
          refine sv_get fg_X1_455 dX1_writeNotices_79 (sx_rd_c h133) rfl ?_
          refine sv_tI (y := nI ((A_n A).getD k (0, 0, 0, 0)).2.2.1.toNatClampNeg) em2.1 ?_
          refine sv_cvP _ (cb_api hC hU128 (n := ((A_n A).getD k (0, 0, 0, 0)).2.2.1.toNatClampNeg) (by omega) (by simp only [List.length_append, List.length_singleton]; omega)) okJ8_append_2 kv_X1_443 (sx_rd_c hsb131) rfl dX1_writeNotices_82 rfl rfl (by omega) (Nat.le_of_ble_eq_true rfl) ?_
          intro v134 τ135 hp136
          obtain ⟨rfl, sa137, cap138, hm139, hU140, hg141⟩ := hp136
          have hf142 := k_Uf_t hf130 hg141
          try simp only [List.length_append, List.length_singleton] at hm139
          obtain ⟨_, _, hsb143, -⟩ := id hU140
          have h144 := h_F_c (k_Uf_F hf142) hx nex
          have h145 := h_F_c (k_Uf_F hf142) hnk (zW _ (hgn k hk).2)
          refine sv_pop dX1_writeNotices_85 rfl ?_
          refine sv_aload_n dX1_writeNotices_86 rfl ?_
          refine sv_get fg_X1_452 dX1_writeNotices_87 (sx_rd_c h145) rfl ?_
          refine sv_iconst (nI 1) dX1_writeNotices_90 (by decide +kernel) ?_
          refine sv_icmp_ne (tgt := 104) dX1_writeNotices_91 (by decide) (fun c91 => ?_) (fun c91 => ?_)
          · refine sv_aload_n dX1_writeNotices_104 rfl ?_
            refine sv_aload_n dX1_writeNotices_105 rfl ?_
            refine sv_get fg_X1_458 dX1_writeNotices_106 (sx_rd_c h145) rfl ?_
            refine sv_cvP _ (cw_fl hC hL h144 hU140 (by simp only [List.length_append, List.length_singleton]; omega)) okX1_writeFlags kv_X1_446 (sx_rd_c h144) rfl dX1_writeNotices_109 rfl rfl (by omega) (Nat.le_of_ble_eq_true rfl) ?_
            intro v146 τ147 hp148
            obtain ⟨rfl, sa149, cap150, hm151, hU152, hg153⟩ := hp148
            have hf154 := k_Uf_t hf142 hg153
            try simp only [List.length_append, List.length_singleton] at hm151
            obtain ⟨_, _, hsb155, -⟩ := id hU152
            have h156 := h_F_c (k_Uf_F hf154) hx nex
            have h157 := h_F_c (k_Uf_F hf154) hnk (zW _ (hgn k hk).2)
            refine sv_iincN dX1_writeNotices_112 rfl (by decide) ?_
            refine sv_goto (tgt := 10) dX1_writeNotices_115 (by decide) ?_
            have hch := nI_byte 43 (by omega)
            have h58 := nI_byte 58 (by omega)
            have hwn : w_n ((A_n A).getD k (0, 0, 0, 0)) = d_n ((A_n A).getD k (0, 0, 0, 0)).1.toNatClampNeg ++ (nI 43 :: (d_n ((A_n A).getD k (0, 0, 0, 0)).2.2.1.toNatClampNeg ++ [])) := by unfold w_n; rw [if_neg c52, if_neg (fun z => c65 (z.trans n_1.symm)), if_neg (fun z => c65 (z.trans n_1.symm))]
            have hf0 : w_fs ((A_n A).getD k (0, 0, 0, 0)).2.2.2 = [] := by rw [hon.2.2 (fun z => c91 (z.trans n_1.symm))]; decide +kernel
            simp only [hch, hf0, List.append_nil, List.append_assoc, List.singleton_append] at hU152
            refine ih (k + 1) _ _ _ (some (.ref (gn k))) (by omega) (by omega) ?_ hf154 (by omega)
            rw [o_t_s (fun k => w_n ((A_n A).getD k (0, 0, 0, 0))) k]
            show k_U G _ _ _ _ (_ ++ w_n ((A_n A).getD k (0, 0, 0, 0)))
            rw [hwn]
            simp only [List.append_assoc, List.append_nil]
            exact hU152
          · refine sv_aload_n dX1_writeNotices_94 rfl ?_
            refine sv_get fg_X1_79 dX1_writeNotices_95 (sx_rd_c h144) rfl ?_
            refine sv_bipush (nI 58) dX1_writeNotices_98 (by decide +kernel) ?_
            refine sv_cvP _ (cb_app hC hU140 (c := 58) (by omega) (by simp only [List.length_append, List.length_singleton]; omega)) okJ8_append_3 kv_X1_153 (sx_rd_c hsb143) rfl dX1_writeNotices_100 rfl rfl (by omega) (Nat.le_of_ble_eq_true rfl) ?_
            intro v158 τ159 hp160
            obtain ⟨rfl, sa161, cap162, hm163, hU164, hg165⟩ := hp160
            have hf166 := k_Uf_t hf142 hg165
            try simp only [List.length_append, List.length_singleton] at hm163
            obtain ⟨_, _, hsb167, -⟩ := id hU164
            have h168 := h_F_c (k_Uf_F hf166) hx nex
            have h169 := h_F_c (k_Uf_F hf166) hnk (zW _ (hgn k hk).2)
            refine sv_pop dX1_writeNotices_103 rfl ?_
            refine sv_aload_n dX1_writeNotices_104 rfl ?_
            refine sv_aload_n dX1_writeNotices_105 rfl ?_
            refine sv_get fg_X1_458 dX1_writeNotices_106 (sx_rd_c h169) rfl ?_
            refine sv_cvP _ (cw_fl hC hL h168 hU164 (by simp only [List.length_append, List.length_singleton]; omega)) okX1_writeFlags kv_X1_446 (sx_rd_c h168) rfl dX1_writeNotices_109 rfl rfl (by omega) (Nat.le_of_ble_eq_true rfl) ?_
            intro v170 τ171 hp172
            obtain ⟨rfl, sa173, cap174, hm175, hU176, hg177⟩ := hp172
            have hf178 := k_Uf_t hf166 hg177
            try simp only [List.length_append, List.length_singleton] at hm175
            obtain ⟨_, _, hsb179, -⟩ := id hU176
            have h180 := h_F_c (k_Uf_F hf178) hx nex
            have h181 := h_F_c (k_Uf_F hf178) hnk (zW _ (hgn k hk).2)
            refine sv_iincN dX1_writeNotices_112 rfl (by decide) ?_
            refine sv_goto (tgt := 10) dX1_writeNotices_115 (by decide) ?_
            exact absurd c91 c65
        · refine sv_bipush (nI 61) dX1_writeNotices_68 (by decide +kernel) ?_
          refine sv_goto (tgt := 75) dX1_writeNotices_70 (by decide) ?_
          refine sv_cvP _ (cb_app hC hU116 (c := 61) (by omega) (by simp only [List.length_append, List.length_singleton]; omega)) okJ8_append_3 kv_X1_153 (sx_rd_c hsb119) rfl dX1_writeNotices_75 rfl rfl (by omega) (Nat.le_of_ble_eq_true rfl) ?_
          intro v182 τ183 hp184
          obtain ⟨rfl, sa185, cap186, hm187, hU188, hg189⟩ := hp184
          have hf190 := k_Uf_t hf118 hg189
          try simp only [List.length_append, List.length_singleton] at hm187
          obtain ⟨_, _, hsb191, -⟩ := id hU188
          have h192 := h_F_c (k_Uf_F hf190) hx nex
          have h193 := h_F_c (k_Uf_F hf190) hnk (zW _ (hgn k hk).2)
          refine sv_aload_n dX1_writeNotices_78 rfl ?_
          refine sv_get fg_X1_455 dX1_writeNotices_79 (sx_rd_c h193) rfl ?_
          refine sv_tI (y := nI ((A_n A).getD k (0, 0, 0, 0)).2.2.1.toNatClampNeg) em2.1 ?_
          refine sv_cvP _ (cb_api hC hU188 (n := ((A_n A).getD k (0, 0, 0, 0)).2.2.1.toNatClampNeg) (by omega) (by simp only [List.length_append, List.length_singleton]; omega)) okJ8_append_2 kv_X1_443 (sx_rd_c hsb191) rfl dX1_writeNotices_82 rfl rfl (by omega) (Nat.le_of_ble_eq_true rfl) ?_
          intro v194 τ195 hp196
          obtain ⟨rfl, sa197, cap198, hm199, hU200, hg201⟩ := hp196
          have hf202 := k_Uf_t hf190 hg201
          try simp only [List.length_append, List.length_singleton] at hm199
          obtain ⟨_, _, hsb203, -⟩ := id hU200
          have h204 := h_F_c (k_Uf_F hf202) hx nex
          have h205 := h_F_c (k_Uf_F hf202) hnk (zW _ (hgn k hk).2)
          refine sv_pop dX1_writeNotices_85 rfl ?_
          refine sv_aload_n dX1_writeNotices_86 rfl ?_
          refine sv_get fg_X1_452 dX1_writeNotices_87 (sx_rd_c h205) rfl ?_
          refine sv_iconst (nI 1) dX1_writeNotices_90 (by decide +kernel) ?_
          refine sv_icmp_ne (tgt := 104) dX1_writeNotices_91 (by decide) (fun c91 => ?_) (fun c91 => ?_)
          · refine sv_aload_n dX1_writeNotices_104 rfl ?_
            refine sv_aload_n dX1_writeNotices_105 rfl ?_
            refine sv_get fg_X1_458 dX1_writeNotices_106 (sx_rd_c h205) rfl ?_
            refine sv_cvP _ (cw_fl hC hL h204 hU200 (by simp only [List.length_append, List.length_singleton]; omega)) okX1_writeFlags kv_X1_446 (sx_rd_c h204) rfl dX1_writeNotices_109 rfl rfl (by omega) (Nat.le_of_ble_eq_true rfl) ?_
            intro v206 τ207 hp208
            obtain ⟨rfl, sa209, cap210, hm211, hU212, hg213⟩ := hp208
            have hf214 := k_Uf_t hf202 hg213
            try simp only [List.length_append, List.length_singleton] at hm211
            obtain ⟨_, _, hsb215, -⟩ := id hU212
            have h216 := h_F_c (k_Uf_F hf214) hx nex
            have h217 := h_F_c (k_Uf_F hf214) hnk (zW _ (hgn k hk).2)
            refine sv_iincN dX1_writeNotices_112 rfl (by decide) ?_
            refine sv_goto (tgt := 10) dX1_writeNotices_115 (by decide) ?_
            exact absurd c65 c91
          · refine sv_aload_n dX1_writeNotices_94 rfl ?_
            refine sv_get fg_X1_79 dX1_writeNotices_95 (sx_rd_c h204) rfl ?_
            refine sv_bipush (nI 58) dX1_writeNotices_98 (by decide +kernel) ?_
            refine sv_cvP _ (cb_app hC hU200 (c := 58) (by omega) (by simp only [List.length_append, List.length_singleton]; omega)) okJ8_append_3 kv_X1_153 (sx_rd_c hsb203) rfl dX1_writeNotices_100 rfl rfl (by omega) (Nat.le_of_ble_eq_true rfl) ?_
            intro v218 τ219 hp220
            obtain ⟨rfl, sa221, cap222, hm223, hU224, hg225⟩ := hp220
            have hf226 := k_Uf_t hf202 hg225
            try simp only [List.length_append, List.length_singleton] at hm223
            obtain ⟨_, _, hsb227, -⟩ := id hU224
            have h228 := h_F_c (k_Uf_F hf226) hx nex
            have h229 := h_F_c (k_Uf_F hf226) hnk (zW _ (hgn k hk).2)
            refine sv_pop dX1_writeNotices_103 rfl ?_
            refine sv_aload_n dX1_writeNotices_104 rfl ?_
            refine sv_aload_n dX1_writeNotices_105 rfl ?_
            refine sv_get fg_X1_458 dX1_writeNotices_106 (sx_rd_c h229) rfl ?_
            refine sv_cvP _ (cw_fl hC hL h228 hU224 (by simp only [List.length_append, List.length_singleton]; omega)) okX1_writeFlags kv_X1_446 (sx_rd_c h228) rfl dX1_writeNotices_109 rfl rfl (by omega) (Nat.le_of_ble_eq_true rfl) ?_
            intro v230 τ231 hp232
            obtain ⟨rfl, sa233, cap234, hm235, hU236, hg237⟩ := hp232
            have hf238 := k_Uf_t hf226 hg237
            try simp only [List.length_append, List.length_singleton] at hm235
            obtain ⟨_, _, hsb239, -⟩ := id hU236
            have h240 := h_F_c (k_Uf_F hf238) hx nex
            have h241 := h_F_c (k_Uf_F hf238) hnk (zW _ (hgn k hk).2)
            refine sv_iincN dX1_writeNotices_112 rfl (by decide) ?_
            refine sv_goto (tgt := 10) dX1_writeNotices_115 (by decide) ?_
            have hch := nI_byte 61 (by omega)
            have h58 := nI_byte 58 (by omega)
            have hwn : w_n ((A_n A).getD k (0, 0, 0, 0)) = d_n ((A_n A).getD k (0, 0, 0, 0)).1.toNatClampNeg ++ (nI 61 :: (d_n ((A_n A).getD k (0, 0, 0, 0)).2.2.1.toNatClampNeg ++ (nI 58 :: w_fs ((A_n A).getD k (0, 0, 0, 0)).2.2.2))) := by unfold w_n; rw [if_neg c52, if_pos (c65.trans n_1), if_pos (c65.trans n_1)]
            simp only [hch, h58, List.append_assoc, List.singleton_append] at hU236
            refine ih (k + 1) _ _ _ (some (.ref (gn k))) (by omega) (by omega) ?_ hf238 (by omega)
            rw [o_t_s (fun k => w_n ((A_n A).getD k (0, 0, 0, 0))) k]
            show k_U G _ _ _ _ (_ ++ w_n ((A_n A).getD k (0, 0, 0, 0)))
            rw [hwn]
            simp only [List.append_assoc, List.append_nil]
            exact hU236
      · refine sv_bipush (nI 45) dX1_writeNotices_55 (by decide +kernel) ?_
        refine sv_goto (tgt := 75) dX1_writeNotices_57 (by decide) ?_
        refine sv_cvP _ (cb_app hC hU116 (c := 45) (by omega) (by simp only [List.length_append, List.length_singleton]; omega)) okJ8_append_3 kv_X1_153 (sx_rd_c hsb119) rfl dX1_writeNotices_75 rfl rfl (by omega) (Nat.le_of_ble_eq_true rfl) ?_
        intro v242 τ243 hp244
        obtain ⟨rfl, sa245, cap246, hm247, hU248, hg249⟩ := hp244
        have hf250 := k_Uf_t hf118 hg249
        try simp only [List.length_append, List.length_singleton] at hm247
        obtain ⟨_, _, hsb251, -⟩ := id hU248
        have h252 := h_F_c (k_Uf_F hf250) hx nex
        have h253 := h_F_c (k_Uf_F hf250) hnk (zW _ (hgn k hk).2)
        refine sv_aload_n dX1_writeNotices_78 rfl ?_
        refine sv_get fg_X1_455 dX1_writeNotices_79 (sx_rd_c h253) rfl ?_
        refine sv_tI (y := nI ((A_n A).getD k (0, 0, 0, 0)).2.2.1.toNatClampNeg) em2.1 ?_
        refine sv_cvP _ (cb_api hC hU248 (n := ((A_n A).getD k (0, 0, 0, 0)).2.2.1.toNatClampNeg) (by omega) (by simp only [List.length_append, List.length_singleton]; omega)) okJ8_append_2 kv_X1_443 (sx_rd_c hsb251) rfl dX1_writeNotices_82 rfl rfl (by omega) (Nat.le_of_ble_eq_true rfl) ?_
        intro v254 τ255 hp256
        obtain ⟨rfl, sa257, cap258, hm259, hU260, hg261⟩ := hp256
        have hf262 := k_Uf_t hf250 hg261
        try simp only [List.length_append, List.length_singleton] at hm259
        obtain ⟨_, _, hsb263, -⟩ := id hU260
        have h264 := h_F_c (k_Uf_F hf262) hx nex
        have h265 := h_F_c (k_Uf_F hf262) hnk (zW _ (hgn k hk).2)
        refine sv_pop dX1_writeNotices_85 rfl ?_
        refine sv_aload_n dX1_writeNotices_86 rfl ?_
        refine sv_get fg_X1_452 dX1_writeNotices_87 (sx_rd_c h265) rfl ?_
        refine sv_iconst (nI 1) dX1_writeNotices_90 (by decide +kernel) ?_
        refine sv_icmp_ne (tgt := 104) dX1_writeNotices_91 (by decide) (fun c91 => ?_) (fun c91 => ?_)
        · refine sv_aload_n dX1_writeNotices_104 rfl ?_
          refine sv_aload_n dX1_writeNotices_105 rfl ?_
          refine sv_get fg_X1_458 dX1_writeNotices_106 (sx_rd_c h265) rfl ?_
          refine sv_cvP _ (cw_fl hC hL h264 hU260 (by simp only [List.length_append, List.length_singleton]; omega)) okX1_writeFlags kv_X1_446 (sx_rd_c h264) rfl dX1_writeNotices_109 rfl rfl (by omega) (Nat.le_of_ble_eq_true rfl) ?_
          intro v266 τ267 hp268
          obtain ⟨rfl, sa269, cap270, hm271, hU272, hg273⟩ := hp268
          have hf274 := k_Uf_t hf262 hg273
          try simp only [List.length_append, List.length_singleton] at hm271
          obtain ⟨_, _, hsb275, -⟩ := id hU272
          have h276 := h_F_c (k_Uf_F hf274) hx nex
          have h277 := h_F_c (k_Uf_F hf274) hnk (zW _ (hgn k hk).2)
          refine sv_iincN dX1_writeNotices_112 rfl (by decide) ?_
          refine sv_goto (tgt := 10) dX1_writeNotices_115 (by decide) ?_
          have hch := nI_byte 45 (by omega)
          have h58 := nI_byte 58 (by omega)
          have hwn : w_n ((A_n A).getD k (0, 0, 0, 0)) = d_n ((A_n A).getD k (0, 0, 0, 0)).1.toNatClampNeg ++ (nI 45 :: (d_n ((A_n A).getD k (0, 0, 0, 0)).2.2.1.toNatClampNeg ++ [])) := by unfold w_n; rw [if_pos c52, if_neg (fun z => c91 (z.trans n_1.symm))]
          have hf0 : w_fs ((A_n A).getD k (0, 0, 0, 0)).2.2.2 = [] := by rw [hon.2.2 (fun z => c91 (z.trans n_1.symm))]; decide +kernel
          simp only [hch, hf0, List.append_nil, List.append_assoc, List.singleton_append] at hU272
          refine ih (k + 1) _ _ _ (some (.ref (gn k))) (by omega) (by omega) ?_ hf274 (by omega)
          rw [o_t_s (fun k => w_n ((A_n A).getD k (0, 0, 0, 0))) k]
          show k_U G _ _ _ _ (_ ++ w_n ((A_n A).getD k (0, 0, 0, 0)))
          rw [hwn]
          simp only [List.append_assoc, List.append_nil]
          exact hU272
        · refine sv_aload_n dX1_writeNotices_94 rfl ?_
          refine sv_get fg_X1_79 dX1_writeNotices_95 (sx_rd_c h264) rfl ?_
          refine sv_bipush (nI 58) dX1_writeNotices_98 (by decide +kernel) ?_
          refine sv_cvP _ (cb_app hC hU260 (c := 58) (by omega) (by simp only [List.length_append, List.length_singleton]; omega)) okJ8_append_3 kv_X1_153 (sx_rd_c hsb263) rfl dX1_writeNotices_100 rfl rfl (by omega) (Nat.le_of_ble_eq_true rfl) ?_
          intro v278 τ279 hp280
          obtain ⟨rfl, sa281, cap282, hm283, hU284, hg285⟩ := hp280
          have hf286 := k_Uf_t hf262 hg285
          try simp only [List.length_append, List.length_singleton] at hm283
          obtain ⟨_, _, hsb287, -⟩ := id hU284
          have h288 := h_F_c (k_Uf_F hf286) hx nex
          have h289 := h_F_c (k_Uf_F hf286) hnk (zW _ (hgn k hk).2)
          refine sv_pop dX1_writeNotices_103 rfl ?_
          refine sv_aload_n dX1_writeNotices_104 rfl ?_
          refine sv_aload_n dX1_writeNotices_105 rfl ?_
          refine sv_get fg_X1_458 dX1_writeNotices_106 (sx_rd_c h289) rfl ?_
          refine sv_cvP _ (cw_fl hC hL h288 hU284 (by simp only [List.length_append, List.length_singleton]; omega)) okX1_writeFlags kv_X1_446 (sx_rd_c h288) rfl dX1_writeNotices_109 rfl rfl (by omega) (Nat.le_of_ble_eq_true rfl) ?_
          intro v290 τ291 hp292
          obtain ⟨rfl, sa293, cap294, hm295, hU296, hg297⟩ := hp292
          have hf298 := k_Uf_t hf286 hg297
          try simp only [List.length_append, List.length_singleton] at hm295
          obtain ⟨_, _, hsb299, -⟩ := id hU296
          have h300 := h_F_c (k_Uf_F hf298) hx nex
          have h301 := h_F_c (k_Uf_F hf298) hnk (zW _ (hgn k hk).2)
          refine sv_iincN dX1_writeNotices_112 rfl (by decide) ?_
          refine sv_goto (tgt := 10) dX1_writeNotices_115 (by decide) ?_
          rw [c52] at c91
          exact absurd c91 (by decide +kernel)
  refine sx_body (by decide) (Nat.le_of_ble_eq_true rfl) ?_
  have hx := hX.1
  obtain ⟨fo0, z00, hsb0, hso0, hol, hoc1, hoc2, hofo, hofi⟩ := id hX.2.2.2.2.1
  have hU0 : k_U G σ (mu 5) (mu 6) oc (A_o A) := ⟨_, _, hsb0, hso0, hol, ⟨hoc1, by omega⟩, hofo, hofi⟩
  have zW : ∀ q, c_Zm mu (sx_n σ) q → ¬ (q = mu 5 ∨ q = mu 6) := fun q z w => w.elim (z.2 5 (by decide)) (z.2 6 (by decide))
  have nex : ¬ (mu 0 = mu 5 ∨ mu 0 = mu 6) := fun z => z.elim (e_kn hx hsb0 rfl) (e_kn hx hso0 rfl)
  refine sv_aload_n dX1_writeNotices_0 rfl ?_
  refine sv_get fg_X1_79 dX1_writeNotices_1 (sx_rd_c hx) rfl ?_
  refine sv_iconst (nI 0) dX1_writeNotices_4 (by decide +kernel) ?_
  refine sv_cvP _ (cb_set hU0) okJ8_setLength kv_X1_437 (sx_rd_c hsb0) rfl dX1_writeNotices_5 rfl rfl (by omega) (Nat.le_of_ble_eq_true rfl) ?_
  intro v304 τ302 hp303
  obtain ⟨rfl, hU1, hFs⟩ := hp303
  have N305 := (hFs).1.1
  have hx' := h_F_c hFs hx (e_kn hx hsb0 rfl)
  refine sv_iconst (nI 0) dX1_writeNotices_8 (by decide +kernel) ?_
  refine sv_istore_n dX1_writeNotices_9 (by decide) ?_
  exact loop 1001 0 _ _ _ none (by omega) (by omega) hU1 (k_Uf_of hFs (fun q z => Or.inl z) (Or.inl rfl) (Nat.le_refl _) (by omega) (by omega)) hoc2
theorem pm_wnt (hK : c_K G mu oc σ A) (hC : g_C G) (hL : g_W G 16 w_L) (hnn : ∀ n ∈ A_n A, o_n n) (hnl : (A_n A).length ≤ 1000) : sx_C G 100 YX1_writeNotices [.ref (mu 0)] σ (c_R [] G mu oc σ (sp_wnt A)) := by
  have hK0 := hK
  obtain ⟨sv, nl, hX, ⟨Λ0, hV, hzz, hw⟩, hN⟩ := hK
  exact cp_wnt0 hK0 hC hL hnn hnl hX hV hzz hw hN
theorem b_255 : ∀ n, n < 128 → nI n &&& 255 = nI n := by decide +kernel
theorem cpx_out (hK : c_K G mu oc σ A) {x : Int32} (h : i_in x (A_o A).length = false) : sx_C G 100 YX1_outputByte [.ref (mu 0), .int x] σ (c_X0 "java/lang/IndexOutOfBoundsException" σ) := by
  refine sx_body (by decide) (Nat.le_of_ble_eq_true rfl) ?_
  obtain ⟨sv, nl, hX, hF, hN⟩ := hK
  obtain ⟨Λ0, hV, hzz, hw⟩ := id hF
  have hx := hX.1
  have hnb := hw.1.1
  have hns := hw.1.2.1
  have hX0 : c_X G mu (sx_n σ) oc σ sv nl (A_st A 0) := hX
  have hF0 : c_F G mu (sx_n σ) σ sv (A_v (A_st A 0)) := hF
  have hv1 := hV.1
  obtain ⟨fo0, z00, hsb0, hso0, hol, hoc1, hoc2, hofo, hofi⟩ := id hX.2.2.2.2.1
  have hU0 : k_U G σ (mu 5) (mu 6) oc (A_o A) := ⟨_, _, hsb0, hso0, hol, ⟨hoc1, by omega⟩, hofo, hofi⟩
  refine sv_iload_n dX1_outputByte_0 rfl ?_
  refine sv_i2l dX1_outputByte_1 ?_
  refine sv_lconst 0 dX1_outputByte_2 (by decide) ?_
  refine sv_aload_n dX1_outputByte_3 rfl ?_
  refine sv_get fg_X1_79 dX1_outputByte_4 (sx_rd_c hx) rfl ?_
  refine sv_cvR _ (cb_len hU0) okJ8_length kv_X1_426 (sx_rd_c hsb0) rfl dX1_outputByte_7 rfl rfl (by omega) (Nat.le_of_ble_eq_true rfl) ?_
  refine sv_iconst (nI 1) dX1_outputByte_10 (by decide +kernel) ?_
  refine sv_isub dX1_outputByte_11 ?_
  refine sv_i2l dX1_outputByte_12 ?_
  refine sv_csR _ cc_inRange okX1_inRange ks_X1_94 dX1_outputByte_13 rfl rfl (by omega) (Nat.le_of_ble_eq_true rfl) ?_
  refine sv_tI (y := b_I false) (congrArg b_I ((in_1 (by omega)).trans h)) ?_
  refine sv_cs _ cx_I okX1_requireIndex ks_X1_183.1 ks_X1_183.2 dX1_outputByte_16 rfl rfl (by omega) (Nat.le_of_ble_eq_true rfl) (fun v τ h => by obtain ⟨q, e, _⟩ := h; cases e) (fun E q τ h => ?_)
  obtain ⟨q9, e9, F9⟩ := h
  cases e9
  refine sv_out (fun x hx => by cases hx) ?_
  exact ⟨_, rfl, F9⟩
theorem cp_out (hK : c_K G mu oc σ A) (hC : g_C G) {i : Nat} (hi : i < (A_o A).length) (hO : ∀ x ∈ A_o A, ∃ n, n < 128 ∧ x = nI n) : sx_C G 100 YX1_outputByte [.ref (mu 0), .int (nI i)] σ (c_R ["java/lang/IndexOutOfBoundsException"] G mu oc σ (((A_o A).getD i 0, A_st A 0))) := by
  refine sx_body (by decide) (Nat.le_of_ble_eq_true rfl) ?_
  have hK0 := hK
  obtain ⟨sv, nl, hX, hF, hN⟩ := hK
  obtain ⟨Λ0, hV, hzz, hw⟩ := id hF
  have hx := hX.1
  have hnb := hw.1.1
  have hns := hw.1.2.1
  have hX0 : c_X G mu (sx_n σ) oc σ sv nl (A_st A 0) := hX
  have hF0 : c_F G mu (sx_n σ) σ sv (A_v (A_st A 0)) := hF
  have hv1 := hV.1
  obtain ⟨fo0, z00, hsb0, hso0, hol, hoc1, hoc2, hofo, hofi⟩ := id hX.2.2.2.2.1
  have hU0 : k_U G σ (mu 5) (mu 6) oc (A_o A) := ⟨_, _, hsb0, hso0, hol, ⟨hoc1, by omega⟩, hofo, hofi⟩
  have hon : ∃ n, n < 128 ∧ (A_o A).getD i 0 = nI n := hO _ (by rw [List.getD_eq_getElem?_getD, List.getElem?_eq_getElem hi]; exact List.getElem_mem hi)
  obtain ⟨n9, hn9, en9⟩ := hon
  refine sv_iload_n dX1_outputByte_0 rfl ?_
  refine sv_i2l dX1_outputByte_1 ?_
  refine sv_lconst 0 dX1_outputByte_2 (by decide) ?_
  refine sv_aload_n dX1_outputByte_3 rfl ?_
  refine sv_get fg_X1_79 dX1_outputByte_4 (sx_rd_c hx) rfl ?_
  refine sv_cvR _ (cb_len hU0) okJ8_length kv_X1_426 (sx_rd_c hsb0) rfl dX1_outputByte_7 rfl rfl (by omega) (Nat.le_of_ble_eq_true rfl) ?_
  refine sv_iconst (nI 1) dX1_outputByte_10 (by decide +kernel) ?_
  refine sv_isub dX1_outputByte_11 ?_
  refine sv_i2l dX1_outputByte_12 ?_
  refine sv_csR _ cc_inRange okX1_inRange ks_X1_94 dX1_outputByte_13 rfl rfl (by omega) (Nat.le_of_ble_eq_true rfl) ?_
  refine sv_tI (y := b_I true) (congrArg b_I ((in_1 (by omega)).trans (i_in_nI hi (by omega)))) ?_
  refine sv_csR _ cr_I okX1_requireIndex ks_X1_183 dX1_outputByte_16 rfl rfl (by omega) (Nat.le_of_ble_eq_true rfl) ?_
  refine sv_aload_n dX1_outputByte_19 rfl ?_
  refine sv_get fg_X1_79 dX1_outputByte_20 (sx_rd_c hx) rfl ?_
  refine sv_iload_n dX1_outputByte_23 rfl ?_
  refine sv_cvR _ (cb_chr hC hU0 hi) okJ8_charAt kv_X1_459 (sx_rd_c hsb0) rfl dX1_outputByte_24 rfl rfl (by omega) (Nat.le_of_ble_eq_true rfl) ?_
  refine sv_iret rfl rfl dX1_outputByte_27 ?_
  exact c_R_q hK0 (by rw [en9, b_255 n9 hn9])
theorem pm_out (hK : c_K G mu oc σ A) (hC : g_C G) (hO : ∀ x ∈ A_o A, ∃ n, n < 128 ∧ x = nI n) {x : Int32} : sx_C G 100 YX1_outputByte [.ref (mu 0), .int x] σ (c_R ["java/lang/IndexOutOfBoundsException"] G mu oc σ (sp_out A x)) := by
  have hol : (A_o A).length ≤ 30000 := by obtain ⟨_, _, hX, _⟩ := hK; obtain ⟨_, _, _, _, h1, _, h2, _⟩ := id hX.2.2.2.2.1; omega
  unfold sp_out
  refine c_1 hK (fun h => cpx_out hK h) (fun h => ?_)
  obtain ⟨i, hi, rfl⟩ := i_in_of (by omega) h
  rw [nI_clamp (by omega)]
  exact cp_out hK hC hi hO
end CO3
