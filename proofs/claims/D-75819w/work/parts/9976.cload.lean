set_option maxRecDepth 100000
section CLE
variable {G : sx_G} {σ τ : sx_St} {mu : Nat → Nat} {oc n sv nl : Nat} {A : a_A} {t : List Int32} {k : k_T} {S : p_S} {z : Nat} {tt : Nat → Nat}
theorem pm_loa (hK : c_K G mu oc σ A) (hz : g_Z G z) (hG9 : g_Y G (sx_n σ) tt) (hb : b_B (A_i A)) : sx_C G 20 YX1_load [.ref (mu 0)] σ (c_R [] G mu oc σ (sp_loa A)) := by
  refine sx_body (by decide) (Nat.le_of_ble_eq_true rfl) ?_
  obtain ⟨sv, nl, hX, hF, hFn⟩ := hK
  have hx := hX.1
  have hmu := c_X_mu hX
  refine sv_aload_n dX1_load_0 rfl ?_
  refine sv_cvP _ (cc_noErr hX) okX1_noError kv_X1_130 (sx_rd_c hx) rfl dX1_load_1 rfl rfl (by omega) (Nat.le_of_ble_eq_true rfl) ?_
  intro v1 τa hp1
  obtain ⟨rfl, hX1, F1⟩ := hp1
  have nF1 := F1.1.1
  have nF2 := F1.1.2
  have nF3 := F1.2.1
  have hx1 : sx_c τa (mu 0) = some (.inr (0, [.ref sv, .ref (mu 1), .ref (mu 3), .ref nl, .ref (mu 4), .int (nI (A_i A).length), .int 0, .int (-1), .ref (mu 5)])) := hX1.1
  refine sv_aload_n dX1_load_4 rfl ?_
  refine sv_new fn_X1_133 dX1_load_5 ?_
  refine hs_al (fun pa τ1 E6 F2 h3 N4 Z5 => ?_)
  have hx1' := h_F_c F2 hx1 (fun z => z)
  have h3 : sx_c τ1 pa = some (.inr (3, [.null, .null, .null, .int (nI 0), .int (nI 0), .int (nI 0), .int (nI 0), .int (b_I false), .null, .null, .null])) := by rw [nI_0, b_I_f]; exact h3
  refine sv_dup dX1_load_8 rfl ?_
  refine sv_aload_n dX1_load_9 rfl ?_
  refine sv_ciP _ (J_init (n0 := sx_n τa + 20) (s0 := sx_s τa + 100) hG9 hb h3 (by omega) (fun q hq => F2.2.2 q (by omega) (fun z => z)) (by omega) F2.1.1 (hmu 0 (by decide)) (hmu 4 (by decide)) ⟨hX1.1, hX1.2.2.2.1⟩ (by have := F2.1.2; omega) (by have := F2.2.1; omega)) okX4_init ki_X1_135 dX1_load_10 rfl rfl (by omega) (Nat.le_of_ble_eq_true rfl) ?_
  intro v3 τb hp3
  obtain ⟨rfl, ps, sel, onl, wb, ow, Λ, wd, hJ⟩ := hp3
  obtain ⟨⟨tkJ, vvJ, hpJ, -⟩, -⟩ := id hJ.1
  refine sv_cv _ (J_parse hG9 hb hJ) okX4_parse (sx_rd_c hpJ) rfl kv_X1_138.1 kv_X1_138.2.1 kv_X1_138.2.2 dX1_load_13 rfl rfl (by omega) (Nat.le_of_ble_eq_true rfl) (fun v5 τc h5 => ?_) (fun E5 q5 τc h5 => ?_)
  rotate_left
  · have hU := y_U_thr h5 (fun _ _ _ z => ⟨_, z.1⟩)
    obtain ⟨e, he, q9, hq9, hE, hfr, hn1, hn2, hs2⟩ := hU
    cases hq9
    have FZ : h_F (fun q => sx_n σ ≤ q) 5020 60100 τa τc := ⟨⟨hn1, by omega⟩, by omega, fun q hq hw => hfr q (by omega)⟩
    have hX3 := c_X_lo hX1 FZ (fun q z => z) hmu
    have F2 : h_F (fun q => q = mu 0 ∨ sx_n σ ≤ q) 5020 60100 σ τc := h_F_u F1 FZ (fun _ _ z => Or.inl z) (fun _ _ z => Or.inr z) (by omega) (by omega)
    have hx3 : sx_c τc (mu 0) = some (.inr (0, [.ref sv, .ref (mu 1), .ref (mu 3), .ref nl, .ref (mu 4), .int (nI (A_i A).length), .int 0, .int (-1), .ref (mu 5)])) := hX3.1
    refine sv_catch [] _ _ rfl (fun z hz => by cases hz) rfl (by decide) q625 q833 ?_
    refine sv_astore_n dX1_load_34 (by decide) ?_
    refine sv_aload_n dX1_load_35 rfl ?_
    refine sv_aload_n dX1_load_36 rfl ?_
    refine sv_cvP _ (cc_err hX3 hE) okX1_error kv_X1_145 (sx_rd_c hx3) rfl dX1_load_37 rfl rfl (by omega) (Nat.le_of_ble_eq_true rfl) ?_
    intro v6 τd hp6
    obtain ⟨rfl, hX4, F4⟩ := hp6
    have hx4 : sx_c τd (mu 0) = some (.inr (0, [.ref sv, .ref (mu 1), .ref (mu 3), .ref nl, .ref (mu 4), .int (nI (A_i A).length), .int (nI e.1), .int (nI e.2), .ref (mu 5)])) := hX4.1
    refine sv_bipush (-4) dX1_load_40 (by decide +kernel) ?_
    refine sv_istore_n dX1_load_42 (by decide) ?_
    refine sv_aload_n dX1_load_43 rfl ?_
    refine sv_iconst (nI 0) dX1_load_44 (by decide +kernel) ?_
    refine sv_put fp_X1_83 dX1_load_45 hx4 rfl rfl (Nat.le_of_ble_eq_true rfl) ?_
    refine hs_up hx4 (fun τ7 F8 h9 N10 Z11 => ?_)
    have h9 : sx_c τ7 ((mu 0)) = some (.inr (0, [.ref sv, .ref (mu 1), .ref (mu 3), .ref nl, .ref (mu 4), .int (nI 0), .int (nI e.1), .int (nI e.2), .ref (mu 5)])) := h9
    refine sv_iload_n dX1_load_48 rfl ?_
    refine sv_iret rfl rfl dX1_load_49 ?_
    have hX5 := c_X_w0 (I := []) hX4 F8 h9 (Or.inr rfl)
    have F6 := h_F_u (h_F_u F2 F4 (fun _ _ z => z) (fun _ _ z => Or.inl z) (Nat.le_refl _) (Nat.le_refl _)) F8 (fun _ _ z => z) (fun _ _ z => Or.inl z) (Nat.le_refl _) (Nat.le_refl _)
    have hWz : ∀ q, c_Zm mu (sx_n σ) q → ¬ (q = mu 0 ∨ sx_n σ ≤ q) := fun q z w => w.elim (z.2 0 (by decide)) (fun w => by have := z.1; omega)
    have hK5 : c_K G mu oc _ (A_er A (nI e.1) (nI e.2)) := ⟨sv, nl, c_X_n hX5 F6.1.1 (Nat.le_refl _), c_F_fr hF F6 hWz F6.1.1, c_Fn_fr hFn F6 hWz F6.1.1⟩
    rw [sp_loa_e he]
    exact c_R_ok rfl rfl (c_S_B hK5 (c_B_F F6) (Nat.le_of_ble_eq_true rfl) (Nat.le_of_ble_eq_true rfl))
  have hU := y_U_ret h5
  obtain ⟨V, hV, hv9, ow5, Λ5, hI5, hcap5, hz5, hfr, hn1, hn2, hs2⟩ := hU
  cases hv9
  have FZ : h_F (fun q => sx_n σ ≤ q) 5020 60100 τa τc := ⟨⟨hn1, by omega⟩, by omega, fun q hq hw => hfr q (by omega)⟩
  have hX3 := c_X_lo hX1 FZ (fun q z => z) hmu
  have F2 : h_F (fun q => q = mu 0 ∨ sx_n σ ≤ q) 5020 60100 σ τc := h_F_u F1 FZ (fun _ _ z => Or.inl z) (fun _ _ z => Or.inr z) (by omega) (by omega)
  have hV : p_tx (A_i A) = .inr V := hV
  have hwV := (p_tx_w hb hV).1
  have hWz : ∀ q, c_Zm mu (sx_n σ) q → ¬ (q = mu 0 ∨ sx_n σ ≤ q) := fun q z w => w.elim (z.2 0 (by decide)) (fun w => by have := z.1; omega)
  have hF3 := c_F_fr hF F2 hWz (Nat.le_refl _)
  have hzz : c_Z (fun q => ∀ i, i < 7 → q ≠ mu i) Λ5 V := ⟨fun i hi => ⟨fun j hj => by have := (hz5.1 i hi).1; have := hmu j hj; omega, fun j hj => by have := (hz5.1 i hi).2; have := hmu j hj; omega⟩, fun i hi => ⟨fun j hj => by have := (hz5.2 i hi).1; have := hmu j hj; omega, fun j hj => by have := (hz5.2 i hi).2; have := hmu j hj; omega⟩⟩
  have hkz := c_I_z hX3 hI5 hzz hmu
  have hx3 : sx_c τc (mu 0) = some (.inr (0, [.ref sv, .ref (mu 1), .ref (mu 3), .ref nl, .ref (mu 4), .int (nI (A_i A).length), .int 0, .int (-1), .ref (mu 5)])) := hX3.1
  refine sv_cvP _ (cc_become hX3 hF3 hz) okX1_become kv_X1_116 (sx_rd_c hx3) rfl dX1_load_16 rfl rfl (by omega) (Nat.le_of_ble_eq_true rfl) ?_
  intro v6 τd hp6
  obtain ⟨rfl, nl2, hnl2, hL0, hX4, F4⟩ := hp6
  have hx4 : sx_c τd (mu 0) = some (.inr (0, [.ref ps, .ref (mu 1), .ref (mu 3), .ref nl2, .ref (mu 4), .int (nI (A_i A).length), .int 0, .int (-1), .ref (mu 5)])) := hX4.1
  have hV4 := k_V_Z hI5.1 hkz F4 (fun q z w => by rcases w with w | w | w; exact z.2 0 (by decide) w; exact z.2 1 (by decide) w; exact z.2 2 (by decide) w)
  have hps4 := hV4.1
  refine sv_aload_n dX1_load_19 rfl ?_
  refine sv_get fg_X1_44 dX1_load_20 (sx_rd_c hx4) rfl ?_
  refine sv_cvR _ (cc_messages hV4) okX2_messages kv_X1_142 (sx_rd_c hps4) rfl dX1_load_23 rfl rfl (by omega) (Nat.le_of_ble_eq_true rfl) ?_
  refine sv_istore_n dX1_load_26 (by decide) ?_
  refine sv_aload_n dX1_load_27 rfl ?_
  refine sv_iconst (nI 0) dX1_load_28 (by decide +kernel) ?_
  refine sv_put fp_X1_83 dX1_load_29 hx4 rfl rfl (Nat.le_of_ble_eq_true rfl) ?_
  refine hs_up hx4 (fun τ12 F13 h14 N15 Z16 => ?_)
  have h14 : sx_c τ12 ((mu 0)) = some (.inr (0, [.ref ps, .ref (mu 1), .ref (mu 3), .ref nl2, .ref (mu 4), .int (nI 0), .int 0, .int (-1), .ref (mu 5)])) := h14
  have hps4' := h_F_c F13 hps4 (e_kn hps4 hx4 rfl)
  refine sv_iload_n dX1_load_32 rfl ?_
  refine sv_iret rfl rfl dX1_load_33 ?_
  have hX5 := c_X_w0 (I := []) hX4 F13 h14 (Or.inr rfl)
  have F7 := h_F_u F4 F13 (fun _ _ z => z) (fun _ _ z => Or.inl z) (Nat.le_refl _) (Nat.le_refl _)
  have n7 := F7.1.1
  have n8 := F13.1.1
  have hmu2 := hmu
  have lnl : nl2 < sx_n τd := by obtain ⟨_, _, h9, _⟩ := id hL0; exact sx_lt h9
  have hK5 : c_K G mu oc _ (A_sn (A_sv (s_rm (A_er A 0 (-1))) V) []) := ⟨ps, nl2, c_X_n hX5 (by have := F2.1.1; omega) (Nat.le_refl _), ⟨Λ5, k_V_Z hI5.1 hkz F7 (fun q z w => by rcases w with w | w | w; exact z.2 0 (by decide) w; exact z.2 1 (by decide) w; exact z.2 2 (by decide) w), k_z_of hkz (fun q z => c_Zm_le z n7), hwV⟩, ⟨by omega, fun i hi => by have := hmu i hi; have := F2.1.1; omega⟩, Or.inl ⟨k_L0_fr F13 hL0 (by have := hmu 0 (by decide); have := F2.1.1; omega), rfl⟩⟩
  rw [sp_loa_v hV]
  have hB := c_B_t (c_B_F F2) (c_B_F F7) (Nat.le_refl _) (Nat.le_refl _)
  exact c_R_ok rfl rfl (c_S_B hK5 hB (Nat.le_of_ble_eq_true rfl) (Nat.le_of_ble_eq_true rfl))
end CLE
