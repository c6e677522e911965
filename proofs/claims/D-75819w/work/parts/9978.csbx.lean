set_option maxRecDepth 100000
section CSB
variable {G : sx_G} {σ τ : sx_St} {mu : Nat → Nat} {oc n sv nl : Nat} {A : a_A} {t : List Int32} {k : k_T} {S : p_S} {tt : Nat → Nat} {IOO9 : String} {b : Nat}
theorem cs_sbx (hK : c_K G mu oc σ A) (hG9 : g_Y G (sx_n σ) tt) (hb : b_B (A_i A)) (hG : g_L G) (hM : g_M G) (hbx : b < (A_v A).2.1.length) {sv nl : Nat} {Λ : Nat → Nat → Nat → Nat} (hX : c_X G mu (sx_n σ) oc σ sv nl A) (hV : k_V G σ sv Λ (A_v A)) (hzk : k_z (c_Zm mu (sx_n σ)) sv Λ (A_v A)) (hw : w_V (A_v A)) : sx_C G 2150 YX1_searchBox [.ref (mu 0), .int (nI b)] σ (c_R [IOO9] G mu oc σ (r_sbx (A_st A 0) b)) := by
  have loop : ∀ (τ : sx_St) (te n9 : Nat) (qr : p_T), p_wh (A_i A) = .inr qr → n9 ≤ 700 → k_P G n9 τ te qr → c_K G mu oc τ (A_er A 0 (-1)) → h_F (fun q => q = mu 0 ∨ sx_n σ ≤ q) 5021 60102 σ τ → ∀ rr i, i ≤ (a_b (A_v A) b).2.2.length → (a_b (A_v A) b).2.2.length + 1 ≤ i + rr → sx_V G 2150 YX1_searchBox 24 [some (.ref (mu 0)), some (.int (nI b)), some (.ref (Λ 1 b 0)), some (.ref te), some (.int (bs (fun j => qr ((a_b (A_v A) b).2.2.getD j (0, 0, 0))) i)), some (.int (nI i))] [] τ (c_R [IOO9] G mu oc σ (r_sbx (A_st A 0) b)) := by
    intro τ te n9 qr hq hn9 hP hK5 F6 rr
    have hWz : ∀ q, c_Zm mu (sx_n σ) q → ¬ (q = mu 0 ∨ sx_n σ ≤ q) := fun q z w => w.elim (z.2 0 (by decide)) (fun w => by have := z.1; omega)
    have hV2 := k_V_Z hV hzk F6 hWz
    have hB := (hV2.2.2.2.1 b hbx).1
    have hB1 := hB.1
    obtain ⟨mcl, fll, hls, -⟩ := id hB.2.1
    have hm30 : (a_b (A_v A) b).2.2.length ≤ 30 := hw.1.2.2 b hbx
    induction rr with
    | zero => intro i h1 h2; omega
    | succ rr ih =>
    intro i hi1 hi2
    refine sv_iload dX1_searchBox_24 rfl ?_
    refine sv_aload_n dX1_searchBox_26 rfl ?_
    refine sv_get fg_X1_203 dX1_searchBox_27 (sx_rd_c hB1) rfl ?_
    refine sv_cvR _ (cj_size hB.2.1) okJ2_size kv_X1_176 (sx_rd_c hls) rfl dX1_searchBox_30 rfl rfl (by omega) (Nat.le_of_ble_eq_true rfl) ?_
    refine sv_icmp_geN (tgt := 76) dX1_searchBox_33 (by decide) (by omega) (by omega) (fun c33 => ?_) (fun c33 => ?_)
    · refine sv_iload dX1_searchBox_76 rfl ?_
      refine sv_iret rfl rfl dX1_searchBox_78 ?_
      have hie : i = (a_b (A_v A) b).2.2.length := by omega
      rw [r_sbx_q (A := A_st A 0) hq]
      exact c_R_ok (by rw [hie]; rfl) rfl (c_S_B hK5 (c_B_F F6) (Nat.le_of_ble_eq_true rfl) (Nat.le_of_ble_eq_true rfl))
    · have hi : i < (a_b (A_v A) b).2.2.length := by omega
      have hmi := hB.2.2 i hi
      refine sv_iload dX1_searchBox_36 rfl ?_
      refine sv_aload_n dX1_searchBox_38 rfl ?_
      refine sv_aload_n dX1_searchBox_39 rfl ?_
      refine sv_get fg_X1_203 dX1_searchBox_40 (sx_rd_c hB1) rfl ?_
      refine sv_iload dX1_searchBox_43 rfl ?_
      refine sv_cvR _ (cj_get hB.2.1 hi) okJ2_get kv_X1_186 (sx_rd_c hls) rfl dX1_searchBox_45 rfl rfl (by omega) (Nat.le_of_ble_eq_true rfl) ?_
      refine sv_cast (C0 := "") (sx_rd_c hmi) rfl q1483 dX1_searchBox_48 ?_
      refine (sv_hol hG n9) _ _ _ _ _ _ _ _ _ _ _ _ _ hP (hB.2.2 i hi) q1469 dX1_searchBox_51 (by omega) (Nat.le_of_ble_eq_true rfl) ?_
      refine sv_if_eqB (tgt := 66) dX1_searchBox_56 (by decide) (fun c56 => ?_) (fun c56 => ?_)
      · have hbs : bs (fun j => qr ((a_b (A_v A) b).2.2.getD j (0, 0, 0))) i ||| nI 0 = bs (fun j => qr ((a_b (A_v A) b).2.2.getD j (0, 0, 0))) (i + 1) := by show _ = bs (fun j => qr ((a_b (A_v A) b).2.2.getD j (0, 0, 0))) i ||| (if qr ((a_b (A_v A) b).2.2.getD i (0, 0, 0)) = true then _ else _); rw [if_neg (bf_n c56)]
        refine sv_iconst (nI 0) dX1_searchBox_66 (by decide +kernel) ?_
        refine sv_ior dX1_searchBox_67 ?_
        refine sv_tI (y := bs (fun j => qr ((a_b (A_v A) b).2.2.getD j (0, 0, 0))) (i + 1)) hbs ?_
        refine sv_istore dX1_searchBox_68 (by decide) ?_
        refine sv_iincN dX1_searchBox_70 rfl (by decide) ?_
        refine sv_goto (tgt := 24) dX1_searchBox_73 (by decide) ?_
        exact ih (i + 1) (by omega) (by omega)
      · have hbs : bs (fun j => qr ((a_b (A_v A) b).2.2.getD j (0, 0, 0))) i ||| (nI 1 <<< (nI i &&& 31)) = bs (fun j => qr ((a_b (A_v A) b).2.2.getD j (0, 0, 0))) (i + 1) := by show _ = bs (fun j => qr ((a_b (A_v A) b).2.2.getD j (0, 0, 0))) i ||| (if qr ((a_b (A_v A) b).2.2.getD i (0, 0, 0)) = true then _ else _); rw [if_pos c56]
        refine sv_iconst (nI 1) dX1_searchBox_59 (by decide +kernel) ?_
        refine sv_iload dX1_searchBox_60 rfl ?_
        refine sv_ishl dX1_searchBox_62 ?_
        refine sv_goto (tgt := 67) dX1_searchBox_63 (by decide) ?_
        refine sv_ior dX1_searchBox_67 ?_
        refine sv_tI (y := bs (fun j => qr ((a_b (A_v A) b).2.2.getD j (0, 0, 0))) (i + 1)) hbs ?_
        refine sv_istore dX1_searchBox_68 (by decide) ?_
        refine sv_iincN dX1_searchBox_70 rfl (by decide) ?_
        refine sv_goto (tgt := 24) dX1_searchBox_73 (by decide) ?_
        exact ih (i + 1) (by omega) (by omega)
  refine sx_body (by decide) (Nat.le_of_ble_eq_true rfl) ?_
  have hx := hX.1
  refine sv_aload_n dX1_searchBox_0 rfl ?_
  refine sv_iload_n dX1_searchBox_1 rfl ?_
  refine sv_cvR _ (cg_boxAt hx hV hbx) okX1_boxAt kv_X1_197 (sx_rd_c hx) rfl dX1_searchBox_2 rfl rfl (by omega) (Nat.le_of_ble_eq_true rfl) ?_
  refine sv_astore_n dX1_searchBox_5 (by decide) ?_
  refine sv_aload_n dX1_searchBox_6 rfl ?_
  refine sv_cv _ (cc_rq hK hG9 hb hG hM) okX1_readQuery (sx_rd_c hx) rfl kv_X1_317.1 kv_X1_317.2.1 kv_X1_317.2.2 dX1_searchBox_7 rfl rfl (by omega) (Nat.le_of_ble_eq_true rfl) (fun vc τc hc => ?_) (fun E5 q5 τc hc => ?_)
  rotate_left
  · exfalso
    unfold c_Q at hc
    split at hc
    · cases hc.1
    · obtain ⟨_, _, h9, _⟩ := hc; cases h9
  cases hq : p_wh (A_i A) with
  | inl e =>
    unfold c_Q at hc
    rw [hq] at hc
    obtain ⟨hv9, hK5, F6⟩ := hc
    cases hv9
    refine sv_astore_nN dX1_searchBox_10 (by decide) ?_
    refine sv_aload_nN dX1_searchBox_11 rfl ?_
    refine sv_ifnonnullN dX1_searchBox_12 ?_
    refine sv_bipush (-4) dX1_searchBox_15 (by decide +kernel) ?_
    refine sv_iret rfl rfl dX1_searchBox_17 ?_
    rw [r_sbx_e (A := A_st A 0) hq]
    exact c_R_ok rfl rfl (c_S_B hK5 (c_B_F F6) (Nat.le_of_ble_eq_true rfl) (Nat.le_of_ble_eq_true rfl))
  | inr qr =>
  unfold c_Q at hc
  rw [hq] at hc
  obtain ⟨te, n9, hv9, hn9, hP, hK5, F6⟩ := hc
  cases hv9
  refine sv_astore_n dX1_searchBox_10 (by decide) ?_
  refine sv_aload_n dX1_searchBox_11 rfl ?_
  refine sv_ifnonnull (tgt := 18) dX1_searchBox_12 (by decide) ?_
  refine sv_iconst (nI 0) dX1_searchBox_18 (by decide +kernel) ?_
  refine sv_istore dX1_searchBox_19 (by decide) ?_
  refine sv_iconst (nI 0) dX1_searchBox_21 (by decide +kernel) ?_
  refine sv_istore dX1_searchBox_22 (by decide) ?_
  exact loop _ _ _ _ hq hn9 hP hK5 F6 ((a_b (A_v A) b).2.2.length + 1) 0 (Nat.zero_le _) (by omega)
end CSB
