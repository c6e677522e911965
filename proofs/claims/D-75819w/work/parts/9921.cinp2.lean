set_option maxRecDepth 100000
section CI2
variable {ρ : sx_St} {sa cap : Nat} {O : List Int32} {G : sx_G} {σ τ : sx_St} {mu : Nat → Nat} {oc lo sv nl cap : Nat} {ow : Nat → Nat} {Λ : Nat → Nat → Nat → Nat} {A : a_A} {V : a_V} {W : Nat → Prop} {c sl : Nat} {N : List a_N}
/-- bytes -/
def b_B (I : List Int32) : Prop := ∀ x ∈ I, -128 ≤ x.toInt ∧ x.toInt ≤ 127
theorem b_rt {x : Int32} (h1 : -128 ≤ x.toInt) (h2 : x.toInt ≤ 127) : vp_nar .byte (x &&& 255).toInt8.toInt32 = x := by
  have h : ∀ n, n < 256 → vp_nar .byte ((nI n - 128) &&& 255).toInt8.toInt32 = nI n - 128 := by decide +kernel
  have e : x = nI (x.toInt + 128).toNat - 128 := by
    apply Int32.toInt_inj.mp
    rw [Int32.toInt_sub, nI_toInt (by omega), show (128 : Int32).toInt = 128 from rfl, Int.bmod_eq_of_le (by omega) (by omega)]
    omega
  have := h (x.toInt + 128).toNat (by omega)
  rw [← e] at this
  exact this
theorem b_B_g {I : List Int32} (h : b_B I) {k : Nat} (hk : k < I.length) : vp_nar .byte (I.getD k 0 &&& 255).toInt8.toInt32 = I.getD k 0 := by
  have := h (I.getD k 0) (by rw [List.getD_eq_getElem?_getD, List.getElem?_eq_getElem hk]; exact List.getElem_mem hk)
  exact b_rt this.1 this.2
theorem tki_s {I : List Int32} {k : Nat} (hk : k < I.length) : I.take k ++ [I.getD k 0] = I.take (k + 1) := by
  rw [List.take_succ, List.getD_eq_getElem?_getD, List.getElem?_eq_getElem hk]
  rfl
theorem cc_tkn (hC : g_C G) {x0 inp : Nat} {v0 v1 v2 v3 v6 v7 v8 : Value} {I : List Int32} (hI : k_I G σ x0 inp v0 v1 v2 v3 v6 v7 v8 I) (hb : b_B I) : sx_C G 8 YX1_takeName [.ref x0] σ (fun o τ => ∃ v, o = .inl v ∧ ∃ nm nb, v = some (.ref nm) ∧ sx_n σ ≤ nm ∧ sx_n σ ≤ nb ∧ k_Sf G τ nm nb I ∧ sx_c τ x0 = some (.inr (0, [v0, v1, v2, v3, .ref inp, .int (nI 0), v6, v7, v8])) ∧ h_F (fun q => q = x0) 200 8000 σ τ) := by
  have loop : ∀ sb r k (ρ : sx_St) sa1 cap1, sx_n σ ≤ sb → k ≤ I.length → I.length + 1 ≤ k + r → k_U G ρ sb sa1 cap1 (I.take k) → sx_n σ ≤ sa1 → cap1 ≤ 1402 → h_F (fun _ => False) (2 + cap1) (20 + 2 * cap1) σ ρ → 16 * sx_n ρ + 16 ≤ 16 * sx_n σ + cap1 + 32 → sx_s ρ + 32 ≤ sx_s σ + 20 + 2 * cap1 → sx_V G 8 YX1_takeName 10 [some (.ref x0), some (.ref sb), some (.int (nI k))] [] ρ (fun o τ => ∃ v, o = .inl v ∧ ∃ nm nb, v = some (.ref nm) ∧ sx_n σ ≤ nm ∧ sx_n σ ≤ nb ∧ k_Sf G τ nm nb I ∧ sx_c τ x0 = some (.inr (0, [v0, v1, v2, v3, .ref inp, .int (nI 0), v6, v7, v8])) ∧ h_F (fun q => q = x0) 200 8000 σ τ) := by
    obtain ⟨hx, fi, hi, hle, hfi⟩ := id hI
    intro sb r
    induction r with
    | zero => intro k ρ sa1 cap1 h0 h1 h2; omega
    | succ r ih =>
    intro k ρ sa1 cap1 hsn hk1 hk2 hU1 hs1 hc1 F1 hn1 hz1
    have hx1 := h_F_c F1 hx (fun z => z)
    have hi1 := h_F_c F1 hi (fun z => z)
    obtain ⟨_, _, hsb1, hsa1, -⟩ := id hU1
    have FFa : h_F (fun q => q = x0) 0 0 ρ ρ := h_F_r
    refine sv_iload_n dX1_takeName_10 rfl ?_
    refine sv_aload_n dX1_takeName_11 rfl ?_
    refine sv_get fg_X1_83 dX1_takeName_12 (sx_rd_c hx1) rfl ?_
    refine sv_icmp_geN (tgt := 40) dX1_takeName_15 (by decide) (by omega) (by omega) (fun c15 => ?_) (fun c15 => ?_)
    · obtain rfl : k = I.length := by omega
      rw [List.take_length] at hU1
      refine sv_aload_n dX1_takeName_40 rfl ?_
      refine sv_iconst (nI 0) dX1_takeName_41 (by decide +kernel) ?_
      refine sv_put fp_X1_83 dX1_takeName_42 hx1 rfl rfl (Nat.le_of_ble_eq_true rfl) ?_
      refine hs_up hx1 (fun τ4 F5 h6 N7 Z8 => ?_)
      have h6 : sx_c τ4 x0 = some (.inr (0, [v0, v1, v2, v3, .ref inp, .int (nI 0), v6, v7, v8])) := h6
      have hi1' := h_F_c F5 hi1 (e_kn hi1 hx1 rfl)
      have hsb1' := h_F_c F5 hsb1 (e_kn hsb1 hx1 rfl)
      have FF9 := h_F_u FFa F5 (fun _ _ z => z) (by intro q hq hz; omega) (Nat.le_refl _) (Nat.le_refl _)
      refine sv_aload_n dX1_takeName_45 rfl ?_
      refine sv_cvP _ (cb_str hC (k_U_fr F5 hU1 (e_kn hsb1 hx1 rfl) (e_kn hsa1 hx1 rfl))) okJ8_toString kv_X1_157 (sx_rd_c hsb1') rfl dX1_takeName_46 rfl rfl (by omega) (Nat.le_of_ble_eq_true rfl) ?_
      intro v13 τ11 hp12
      obtain ⟨nm, nb, rfl, h1, h2, hSf, F10⟩ := hp12
      have N14 := (F10).1.1
      have hi1'' := h_F_c F10 hi1' (fun z => z)
      have hsb1'' := h_F_c F10 hsb1' (fun z => z)
      have h6' := h_F_c F10 h6 (fun z => z)
      have FF15 := h_F_u FF9 F10 (fun _ _ z => z) (fun _ _ z => z.elim) (Nat.le_refl _) (Nat.le_refl _)
      refine sv_aret (Or.inr ⟨_, rfl⟩) (Or.inl ⟨_, rfl⟩) rfl dX1_takeName_49 ?_
      have h9 := FF15
      have hn9 := h9.1.2
      have hs9 := h9.2.1
      have hn8 := F1.1.1
      exact ⟨_, rfl, nm, nb, rfl, by have := h9.1.1; omega, by have := h9.1.1; omega, hSf, h6', ⟨⟨by have := h9.1.1; omega, by omega⟩, by omega, fun q g1 g2 => by rw [h9.2.2 q (by omega) g2]; exact F1.2.2 q g1 (fun z => z)⟩⟩
    · have hk : k < I.length := by omega
      refine sv_aload_n dX1_takeName_18 rfl ?_
      refine sv_aload_n dX1_takeName_19 rfl ?_
      refine sv_get fg_X1_68 dX1_takeName_20 (sx_rd_c hx1) rfl ?_
      refine sv_iload_n dX1_takeName_23 rfl ?_
      refine sv_bald dX1_takeName_24 (sx_rd_c hi1) (vp_in_nI (by omega) (by omega)) ?_
      rw [nI_clamp (show k < 2 ^ 31 by omega)]
      refine sv_tI (y := I.getD k 0) (hfi k hk) ?_
      refine sv_sipush (nI 255) dX1_takeName_25 (by decide +kernel) ?_
      refine sv_tI (y := 255) (by decide +kernel) ?_
      refine sv_iand dX1_takeName_28 ?_
      refine sv_i2c dX1_takeName_29 ?_
      refine sv_tI (i2c_255 _) ?_
      obtain ⟨cc, hcc, hek0⟩ := and255 (I.getD k 0)
      have hek := hek0.symm
      refine sv_tI (y := nI cc) hek0 ?_
      refine sv_cvP _ (cb_app hC hU1 (c := cc) hcc (by rw [List.length_take]; omega)) okJ8_append_3 kv_X1_153 (sx_rd_c hsb1) rfl dX1_takeName_30 rfl rfl (by omega) (Nat.le_of_ble_eq_true rfl) ?_
      intro v16 τ17 hp18
      obtain ⟨rfl, sa2, cap2, hm2, hU2, hg2⟩ := hp18
      have FF2 := k_Uf_F hg2
      have hm9 : (I.take k).length = k := by rw [List.length_take]; omega
      rw [hm9] at hm2
      rw [hek, b_B_g hb hk, tki_s hk] at hU2
      obtain ⟨_, _, hsb9, -⟩ := id hU2
      refine sv_pop dX1_takeName_33 rfl ?_
      refine sv_iincN dX1_takeName_34 rfl (by decide) ?_
      refine sv_goto (tgt := 10) dX1_takeName_37 (by decide) ?_
      have h16 := hg2.2.2.1.2
      have hss := hg2.2.2.2.1
      exact ih (k + 1) _ sa2 cap2 hsn (by omega) (by omega) hU2 (hg2.1.elim (fun z => by rw [z]; exact hs1) (fun z => by have := F1.1.1; omega)) (by omega) ⟨⟨by have := F1.1.1; have := FF2.1.1; omega, by omega⟩, by omega, fun q h1 _ => by rw [hg2.2.2.2.2 q (by have := F1.1.1; omega) (by omega) (by omega)]; exact F1.2.2 q h1 (fun z => z)⟩ (by omega) (by omega)
  refine sx_body (by decide) (Nat.le_of_ble_eq_true rfl) ?_
  obtain ⟨hx, fi, hi, hle, hfi⟩ := id hI
  have FF0 : h_F (fun q => False) 0 0 σ σ := h_F_r
  refine sv_new fn_X1_76 dX1_takeName_0 ?_
  refine hs_al (fun sb τ19 E24 F20 h21 N22 Z23 => ?_)
  have hx' := h_F_c F20 hx (fun z => z)
  have hi' := h_F_c F20 hi (fun z => z)
  have FF25 := h_F_u FF0 F20 (fun _ _ z => z) (fun _ _ z => z.elim) (Nat.le_refl _) (Nat.le_refl _)
  have h21 : sx_c τ19 sb = some (.inr (11, [.null, .int (nI 0), .int (b_I false), .int (nI 0)])) := by rw [nI_0, b_I_f]; exact h21
  refine sv_dup dX1_takeName_3 rfl ?_
  refine sv_ciP _ (cb_ini hC h21) okJ8_init ki_X1_78 dX1_takeName_4 rfl rfl (by omega) (Nat.le_of_ble_eq_true rfl) ?_
  intro v29 τ27 hp28
  obtain ⟨rfl, sa, h1, hU0, F26⟩ := hp28
  have N30 := (F26).1.1
  have hx'' := h_F_c F26 hx' (e_kn hx' h21 rfl)
  have hi'' := h_F_c F26 hi' (e_kn hi' h21 rfl)
  have FF31 := h_F_u FF25 F26 (fun _ _ z => z) (by intro q hq hz; omega) (Nat.le_refl _) (Nat.le_refl _)
  refine sv_astore_n dX1_takeName_7 (by decide) ?_
  refine sv_iconst (nI 0) dX1_takeName_8 (by decide +kernel) ?_
  have FFz := FF31
  refine sv_istore_n dX1_takeName_9 (by decide) ?_
  have hUz : k_U G _ sb sa 16 (I.take 0) := hU0
  exact loop sb 702 0 _ sa 16 (by omega) (by omega) (by omega) hUz (by omega) (by omega) (h_F_w FFz (fun _ _ z => z) (by omega) (by omega)) (by have := FFz.1.2; omega) (by have := FFz.2.1; omega)
theorem k_Sn_r {nm nb : Nat} {t : List Nat} (h : k_Sn G σ nm nb t) (hl : t.length ≤ 100000) : k_Sr G σ nm (t.map nI) := by
  obtain ⟨x, z, f, h1, h2, h3, -⟩ := h
  refine ⟨nb, x, z, f, Or.inl h1, Or.inl (by rw [List.length_map]; exact h2), by rw [List.length_map]; exact hl, fun i hi => ?_⟩
  rw [List.length_map] at hi
  rw [h3 i hi, List.getD_eq_getElem?_getD, List.getD_eq_getElem?_getD, List.getElem?_map, List.getElem?_eq_getElem hi]
  rfl
theorem k_Sf_r {nm nb : Nat} {B : List Int32} (h : k_Sf G σ nm nb B) (hl : B.length ≤ 100000) : k_Sr G σ nm B := by
  obtain ⟨f, h1, h2, h3⟩ := h
  exact ⟨nb, _, _, f, Or.inl h1, Or.inl h2, hl, h3⟩
def f_bx (V : a_V) (B : List Int32) : Option Nat := V.2.1.findIdx? (fun b => decide (b.1.map nI = B))
def f_se (V : a_V) (B : List Int32) : Option Nat := V.2.2.findIdx? (fun s => decide (s.1.map nI = B))
theorem cc_fbx (hC : g_C G) {a q : Nat} {Λ : Nat → Nat → Nat → Nat} {V : a_V} (hV : k_V G σ a Λ V) (hw : w_Vb V) {B : List Int32} (hq : k_Sr G σ q B) (hnames : ∀ k, k < V.2.1.length → (a_b V k).1.length ≤ 100000) (hne : ∀ k, k < V.2.1.length → (Λ 1 k 4) ≠ q) : sx_Cr G 6 YX2_findBox [.ref a, .ref q] σ (some (.int (o_I (f_bx V B)))) σ := by
  have loop : ∀ r k, k ≤ V.2.1.length → V.2.1.length + 1 ≤ k + r → (∀ j, j < k → decide (((a_b V j)).1.map nI = B) = false) → sx_V G 6 YX2_findBox 2 [some (.ref a), some (.ref q), some (.int (nI k))] [] σ (fun o τ => ∃ v, o = .inl v ∧ v = some (.int (o_I (f_bx V B))) ∧ τ = σ) := by
    obtain ⟨mcb, fb, hlb, -⟩ := id hV.2.1
    obtain ⟨mcs, fs, hls, -⟩ := id hV.2.2.1
    have hn3 := hw.1
    have hn4 := hw.2.1
    intro r
    induction r with
    | zero => intro k h1 h2; omega
    | succ r ih =>
    intro k hk1 hk2 hno
    refine sv_iload_n dX2_findBox_2 rfl ?_
    refine sv_aload_n dX2_findBox_3 rfl ?_
    refine sv_get fg_X2_14 dX2_findBox_4 (sx_rd_c hV.1) rfl ?_
    refine sv_cvR _ (cj_size hV.2.1) okJ2_size kv_X2_27 (sx_rd_c hlb) rfl dX2_findBox_7 rfl rfl (by omega) (Nat.le_of_ble_eq_true rfl) ?_
    refine sv_icmp_geN (tgt := 42) dX2_findBox_10 (by decide) (by omega) (by omega) (fun c10 => ?_) (fun c10 => ?_)
    · refine sv_iconst (-1) dX2_findBox_42 (by decide +kernel) ?_
      refine sv_iret rfl rfl dX2_findBox_43 ?_
      obtain rfl : k = V.2.1.length := by omega
      exact ⟨_, rfl, r_I (by unfold f_bx; rw [fi_n ([], 0, []) (fun j hj => hno j hj)]; rfl), rfl⟩
    · have hk : k < V.2.1.length := by omega
      refine sv_aload_n dX2_findBox_13 rfl ?_
      refine sv_get fg_X2_14 dX2_findBox_14 (sx_rd_c hV.1) rfl ?_
      refine sv_iload_n dX2_findBox_17 rfl ?_
      refine sv_cvR _ (cj_get hV.2.1 (i := k) hk) okJ2_get kv_X2_33 (sx_rd_c hlb) rfl dX2_findBox_18 rfl rfl (by omega) (Nat.le_of_ble_eq_true rfl) ?_
      have hbk := (hV.2.2.2.1 k hk).1.1
      have hSk := (hV.2.2.2.1 k hk).2
      obtain ⟨_, _, _, hnk, -⟩ := id hSk
      refine sv_cast (C0 := "") (sx_rd_c hbk) rfl q826 dX2_findBox_21 ?_
      refine sv_get fg_X2_49 dX2_findBox_24 (sx_rd_c hbk) rfl ?_
      refine sv_aload_n dX2_findBox_27 rfl ?_
      refine sv_cvR _ (cs_eq hC (k_Sn_r hSk (hnames k hk)) hq (fun z => absurd z (hne k hk))) okJ9_equals kv_X2_53 (sx_rd_c hnk) rfl dX2_findBox_28 rfl rfl (by omega) (Nat.le_of_ble_eq_true rfl) ?_
      refine sv_if_eqB (tgt := 36) dX2_findBox_31 (by decide) (fun c31 => ?_) (fun c31 => ?_)
      · refine sv_iincN dX2_findBox_36 rfl (by decide) ?_
        refine sv_goto (tgt := 2) dX2_findBox_39 (by decide) ?_
        exact ih (k + 1) (by omega) (by omega) (fun j hj => by
          by_cases hjk : j = k
          · rw [hjk]; exact c31
          · exact hno j (by omega))
      · refine sv_iload_n dX2_findBox_34 rfl ?_
        refine sv_iret rfl rfl dX2_findBox_35 ?_
        exact ⟨_, rfl, r_I (by unfold f_bx; rw [fi_s ([], 0, []) (k := k) hk (fun j hj => hno j hj) c31]; rfl), rfl⟩
  refine sx_body (by decide) (Nat.le_of_ble_eq_true rfl) ?_
  refine sv_iconst (nI 0) dX2_findBox_0 (by decide +kernel) ?_
  refine sv_istore_n dX2_findBox_1 (by decide) ?_
  exact loop 6 0 (by omega) (by have := hw.1; have := hw.2.1; omega) (fun j hj => absurd hj (Nat.not_lt_zero j))
theorem cc_fse (hC : g_C G) {a q : Nat} {Λ : Nat → Nat → Nat → Nat} {V : a_V} (hV : k_V G σ a Λ V) (hw : w_Vb V) {B : List Int32} (hq : k_Sr G σ q B) (hnames : ∀ k, k < V.2.2.length → (a_s V k).1.length ≤ 100000) (hne : ∀ k, k < V.2.2.length → (Λ 3 k 4) ≠ q) : sx_Cr G 6 YX2_findSession [.ref a, .ref q] σ (some (.int (o_I (f_se V B)))) σ := by
  have loop : ∀ r k, k ≤ V.2.2.length → V.2.2.length + 1 ≤ k + r → (∀ j, j < k → decide (((a_s V j)).1.map nI = B) = false) → sx_V G 6 YX2_findSession 2 [some (.ref a), some (.ref q), some (.int (nI k))] [] σ (fun o τ => ∃ v, o = .inl v ∧ v = some (.int (o_I (f_se V B))) ∧ τ = σ) := by
    obtain ⟨mcb, fb, hlb, -⟩ := id hV.2.1
    obtain ⟨mcs, fs, hls, -⟩ := id hV.2.2.1
    have hn3 := hw.1
    have hn4 := hw.2.1
    intro r
    induction r with
    | zero => intro k h1 h2; omega
    | succ r ih =>
    intro k hk1 hk2 hno
    refine sv_iload_n dX2_findSession_2 rfl ?_
    refine sv_aload_n dX2_findSession_3 rfl ?_
    refine sv_get fg_X2_20 dX2_findSession_4 (sx_rd_c hV.1) rfl ?_
    refine sv_cvR _ (cj_size hV.2.2.1) okJ2_size kv_X2_27 (sx_rd_c hls) rfl dX2_findSession_7 rfl rfl (by omega) (Nat.le_of_ble_eq_true rfl) ?_
    refine sv_icmp_geN (tgt := 42) dX2_findSession_10 (by decide) (by omega) (by omega) (fun c10 => ?_) (fun c10 => ?_)
    · refine sv_iconst (-1) dX2_findSession_42 (by decide +kernel) ?_
      refine sv_iret rfl rfl dX2_findSession_43 ?_
      obtain rfl : k = V.2.2.length := by omega
      exact ⟨_, rfl, r_I (by unfold f_se; rw [fi_n ([], none, false, false, 0, fun _ => 0, []) (fun j hj => hno j hj)]; rfl), rfl⟩
    · have hk : k < V.2.2.length := by omega
      refine sv_aload_n dX2_findSession_13 rfl ?_
      refine sv_get fg_X2_20 dX2_findSession_14 (sx_rd_c hV.1) rfl ?_
      refine sv_iload_n dX2_findSession_17 rfl ?_
      refine sv_cvR _ (cj_get hV.2.2.1 (i := k) hk) okJ2_get kv_X2_33 (sx_rd_c hls) rfl dX2_findSession_18 rfl rfl (by omega) (Nat.le_of_ble_eq_true rfl) ?_
      obtain ⟨fu, ft, fa, hbk, -⟩ := (hV.2.2.2.2 k hk).1
      have hSk := (hV.2.2.2.2 k hk).2
      obtain ⟨_, _, _, hnk, -⟩ := id hSk
      refine sv_cast (C0 := "") (sx_rd_c hbk) rfl q1037 dX2_findSession_21 ?_
      refine sv_get fg_X2_58 dX2_findSession_24 (sx_rd_c hbk) rfl ?_
      refine sv_aload_n dX2_findSession_27 rfl ?_
      refine sv_cvR _ (cs_eq hC (k_Sn_r hSk (hnames k hk)) hq (fun z => absurd z (hne k hk))) okJ9_equals kv_X2_53 (sx_rd_c hnk) rfl dX2_findSession_28 rfl rfl (by omega) (Nat.le_of_ble_eq_true rfl) ?_
      refine sv_if_eqB (tgt := 36) dX2_findSession_31 (by decide) (fun c31 => ?_) (fun c31 => ?_)
      · refine sv_iincN dX2_findSession_36 rfl (by decide) ?_
        refine sv_goto (tgt := 2) dX2_findSession_39 (by decide) ?_
        exact ih (k + 1) (by omega) (by omega) (fun j hj => by
          by_cases hjk : j = k
          · rw [hjk]; exact c31
          · exact hno j (by omega))
      · refine sv_iload_n dX2_findSession_34 rfl ?_
        refine sv_iret rfl rfl dX2_findSession_35 ?_
        exact ⟨_, rfl, r_I (by unfold f_se; rw [fi_s ([], none, false, false, 0, fun _ => 0, []) (k := k) hk (fun j hj => hno j hj) c31]; rfl), rfl⟩
  refine sx_body (by decide) (Nat.le_of_ble_eq_true rfl) ?_
  refine sv_iconst (nI 0) dX2_findSession_0 (by decide +kernel) ?_
  refine sv_istore_n dX2_findSession_1 (by decide) ?_
  exact loop 6 0 (by omega) (by have := hw.1; have := hw.2.1; omega) (fun j hj => absurd hj (Nat.not_lt_zero j))
def sp_fbx (A : a_A) : Int32 × a_A := (o_I (f_bx (A_v A) (A_i A)), A_si (A_st A 0) [])
theorem pm_fbx (hK : c_K G mu oc σ A) (hC : g_C G) (hb : b_B (A_i A)) {t : Nat} (ho : o_V t (A_v A)) : sx_C G 100 YX1_findBox [.ref (mu 0)] σ (c_R [] G mu oc σ (sp_fbx A)) := by
  refine sx_body (by decide) (Nat.le_of_ble_eq_true rfl) ?_
  obtain ⟨sv, nl, hX, hF, hN⟩ := hK
  obtain ⟨Λ0, hV, hzz, hw⟩ := id hF
  have hx := hX.1
  have hnb := hw.1.1
  have hns := hw.1.2.1
  have hX0 : c_X G mu (sx_n σ) oc σ sv nl (A_st A 0) := hX
  have hF0 : c_F G mu (sx_n σ) σ sv (A_v (A_st A 0)) := hF
  have hv1 := hV.1
  have hI0 := c_X_I hX
  obtain ⟨fi, hi4, hil7, hfi⟩ := id hX.2.2.2.1
  refine sv_aload_n dX1_findBox_0 rfl ?_
  refine sv_get fg_X1_44 dX1_findBox_1 (sx_rd_c hx) rfl ?_
  refine sv_aload_n dX1_findBox_4 rfl ?_
  refine sv_cvP _ (cc_tkn hC hI0 hb) okX1_takeName kv_X1_161 (sx_rd_c hx) rfl dX1_findBox_5 rfl rfl (by omega) (Nat.le_of_ble_eq_true rfl) ?_
  intro v34 τ32 hp33
  obtain ⟨nm, nb, rfl, h1, h2, hSf, hx2, F2⟩ := hp33
  have N35 := (F2).1.1
  have hv1' := h_F_c F2 hv1 (e_kn hv1 hx rfl)
  refine sv_cvR _ (cc_fbx hC (k_V_Z hV hzz F2 (fun q z => z.2 0 (by decide))) hw.1 (k_Sf_r hSf (by omega)) (fun k hk => by have := (ho.2.1 k hk).2.2.2.2.1; omega) (fun k hk e => by have h9 := hzz.2.2.2.2.2.1 k hk; have h8 := h9.2.2.2.1.1; omega)) okX2_findBox kv_X1_164 (sx_rd_c hv1') rfl dX1_findBox_8 rfl rfl (by omega) (Nat.le_of_ble_eq_true rfl) ?_
  refine sv_iret rfl rfl dX1_findBox_11 ?_
  have hK9 := c_K_x (I := []) (ec := A_c A) (ep := A_p A) hX hF hN (h_F_w F2 (fun q _ z => Or.inl z) (Nat.le_refl _) (Nat.le_refl _)) ⟨hx2, fi, h_F_c F2 hi4 (e_kn hi4 hx rfl), Nat.zero_le _, fun i hi => absurd hi (Nat.not_lt_zero i)⟩
  exact c_R_ok (x := sp_fbx A) rfl rfl ⟨mu, oc, fun _ _ => rfl, hK9, Nat.le_refl _, F2.1.1, by have := F2.1.2; omega, by have := F2.2.1; omega⟩
def sp_fse (A : a_A) : Int32 × a_A := (o_I (f_se (A_v A) (A_i A)), A_si (A_st A 0) [])
theorem pm_fse (hK : c_K G mu oc σ A) (hC : g_C G) (hb : b_B (A_i A)) {t : Nat} (ho : o_V t (A_v A)) : sx_C G 100 YX1_findSession [.ref (mu 0)] σ (c_R [] G mu oc σ (sp_fse A)) := by
  refine sx_body (by decide) (Nat.le_of_ble_eq_true rfl) ?_
  obtain ⟨sv, nl, hX, hF, hN⟩ := hK
  obtain ⟨Λ0, hV, hzz, hw⟩ := id hF
  have hx := hX.1
  have hnb := hw.1.1
  have hns := hw.1.2.1
  have hX0 : c_X G mu (sx_n σ) oc σ sv nl (A_st A 0) := hX
  have hF0 : c_F G mu (sx_n σ) σ sv (A_v (A_st A 0)) := hF
  have hv1 := hV.1
  have hI0 := c_X_I hX
  obtain ⟨fi, hi4, hil7, hfi⟩ := id hX.2.2.2.1
  refine sv_aload_n dX1_findSession_0 rfl ?_
  refine sv_get fg_X1_44 dX1_findSession_1 (sx_rd_c hx) rfl ?_
  refine sv_aload_n dX1_findSession_4 rfl ?_
  refine sv_cvP _ (cc_tkn hC hI0 hb) okX1_takeName kv_X1_161 (sx_rd_c hx) rfl dX1_findSession_5 rfl rfl (by omega) (Nat.le_of_ble_eq_true rfl) ?_
  intro v38 τ36 hp37
  obtain ⟨nm, nb, rfl, h1, h2, hSf, hx2, F2⟩ := hp37
  have N39 := (F2).1.1
  have hv1' := h_F_c F2 hv1 (e_kn hv1 hx rfl)
  refine sv_cvR _ (cc_fse hC (k_V_Z hV hzz F2 (fun q z => z.2 0 (by decide))) hw.1 (k_Sf_r hSf (by omega)) (fun k hk => by have := (ho.2.2 k hk).2.2.2.1; omega) (fun k hk e => by have h9 := hzz.2.2.2.2.2.2 k hk; have h8 := h9.2.2.2.2.1.1; omega)) okX2_findSession kv_X1_168 (sx_rd_c hv1') rfl dX1_findSession_8 rfl rfl (by omega) (Nat.le_of_ble_eq_true rfl) ?_
  refine sv_iret rfl rfl dX1_findSession_11 ?_
  have hK9 := c_K_x (I := []) (ec := A_c A) (ep := A_p A) hX hF hN (h_F_w F2 (fun q _ z => Or.inl z) (Nat.le_refl _) (Nat.le_refl _)) ⟨hx2, fi, h_F_c F2 hi4 (e_kn hi4 hx rfl), Nat.zero_le _, fun i hi => absurd hi (Nat.not_lt_zero i)⟩
  exact c_R_ok (x := sp_fse A) rfl rfl ⟨mu, oc, fun _ _ => rfl, hK9, Nat.le_refl _, F2.1.1, by have := F2.1.2; omega, by have := F2.2.1; omega⟩
end CI2
