set_option maxRecDepth 100000
section CQC
variable {G : sx_G} {σ τ ρ σ0 : sx_St} {pa ps sel onl x0 inp o wd lo n0 s0 wb : Nat} {tt : Nat → Nat} {t : List Int32} {k : k_T} {w0 w1 w2 w3 w6 w7 w8 : Value} {S : p_S} {ow : Nat → Nat} {Λ : Nat → Nat → Nat → Nat} {T : List (Nat × Nat × (a_M → Bool))} {n1 s1 f : Nat} {q : p_T}
theorem p_cmp_p {g : a_M → Int32} {x : p_T × k_T} (hk : k_ok t k) (h0 : k.1 ≠ 0) (h : p_cmp t (p_nx t k) g = .inr x) : k.2.1 < x.2.2.1 := by
  have h1 := J_nx1 hk h0
  have hk1 : k_ok t (p_nx t k) := (k_n_p hk.2.1).2
  have hk2 : k_ok t (p_nx t (p_nx t k)) := (k_n_p hk1.2.1).2
  have g1 : (p_nx t k).2.2.1 ≤ (p_nx t (p_nx t k)).2.1 := (k_n_p hk1.2.1).1
  have g2 : (p_nx t (p_nx t k)).2.2.1 ≤ (p_nx t (p_nx t (p_nx t k))).2.1 := (k_n_p hk2.2.1).1
  have g3 := hk1.1
  have g4 := hk2.1
  unfold p_cmp at h
  split at h
  · obtain ⟨y, hy, h⟩ := p_bind_r h
    cases h
    have := (p_num_ok hk2 hy).2.2.1
    show k.2.1 < y.2.2.1
    rw [this]
    omega
  · split at h
    · obtain ⟨y, hy, h⟩ := p_bind_r h
      cases h
      have := (p_num_ok hk2 hy).2.2.1
      show k.2.1 < y.2.2.1
      rw [this]
      omega
    · cases h
theorem J_fac (hG9 : g_Y G lo tt) (hb : b_B t) (hG : g_L G) (hM : g_M G) (IHF : ∀ (o : Nat) (q : p_T) (k : k_T) (wd n1 s1 : Nat) (T : List (Nat × Nat × (a_M → Bool))) (σ : sx_St), y_J G lo (n1 + 1) (s1 + 2) wb σ0 pa ps sel onl x0 inp w0 w1 w2 w3 w6 w7 w8 t σ S k ow Λ wd o T → o ≤ 5 → 12 ≤ n1 + 2 * o → 24 ≤ s1 + 4 * o → 4 * (t.length + 1) + 0 ≤ 4 * k.2.1 + f → sx_C G (100 + 4 * (5 - o)) YX4_factor [.ref pa] σ (y_U lo (n1 + 1) (s1 + 2) σ0 (p_Q t f 0 o q k) (fun x oc τ => ∃ te, oc = .inl (some (.ref te)) ∧ ∃ n wd2, n ≤ x.2.2.1 - k.2.1 ∧ k.2.1 < x.2.2.1 ∧ y_J G lo n1 s1 wb σ0 pa ps sel onl x0 inp w0 w1 w2 w3 w6 w7 w8 t τ S x.2 ow Λ wd2 o ((n, te, x.1) :: T)))) (IHQ : ∀ (o : Nat) (q : p_T) (k : k_T) (wd n1 s1 : Nat) (T : List (Nat × Nat × (a_M → Bool))) (σ : sx_St), y_J G lo (n1 + 1) (s1 + 2) wb σ0 pa ps sel onl x0 inp w0 w1 w2 w3 w6 w7 w8 t σ S k ow Λ wd o T → o ≤ 5 → 14 ≤ n1 + 2 * o → 28 ≤ s1 + 4 * o → 4 * (t.length + 1) + 2 ≤ 4 * k.2.1 + f → sx_C G (102 + 4 * (5 - o)) YX4_query [.ref pa] σ (y_U lo (n1 + 1) (s1 + 2) σ0 (p_Q t f 4 o q k) (fun x oc τ => ∃ te, oc = .inl (some (.ref te)) ∧ ∃ n wd2, n ≤ x.2.2.1 - k.2.1 ∧ k.2.1 < x.2.2.1 ∧ y_J G lo n1 s1 wb σ0 pa ps sel onl x0 inp w0 w1 w2 w3 w6 w7 w8 t τ S x.2 ow Λ wd2 o ((n, te, x.1) :: T)))) (hJ : y_J G lo (n1 + 1) (s1 + 2) wb σ0 pa ps sel onl x0 inp w0 w1 w2 w3 w6 w7 w8 t σ S k ow Λ wd o T) (ho : o ≤ 5) (hn : 12 ≤ n1 + 2 * o) (hs : 24 ≤ s1 + 4 * o) (hf : 4 * (t.length + 1) ≤ 4 * k.2.1 + (f + 1)) : sx_C G (100 + 4 * (5 - o)) YX4_factor [.ref pa] σ (y_U lo (n1 + 1) (s1 + 2) σ0 (p_Q t (f + 1) 0 o q k) (fun x oc τ => ∃ te, oc = .inl (some (.ref te)) ∧ ∃ n wd2, n ≤ x.2.2.1 - k.2.1 ∧ k.2.1 < x.2.2.1 ∧ y_J G lo n1 s1 wb σ0 pa ps sel onl x0 inp w0 w1 w2 w3 w6 w7 w8 t τ S x.2 ow Λ wd2 o ((n, te, x.1) :: T))) := by
  have midT : ∀ (σ1 : sx_St), y_J G lo (n1 + 1) (s1 + 2) wb σ0 pa ps sel onl x0 inp w0 w1 w2 w3 w6 w7 w8 t σ1 S k ow Λ wd o T → p_fl t k = none → ∀ (ρ : sx_St) ix, y_w G (fun q => wb ≤ q ∧ ow q = 0) ρ wd (p_w t k) → h_F (fun q => q = wd ∧ p_w t k ≠ []) 0 0 σ1 ρ → ((ix = none ∧ p_is t k 7 = false ∧ p_is t k 5 = false ∧ p_is t k 8 = false ∧ p_is t k 9 = false) ∨ (ix = some 0 ∧ p_is t k 7 = true) ∨ (ix = some 1 ∧ p_is t k 5 = true) ∨ (ix = some 2 ∧ p_is t k 8 = true) ∨ (ix = some 3 ∧ p_is t k 9 = true)) → sx_V G (100 + 4 * (5 - o)) YX4_factor 125 [some (.ref pa), some (.int (o_I (p_fl t k))), some (.ref wd), some (.int (o_I ix)), none] [] ρ (y_U lo (n1 + 1) (s1 + 2) σ0 (p_Q t (f + 1) 0 o q k) (fun x oc τ => ∃ te, oc = .inl (some (.ref te)) ∧ ∃ n wd2, n ≤ x.2.2.1 - k.2.1 ∧ k.2.1 < x.2.2.1 ∧ y_J G lo n1 s1 wb σ0 pa ps sel onl x0 inp w0 w1 w2 w3 w6 w7 w8 t τ S x.2 ow Λ wd2 o ((n, te, x.1) :: T))) := by
    intro σ1 hJ1 hfn ρ ix hwwT FT hix
    obtain ⟨⟨⟨tk, vv, hp, hk9, hvv, hww, hko⟩, hwl⟩, -⟩ := id hJ1
    have ht7 := J_7 hJ1
    obtain ⟨vs1, hwr⟩ := k_Sr_rd (y_w_r hG9 hww (by have := p_w_ll hko ht7; omega))
    have hJT := J_h hJ1 hwwT FT
    have hJD : y_J G lo ((n1 - 1) + 2) ((s1 - 2) + 4) wb σ0 pa ps sel onl x0 inp w0 w1 w2 w3 w6 w7 w8 t ρ S k ow Λ wd o T := J_U hJT (fun _ z => z) (by omega) (by omega)
    obtain ⟨⟨tkJ4, vvJ4, hpJ4, kzJ4, hvvJ4, wwJ4, koJ4⟩, wlJ4⟩ := id hJT.1
    obtain ⟨vsJ4, wrJ4⟩ := k_Sr_rd (y_w_r hG9 wwJ4 (by have := p_w_ll koJ4 (J_7 hJT); omega))
    refine sv_iload_n dX4_factor_125 rfl ?_
    rcases hix with ⟨rfl, n7, n5, n8, n9⟩ | ⟨rfl, y7⟩ | ⟨rfl, y5⟩ | ⟨rfl, y8⟩ | ⟨rfl, y9⟩
    · refine sv_tableOut (tgt := 204) dX4_factor_126 (by decide +kernel) (by decide) ?_
      refine sv_aload_n dX4_factor_204 rfl ?_
      refine sv_aload_n dX4_factor_205 rfl ?_
      refine sv_bipush (nI 40) dX4_factor_206 (by decide +kernel) ?_
      refine sv_cvR _ (J_sym hG9 hb hJT (c := 40) (by decide)) okX4_isSymbol kv_X4_226 (sx_rd_c hpJ4) rfl dX4_factor_208 rfl rfl (by omega) (Nat.le_of_ble_eq_true rfl) ?_
      refine sv_iconst (nI 1) dX4_factor_211 (by decide +kernel) ?_
      by_cases q212 : ((p_sy t k (nI 40))) = false
      · rw [q212]
        refine sv_cv _ (J_req0 hG9 hJT (c := 1)) okX4_require (sx_rd_c hpJ4) rfl kv_X4_115.1 kv_X4_115.2.1 kv_X4_115.2.2 dX4_factor_212 rfl rfl (by omega) (Nat.le_of_ble_eq_true rfl) (fun v τ h => by obtain ⟨q, e, _⟩ := h; cases e) (fun E q τ h => ?_)
        obtain ⟨q9, e9, F9⟩ := id h
        cases e9
        refine sv_out (fun x hx => by cases hx) ?_
        exact y_U_l (pq_no n9 (show p_sy t k 40 = false from q212) hfn n7 n5 n8) h
      have r212 : ((p_sy t k (nI 40))) = true := by
        cases hz : ((p_sy t k (nI 40))) with
        | true => rfl
        | false => exact absurd hz q212
      rw [r212]
      refine sv_cvR _ J_req1 okX4_require kv_X4_115 (sx_rd_c hpJ4) rfl dX4_factor_212 rfl rfl (by omega) (Nat.le_of_ble_eq_true rfl) ?_
      refine sv_aload_n dX4_factor_215 rfl ?_
      refine sv_cv _ (J_go hG9 hb hJD (p_sy_k0 r212) ho) okX4_goIn (sx_rd_c hpJ4) rfl kv_X4_268.1 kv_X4_268.2.1 kv_X4_268.2.2 dX4_factor_216 rfl rfl (by omega) (Nat.le_of_ble_eq_true rfl) (fun v5 τ6 h7 => ?_) (fun E q τ h => ?_)
      rotate_left
      · have hU := y_U_thr h (fun _ _ _ z => ⟨_, z.1⟩)
        refine sv_out (fun x hx => by cases hx) ?_
        obtain ⟨e, he, hz⟩ := hU
        exact y_U_l (by rw [pq_40 (show p_sy t k 40 = true from r212), if_neg (p_go_e he).1, (p_go_e he).2]) (y_Z_w hz (by omega) (by omega))
      have hU := y_U_ret h7
      obtain ⟨k2, hx8, hv8, wd8, hJ8⟩ := hU
      cases hv8
      obtain ⟨ho5, rfl⟩ := p_go_i hx8
      have hk1 := J_nx1 hko (p_sy_k0 r212)
      obtain ⟨⟨tkJ8, vvJ8, hpJ8, kzJ8, hvvJ8, wwJ8, koJ8⟩, wlJ8⟩ := id hJ8.1
      obtain ⟨vsJ8, wrJ8⟩ := k_Sr_rd (y_w_r hG9 wwJ8 (by have := p_w_ll koJ8 (J_7 hJ8); omega))
      refine sv_aload_n dX4_factor_219 rfl ?_
      refine sv_cv _ (IHQ (o + 1) q (p_nx t k) _ n1 s1 _ _ (J_U hJ8 (fun _ z => z) (by omega) (by omega)) (by omega) (by omega) (by omega) (by omega)) okX4_query (sx_rd_c hpJ8) rfl kv_X4_277.1 kv_X4_277.2.1 kv_X4_277.2.2 dX4_factor_220 rfl rfl (by omega) (Nat.le_of_ble_eq_true rfl) (fun v9 τ10 h11 => ?_) (fun E q τ h => ?_)
      rotate_left
      · have hU := y_U_thr h (fun _ _ _ z => ⟨_, z.choose_spec.1⟩)
        refine sv_out (fun x hx => by cases hx) ?_
        obtain ⟨e, he, hz⟩ := hU
        exact y_U_l (by rw [pq_40 (show p_sy t k 40 = true from r212), if_pos ho5, he]; rfl) (y_Z_w hz (by omega) (by omega))
      have hU := y_U_ret h11
      obtain ⟨⟨q2, k2⟩, hx9, te2, hv9, m2, wd2, hm1, hm2, hJ2⟩ := hU
      cases hv9
      have hJ2 : y_J G lo n1 s1 wb σ0 pa ps sel onl x0 inp w0 w1 w2 w3 w6 w7 w8 t τ10 S k2 ow Λ wd2 (o + 1) ((m2, te2, q2) :: T) := hJ2
      have hm1 : m2 ≤ k2.2.1 - (p_nx t k).2.1 := hm1
      have hm2 : (p_nx t k).2.1 < k2.2.1 := hm2
      obtain ⟨⟨tkJ12, vvJ12, hpJ12, kzJ12, hvvJ12, wwJ12, koJ12⟩, wlJ12⟩ := id hJ2.1
      obtain ⟨vsJ12, wrJ12⟩ := k_Sr_rd (y_w_r hG9 wwJ12 (by have := p_w_ll koJ12 (J_7 hJ2); omega))
      refine sv_astore dX4_factor_223 (by decide) ?_
      refine sv_aload_n dX4_factor_225 rfl ?_
      refine sv_aload_n dX4_factor_226 rfl ?_
      refine sv_bipush (nI 41) dX4_factor_227 (by decide +kernel) ?_
      refine sv_cvR _ (J_sym hG9 hb hJ2 (c := 41) (by decide)) okX4_isSymbol kv_X4_226 (sx_rd_c hpJ12) rfl dX4_factor_229 rfl rfl (by omega) (Nat.le_of_ble_eq_true rfl) ?_
      refine sv_iconst (nI 1) dX4_factor_232 (by decide +kernel) ?_
      by_cases q233 : ((p_sy t k2 (nI 41))) = false
      · rw [q233]
        refine sv_cv _ (J_req0 hG9 hJ2 (c := 1)) okX4_require (sx_rd_c hpJ12) rfl kv_X4_115.1 kv_X4_115.2.1 kv_X4_115.2.2 dX4_factor_233 rfl rfl (by omega) (Nat.le_of_ble_eq_true rfl) (fun v τ h => by obtain ⟨q, e, _⟩ := h; cases e) (fun E q τ h => ?_)
        obtain ⟨q9, e9, F9⟩ := id h
        cases e9
        refine sv_out (fun x hx => by cases hx) ?_
        exact y_U_l (e := p_er 1 k2) (by rw [pq_40 (show p_sy t k 40 = true from r212), if_pos ho5, hx9]; exact if_neg (bf_n q233)) (y_Z_w h (by omega) (by omega))
      have r233 : ((p_sy t k2 (nI 41))) = true := by
        cases hz : ((p_sy t k2 (nI 41))) with
        | true => rfl
        | false => exact absurd hz q233
      rw [r233]
      refine sv_cvR _ J_req1 okX4_require kv_X4_115 (sx_rd_c hpJ12) rfl dX4_factor_233 rfl rfl (by omega) (Nat.le_of_ble_eq_true rfl) ?_
      refine sv_aload_n dX4_factor_236 rfl ?_
      refine sv_cvP _ (J_next hG9 hb hJ2) okX4_next kv_X4_36 (sx_rd_c hpJ12) rfl dX4_factor_237 rfl rfl (by omega) (Nat.le_of_ble_eq_true rfl) ?_
      intro v13 τ14 hp15
      obtain ⟨rfl, wd17, hJ16⟩ := hp15
      obtain ⟨⟨tkJ18, vvJ18, hpJ18, kzJ18, hvvJ18, wwJ18, koJ18⟩, wlJ18⟩ := id hJ16.1
      obtain ⟨vsJ18, wrJ18⟩ := k_Sr_rd (y_w_r hG9 wwJ18 (by have := p_w_ll koJ18 (J_7 hJ16); omega))
      refine sv_aload_n dX4_factor_240 rfl ?_
      refine sv_dup dX4_factor_241 rfl ?_
      refine sv_get fg_X4_249 dX4_factor_242 (sx_rd_c hpJ18) rfl ?_
      refine sv_iconst (nI 1) dX4_factor_245 (by decide +kernel) ?_
      refine sv_isubN dX4_factor_246 (by omega) ?_
      refine sv_tI (y := nI o) (by rw [Nat.add_sub_cancel]) ?_
      refine sv_put fp_X4_249 dX4_factor_247 hpJ18 rfl rfl (Nat.le_of_ble_eq_true rfl) ?_
      refine hs_up hpJ18 (fun τ19 F20 h21 N22 Z23 => ?_)
      have h21 : sx_c τ19 pa = some (.inr (3, [.ref ps, .ref sel, .ref onl, .int (nI (p_nx t k2).2.2.1), .int (nI (p_nx t k2).2.1), .int vvJ18, .int (nI o), .int (b_I S.2.1), .ref wd17, .ref tkJ18, .ref x0])) := h21
      have hJ5 := J_po (o2 := o) hJ16 F20 h21 kzJ18 hvvJ18
      obtain ⟨⟨tkJ24, vvJ24, hpJ24, kzJ24, hvvJ24, wwJ24, koJ24⟩, wlJ24⟩ := id hJ5.1
      obtain ⟨vsJ24, wrJ24⟩ := k_Sr_rd (y_w_r hG9 wwJ24 (by have := p_w_ll koJ24 (J_7 hJ5); omega))
      refine sv_aload dX4_factor_250 rfl ?_
      refine sv_aret (Or.inr ⟨_, rfl⟩) (Or.inl ⟨_, rfl⟩) rfl dX4_factor_252 ?_
      have hk2 := J_nx1 (J_ko hJ2) (p_sy_k0 r233)
      exact y_U_r (a := (q2, p_nx t k2)) (by rw [pq_40 (show p_sy t k 40 = true from r212), if_pos ho5, hx9]; exact if_pos r233) ⟨te2, rfl, m2, wd17, (show m2 ≤ (p_nx t k2).2.1 - k.2.1 by omega), (show k.2.1 < (p_nx t k2).2.1 by omega), hJ5⟩
    · refine sv_tableIn (off := 30) (tgt := 156) dX4_factor_126 (by decide +kernel) (by decide +kernel) (by decide +kernel) (by decide) ?_
      refine sv_aload_n dX4_factor_156 rfl ?_
      refine sv_cvP _ (J_next2 hG9 hb hJD (by have := p_is_k (by decide) (by decide) y7; omega)) okX4_next kv_X4_36 (sx_rd_c hpJ4) rfl dX4_factor_157 rfl rfl (by omega) (Nat.le_of_ble_eq_true rfl) ?_
      intro v25 τ26 hp27
      obtain ⟨rfl, wd29, hJ28⟩ := hp27
      obtain ⟨⟨tkJ30, vvJ30, hpJ30, kzJ30, hvvJ30, wwJ30, koJ30⟩, wlJ30⟩ := id hJ28.1
      obtain ⟨vsJ30, wrJ30⟩ := k_Sr_rd (y_w_r hG9 wwJ30 (by have := p_w_ll koJ30 (J_7 hJ28); omega))
      refine sv_lamC (i := 3) (f := sh_3) rfl rfl dX4_factor_160 (by omega) (Nat.le_of_ble_eq_true rfl) ?_
      refine sv_aret (Or.inr ⟨_, rfl⟩) (Or.inl ⟨_, rfl⟩) rfl dX4_factor_165 ?_
      have hk1 := J_nx1 hko (by have := p_is_k (by decide) (by decide) y7; omega)
      have hP : k_P G 1 τ26 (sg_m G 3) (fun _ => true) := Or.inr (Or.inr (Or.inr (Or.inl ⟨Or.inr (hM 3 rfl), fun m => rfl⟩)))
      exact y_U_r (pq_7 y7) ⟨_, rfl, 1, wd29, (show 1 ≤ (p_nx t k).2.1 - k.2.1 by omega), (show k.2.1 < (p_nx t k).2.1 by omega), J_U (J_T hJ28 hP) (fun _ z => z) (by omega) (by omega)⟩
    · refine sv_tableIn (off := 40) (tgt := 166) dX4_factor_126 (by decide +kernel) (by decide +kernel) (by decide +kernel) (by decide) ?_
      refine sv_aload_n dX4_factor_166 rfl ?_
      refine sv_iconst (nI 1) dX4_factor_167 (by decide +kernel) ?_
      refine sv_tI b1_I ?_
      refine sv_cv _ (J_cmp1 hG9 hb hJD (by have := p_is_k (by decide) (by decide) y5; omega) hG) okX4_compared (sx_rd_c hpJ4) rfl kv_X4_264.1 kv_X4_264.2.1 kv_X4_264.2.2 dX4_factor_168 rfl rfl (by omega) (Nat.le_of_ble_eq_true rfl) (fun v31 τ32 h33 => ?_) (fun E q τ h => ?_)
      rotate_left
      · have hU := y_U_thr h (fun _ _ _ z => ⟨_, z.choose_spec.1⟩)
        refine sv_out (fun x hx => by cases hx) ?_
        obtain ⟨e, he, hz⟩ := hU
        exact y_U_l (by rw [pq_5 y5, he]) (y_Z_w hz (by omega) (by omega))
      have hU := y_U_ret h33
      obtain ⟨⟨q2, k2⟩, hx9, te2, hv9, wd2, hJ2⟩ := hU
      cases hv9
      have hc9 : k.2.1 < k2.2.1 := p_cmp_p (J_ko hJD) (by have := p_is_k (by decide) (by decide) y5; omega) hx9
      refine sv_aret (Or.inr ⟨_, rfl⟩) (Or.inl ⟨_, rfl⟩) rfl dX4_factor_171 ?_
      exact y_U_r (a := (q2, k2)) (by rw [pq_5 y5, hx9]) ⟨te2, rfl, 1, wd2, (show 1 ≤ k2.2.1 - k.2.1 by omega), (show k.2.1 < k2.2.1 by omega), J_U hJ2 (fun _ z => z) (by omega) (by omega)⟩
    · refine sv_tableIn (off := 46) (tgt := 172) dX4_factor_126 (by decide +kernel) (by decide +kernel) (by decide +kernel) (by decide) ?_
      refine sv_aload_n dX4_factor_172 rfl ?_
      refine sv_iconst (nI 0) dX4_factor_173 (by decide +kernel) ?_
      refine sv_tI b0_I ?_
      refine sv_cv _ (J_cmp0 hG9 hb hJD (by have := p_is_k (by decide) (by decide) y8; omega) hG) okX4_compared (sx_rd_c hpJ4) rfl kv_X4_264.1 kv_X4_264.2.1 kv_X4_264.2.2 dX4_factor_174 rfl rfl (by omega) (Nat.le_of_ble_eq_true rfl) (fun v34 τ35 h36 => ?_) (fun E q τ h => ?_)
      rotate_left
      · have hU := y_U_thr h (fun _ _ _ z => ⟨_, z.choose_spec.1⟩)
        refine sv_out (fun x hx => by cases hx) ?_
        obtain ⟨e, he, hz⟩ := hU
        exact y_U_l (by rw [pq_8 y8, he]) (y_Z_w hz (by omega) (by omega))
      have hU := y_U_ret h36
      obtain ⟨⟨q2, k2⟩, hx9, te2, hv9, wd2, hJ2⟩ := hU
      cases hv9
      have hc9 : k.2.1 < k2.2.1 := p_cmp_p (J_ko hJD) (by have := p_is_k (by decide) (by decide) y8; omega) hx9
      refine sv_aret (Or.inr ⟨_, rfl⟩) (Or.inl ⟨_, rfl⟩) rfl dX4_factor_177 ?_
      exact y_U_r (a := (q2, k2)) (by rw [pq_8 y8, hx9]) ⟨te2, rfl, 1, wd2, (show 1 ≤ k2.2.1 - k.2.1 by omega), (show k.2.1 < k2.2.1 by omega), J_U hJ2 (fun _ z => z) (by omega) (by omega)⟩
    · refine sv_tableIn (off := 52) (tgt := 178) dX4_factor_126 (by decide +kernel) (by decide +kernel) (by decide +kernel) (by decide) ?_
      refine sv_aload_n dX4_factor_178 rfl ?_
      refine sv_cv _ (J_go hG9 hb hJD (by have := p_is_k (by decide) (by decide) y9; omega) ho) okX4_goIn (sx_rd_c hpJ4) rfl kv_X4_268.1 kv_X4_268.2.1 kv_X4_268.2.2 dX4_factor_179 rfl rfl (by omega) (Nat.le_of_ble_eq_true rfl) (fun v37 τ38 h39 => ?_) (fun E q τ h => ?_)
      rotate_left
      · have hU := y_U_thr h (fun _ _ _ z => ⟨_, z.1⟩)
        refine sv_out (fun x hx => by cases hx) ?_
        obtain ⟨e, he, hz⟩ := hU
        exact y_U_l (by rw [pq_9 y9, if_neg (p_go_e he).1, (p_go_e he).2]) (y_Z_w hz (by omega) (by omega))
      have hU := y_U_ret h39
      obtain ⟨k2, hx8, hv8, wd8, hJ8⟩ := hU
      cases hv8
      obtain ⟨ho5, rfl⟩ := p_go_i hx8
      have hk1 := J_nx1 hko (by have := p_is_k (by decide) (by decide) y9; omega)
      obtain ⟨⟨tkJ40, vvJ40, hpJ40, kzJ40, hvvJ40, wwJ40, koJ40⟩, wlJ40⟩ := id hJ8.1
      obtain ⟨vsJ40, wrJ40⟩ := k_Sr_rd (y_w_r hG9 wwJ40 (by have := p_w_ll koJ40 (J_7 hJ8); omega))
      refine sv_aload_n dX4_factor_182 rfl ?_
      refine sv_cv _ (IHF (o + 1) q (p_nx t k) _ (n1 - 1) (s1 - 2) _ _ (J_U hJ8 (fun _ z => z) (by omega) (by omega)) (by omega) (by omega) (by omega) (by omega)) okX4_factor (sx_rd_c hpJ40) rfl kv_X4_271.1 kv_X4_271.2.1 kv_X4_271.2.2 dX4_factor_183 rfl rfl (by omega) (Nat.le_of_ble_eq_true rfl) (fun v41 τ42 h43 => ?_) (fun E q τ h => ?_)
      rotate_left
      · have hU := y_U_thr h (fun _ _ _ z => ⟨_, z.choose_spec.1⟩)
        refine sv_out (fun x hx => by cases hx) ?_
        obtain ⟨e, he, hz⟩ := hU
        exact y_U_l (by rw [pq_9 y9, if_pos ho5, he]; rfl) (y_Z_w hz (by omega) (by omega))
      have hU := y_U_ret h43
      obtain ⟨⟨q2, k2⟩, hx9, te2, hv9, m2, wd2, hm1, hm2, hJ2⟩ := hU
      cases hv9
      have hJ2 : y_J G lo ((n1 - 1)) ((s1 - 2)) wb σ0 pa ps sel onl x0 inp w0 w1 w2 w3 w6 w7 w8 t τ42 S k2 ow Λ wd2 (o + 1) ((m2, te2, q2) :: T) := hJ2
      have hm1 : m2 ≤ k2.2.1 - (p_nx t k).2.1 := hm1
      have hm2 : (p_nx t k).2.1 < k2.2.1 := hm2
      obtain ⟨⟨tkJ44, vvJ44, hpJ44, kzJ44, hvvJ44, wwJ44, koJ44⟩, wlJ44⟩ := id hJ2.1
      obtain ⟨vsJ44, wrJ44⟩ := k_Sr_rd (y_w_r hG9 wwJ44 (by have := p_w_ll koJ44 (J_7 hJ2); omega))
      refine sv_astore dX4_factor_186 (by decide) ?_
      refine sv_aload_n dX4_factor_188 rfl ?_
      refine sv_dup dX4_factor_189 rfl ?_
      refine sv_get fg_X4_249 dX4_factor_190 (sx_rd_c hpJ44) rfl ?_
      refine sv_iconst (nI 1) dX4_factor_193 (by decide +kernel) ?_
      refine sv_isubN dX4_factor_194 (by omega) ?_
      refine sv_tI (y := nI o) (by rw [Nat.add_sub_cancel]) ?_
      refine sv_put fp_X4_249 dX4_factor_195 hpJ44 rfl rfl (Nat.le_of_ble_eq_true rfl) ?_
      refine hs_up hpJ44 (fun τ45 F46 h47 N48 Z49 => ?_)
      have h47 : sx_c τ45 pa = some (.inr (3, [.ref ps, .ref sel, .ref onl, .int (nI k2.2.2.1), .int (nI k2.2.1), .int vvJ44, .int (nI o), .int (b_I S.2.1), .ref wd2, .ref tkJ44, .ref x0])) := h47
      have hJ3 := J_po (o2 := o) hJ2 F46 h47 kzJ44 hvvJ44
      obtain ⟨⟨tkJ50, vvJ50, hpJ50, kzJ50, hvvJ50, wwJ50, koJ50⟩, wlJ50⟩ := id hJ3.1
      obtain ⟨vsJ50, wrJ50⟩ := k_Sr_rd (y_w_r hG9 wwJ50 (by have := p_w_ll koJ50 (J_7 hJ3); omega))
      refine sv_aload dX4_factor_198 rfl ?_
      refine sv_cnP _ (cm_not hG) okX1_not ks_X4_274 dX4_factor_200 rfl rfl (by omega) (Nat.le_of_ble_eq_true rfl) ?_
      intro v9 τ51 hp9
      obtain ⟨tf, rfl, hte9, htc, F1⟩ := hp9
      refine sv_aret (Or.inr ⟨_, rfl⟩) (Or.inl ⟨_, rfl⟩) rfl dX4_factor_203 ?_
      have hJ4 := J_al hJ3 F1 (Nat.le_of_ble_eq_true rfl) (Nat.le_of_ble_eq_true rfl)
      have hP1 := hJ4.2.2.2.2.2.2.2.2.2 (m2, te2, q2) (by simp)
      have hP3 : k_P G (m2 + 1) _ tf (fun m => !(q2 m)) := Or.inr (Or.inr (Or.inl ⟨_, _, sx_rd_c htc, hP1, fun m => rfl⟩))
      exact y_U_r (a := (fun m => !(q2 m), k2)) (by rw [pq_9 y9, if_pos ho5, hx9]; rfl) ⟨tf, rfl, m2 + 1, wd2, (show m2 + 1 ≤ k2.2.1 - k.2.1 by omega), (show k.2.1 < k2.2.1 by omega), J_U (J_T hJ4 hP3) (fun x hx => (List.mem_cons.mp hx).elim (fun e => by rw [e]; exact List.mem_cons_self) (fun e => List.mem_cons_of_mem _ (List.mem_cons_of_mem _ e))) (by omega) (by omega)⟩
  have mid19 : ∀ (σ1 : sx_St), y_J G lo (n1 + 1) (s1 + 2) wb σ0 pa ps sel onl x0 inp w0 w1 w2 w3 w6 w7 w8 t σ1 S k ow Λ wd o T → p_fl t k = none → sx_V G (100 + 4 * (5 - o)) YX4_factor 19 [some (.ref pa), some (.int (o_I (p_fl t k))), none, none, none] [] σ1 (y_U lo (n1 + 1) (s1 + 2) σ0 (p_Q t (f + 1) 0 o q k) (fun x oc τ => ∃ te, oc = .inl (some (.ref te)) ∧ ∃ n wd2, n ≤ x.2.2.1 - k.2.1 ∧ k.2.1 < x.2.2.1 ∧ y_J G lo n1 s1 wb σ0 pa ps sel onl x0 inp w0 w1 w2 w3 w6 w7 w8 t τ S x.2 ow Λ wd2 o ((n, te, x.1) :: T))) := by
    intro σ1 hJ1 hfn
    obtain ⟨⟨⟨tk, vv, hp, hk9, hvv, hww, hko⟩, hwl⟩, -⟩ := id hJ1
    have ht7 := J_7 hJ1
    obtain ⟨vs1, hwr⟩ := k_Sr_rd (y_w_r hG9 hww (by have := p_w_ll hko ht7; omega))
    refine sv_aload_n dX4_factor_19 rfl ?_
    refine sv_get fg_X4_32 dX4_factor_20 (sx_rd_c hp) rfl ?_
    refine sv_astore_n dX4_factor_23 (by decide) ?_
    refine sv_iconst (-1) dX4_factor_24 (by decide +kernel) ?_
    refine sv_tI (show (-1 : Int32) = o_I none from rfl) ?_
    refine sv_istore_n dX4_factor_25 (by decide) ?_
    refine sv_aload_n dX4_factor_26 rfl ?_
    refine sv_cvP _ (cy_hash hG9.1 hG9.2.1 hww (by have := p_w_ll hko ht7; omega) (p_w_128 hb hko)) okJ9_hashCode kv_X4_119 hwr rfl dX4_factor_27 rfl rfl (by omega) (Nat.le_of_ble_eq_true rfl) ?_
    intro v54 τ52 hp53
    obtain ⟨rfl, hww2, Fh⟩ := hp53
    have hp2 := h_F_c Fh hp (y_w_ne hww hp rfl)
    obtain ⟨vs2, hwr2⟩ := k_Sr_rd (y_w_r hG9 hww2 (by have := p_w_ll hko ht7; omega))
    by_cases e7 : t_h (p_w t k) = (96673 : Int32)
    · refine sv_lookup (off := 42) (tgt := 72) dX4_factor_30 (by decide) (by rw [e7]; decide +kernel) (by decide) ?_
      refine sv_aload_n dX4_factor_72 rfl ?_
      refine sv_ldcS 7 rfl dX4_factor_73 ?_
      refine sv_cvR _ (cy_eq hG9 hww2 hb hko hwl (i := 7) (by decide) (by decide) ht7) okJ9_equals kv_X4_105 hwr2 rfl dX4_factor_75 rfl rfl (by omega) (Nat.le_of_ble_eq_true rfl) ?_
      refine sv_if_eqB (tgt := 125) dX4_factor_78 (by decide) (fun c78 => ?_) (fun c78 => ?_)
      · have ceq := c78
        exact midT _ hJ1 hfn _ none hww2 Fh (Or.inl ⟨rfl, ceq, p_is_h2 e7 rfl (by decide), p_is_h2 e7 rfl (by decide), p_is_h2 e7 rfl (by decide)⟩)
      · have ceq := c78
        refine sv_iconst (nI 0) dX4_factor_81 (by decide +kernel) ?_
        refine sv_tI (show nI 0 = o_I (some 0) from rfl) ?_
        refine sv_istore_n dX4_factor_82 (by decide) ?_
        refine sv_goto (tgt := 125) dX4_factor_83 (by decide) ?_
        exact midT _ hJ1 hfn _ (some 0) hww2 Fh (Or.inr (Or.inl ⟨rfl, ceq⟩))
    by_cases e9 : t_h (p_w t k) = (109267 : Int32)
    · refine sv_lookup (off := 84) (tgt := 114) dX4_factor_30 (by decide) (by rw [e9]; decide +kernel) (by decide) ?_
      refine sv_aload_n dX4_factor_114 rfl ?_
      refine sv_ldcS 9 rfl dX4_factor_115 ?_
      refine sv_cvR _ (cy_eq hG9 hww2 hb hko hwl (i := 9) (by decide) (by decide) ht7) okJ9_equals kv_X4_105 hwr2 rfl dX4_factor_117 rfl rfl (by omega) (Nat.le_of_ble_eq_true rfl) ?_
      refine sv_if_eqB (tgt := 125) dX4_factor_120 (by decide) (fun c120 => ?_) (fun c120 => ?_)
      · have ceq := c120
        exact midT _ hJ1 hfn _ none hww2 Fh (Or.inl ⟨rfl, p_is_h2 e9 rfl (by decide), p_is_h2 e9 rfl (by decide), p_is_h2 e9 rfl (by decide), ceq⟩)
      · have ceq := c120
        refine sv_iconst (nI 3) dX4_factor_123 (by decide +kernel) ?_
        refine sv_tI (show nI 3 = o_I (some 3) from rfl) ?_
        refine sv_istore_n dX4_factor_124 (by decide) ?_
        exact midT _ hJ1 hfn _ (some 3) hww2 Fh (Or.inr (Or.inr (Or.inr (Or.inr (⟨rfl, ceq⟩)))))
    by_cases e8 : t_h (p_w t k) = (115792 : Int32)
    · refine sv_lookup (off := 70) (tgt := 100) dX4_factor_30 (by decide) (by rw [e8]; decide +kernel) (by decide) ?_
      refine sv_aload_n dX4_factor_100 rfl ?_
      refine sv_ldcS 8 rfl dX4_factor_101 ?_
      refine sv_cvR _ (cy_eq hG9 hww2 hb hko hwl (i := 8) (by decide) (by decide) ht7) okJ9_equals kv_X4_105 hwr2 rfl dX4_factor_103 rfl rfl (by omega) (Nat.le_of_ble_eq_true rfl) ?_
      refine sv_if_eqB (tgt := 125) dX4_factor_106 (by decide) (fun c106 => ?_) (fun c106 => ?_)
      · have ceq := c106
        exact midT _ hJ1 hfn _ none hww2 Fh (Or.inl ⟨rfl, p_is_h2 e8 rfl (by decide), p_is_h2 e8 rfl (by decide), ceq, p_is_h2 e8 rfl (by decide)⟩)
      · have ceq := c106
        refine sv_iconst (nI 2) dX4_factor_109 (by decide +kernel) ?_
        refine sv_tI (show nI 2 = o_I (some 2) from rfl) ?_
        refine sv_istore_n dX4_factor_110 (by decide) ?_
        refine sv_goto (tgt := 125) dX4_factor_111 (by decide) ?_
        exact midT _ hJ1 hfn _ (some 2) hww2 Fh (Or.inr (Or.inr (Or.inr (Or.inl ⟨rfl, ceq⟩))))
    by_cases e5 : t_h (p_w t k) = (3530753 : Int32)
    · refine sv_lookup (off := 56) (tgt := 86) dX4_factor_30 (by decide) (by rw [e5]; decide +kernel) (by decide) ?_
      refine sv_aload_n dX4_factor_86 rfl ?_
      refine sv_ldcS 5 rfl dX4_factor_87 ?_
      refine sv_cvR _ (cy_eq hG9 hww2 hb hko hwl (i := 5) (by decide) (by decide) ht7) okJ9_equals kv_X4_105 hwr2 rfl dX4_factor_89 rfl rfl (by omega) (Nat.le_of_ble_eq_true rfl) ?_
      refine sv_if_eqB (tgt := 125) dX4_factor_92 (by decide) (fun c92 => ?_) (fun c92 => ?_)
      · have ceq := c92
        exact midT _ hJ1 hfn _ none hww2 Fh (Or.inl ⟨rfl, p_is_h2 e5 rfl (by decide), ceq, p_is_h2 e5 rfl (by decide), p_is_h2 e5 rfl (by decide)⟩)
      · have ceq := c92
        refine sv_iconst (nI 1) dX4_factor_95 (by decide +kernel) ?_
        refine sv_tI (show nI 1 = o_I (some 1) from rfl) ?_
        refine sv_istore_n dX4_factor_96 (by decide) ?_
        refine sv_goto (tgt := 125) dX4_factor_97 (by decide) ?_
        exact midT _ hJ1 hfn _ (some 1) hww2 Fh (Or.inr (Or.inr (Or.inl ⟨rfl, ceq⟩)))
    refine sv_lookup (off := 95) (tgt := 125) dX4_factor_30 (by decide) (by show (if _ = _ then _ else (if _ = _ then _ else (if _ = _ then _ else (if _ = _ then _ else _)))) = _; rw [if_neg (fun z => e7 (Int32.toInt_inj.mp z.symm)), if_neg (fun z => e9 (Int32.toInt_inj.mp z.symm)), if_neg (fun z => e8 (Int32.toInt_inj.mp z.symm)), if_neg (fun z => e5 (Int32.toInt_inj.mp z.symm))]; rfl) (by decide) ?_
    exact midT _ hJ1 hfn _ none hww2 Fh (Or.inl ⟨rfl, p_is_h e7 rfl, p_is_h e5 rfl, p_is_h e8 rfl, p_is_h e9 rfl⟩)
  refine sx_body (by decide) (Nat.le_of_ble_eq_true rfl) ?_
  obtain ⟨⟨tkJ55, vvJ55, hpJ55, kzJ55, hvvJ55, wwJ55, koJ55⟩, wlJ55⟩ := id hJ.1
  obtain ⟨vsJ55, wrJ55⟩ := k_Sr_rd (y_w_r hG9 wwJ55 (by have := p_w_ll koJ55 (J_7 hJ); omega))
  refine sv_aload_n dX4_factor_0 rfl ?_
  refine sv_cvP _ (J_flag hG9 hb hJ) okX4_flag kv_X4_153 (sx_rd_c hpJ55) rfl dX4_factor_1 rfl rfl (by omega) (Nat.le_of_ble_eq_true rfl) ?_
  intro v56 τ57 hp58
  obtain ⟨rfl, hJ59⟩ := hp58
  obtain ⟨⟨tkJ61, vvJ61, hpJ61, kzJ61, hvvJ61, wwJ61, koJ61⟩, wlJ61⟩ := id hJ59.1
  obtain ⟨vsJ61, wrJ61⟩ := k_Sr_rd (y_w_r hG9 wwJ61 (by have := p_w_ll koJ61 (J_7 hJ59); omega))
  refine sv_istore_n dX4_factor_4 (by decide) ?_
  refine sv_iload_n dX4_factor_5 rfl ?_
  refine sv_iconst (-1) dX4_factor_6 (by decide +kernel) ?_
  refine sv_icmp_eq (tgt := 19) dX4_factor_7 (by decide) (fun c7 => ?_) (fun c7 => ?_)
  · have hfn : p_fl t k = none := (o_I_m1 _ (fun x hx => by have := (p_fl_5 hx).1; omega)).mp c7
    exact mid19 _ hJ59 hfn
  · obtain ⟨fx, hfx⟩ : ∃ fx, p_fl t k = some fx := by
      cases hz : p_fl t k with
      | none => rw [hz] at c7; exact absurd rfl c7
      | some fx => exact ⟨fx, rfl⟩
    have h5x := p_fl_5 hfx
    have hJD : y_J G lo ((n1 - 1) + 2) ((s1 - 2) + 4) wb σ0 pa ps sel onl x0 inp w0 w1 w2 w3 w6 w7 w8 t τ57 S k ow Λ wd o T := J_U hJ59 (fun _ z => z) (by omega) (by omega)
    refine sv_aload_n dX4_factor_10 rfl ?_
    refine sv_cvP _ (J_next2 hG9 hb hJD (by omega)) okX4_next kv_X4_36 (sx_rd_c hpJ61) rfl dX4_factor_11 rfl rfl (by omega) (Nat.le_of_ble_eq_true rfl) ?_
    intro v62 τ63 hp64
    obtain ⟨rfl, wd66, hJ65⟩ := hp64
    obtain ⟨⟨tkJ67, vvJ67, hpJ67, kzJ67, hvvJ67, wwJ67, koJ67⟩, wlJ67⟩ := id hJ65.1
    obtain ⟨vsJ67, wrJ67⟩ := k_Sr_rd (y_w_r hG9 wwJ67 (by have := p_w_ll koJ67 (J_7 hJ65); omega))
    refine sv_iload_n dX4_factor_14 rfl ?_
    refine sv_tI (y := nI fx) (by rw [hfx]; rfl) ?_
    refine sv_cnP _ (cm_flagged hG) okX1_flagged ks_X4_259 dX4_factor_15 rfl rfl (by omega) (Nat.le_of_ble_eq_true rfl) ?_
    intro v9 τ68 hp9
    obtain ⟨tf, rfl, hte9, htc, F1⟩ := hp9
    refine sv_aret (Or.inr ⟨_, rfl⟩) (Or.inl ⟨_, rfl⟩) rfl dX4_factor_18 ?_
    have hJ4 := J_al hJ65 F1 (Nat.le_of_ble_eq_true rfl) (Nat.le_of_ble_eq_true rfl)
    have hP3 : k_P G 1 _ tf (fun m => a_has m.2.2 fx) := Or.inr (Or.inl ⟨_, sx_rd_c htc, fun m => rfl⟩)
    have hk1 := J_nx1 (J_ko hJ) (by omega)
    exact y_U_r (pq_f hfx) ⟨tf, rfl, 1, wd66, (show 1 ≤ (p_nx t k).2.1 - k.2.1 by omega), (show k.2.1 < (p_nx t k).2.1 by omega), J_U (J_T hJ4 hP3) (fun _ z => z) (by omega) (by omega)⟩
theorem J_Q3 (hG9 : g_Y G lo tt) (hb : b_B t) (hG : g_L G) (hM : g_M G) : ∀ f, (∀ g, g ≤ f → ∀ (o : Nat) (q : p_T) (k : k_T) (wd n1 s1 : Nat) (T : List (Nat × Nat × (a_M → Bool))) (σ : sx_St), y_J G lo (n1 + 1) (s1 + 2) wb σ0 pa ps sel onl x0 inp w0 w1 w2 w3 w6 w7 w8 t σ S k ow Λ wd o T → o ≤ 5 → 12 ≤ n1 + 2 * o → 24 ≤ s1 + 4 * o → 4 * (t.length + 1) + 0 ≤ 4 * k.2.1 + g → sx_C G (100 + 4 * (5 - o)) YX4_factor [.ref pa] σ (y_U lo (n1 + 1) (s1 + 2) σ0 (p_Q t g 0 o q k) (fun x oc τ => ∃ te, oc = .inl (some (.ref te)) ∧ ∃ n wd2, n ≤ x.2.2.1 - k.2.1 ∧ k.2.1 < x.2.2.1 ∧ y_J G lo n1 s1 wb σ0 pa ps sel onl x0 inp w0 w1 w2 w3 w6 w7 w8 t τ S x.2 ow Λ wd2 o ((n, te, x.1) :: T)))) ∧ (∀ g, g ≤ f → ∀ (o : Nat) (q : p_T) (k : k_T) (wd n1 s1 : Nat) (T : List (Nat × Nat × (a_M → Bool))) (σ : sx_St), y_J G lo (n1 + 1) (s1 + 2) wb σ0 pa ps sel onl x0 inp w0 w1 w2 w3 w6 w7 w8 t σ S k ow Λ wd o T → o ≤ 5 → 13 ≤ n1 + 2 * o → 26 ≤ s1 + 4 * o → 4 * (t.length + 1) + 1 ≤ 4 * k.2.1 + g → sx_C G (101 + 4 * (5 - o)) YX4_term [.ref pa] σ (y_U lo (n1 + 1) (s1 + 2) σ0 (p_Q t g 3 o q k) (fun x oc τ => ∃ te, oc = .inl (some (.ref te)) ∧ ∃ n wd2, n ≤ x.2.2.1 - k.2.1 ∧ k.2.1 < x.2.2.1 ∧ y_J G lo n1 s1 wb σ0 pa ps sel onl x0 inp w0 w1 w2 w3 w6 w7 w8 t τ S x.2 ow Λ wd2 o ((n, te, x.1) :: T)))) ∧ (∀ g, g ≤ f → ∀ (o : Nat) (q : p_T) (k : k_T) (wd n1 s1 : Nat) (T : List (Nat × Nat × (a_M → Bool))) (σ : sx_St), y_J G lo (n1 + 1) (s1 + 2) wb σ0 pa ps sel onl x0 inp w0 w1 w2 w3 w6 w7 w8 t σ S k ow Λ wd o T → o ≤ 5 → 14 ≤ n1 + 2 * o → 28 ≤ s1 + 4 * o → 4 * (t.length + 1) + 2 ≤ 4 * k.2.1 + g → sx_C G (102 + 4 * (5 - o)) YX4_query [.ref pa] σ (y_U lo (n1 + 1) (s1 + 2) σ0 (p_Q t g 4 o q k) (fun x oc τ => ∃ te, oc = .inl (some (.ref te)) ∧ ∃ n wd2, n ≤ x.2.2.1 - k.2.1 ∧ k.2.1 < x.2.2.1 ∧ y_J G lo n1 s1 wb σ0 pa ps sel onl x0 inp w0 w1 w2 w3 w6 w7 w8 t τ S x.2 ow Λ wd2 o ((n, te, x.1) :: T)))) := by
  intro f
  induction f with
  | zero =>
    refine ⟨fun g hg o q k wd n1 s1 T σ hJ h1 h2 h3 h4 => ?_, fun g hg o q k wd n1 s1 T σ hJ h1 h2 h3 h4 => ?_, fun g hg o q k wd n1 s1 T σ hJ h1 h2 h3 h4 => ?_⟩ <;> (have e1 := (J_ko hJ).1; have e2 := (J_ko hJ).2.1; omega)
  | succ f ih =>
    obtain ⟨i1, i2, i3⟩ := ih
    refine ⟨fun g hg => ?_, fun g hg => ?_, fun g hg => ?_⟩
    · rcases Nat.lt_or_ge f g with h | h
      · obtain rfl : g = f + 1 := by omega
        exact fun o q k wd n1 s1 T σ hJ h1 h2 h3 h4 => J_fac hG9 hb hG hM (i1 f (Nat.le_refl _)) (i3 f (Nat.le_refl _)) hJ h1 h2 h3 h4
      · exact i1 g h
    · rcases Nat.lt_or_ge f g with h | h
      · obtain rfl : g = f + 1 := by omega
        exact fun o q k wd n1 s1 T σ hJ h1 h2 h3 h4 => J_term hG9 hb hG i1 hJ h1 h2 h3 h4
      · exact i2 g h
    · rcases Nat.lt_or_ge f g with h | h
      · obtain rfl : g = f + 1 := by omega
        exact fun o q k wd n1 s1 T σ hJ h1 h2 h3 h4 => J_query hG9 hb hG i2 hJ h1 h2 h3 h4
      · exact i3 g h
theorem J_wh (hG9 : g_Y G lo tt) (hb : b_B t) (hG : g_L G) (hM : g_M G) (hJ : y_J G lo (n1 + 1) (s1 + 2) wb σ0 pa ps sel onl x0 inp w0 w1 w2 w3 w6 w7 w8 t σ S k ow Λ wd 0 T) (hn : 14 ≤ n1) (hs : 28 ≤ s1) : sx_C G 123 YX4_whole [.ref pa] σ (y_U lo (n1 + 1) (s1 + 2) σ0 (p_bind (p_Q t 8000 4 0 q k) (fun x => if x.2.1 = 0 then .inr x.1 else .inl (p_er 1 x.2))) (fun r oc τ => ∃ te, oc = .inl (some (.ref te)) ∧ ∃ n k2 wd2, n ≤ 700 ∧ y_J G lo n1 s1 wb σ0 pa ps sel onl x0 inp w0 w1 w2 w3 w6 w7 w8 t τ S k2 ow Λ wd2 0 ((n, te, r) :: T))) := by
  refine sx_body (by decide) (Nat.le_of_ble_eq_true rfl) ?_
  obtain ⟨⟨tkJ69, vvJ69, hpJ69, kzJ69, hvvJ69, wwJ69, koJ69⟩, wlJ69⟩ := id hJ.1
  obtain ⟨vsJ69, wrJ69⟩ := k_Sr_rd (y_w_r hG9 wwJ69 (by have := p_w_ll koJ69 (J_7 hJ); omega))
  refine sv_aload_n dX4_whole_0 rfl ?_
  refine sv_cv _ ((J_Q3 hG9 hb hG hM 8000).2.2 8000 (Nat.le_refl _) 0 q k _ n1 s1 _ _ hJ (by omega) (by omega) (by omega) (by have := J_7 hJ; omega)) okX4_query (sx_rd_c hpJ69) rfl kv_X4_277.1 kv_X4_277.2.1 kv_X4_277.2.2 dX4_whole_1 rfl rfl (by omega) (Nat.le_of_ble_eq_true rfl) (fun v70 τ71 h72 => ?_) (fun E q τ h => ?_)
  rotate_left
  · have hU := y_U_thr h (fun _ _ _ z => ⟨_, z.choose_spec.1⟩)
    refine sv_out (fun x hx => by cases hx) ?_
    obtain ⟨e, he, hz⟩ := hU
    exact y_U_l (by rw [he]; rfl) hz
  have hU := y_U_ret h72
  obtain ⟨⟨q2, k2⟩, hx9, te2, hv9, m2, wd2, hm1, hm2, hJ2⟩ := hU
  cases hv9
  have hJ2 : y_J G lo n1 s1 wb σ0 pa ps sel onl x0 inp w0 w1 w2 w3 w6 w7 w8 t τ71 S k2 ow Λ wd2 0 ((m2, te2, q2) :: T) := hJ2
  have hm1 : m2 ≤ k2.2.1 - k.2.1 := hm1
  obtain ⟨⟨tkJ73, vvJ73, hpJ73, kzJ73, hvvJ73, wwJ73, koJ73⟩, wlJ73⟩ := id hJ2.1
  obtain ⟨vsJ73, wrJ73⟩ := k_Sr_rd (y_w_r hG9 wwJ73 (by have := p_w_ll koJ73 (J_7 hJ2); omega))
  refine sv_astore_n dX4_whole_4 (by decide) ?_
  refine sv_aload_n dX4_whole_5 rfl ?_
  refine sv_aload_n dX4_whole_6 rfl ?_
  refine sv_get fg_X4_70 dX4_whole_7 (sx_rd_c hpJ73) rfl ?_
  refine sv_gets 0 rfl q650 dX4_whole_10 ?_
  rw [hG9.2.2.2.2.1 0 (by decide)]
  refine sv_acmp_ne (rx := (some tkJ73)) (ry := (some ((tt 0)))) (tgt := 20) dX4_whole_13 (by decide) (fun c13 => ?_) (fun c13 => ?_)
  · have h0e : ¬ k2.1 = 0 := fun z => c13 ((tk_e hG9 koJ73 kzJ73 (by decide)).mpr z)
    refine sv_iconst (nI 0) dX4_whole_20 (by decide +kernel) ?_
    refine sv_tI b0_I ?_
    refine sv_iconst (nI 1) dX4_whole_21 (by decide +kernel) ?_
    refine sv_cv _ (J_req0 hG9 hJ2 (c := 1)) okX4_require (sx_rd_c hpJ73) rfl kv_X4_115.1 kv_X4_115.2.1 kv_X4_115.2.2 dX4_whole_22 rfl rfl (by omega) (Nat.le_of_ble_eq_true rfl) (fun v τ h => by obtain ⟨q, e, _⟩ := h; cases e) (fun E q τ h => ?_)
    obtain ⟨q9, e9, F9⟩ := id h
    cases e9
    refine sv_out (fun x hx => by cases hx) ?_
    exact y_U_l (e := p_er 1 k2) (by rw [hx9]; exact if_neg h0e) (y_Z_w h (by omega) (by omega))
  · have h0e : k2.1 = 0 := (tk_e hG9 koJ73 kzJ73 (by decide)).mp c13
    refine sv_iconst (nI 1) dX4_whole_16 (by decide +kernel) ?_
    refine sv_goto (tgt := 21) dX4_whole_17 (by decide) ?_
    refine sv_tI b1_I ?_
    refine sv_iconst (nI 1) dX4_whole_21 (by decide +kernel) ?_
    refine sv_cvR _ J_req1 okX4_require kv_X4_115 (sx_rd_c hpJ73) rfl dX4_whole_22 rfl rfl (by omega) (Nat.le_of_ble_eq_true rfl) ?_
    refine sv_aload_n dX4_whole_25 rfl ?_
    refine sv_aret (Or.inr ⟨_, rfl⟩) (Or.inl ⟨_, rfl⟩) rfl dX4_whole_26 ?_
    exact y_U_r (a := q2) (by rw [hx9]; exact if_pos h0e) ⟨te2, rfl, m2, k2, wd2, (by have e1 := (J_ko hJ2).1; have e2 := (J_ko hJ2).2.1; have e3 := J_7 hJ2; omega), hJ2⟩
end CQC
