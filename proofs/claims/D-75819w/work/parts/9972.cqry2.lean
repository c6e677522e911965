set_option maxRecDepth 100000
section CQB
variable {G : sx_G} {σ τ ρ σ0 : sx_St} {pa ps sel onl x0 inp o wd lo n0 s0 wb : Nat} {tt : Nat → Nat} {t : List Int32} {k : k_T} {w0 w1 w2 w3 w6 w7 w8 : Value} {S : p_S} {ow : Nat → Nat} {Λ : Nat → Nat → Nat → Nat} {T : List (Nat × Nat × (a_M → Bool))} {n1 s1 f : Nat} {q : p_T}
theorem p_go_i {k2 : k_T} (h : p_go t o k = .inr k2) : o < 5 ∧ k2 = p_nx t k := by
  unfold p_go at h
  by_cases h9 : o < 5
  · rw [if_pos h9] at h; cases h; exact ⟨h9, rfl⟩
  · rw [if_neg h9] at h; cases h
theorem p_go_e {e : p_E} (h : p_go t o k = .inl e) : ¬ o < 5 ∧ e = p_er 5 k := by
  unfold p_go at h
  by_cases h9 : o < 5
  · rw [if_pos h9] at h; cases h
  · rw [if_neg h9] at h; cases h; exact ⟨h9, rfl⟩
theorem p_sy_k0 {c : Int32} (h : p_sy t k c = true) : k.1 ≠ 0 := by
  intro z
  unfold p_sy at h
  rw [z] at h
  cases h
theorem J_nx1 (hk : k_ok t k) (h0 : k.1 ≠ 0) : k.2.1 + 1 ≤ (p_nx t k).2.1 := by
  have e3 : k.2.2.1 ≤ (p_nx t k).2.1 := (k_n_p hk.2.1).1
  have e4 := hk.2.2.2.2.1 h0
  omega
theorem J_ko (hJ : y_J G lo n0 s0 wb σ0 pa ps sel onl x0 inp w0 w1 w2 w3 w6 w7 w8 t σ S k ow Λ wd o T) : k_ok t k := hJ.1.1.choose_spec.choose_spec.2.2.2.2
theorem J_term (hG9 : g_Y G lo tt) (hb : b_B t) (hG : g_L G) (IH : ∀ g, g ≤ f → ∀ (o : Nat) (q : p_T) (k : k_T) (wd n1 s1 : Nat) (T : List (Nat × Nat × (a_M → Bool))) (σ : sx_St), y_J G lo (n1 + 1) (s1 + 2) wb σ0 pa ps sel onl x0 inp w0 w1 w2 w3 w6 w7 w8 t σ S k ow Λ wd o T → o ≤ 5 → 12 ≤ n1 + 2 * o → 24 ≤ s1 + 4 * o → 4 * (t.length + 1) + 0 ≤ 4 * k.2.1 + g → sx_C G (100 + 4 * (5 - o)) YX4_factor [.ref pa] σ (y_U lo (n1 + 1) (s1 + 2) σ0 (p_Q t g 0 o q k) (fun x oc τ => ∃ te, oc = .inl (some (.ref te)) ∧ ∃ n wd2, n ≤ x.2.2.1 - k.2.1 ∧ k.2.1 < x.2.2.1 ∧ y_J G lo n1 s1 wb σ0 pa ps sel onl x0 inp w0 w1 w2 w3 w6 w7 w8 t τ S x.2 ow Λ wd2 o ((n, te, x.1) :: T)))) (hJ : y_J G lo (n1 + 1) (s1 + 2) wb σ0 pa ps sel onl x0 inp w0 w1 w2 w3 w6 w7 w8 t σ S k ow Λ wd o T) (ho : o ≤ 5) (hn : 13 ≤ n1 + 2 * o) (hs : 26 ≤ s1 + 4 * o) (hf : 4 * (t.length + 1) + 1 ≤ 4 * k.2.1 + (f + 1)) : sx_C G (101 + 4 * (5 - o)) YX4_term [.ref pa] σ (y_U lo (n1 + 1) (s1 + 2) σ0 (p_Q t (f + 1) 3 o q k) (fun x oc τ => ∃ te, oc = .inl (some (.ref te)) ∧ ∃ n wd2, n ≤ x.2.2.1 - k.2.1 ∧ k.2.1 < x.2.2.1 ∧ y_J G lo n1 s1 wb σ0 pa ps sel onl x0 inp w0 w1 w2 w3 w6 w7 w8 t τ S x.2 ow Λ wd2 o ((n, te, x.1) :: T))) := by
  have loop : ∀ g, g ≤ f → ∀ (qq : p_T) (k7 : k_T) (te n wd7 : Nat) (τ : sx_St), y_J G lo n1 s1 wb σ0 pa ps sel onl x0 inp w0 w1 w2 w3 w6 w7 w8 t τ S k7 ow Λ wd7 o ((n, te, qq) :: T) → n ≤ k7.2.1 - k.2.1 → k.2.1 < k7.2.1 → 4 * (t.length + 1) + 1 ≤ 4 * k7.2.1 + g → p_Q t (f + 1) 3 o q k = p_Q t g 1 o qq k7 → sx_V G (101 + 4 * (5 - o)) YX4_term 5 [some (.ref pa), some (.ref te)] [] τ (y_U lo (n1 + 1) (s1 + 2) σ0 (p_Q t (f + 1) 3 o q k) (fun x oc τ => ∃ te, oc = .inl (some (.ref te)) ∧ ∃ n wd2, n ≤ x.2.2.1 - k.2.1 ∧ k.2.1 < x.2.2.1 ∧ y_J G lo n1 s1 wb σ0 pa ps sel onl x0 inp w0 w1 w2 w3 w6 w7 w8 t τ S x.2 ow Λ wd2 o ((n, te, x.1) :: T))) := by
    intro g
    induction g with
    | zero => intro hg qq k7 te n wd7 τ hJ7 h1 h2 h3; have := (J_ko hJ7).1; have := (J_ko hJ7).2.1; omega
    | succ g ih =>
    intro hg qq k7 te n wd7 τ hJ7 hn7 hk7 hf7 hall
    obtain ⟨⟨tkJ4, vvJ4, hpJ4, kzJ4, hvvJ4, wwJ4, koJ4⟩, wlJ4⟩ := id hJ7.1
    obtain ⟨vsJ4, wrJ4⟩ := k_Sr_rd (y_w_r hG9 wwJ4 (by have := p_w_ll koJ4 (J_7 hJ7); omega))
    refine sv_aload_n dX4_term_5 rfl ?_
    refine sv_cvP _ (J_bf hG9 hb hJ7) okX4_beginsFactor kv_X4_280 (sx_rd_c hpJ4) rfl dX4_term_6 rfl rfl (by omega) (Nat.le_of_ble_eq_true rfl) ?_
    intro v5 τ6 hp7
    obtain ⟨rfl, hJ8⟩ := hp7
    obtain ⟨⟨tkJ10, vvJ10, hpJ10, kzJ10, hvvJ10, wwJ10, koJ10⟩, wlJ10⟩ := id hJ8.1
    obtain ⟨vsJ10, wrJ10⟩ := k_Sr_rd (y_w_r hG9 wwJ10 (by have := p_w_ll koJ10 (J_7 hJ8); omega))
    refine sv_if_eqB (tgt := 24) dX4_term_9 (by decide) (fun c9 => ?_) (fun c9 => ?_)
    · refine sv_aload_n dX4_term_24 rfl ?_
      refine sv_aret (Or.inr ⟨_, rfl⟩) (Or.inl ⟨_, rfl⟩) rfl dX4_term_25 ?_
      exact y_U_r (a := (qq, k7)) (by rw [hall, pq_1]; exact if_neg (bf_n c9)) ⟨te, rfl, n, wd7, hn7, hk7, hJ8⟩
    · refine sv_aload_n dX4_term_12 rfl ?_
      refine sv_aload_n dX4_term_13 rfl ?_
      refine sv_cv _ (IH g (by omega) o qq k7 _ (n1 - 1) (s1 - 2) _ _ (J_U hJ8 (fun _ z => z) (by omega) (by omega)) ho (by omega) (by omega) (by omega)) okX4_factor (sx_rd_c hpJ10) rfl kv_X4_271.1 kv_X4_271.2.1 kv_X4_271.2.2 dX4_term_14 rfl rfl (by omega) (Nat.le_of_ble_eq_true rfl) (fun v11 τ12 h13 => ?_) (fun E q τ h => ?_)
      rotate_left
      · have hU := y_U_thr h (fun _ _ _ z => ⟨_, z.choose_spec.1⟩)
        refine sv_out (fun x hx => by cases hx) ?_
        obtain ⟨e, he, hz⟩ := hU
        exact y_U_l (by rw [hall, pq_1, if_pos c9, he]; rfl) (y_Z_w hz (by omega) (by omega))
      have hU := y_U_ret h13
      obtain ⟨⟨q2, k2⟩, hx9, te2, hv9, m2, wd2, hm1, hm2, hJ2⟩ := hU
      cases hv9
      have hJ2 : y_J G lo ((n1 - 1)) ((s1 - 2)) wb σ0 pa ps sel onl x0 inp w0 w1 w2 w3 w6 w7 w8 t τ12 S k2 ow Λ wd2 o ((m2, te2, q2) :: (n, te, qq) :: T) := hJ2
      have hm1 : m2 ≤ k2.2.1 - k7.2.1 := hm1
      have hm2 : k7.2.1 < k2.2.1 := hm2
      obtain ⟨⟨tkJ14, vvJ14, hpJ14, kzJ14, hvvJ14, wwJ14, koJ14⟩, wlJ14⟩ := id hJ2.1
      obtain ⟨vsJ14, wrJ14⟩ := k_Sr_rd (y_w_r hG9 wwJ14 (by have := p_w_ll koJ14 (J_7 hJ2); omega))
      refine sv_cnP _ (cm_both hG) okX1_both ks_X4_283 dX4_term_17 rfl rfl (by omega) (Nat.le_of_ble_eq_true rfl) ?_
      intro v9 τ15 hp9
      obtain ⟨tf, rfl, hte9, htc, F1⟩ := hp9
      refine sv_astore_n dX4_term_20 (by decide) ?_
      refine sv_goto (tgt := 5) dX4_term_21 (by decide) ?_
      have hJ3 := J_al hJ2 F1 (Nat.le_of_ble_eq_true rfl) (Nat.le_of_ble_eq_true rfl)
      have hP1 := hJ3.2.2.2.2.2.2.2.2.2 (n, te, qq) (by simp)
      have hP2 := hJ3.2.2.2.2.2.2.2.2.2 (m2, te2, q2) (by simp)
      have hP3 : k_P G (k2.2.1 - k.2.1 - 1 + 1) _ tf (fun m => qq m && q2 m) := Or.inr (Or.inr (Or.inr (Or.inr (Or.inr (Or.inr (Or.inr (Or.inr (Or.inl ⟨_, _, _, _, sx_rd_c htc, k_P_le _ _ _ _ (by omega) hP1, k_P_le _ _ _ _ (by omega) hP2, fun m => rfl⟩))))))))
      exact ih (by omega) (fun m => qq m && q2 m) k2 tf (k2.2.1 - k.2.1 - 1 + 1) wd2 _ (J_U (J_T hJ3 hP3) (fun x hx => (List.mem_cons.mp hx).elim (fun e => by rw [e]; exact List.mem_cons_self) (fun e => List.mem_cons_of_mem _ (List.mem_cons_of_mem _ (List.mem_cons_of_mem _ e)))) (by omega) (by omega)) (by omega) (by omega) (by omega) (by rw [hall, pq_1, if_pos c9, hx9]; rfl)
  refine sx_body (by decide) (Nat.le_of_ble_eq_true rfl) ?_
  obtain ⟨⟨tkJ16, vvJ16, hpJ16, kzJ16, hvvJ16, wwJ16, koJ16⟩, wlJ16⟩ := id hJ.1
  obtain ⟨vsJ16, wrJ16⟩ := k_Sr_rd (y_w_r hG9 wwJ16 (by have := p_w_ll koJ16 (J_7 hJ); omega))
  refine sv_aload_n dX4_term_0 rfl ?_
  refine sv_cv _ (IH f (Nat.le_refl _) o q k _ n1 s1 _ _ hJ ho (by omega) (by omega) (by omega)) okX4_factor (sx_rd_c hpJ16) rfl kv_X4_271.1 kv_X4_271.2.1 kv_X4_271.2.2 dX4_term_1 rfl rfl (by omega) (Nat.le_of_ble_eq_true rfl) (fun v17 τ18 h19 => ?_) (fun E q τ h => ?_)
  rotate_left
  · have hU := y_U_thr h (fun _ _ _ z => ⟨_, z.choose_spec.1⟩)
    refine sv_out (fun x hx => by cases hx) ?_
    obtain ⟨e, he, hz⟩ := hU
    exact y_U_l (by rw [pq_3, he]; rfl) (y_Z_w hz (by omega) (by omega))
  have hU := y_U_ret h19
  obtain ⟨⟨q1, k1⟩, hx9, te1, hv9, m1, wd1, hm1, hm2, hJ1⟩ := hU
  cases hv9
  obtain ⟨⟨tkJ20, vvJ20, hpJ20, kzJ20, hvvJ20, wwJ20, koJ20⟩, wlJ20⟩ := id hJ1.1
  obtain ⟨vsJ20, wrJ20⟩ := k_Sr_rd (y_w_r hG9 wwJ20 (by have := p_w_ll koJ20 (J_7 hJ1); omega))
  refine sv_astore_n dX4_term_4 (by decide) ?_
  exact loop f (Nat.le_refl _) _ _ _ _ _ _ hJ1 hm1 hm2 (by have hm2 : k.2.1 < k1.2.1 := hm2; omega) (by rw [pq_3, hx9]; rfl)
theorem J_query (hG9 : g_Y G lo tt) (hb : b_B t) (hG : g_L G) (IH : ∀ g, g ≤ f → ∀ (o : Nat) (q : p_T) (k : k_T) (wd n1 s1 : Nat) (T : List (Nat × Nat × (a_M → Bool))) (σ : sx_St), y_J G lo (n1 + 1) (s1 + 2) wb σ0 pa ps sel onl x0 inp w0 w1 w2 w3 w6 w7 w8 t σ S k ow Λ wd o T → o ≤ 5 → 13 ≤ n1 + 2 * o → 26 ≤ s1 + 4 * o → 4 * (t.length + 1) + 1 ≤ 4 * k.2.1 + g → sx_C G (101 + 4 * (5 - o)) YX4_term [.ref pa] σ (y_U lo (n1 + 1) (s1 + 2) σ0 (p_Q t g 3 o q k) (fun x oc τ => ∃ te, oc = .inl (some (.ref te)) ∧ ∃ n wd2, n ≤ x.2.2.1 - k.2.1 ∧ k.2.1 < x.2.2.1 ∧ y_J G lo n1 s1 wb σ0 pa ps sel onl x0 inp w0 w1 w2 w3 w6 w7 w8 t τ S x.2 ow Λ wd2 o ((n, te, x.1) :: T)))) (hJ : y_J G lo (n1 + 1) (s1 + 2) wb σ0 pa ps sel onl x0 inp w0 w1 w2 w3 w6 w7 w8 t σ S k ow Λ wd o T) (ho : o ≤ 5) (hn : 14 ≤ n1 + 2 * o) (hs : 28 ≤ s1 + 4 * o) (hf : 4 * (t.length + 1) + 2 ≤ 4 * k.2.1 + (f + 1)) : sx_C G (102 + 4 * (5 - o)) YX4_query [.ref pa] σ (y_U lo (n1 + 1) (s1 + 2) σ0 (p_Q t (f + 1) 4 o q k) (fun x oc τ => ∃ te, oc = .inl (some (.ref te)) ∧ ∃ n wd2, n ≤ x.2.2.1 - k.2.1 ∧ k.2.1 < x.2.2.1 ∧ y_J G lo n1 s1 wb σ0 pa ps sel onl x0 inp w0 w1 w2 w3 w6 w7 w8 t τ S x.2 ow Λ wd2 o ((n, te, x.1) :: T))) := by
  have loop : ∀ g, g ≤ f → ∀ (qq : p_T) (k7 : k_T) (te n wd7 : Nat) (τ : sx_St), y_J G lo n1 s1 wb σ0 pa ps sel onl x0 inp w0 w1 w2 w3 w6 w7 w8 t τ S k7 ow Λ wd7 o ((n, te, qq) :: T) → n ≤ k7.2.1 - k.2.1 → k.2.1 < k7.2.1 → 4 * (t.length + 1) + 2 ≤ 4 * k7.2.1 + g → p_Q t (f + 1) 4 o q k = p_Q t g 2 o qq k7 → sx_V G (102 + 4 * (5 - o)) YX4_query 5 [some (.ref pa), some (.ref te)] [] τ (y_U lo (n1 + 1) (s1 + 2) σ0 (p_Q t (f + 1) 4 o q k) (fun x oc τ => ∃ te, oc = .inl (some (.ref te)) ∧ ∃ n wd2, n ≤ x.2.2.1 - k.2.1 ∧ k.2.1 < x.2.2.1 ∧ y_J G lo n1 s1 wb σ0 pa ps sel onl x0 inp w0 w1 w2 w3 w6 w7 w8 t τ S x.2 ow Λ wd2 o ((n, te, x.1) :: T))) := by
    intro g
    induction g with
    | zero => intro hg qq k7 te n wd7 τ hJ7 h1 h2 h3; have := (J_ko hJ7).1; have := (J_ko hJ7).2.1; omega
    | succ g ih =>
    intro hg qq k7 te n wd7 τ hJ7 hn7 hk7 hf7 hall
    obtain ⟨⟨tkJ21, vvJ21, hpJ21, kzJ21, hvvJ21, wwJ21, koJ21⟩, wlJ21⟩ := id hJ7.1
    obtain ⟨vsJ21, wrJ21⟩ := k_Sr_rd (y_w_r hG9 wwJ21 (by have := p_w_ll koJ21 (J_7 hJ7); omega))
    refine sv_aload_n dX4_query_5 rfl ?_
    refine sv_ldcS 10 rfl dX4_query_6 ?_
    refine sv_cvR _ (J_word hG9 hb hJ7 (i := 10) (by decide) (by decide)) okX4_isWord kv_X4_111 (sx_rd_c hpJ21) rfl dX4_query_8 rfl rfl (by omega) (Nat.le_of_ble_eq_true rfl) ?_
    refine sv_if_eqB (tgt := 30) dX4_query_11 (by decide) (fun c11 => ?_) (fun c11 => ?_)
    · refine sv_aload_n dX4_query_30 rfl ?_
      refine sv_aret (Or.inr ⟨_, rfl⟩) (Or.inl ⟨_, rfl⟩) rfl dX4_query_31 ?_
      exact y_U_r (a := (qq, k7)) (by rw [hall, pq_2]; exact if_neg (bf_n c11)) ⟨te, rfl, n, wd7, hn7, hk7, hJ7⟩
    · have h07 : k7.1 ≠ 0 := by have := p_is_k (by decide) (by decide) c11; omega
      have hk71 := J_nx1 (J_ko hJ7) h07
      refine sv_aload_n dX4_query_14 rfl ?_
      refine sv_cvP _ (J_next hG9 hb hJ7) okX4_next kv_X4_36 (sx_rd_c hpJ21) rfl dX4_query_15 rfl rfl (by omega) (Nat.le_of_ble_eq_true rfl) ?_
      intro v22 τ23 hp24
      obtain ⟨rfl, wd26, hJ25⟩ := hp24
      obtain ⟨⟨tkJ27, vvJ27, hpJ27, kzJ27, hvvJ27, wwJ27, koJ27⟩, wlJ27⟩ := id hJ25.1
      obtain ⟨vsJ27, wrJ27⟩ := k_Sr_rd (y_w_r hG9 wwJ27 (by have := p_w_ll koJ27 (J_7 hJ25); omega))
      refine sv_aload_n dX4_query_18 rfl ?_
      refine sv_aload_n dX4_query_19 rfl ?_
      refine sv_cv _ (IH g (by omega) o qq (p_nx t k7) _ (n1 - 1) (s1 - 2) _ _ (J_U hJ25 (fun _ z => z) (by omega) (by omega)) ho (by omega) (by omega) (by omega)) okX4_term (sx_rd_c hpJ27) rfl kv_X4_287.1 kv_X4_287.2.1 kv_X4_287.2.2 dX4_query_20 rfl rfl (by omega) (Nat.le_of_ble_eq_true rfl) (fun v28 τ29 h30 => ?_) (fun E q τ h => ?_)
      rotate_left
      · have hU := y_U_thr h (fun _ _ _ z => ⟨_, z.choose_spec.1⟩)
        refine sv_out (fun x hx => by cases hx) ?_
        obtain ⟨e, he, hz⟩ := hU
        exact y_U_l (by rw [hall, pq_2, if_pos c11, he]; rfl) (y_Z_w hz (by omega) (by omega))
      have hU := y_U_ret h30
      obtain ⟨⟨q2, k2⟩, hx9, te2, hv9, m2, wd2, hm1, hm2, hJ2⟩ := hU
      cases hv9
      have hJ2 : y_J G lo ((n1 - 1)) ((s1 - 2)) wb σ0 pa ps sel onl x0 inp w0 w1 w2 w3 w6 w7 w8 t τ29 S k2 ow Λ wd2 o ((m2, te2, q2) :: (n, te, qq) :: T) := hJ2
      have hm1 : m2 ≤ k2.2.1 - (p_nx t k7).2.1 := hm1
      have hm2 : (p_nx t k7).2.1 < k2.2.1 := hm2
      obtain ⟨⟨tkJ31, vvJ31, hpJ31, kzJ31, hvvJ31, wwJ31, koJ31⟩, wlJ31⟩ := id hJ2.1
      obtain ⟨vsJ31, wrJ31⟩ := k_Sr_rd (y_w_r hG9 wwJ31 (by have := p_w_ll koJ31 (J_7 hJ2); omega))
      refine sv_cnP _ (cm_either hG) okX1_either ks_X4_290 dX4_query_23 rfl rfl (by omega) (Nat.le_of_ble_eq_true rfl) ?_
      intro v9 τ32 hp9
      obtain ⟨tf, rfl, hte9, htc, F1⟩ := hp9
      refine sv_astore_n dX4_query_26 (by decide) ?_
      refine sv_goto (tgt := 5) dX4_query_27 (by decide) ?_
      have hJ3 := J_al hJ2 F1 (Nat.le_of_ble_eq_true rfl) (Nat.le_of_ble_eq_true rfl)
      have hP1 := hJ3.2.2.2.2.2.2.2.2.2 (n, te, qq) (by simp)
      have hP2 := hJ3.2.2.2.2.2.2.2.2.2 (m2, te2, q2) (by simp)
      have hP3 : k_P G (k2.2.1 - k.2.1 - 1 + 1) _ tf (fun m => qq m || q2 m) := Or.inr (Or.inr (Or.inr (Or.inr (Or.inr (Or.inr (Or.inr (Or.inr (Or.inr (Or.inl ⟨_, _, _, _, sx_rd_c htc, k_P_le _ _ _ _ (by omega) hP1, k_P_le _ _ _ _ (by omega) hP2, fun m => rfl⟩)))))))))
      exact ih (by omega) (fun m => qq m || q2 m) k2 tf (k2.2.1 - k.2.1 - 1 + 1) wd2 _ (J_U (J_T hJ3 hP3) (fun x hx => (List.mem_cons.mp hx).elim (fun e => by rw [e]; exact List.mem_cons_self) (fun e => List.mem_cons_of_mem _ (List.mem_cons_of_mem _ (List.mem_cons_of_mem _ e)))) (by omega) (by omega)) (by omega) (by omega) (by omega) (by rw [hall, pq_2, if_pos c11, hx9]; rfl)
  refine sx_body (by decide) (Nat.le_of_ble_eq_true rfl) ?_
  obtain ⟨⟨tkJ33, vvJ33, hpJ33, kzJ33, hvvJ33, wwJ33, koJ33⟩, wlJ33⟩ := id hJ.1
  obtain ⟨vsJ33, wrJ33⟩ := k_Sr_rd (y_w_r hG9 wwJ33 (by have := p_w_ll koJ33 (J_7 hJ); omega))
  refine sv_aload_n dX4_query_0 rfl ?_
  refine sv_cv _ (IH f (Nat.le_refl _) o q k _ n1 s1 _ _ hJ ho (by omega) (by omega) (by omega)) okX4_term (sx_rd_c hpJ33) rfl kv_X4_287.1 kv_X4_287.2.1 kv_X4_287.2.2 dX4_query_1 rfl rfl (by omega) (Nat.le_of_ble_eq_true rfl) (fun v34 τ35 h36 => ?_) (fun E q τ h => ?_)
  rotate_left
  · have hU := y_U_thr h (fun _ _ _ z => ⟨_, z.choose_spec.1⟩)
    refine sv_out (fun x hx => by cases hx) ?_
    obtain ⟨e, he, hz⟩ := hU
    exact y_U_l (by rw [pq_4, he]; rfl) (y_Z_w hz (by omega) (by omega))
  have hU := y_U_ret h36
  obtain ⟨⟨q1, k1⟩, hx9, te1, hv9, m1, wd1, hm1, hm2, hJ1⟩ := hU
  cases hv9
  obtain ⟨⟨tkJ37, vvJ37, hpJ37, kzJ37, hvvJ37, wwJ37, koJ37⟩, wlJ37⟩ := id hJ1.1
  obtain ⟨vsJ37, wrJ37⟩ := k_Sr_rd (y_w_r hG9 wwJ37 (by have := p_w_ll koJ37 (J_7 hJ1); omega))
  refine sv_astore_n dX4_query_4 (by decide) ?_
  exact loop f (Nat.le_refl _) _ _ _ _ _ _ hJ1 hm1 hm2 (by have hm2 : k.2.1 < k1.2.1 := hm2; omega) (by rw [pq_4, hx9]; rfl)
end CQB
