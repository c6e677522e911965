set_option maxRecDepth 100000
section CPM
variable {G : sx_G} {σ τ ρ σ0 : sx_St} {pa ps sel onl x0 inp o wd lo n0 s0 wb : Nat} {tt : Nat → Nat} {t : List Int32} {k : k_T} {w0 w1 w2 w3 w6 w7 w8 : Value} {S : p_S} {ow : Nat → Nat} {Λ : Nat → Nat → Nat → Nat} {T : List (Nat × Nat × (a_M → Bool))}
theorem y_P_fr {wp wp' : Nat → Prop} {W : Nat → Prop} {c sl : Nat} {hl : Bool} (F : h_F W c sl σ τ) (h : y_P G wp σ pa ps sel onl x0 t k o hl wd) (h1 : ¬ W pa) (h2 : ¬ W wd) (h3 : ∀ q n f, sx_c σ q = some (.inl (sg_a G 2, n, .inl f)) → ¬ W q) (hp : ∀ q, q < sx_n σ → wp q → wp' q) : y_P G wp' τ pa ps sel onl x0 t k o hl wd := by
  obtain ⟨tk, vv, hp0, hk9, hvv, hww, hko⟩ := h
  refine ⟨tk, vv, h_F_c F hp0 h1, hk9, hvv, ?_, hko⟩
  rcases hww with h | ⟨hne, nb, hn, hw⟩
  · exact Or.inl h
  · obtain ⟨x1, x2, x3, x4, x5, x6⟩ := id hn
    exact Or.inr ⟨hne, nb, k_Sn_fr F hn h2 (h3 _ _ _ x5), hp _ (sx_lt x5) hw⟩
/-- the server is changed -/
theorem K_sv {Z Z' : Nat → Prop} {W : Nat → Prop} {c sl m : Nat} {V2 : a_V} {l2 : List (Option Nat × Bool)} {ow2 : Nat → Nat} {Λ2 : Nat → Nat → Nat → Nat} (hG9 : g_Y G lo tt) (hJ : y_K G lo n0 s0 wb σ0 pa ps sel onl x0 inp w0 w1 w2 w3 w6 w7 w8 t σ S k ow Λ wd o [] Z m) (F : h_F W c sl σ τ) (hW : ∀ q, q < sx_n σ → W q → ow q ≠ 0 ∧ (ow q < 8 ∨ 10 < ow q)) (h3 : ∀ q n f, sx_c σ q = some (.inl (sg_a G 2, n, .inl f)) → ¬ W q) (hI : c_I G lo τ ow2 ps Λ2 V2) (hcap : c_cap Λ2 V2) (ho : ∀ q, q < sx_n σ → ow q = 0 ∨ (8 ≤ ow q ∧ ow q ≤ 10) → ow2 q = ow q) (hZ : c_Z Z' Λ2 V2) (hB : y_B n0 s0 τ (V2, S.2.1, l2) k) (hok : p_ok (V2, S.2.1, l2)) (hl2 : (∀ s, s < m → (l2.getD s (none, false)).1 = (S.2.2.getD s (none, false)).1) ∧ ∀ s, (l2.getD s (none, false)).2 = (S.2.2.getD s (none, false)).2) : y_K G lo n0 s0 wb σ0 pa ps sel onl x0 inp w0 w1 w2 w3 w6 w7 w8 t τ (V2, S.2.1, l2) k ow2 Λ2 wd o [] Z' m := by
  obtain ⟨⟨hy, hwl⟩, ⟨hI0, -⟩, ⟨⟨o1, o2, o3⟩, o4, o5, o6, o7⟩, ⟨fs, fo, a1, a2, a3, a4⟩, -, -, -, ⟨b1, b2, b3, b4⟩, hx⟩ := hJ
  have l1 := sx_lt a1
  have l2 := sx_lt a2
  obtain ⟨tk, vv, hp0, hk9, hvv, hww, hko⟩ := id hy
  have l3 := sx_lt hp0
  have lw : wd < sx_n σ := by
    rcases hww with ⟨-, e⟩ | ⟨_, nb, ⟨_, _, _, e, _⟩, _⟩
    · rw [e]; have := hG9.2.2.2.1 0 (by decide); omega
    · exact sx_lt e
  have n1 := F.1.1
  refine ⟨⟨y_P_fr F hy (fun z => by have := hW _ l3 z; omega) (fun z => by have := hW _ lw z; omega) h3 (fun q hq hz => ⟨hz.1, (ho q hq (Or.inl hz.2)).trans hz.2⟩), hwl⟩, ⟨hI, hcap⟩, ⟨⟨(ho _ l3 (by omega)).trans o1, (ho _ l1 (by omega)).trans o2, (ho _ l2 (by omega)).trans o3⟩, (ho _ lw (Or.inl o4)).trans o4, o5, o6, by omega⟩, ⟨fs, fo, h_F_c F a1 (fun z => by have := hW _ l1 z; omega), h_F_c F a2 (fun z => by have := hW _ l2 z; omega), fun s hs => (a3 s hs).trans (by rw [hl2.1 s hs]), fun s => (a4 s).trans (by rw [hl2.2 s])⟩, hZ, hB, hok, ⟨fun q hq => ?_, b2, by omega, b4⟩, hx.1, fun x hm => absurd hm List.not_mem_nil⟩
  rw [F.2.2 q (by omega) (fun z => by have h8 := hW q (by omega) z; have h9 := hI0.2.2.1 q h8.1; omega)]
  exact b1 q hq
theorem J_sv {W : Nat → Prop} {c sl : Nat} {V2 : a_V} {ow2 : Nat → Nat} {Λ2 : Nat → Nat → Nat → Nat} (hG9 : g_Y G lo tt) (hJ : y_J G lo n0 s0 wb σ0 pa ps sel onl x0 inp w0 w1 w2 w3 w6 w7 w8 t σ S k ow Λ wd o []) (F : h_F W c sl σ τ) (hW : ∀ q, q < sx_n σ → W q → ow q ≠ 0 ∧ (ow q < 8 ∨ 10 < ow q)) (h3 : ∀ q n f, sx_c σ q = some (.inl (sg_a G 2, n, .inl f)) → ¬ W q) (hI : c_I G lo τ ow2 ps Λ2 V2) (hcap : c_cap Λ2 V2) (ho : ∀ q, q < sx_n σ → ow q = 0 ∨ (8 ≤ ow q ∧ ow q ≤ 10) → ow2 q = ow q) (hZ : c_Z (fun q => lo ≤ q ∧ q ≠ wd) Λ2 V2) (hB : y_B n0 s0 τ (V2, S.2.1, S.2.2) k) (hok : p_ok (V2, S.2.1, S.2.2)) : y_J G lo n0 s0 wb σ0 pa ps sel onl x0 inp w0 w1 w2 w3 w6 w7 w8 t τ (V2, S.2.1, S.2.2) k ow2 Λ2 wd o [] := K_sv hG9 hJ F hW h3 hI hcap ho hZ hB hok ⟨fun _ _ => rfl, fun _ => rfl⟩
/-- the parser's flag is changed -/
theorem J_pa {b : Bool} {vv : Int32} {tk : Nat} (hJ : y_J G lo n0 s0 wb σ0 pa ps sel onl x0 inp w0 w1 w2 w3 w6 w7 w8 t σ S k ow Λ wd o []) (F : h_F (fun q => q = pa) 0 0 σ τ) (h : sx_c τ pa = some (.inr (3, [.ref ps, .ref sel, .ref onl, .int (nI k.2.2.1), .int (nI k.2.1), .int vv, .int (nI o), .int (b_I b), .ref wd, .ref tk, .ref x0]))) (hk : sg_z G k.1 = .ref tk) (hv : k.1 = 2 → vv = nI (min 10000000 k.2.2.2)) : y_J G lo n0 s0 wb σ0 pa ps sel onl x0 inp w0 w1 w2 w3 w6 w7 w8 t τ (S.1, b, S.2.2) k ow Λ wd o [] := by
  obtain ⟨⟨⟨tk0, vv0, hp, hk9, hvv, hww, hko⟩, hwl⟩, ⟨hI, hcap⟩, ⟨how, o4, o5, o6, o7⟩, ⟨fs, fo, a1, a2, a3⟩, hz, hB, hok, ⟨b1, b2, b3, b4⟩, hx⟩ := hJ
  have n1 := F.1.1
  refine ⟨⟨⟨tk, vv, h, hk, hv, ?_, hko⟩, hwl⟩, ⟨c_I_w9 F hI (fun q z => by rw [z]; omega), hcap⟩, ⟨how, o4, o5, o6, by omega⟩, ⟨fs, fo, h_F_c F a1 (e_kn a1 hp rfl), h_F_c F a2 (e_kn a2 hp rfl), a3⟩, hz, ?_, ⟨hok.1, hok.2.1, hok.2.2⟩, ⟨fun q hq => ?_, b2, by omega, b4⟩, hx.1, fun x hm => absurd hm List.not_mem_nil⟩
  · rcases hww with h | ⟨hne, nb, hn, hw⟩
    · exact Or.inl h
    · obtain ⟨x1, x2, x3, x4, x5, x6⟩ := id hn
      exact Or.inr ⟨hne, nb, k_Sn_fr F hn (e_kn x4 hp rfl) (e_kn x5 hp rfl), hw⟩
  · have g1 := F.1.2
    have g2 := F.2.1
    have hB : sx_n σ ≤ n0 + 4 * k.2.2.1 + 2 * k.2.1 + 5 * S.1.2.1.length + 6 * S.1.2.2.length + 3 * p_tot S.1 ∧ sx_s σ ≤ s0 + 30 * k.2.2.1 + 4 * k.2.1 + 60 * S.1.2.1.length + 200 * S.1.2.2.length + 300 * p_tot S.1 := hB
    show sx_n τ ≤ n0 + 4 * k.2.2.1 + 2 * k.2.1 + 5 * S.1.2.1.length + 6 * S.1.2.2.length + 3 * p_tot S.1 ∧ sx_s τ ≤ s0 + 30 * k.2.2.1 + 4 * k.2.1 + 60 * S.1.2.1.length + 200 * S.1.2.2.length + 300 * p_tot S.1
    omega
  · have h9 := hI.2.2.1 pa (by omega)
    rw [F.2.2 q (by omega) (by omega)]
    exact b1 q hq
/-- a new limit -/
theorem J_li {x : Nat} (hG9 : g_Y G lo tt) (hJ : y_J G lo n0 s0 wb σ0 pa ps sel onl x0 inp w0 w1 w2 w3 w6 w7 w8 t σ S k ow Λ wd o []) (F : h_F (fun q => q = ps) 0 0 σ τ) (h : sx_c τ ps = some (.inr (1, [.ref (Λ 0 0 0), .ref (Λ 0 2 0), .int (nI x)]))) (hok : p_ok ((nI x, S.1.2), S.2.1, S.2.2)) : y_J G lo n0 s0 wb σ0 pa ps sel onl x0 inp w0 w1 w2 w3 w6 w7 w8 t τ ((nI x, S.1.2), S.2.1, S.2.2) k ow Λ wd o [] := by
  have hps := hJ.2.1.1.1.1
  have hows := hJ.2.1.1.2.1.1
  refine J_sv hG9 hJ F (fun q _ z => by rw [z]; omega) (fun q n f hq z => e_kn hq hps rfl z) (c_I_lim F hJ.2.1.1 h) hJ.2.1.2 (fun _ _ _ => rfl) hJ.2.2.2.2.1 ?_ hok
  have hB := hJ.2.2.2.2.2.1
  have g1 := F.1.2
  have g2 := F.2.1
  unfold y_B at hB ⊢
  rw [p_tot_l]
  show sx_n τ ≤ n0 + 4 * k.2.2.1 + 2 * k.2.1 + 5 * S.1.2.1.length + 6 * S.1.2.2.length + 3 * p_tot S.1 ∧ sx_s τ ≤ s0 + 30 * k.2.2.1 + 4 * k.2.1 + 60 * S.1.2.1.length + 200 * S.1.2.2.length + 300 * p_tot S.1
  omega
/-- a new box -/
theorem K_aB {c sl bo l ar ba cap : Nat} (hG9 : g_Y G lo tt) (hb : b_B t) (hJ : y_J G lo n0 s0 wb σ0 pa ps sel onl x0 inp w0 w1 w2 w3 w6 w7 w8 t σ S k ow Λ wd o []) (F : h_F (fun q => q = Λ 0 0 0 ∨ q = Λ 0 1 0) c sl σ τ) (hc : c ≤ 5) (hsl : sl ≤ 60) (hL : k_L G τ (Λ 0 0 0) ba cap (S.1.2.1.length + 1) (va_up (fun i => Λ 1 i 0) S.1.2.1.length bo)) (hB : ∀ g, k_B G τ bo l ar 4 wd g (p_w t k, nI 1, [])) (hba : ba = Λ 0 1 0 ∨ sx_n σ ≤ ba) (hbo : sx_n σ ≤ bo) (hl : sx_n σ ≤ l) (har : sx_n σ ≤ ar) (hne : ar ≠ ba) (hnm : p_nm t k = true) (h3 : S.1.2.1.length < 3) : ∃ ow2 Λ2, y_K G lo n0 s0 wb σ0 pa ps sel onl x0 inp w0 w1 w2 w3 w6 w7 w8 t τ ((S.1.1, S.1.2.1 ++ [(p_w t k, 1, [])], S.1.2.2), S.2.1, S.2.2) k ow2 Λ2 wd o [] (fun q => lo ≤ q) S.2.2.length := by
  obtain ⟨⟨⟨tk0, vv0, hp, hk9, hvv, hww, hko⟩, hwl⟩, ⟨hI, hcap⟩, ⟨how, o4, o5, o6, o7⟩, -, hz, hBd, hok, ⟨b1, b2, b3, b4⟩, hx⟩ := id hJ
  obtain ⟨hN, hk1⟩ := p_nm_o hb hko hnm
  obtain ⟨mc, fl, c1, c2, -⟩ := id hI.1.2.1
  have n1 := F.1.1
  have lt := k_V_lt hI.1
  have tg := hI.2.1
  have tg1 := tg.2.1
  have tg2 := tg.2.2.1
  rcases hww with ⟨h, -⟩ | ⟨hwn, nb, hn, hw1, hw2⟩
  · rw [h] at hN; have := hN.1; exact absurd this (by decide)
  obtain ⟨x1, x2, x3, x4, x5, x6⟩ := id hn
  have hn2 : k_Sn G τ wd nb (p_w t k) := k_Sn_fr F hn (fun z => z.elim (e_kn x4 c1 rfl) (e_kn x4 c2 rfl)) (fun z => z.elim (e_kn x5 c1 rfl) (e_kn x5 c2 rfl))
  have hI2 := c_I_aB (B := (p_w t k, 1, [])) F hI (by omega) (fun q _ z => by rcases z with z | z <;> rw [z] <;> omega) hL (hB (fun _ => 0)) hn2 hba hbo hl har hne ⟨o4, hw2⟩ (fun i hi => absurd hi (Nat.not_lt_zero i))
  have hlw := hwl hwn
  have hls := hI.2.2.1 sel (by omega)
  refine ⟨_, _, K_sv hG9 hJ F (fun q _ z => by rcases z with z | z <;> rw [z] <;> omega) (fun q n f hq z => z.elim (e_kn hq c1 rfl) (e_kn hq c2 rfl)) hI2 ?_ ?_ ⟨fun i hi => ?_, fun s hs => ?_⟩ ?_ ⟨p_OV_box hok.1 hN h3, hok.2.1, fun s b h => ?_⟩ ⟨fun _ _ => rfl, fun _ => rfl⟩⟩
  · intro i hi
    have hi : i < (S.1.2.1 ++ [(p_w t k, 1, [])]).length := hi
    rw [List.length_append, List.length_singleton] at hi
    by_cases hx : i = S.1.2.1.length
    · rw [hx, Λ_B_1]; exact Nat.le_of_ble_eq_true rfl
    · rw [Λ_B_1n hx]; exact hcap i (by omega)
  · intro q hq h
    have h1 : q ≠ ba := by
      rcases hba with e | e
      · intro z; rw [z, e] at h; have := tg.2.2.1; omega
      · omega
    unfold ow_B
    rw [if_neg h1, if_neg (by omega), if_neg (by omega), if_neg (by omega)]
  · have hi : i < (S.1.2.1 ++ [(p_w t k, 1, [])]).length := hi
    rw [List.length_append, List.length_singleton] at hi
    by_cases hx : i = S.1.2.1.length
    · rw [hx, Λ_B_1, Λ_B_1]; exact ⟨hlw, show lo ≤ nb by omega⟩
    · rw [Λ_B_1n hx, Λ_B_1n hx]; exact ⟨(hz.1 i (by omega)).1.1, (hz.1 i (by omega)).2.1⟩
  · rw [Λ_B_3, Λ_B_3]; exact ⟨(hz.2 s hs).1.1, (hz.2 s hs).2.1⟩
  · have g1 := F.1.2
    have g2 := F.2.1
    unfold y_B at hBd ⊢
    have e1 : p_tot (S.1.1, S.1.2.1 ++ [(p_w t k, 1, [])], S.1.2.2) = p_tot S.1 := p_tot_b rfl
    have e2 : (S.1.2.1 ++ [((p_w t k, 1, []) : a_B)]).length = S.1.2.1.length + 1 := by rw [List.length_append]; rfl
    show sx_n τ ≤ n0 + 4 * k.2.2.1 + 2 * k.2.1 + 5 * (S.1.2.1 ++ [((p_w t k, 1, []) : a_B)]).length + 6 * S.1.2.2.length + 3 * p_tot (S.1.1, S.1.2.1 ++ [(p_w t k, 1, [])], S.1.2.2) ∧ sx_s τ ≤ s0 + 30 * k.2.2.1 + 4 * k.2.1 + 60 * (S.1.2.1 ++ [((p_w t k, 1, []) : a_B)]).length + 200 * S.1.2.2.length + 300 * p_tot (S.1.1, S.1.2.1 ++ [(p_w t k, 1, [])], S.1.2.2)
    rw [e1, e2]
    omega
  · have := hok.2.2 s b h
    show b < (S.1.2.1 ++ [((p_w t k, 1, []) : a_B)]).length
    rw [List.length_append]
    omega
theorem J_lim (hG9 : g_Y G lo tt) (hb : b_B t) (hJ : y_J G lo n0 s0 wb σ0 pa ps sel onl x0 inp w0 w1 w2 w3 w6 w7 w8 t σ S k ow Λ wd o []) (h0 : k.1 ≠ 0) : sx_C G 11 YX4_parseLimit [.ref pa] σ (y_U lo n0 s0 σ0 (p_lim t S k) (fun y oc τ => oc = .inl none ∧ ∃ ow Λ wd, y_J G lo n0 s0 wb σ0 pa ps sel onl x0 inp w0 w1 w2 w3 w6 w7 w8 t τ y.1 y.2 ow Λ wd o [])) := by
  refine sx_body (by decide) (Nat.le_of_ble_eq_true rfl) ?_
  obtain ⟨⟨tkJ1, vvJ1, hpJ1, kzJ1, hvvJ1, wwJ1, koJ1⟩, wlJ1⟩ := id hJ.1
  obtain ⟨vsJ1, wrJ1⟩ := k_Sr_rd (y_w_r hG9 wwJ1 (by have := p_w_ll koJ1 (J_7 hJ); omega))
  have hsv2 := (hJ).2.1.1.1.1
  have h90 : a_all S.1 S.1.2.1.length ≤ 90 := p_tot_90 hJ.2.2.2.2.2.2.1.1
  refine sv_aload_n dX4_parseLimit_0 rfl ?_
  refine sv_aload_n dX4_parseLimit_1 rfl ?_
  refine sv_get fg_X4_18 dX4_parseLimit_2 (sx_rd_c hpJ1) rfl ?_
  refine sv_cvR _ (cc_messages (hJ).2.1.1.1) okX2_messages kv_X4_163 (sx_rd_c hsv2) rfl dX4_parseLimit_5 rfl rfl (by omega) (Nat.le_of_ble_eq_true rfl) ?_
  refine sv_if_neN (tgt := 15) dX4_parseLimit_8 (by decide) (by omega) (fun c8 => ?_) (fun c8 => ?_)
  · refine sv_iconst (nI 0) dX4_parseLimit_15 (by decide +kernel) ?_
    refine sv_tI b0_I ?_
    refine sv_iconst (nI 1) dX4_parseLimit_16 (by decide +kernel) ?_
    refine sv_cv _ (J_req0 hG9 hJ (c := 1)) okX4_require (sx_rd_c hpJ1) rfl kv_X4_115.1 kv_X4_115.2.1 kv_X4_115.2.2 dX4_parseLimit_17 rfl rfl (by omega) (Nat.le_of_ble_eq_true rfl) (fun v τ h => by obtain ⟨q, e, _⟩ := h; cases e) (fun E q τ h => ?_)
    obtain ⟨q9, e9, F9⟩ := id h
    cases e9
    refine sv_out (fun x hx => by cases hx) ?_
    exact y_U_l (by unfold p_lim; rw [if_pos (show 0 < p_tot S.1 from c8)]) h
  · have a9 : ¬ 0 < p_tot S.1 := by show ¬ 0 < a_all S.1 S.1.2.1.length; omega
    refine sv_iconst (nI 1) dX4_parseLimit_11 (by decide +kernel) ?_
    refine sv_goto (tgt := 16) dX4_parseLimit_12 (by decide) ?_
    refine sv_tI b1_I ?_
    refine sv_iconst (nI 1) dX4_parseLimit_16 (by decide +kernel) ?_
    refine sv_cvR _ J_req1 okX4_require kv_X4_115 (sx_rd_c hpJ1) rfl dX4_parseLimit_17 rfl rfl (by omega) (Nat.le_of_ble_eq_true rfl) ?_
    refine sv_aload_n dX4_parseLimit_20 rfl ?_
    refine sv_aload_n dX4_parseLimit_21 rfl ?_
    refine sv_get fg_X4_166 dX4_parseLimit_22 (sx_rd_c hpJ1) rfl ?_
    refine sv_if_neB (tgt := 32) dX4_parseLimit_25 (by decide) (fun c25 => ?_) (fun c25 => ?_)
    · refine sv_iconst (nI 0) dX4_parseLimit_32 (by decide +kernel) ?_
      refine sv_tI b0_I ?_
      refine sv_iconst (nI 3) dX4_parseLimit_33 (by decide +kernel) ?_
      refine sv_cv _ (J_req0 hG9 hJ (c := 3)) okX4_require (sx_rd_c hpJ1) rfl kv_X4_115.1 kv_X4_115.2.1 kv_X4_115.2.2 dX4_parseLimit_34 rfl rfl (by omega) (Nat.le_of_ble_eq_true rfl) (fun v τ h => by obtain ⟨q, e, _⟩ := h; cases e) (fun E q τ h => ?_)
      obtain ⟨q9, e9, F9⟩ := id h
      cases e9
      refine sv_out (fun x hx => by cases hx) ?_
      exact y_U_l (by unfold p_lim; rw [if_neg a9, if_pos c25]) h
    · refine sv_iconst (nI 1) dX4_parseLimit_28 (by decide +kernel) ?_
      refine sv_goto (tgt := 33) dX4_parseLimit_29 (by decide) ?_
      refine sv_tI b1_I ?_
      refine sv_iconst (nI 3) dX4_parseLimit_33 (by decide +kernel) ?_
      refine sv_cvR _ J_req1 okX4_require kv_X4_115 (sx_rd_c hpJ1) rfl dX4_parseLimit_34 rfl rfl (by omega) (Nat.le_of_ble_eq_true rfl) ?_
      refine sv_aload_n dX4_parseLimit_37 rfl ?_
      refine sv_iconst (nI 1) dX4_parseLimit_38 (by decide +kernel) ?_
      refine sv_tI b1_I ?_
      refine sv_put fp_X4_166 dX4_parseLimit_39 hpJ1 (b_I_nar _) (b_I_fit _) (Nat.le_of_ble_eq_true rfl) ?_
      refine hs_up hpJ1 (fun τ3 F4 h5 N6 Z7 => ?_)
      have h5 : sx_c τ3 pa = some (.inr (3, [.ref ps, .ref sel, .ref onl, .int (nI k.2.2.1), .int (nI k.2.1), .int vvJ1, .int (nI o), .int (b_I true), .ref wd, .ref tkJ1, .ref x0])) := h5
      have hsv2' := h_F_c F4 hsv2 (e_kn hsv2 hpJ1 rfl)
      have hJp := J_pa hJ F4 h5 kzJ1 hvvJ1
      obtain ⟨⟨tkJ8, vvJ8, hpJ8, kzJ8, hvvJ8, wwJ8, koJ8⟩, wlJ8⟩ := id hJp.1
      obtain ⟨vsJ8, wrJ8⟩ := k_Sr_rd (y_w_r hG9 wwJ8 (by have := p_w_ll koJ8 (J_7 hJp); omega))
      have hsv9 := (hJp).2.1.1.1.1
      refine sv_aload_n dX4_parseLimit_42 rfl ?_
      refine sv_cvP _ (J_next hG9 hb hJp) okX4_next kv_X4_36 (sx_rd_c hpJ8) rfl dX4_parseLimit_43 rfl rfl (by omega) (Nat.le_of_ble_eq_true rfl) ?_
      intro v10 τ11 hp12
      obtain ⟨rfl, wd14, hJ13⟩ := hp12
      obtain ⟨⟨tkJ15, vvJ15, hpJ15, kzJ15, hvvJ15, wwJ15, koJ15⟩, wlJ15⟩ := id hJ13.1
      obtain ⟨vsJ15, wrJ15⟩ := k_Sr_rd (y_w_r hG9 wwJ15 (by have := p_w_ll koJ15 (J_7 hJ13); omega))
      refine sv_aload_n dX4_parseLimit_46 rfl ?_
      refine sv_get fg_X4_18 dX4_parseLimit_47 (sx_rd_c hpJ15) rfl ?_
      refine sv_aload_n dX4_parseLimit_50 rfl ?_
      refine sv_iconst (nI 1) dX4_parseLimit_51 (by decide +kernel) ?_
      refine sv_bipush (nI 30) dX4_parseLimit_52 (by decide +kernel) ?_
      refine sv_cv _ (J_num hG9 hb hJ13 (by decide) (by decide)) okX4_number (sx_rd_c hpJ15) rfl kv_X4_170.1 kv_X4_170.2.1 kv_X4_170.2.2 dX4_parseLimit_54 rfl rfl (by omega) (Nat.le_of_ble_eq_true rfl) (fun v16 τ17 h18 => ?_) (fun E q τ h => ?_)
      rotate_left
      · have hU := y_U_thr h (fun _ _ _ z => ⟨_, z.1⟩)
        refine sv_out (fun x hx => by cases hx) ?_
        obtain ⟨e, he, hz⟩ := hU
        exact y_U_l (show p_lim t S k = .inl e by unfold p_lim; rw [if_neg a9, if_neg (bf_n c25), he]; rfl) hz
      have hU := y_U_ret h18
      obtain ⟨⟨x, k2⟩, hx9, hv9, wdN, hJN⟩ := hU
      have hJN : y_J G lo n0 s0 wb σ0 pa ps sel onl x0 inp w0 w1 w2 w3 w6 w7 w8 t τ17 (S.1, true, S.2.2) k2 ow Λ wdN o [] := hJN
      cases hv9
      obtain ⟨⟨tkJ19, vvJ19, hpJ19, kzJ19, hvvJ19, wwJ19, koJ19⟩, wlJ19⟩ := id hJN.1
      obtain ⟨vsJ19, wrJ19⟩ := k_Sr_rd (y_w_r hG9 wwJ19 (by have := p_w_ll koJ19 (J_7 hJN); omega))
      have hsv20 := (hJN).2.1.1.1.1
      refine sv_put fp_X4_173 dX4_parseLimit_57 hsv20 rfl rfl (Nat.le_of_ble_eq_true rfl) ?_
      refine hs_up hsv20 (fun τ21 F22 h23 N24 Z25 => ?_)
      have h23 : sx_c τ21 ps = some (.inr (1, [.ref (Λ 0 0 0), .ref (Λ 0 2 0), .int (nI x)])) := h23
      have hpJ19' := h_F_c F22 hpJ19 (e_kn hpJ19 hsv20 rfl)
      refine sv_vret rfl dX4_parseLimit_60 ?_
      have hlim : p_lim t S k = .inr (((nI x, S.1.2), true, S.2.2), k2) := by unfold p_lim; rw [if_neg a9, if_neg (bf_n c25), hx9]; rfl
      have hko := hJ.1.1.choose_spec.choose_spec.2.2.2.2
      have hgo := p_lim_ok hJ.2.2.2.2.2.2.1 hko hlim h0
      exact y_U_r hlim ⟨rfl, ow, Λ, wdN, J_li hG9 hJN F22 h23 hgo.1⟩
theorem J_box (hG9 : g_Y G lo tt) (hb : b_B t) (hJ : y_J G lo n0 s0 wb σ0 pa ps sel onl x0 inp w0 w1 w2 w3 w6 w7 w8 t σ S k ow Λ wd o []) (h0 : k.1 ≠ 0) : sx_C G 11 YX4_parseBox [.ref pa] σ (y_U lo n0 s0 σ0 (p_bbx t S k) (fun y oc τ => oc = .inl none ∧ ∃ ow Λ wd, y_J G lo n0 s0 wb σ0 pa ps sel onl x0 inp w0 w1 w2 w3 w6 w7 w8 t τ y.1 y.2 ow Λ wd o [])) := by
  refine sx_body (by decide) (Nat.le_of_ble_eq_true rfl) ?_
  obtain ⟨⟨tkJ26, vvJ26, hpJ26, kzJ26, hvvJ26, wwJ26, koJ26⟩, wlJ26⟩ := id hJ.1
  obtain ⟨vsJ26, wrJ26⟩ := k_Sr_rd (y_w_r hG9 wwJ26 (by have := p_w_ll koJ26 (J_7 hJ); omega))
  have hsv27 := (hJ).2.1.1.1.1
  obtain ⟨mc31, fl30, hls28, har29, -⟩ := id (hJ).2.1.1.1.2.1
  have hV3 := hJ.2.2.2.2.2.2.1.1.2.1
  refine sv_aload_n dX4_parseBox_0 rfl ?_
  refine sv_aload_n dX4_parseBox_1 rfl ?_
  refine sv_get fg_X4_18 dX4_parseBox_2 (sx_rd_c hpJ26) rfl ?_
  refine sv_get fg_X4_175 dX4_parseBox_5 (sx_rd_c hsv27) rfl ?_
  refine sv_cvR _ (cj_size (hJ).2.1.1.1.2.1) okJ2_size kv_X4_179 (sx_rd_c hls28) rfl dX4_parseBox_8 rfl rfl (by omega) (Nat.le_of_ble_eq_true rfl) ?_
  refine sv_iconst (nI 3) dX4_parseBox_11 (by decide +kernel) ?_
  refine sv_icmp_geN (tgt := 19) dX4_parseBox_12 (by decide) (by omega) (by omega) (fun c12 => ?_) (fun c12 => ?_)
  · refine sv_iconst (nI 0) dX4_parseBox_19 (by decide +kernel) ?_
    refine sv_tI b0_I ?_
    refine sv_iconst (nI 4) dX4_parseBox_20 (by decide +kernel) ?_
    refine sv_cv _ (J_req0 hG9 hJ (c := 4)) okX4_require (sx_rd_c hpJ26) rfl kv_X4_115.1 kv_X4_115.2.1 kv_X4_115.2.2 dX4_parseBox_21 rfl rfl (by omega) (Nat.le_of_ble_eq_true rfl) (fun v τ h => by obtain ⟨q, e, _⟩ := h; cases e) (fun E q τ h => ?_)
    obtain ⟨q9, e9, F9⟩ := id h
    cases e9
    refine sv_out (fun x hx => by cases hx) ?_
    exact y_U_l (by unfold p_bbx; rw [if_neg (show ¬ S.1.2.1.length < 3 by omega)]) h
  · refine sv_iconst (nI 1) dX4_parseBox_15 (by decide +kernel) ?_
    refine sv_goto (tgt := 20) dX4_parseBox_16 (by decide) ?_
    refine sv_tI b1_I ?_
    refine sv_iconst (nI 4) dX4_parseBox_20 (by decide +kernel) ?_
    refine sv_cvR _ J_req1 okX4_require kv_X4_115 (sx_rd_c hpJ26) rfl dX4_parseBox_21 rfl rfl (by omega) (Nat.le_of_ble_eq_true rfl) ?_
    refine sv_aload_n dX4_parseBox_24 rfl ?_
    refine sv_cvP _ (J_next hG9 hb hJ) okX4_next kv_X4_36 (sx_rd_c hpJ26) rfl dX4_parseBox_25 rfl rfl (by omega) (Nat.le_of_ble_eq_true rfl) ?_
    intro v32 τ33 hp34
    obtain ⟨rfl, wd36, hJ35⟩ := hp34
    obtain ⟨⟨tkJ37, vvJ37, hpJ37, kzJ37, hvvJ37, wwJ37, koJ37⟩, wlJ37⟩ := id hJ35.1
    obtain ⟨vsJ37, wrJ37⟩ := k_Sr_rd (y_w_r hG9 wwJ37 (by have := p_w_ll koJ37 (J_7 hJ35); omega))
    refine sv_aload_n dX4_parseBox_28 rfl ?_
    refine sv_cv _ (J_rn hG9 hb hJ35) okX4_requireName (sx_rd_c hpJ37) rfl kv_X4_183.1 kv_X4_183.2.1 kv_X4_183.2.2 dX4_parseBox_29 rfl rfl (by omega) (Nat.le_of_ble_eq_true rfl) (fun v38 τ39 h40 => ?_) (fun E q τ h => ?_)
    rotate_left
    · have hU := y_U_thr h (fun _ _ _ z => ⟨_, z.1⟩)
      refine sv_out (fun x hx => by cases hx) ?_
      obtain ⟨e, he, hz⟩ := hU
      have he2 : p_bbx t S k = .inl e := by
        unfold p_rn at he
        unfold p_bbx
        rw [if_pos (show S.1.2.1.length < 3 by omega)]
        by_cases h : p_nm t (p_nx t k) = true
        · rw [if_pos h] at he; cases he
        · rw [if_neg h] at he ⊢; cases he; rfl
      exact y_U_l he2 hz
    have hU := y_U_ret h40
    obtain ⟨_, hx9, hv9, hJ41⟩ := hU
    have hyes : p_nm t (p_nx t k) = true := by
      cases hz : p_nm t (p_nx t k) with
      | true => rfl
      | false => unfold p_rn at hx9; rw [if_neg (bf_n hz)] at hx9; cases hx9
    cases hv9
    obtain ⟨⟨tkJ42, vvJ42, hpJ42, kzJ42, hvvJ42, wwJ42, koJ42⟩, wlJ42⟩ := id hJ41.1
    obtain ⟨vsJ42, wrJ42⟩ := k_Sr_rd (y_w_r hG9 wwJ42 (by have := p_w_ll koJ42 (J_7 hJ41); omega))
    have hsv43 := (hJ41).2.1.1.1.1
    refine sv_aload_n dX4_parseBox_32 rfl ?_
    refine sv_aload_n dX4_parseBox_33 rfl ?_
    refine sv_get fg_X4_18 dX4_parseBox_34 (sx_rd_c hpJ42) rfl ?_
    refine sv_aload_n dX4_parseBox_37 rfl ?_
    refine sv_get fg_X4_32 dX4_parseBox_38 (sx_rd_c hpJ42) rfl ?_
    refine sv_cvR _ (cc_fbx hG9.1 (hJ41).2.1.1.1 (p_OV_w (hJ41).2.2.2.2.2.2.1.1) (y_w_r hG9 wwJ42 (by have := p_w_ll koJ42 (J_7 hJ41); omega)) (fun k9 hk9 => by have := ((hJ41).2.2.2.2.2.2.1.1.2.2.2.1 k9 hk9).1.2.1; omega) (fun k9 hk9 => ((hJ41).2.2.2.2.1.1 k9 hk9).1.2)) okX2_findBox kv_X4_186 (sx_rd_c hsv43) rfl dX4_parseBox_41 rfl rfl (by omega) (Nat.le_of_ble_eq_true rfl) ?_
    rw [fb_w (hJ41).2.2.2.2.2.2.1.1 (p_w_128 hb koJ42)]
    refine sv_iconst (-1) dX4_parseBox_44 (by decide +kernel) ?_
    refine sv_icmp_ne (tgt := 52) dX4_parseBox_45 (by decide) (fun c45 => ?_) (fun c45 => ?_)
    · have hno : (p_fb S.1 (p_w t (p_nx t k))).isNone = false := by
        cases hz : p_fb S.1 (p_w t (p_nx t k)) with
        | none => rw [hz] at c45; exact absurd rfl c45
        | some b => rfl
      refine sv_iconst (nI 0) dX4_parseBox_52 (by decide +kernel) ?_
      refine sv_tI b0_I ?_
      refine sv_iconst (nI 3) dX4_parseBox_53 (by decide +kernel) ?_
      refine sv_cv _ (J_req0 hG9 hJ41 (c := 3)) okX4_require (sx_rd_c hpJ42) rfl kv_X4_115.1 kv_X4_115.2.1 kv_X4_115.2.2 dX4_parseBox_54 rfl rfl (by omega) (Nat.le_of_ble_eq_true rfl) (fun v τ h => by obtain ⟨q, e, _⟩ := h; cases e) (fun E q τ h => ?_)
      obtain ⟨q9, e9, F9⟩ := id h
      cases e9
      refine sv_out (fun x hx => by cases hx) ?_
      exact y_U_l (by unfold p_bbx; rw [if_pos (show S.1.2.1.length < 3 by omega), if_pos hyes, if_neg (bf_n hno)]) h
    · have hno : (p_fb S.1 (p_w t (p_nx t k))).isNone = true := by
        rw [(o_I_m1 _ (fun b z => by have h8 := p_fb_lt z; have h9 := hJ.2.2.2.2.2.2.1.1.2.1; omega)).mp c45]
        rfl
      refine sv_iconst (nI 1) dX4_parseBox_48 (by decide +kernel) ?_
      refine sv_goto (tgt := 53) dX4_parseBox_49 (by decide) ?_
      refine sv_tI b1_I ?_
      refine sv_iconst (nI 3) dX4_parseBox_53 (by decide +kernel) ?_
      refine sv_cvR _ J_req1 okX4_require kv_X4_115 (sx_rd_c hpJ42) rfl dX4_parseBox_54 rfl rfl (by omega) (Nat.le_of_ble_eq_true rfl) ?_
      obtain ⟨mc47, fl46, hls44, har45, -⟩ := id (hJ41).2.1.1.1.2.1
      have FFa : h_F (fun q => False) 0 0 τ39 τ39 := h_F_r
      refine sv_aload_n dX4_parseBox_57 rfl ?_
      refine sv_get fg_X4_18 dX4_parseBox_58 (sx_rd_c hpJ42) rfl ?_
      refine sv_get fg_X4_175 dX4_parseBox_61 (sx_rd_c hsv43) rfl ?_
      refine sv_new fn_X4_190 dX4_parseBox_64 ?_
      refine hs_al (fun a48 τ49 E54 F50 h51 N52 Z53 => ?_)
      have hpJ42' := h_F_c F50 hpJ42 (fun z => z)
      have hsv43' := h_F_c F50 hsv43 (fun z => z)
      have hls44' := h_F_c F50 hls44 (fun z => z)
      have har45' := h_F_c F50 har45 (fun z => z)
      have FF55 := h_F_u FFa F50 (fun _ _ z => z) (fun _ _ z => z.elim) (Nat.le_refl _) (Nat.le_refl _)
      have h51 : sx_c τ49 a48 = some (.inr (5, [.null, .null, .int (nI 0)])) := by rw [nI_0]; exact h51
      refine sv_dup dX4_parseBox_67 rfl ?_
      refine sv_aload_n dX4_parseBox_68 rfl ?_
      refine sv_get fg_X4_32 dX4_parseBox_69 (sx_rd_c hpJ42') rfl ?_
      refine sv_ciP _ (cc_binit (l0 := p_w t (p_nx t k)) h51) okX6_init ki_X4_192 dX4_parseBox_72 rfl rfl (by omega) (Nat.le_of_ble_eq_true rfl) ?_
      intro v59 τ57 hp58
      obtain ⟨rfl, lB, aB, dl, da, hBn, F56⟩ := hp58
      have hBn := hBn
      have N60 := (F56).1.1
      have hpJ42'' := h_F_c F56 hpJ42' (e_kn hpJ42' h51 rfl)
      have hsv43'' := h_F_c F56 hsv43' (e_kn hsv43' h51 rfl)
      have hls44'' := h_F_c F56 hls44' (e_kn hls44' h51 rfl)
      have har45'' := h_F_c F56 har45' (e_kn har45' h51 rfl)
      have FF61 := h_F_u FF55 F56 (fun _ _ z => z) (by intro q hq hz; omega) (Nat.le_refl _) (Nat.le_refl _)
      have FFb := FF61
      have hVb := (hJ41).2.1.1.1
      have hel : ∀ i, i < S.1.2.1.length → k_E G τ57 5 (Λ 1 i 0) := fun i hi => ⟨_, h_F_c FFb (hVb.2.2.2.1 i hi).1.1 (fun z => z)⟩
      have hLa := k_L_fr FFb hVb.2.1 (fun z => z) (fun z => z)
      have ltI := k_V_lt hVb
      have lt2 := ltI.2.1
      have lt3 := ltI.2.2.1
      have lt4 := ltI.2.2.2.1
      have lt5 := ltI.2.2.2.2.1
      have nFb := FFb.1.1
      refine sv_cvP _ (cj_add hLa k_O_5 (by decide) ⟨_, (hBn (fun _ => 0)).1⟩ hel (by omega)) okJ2_add kv_X4_195 (sx_rd_c hls44'') rfl dX4_parseBox_75 rfl rfl (by omega) (Nat.le_of_ble_eq_true rfl) ?_
      intro vA τA hA
      obtain ⟨rfl, ba, cap2, d1, d2, d3, hL2, F3⟩ := hA
      have Fz : h_F (fun q => q = Λ 0 0 0 ∨ q = Λ 0 1 0) _ _ τ39 τA := h_F_u FFb F3 (fun _ _ z => z.elim) (fun _ _ z => z) (Nat.le_refl _) (Nat.le_refl _)
      have n3 := F3.1.1
      have hB3 := fun g => k_B_fr F3 (hBn g) (by omega) (by omega) (by omega) (fun j hj => absurd hj (Nat.not_lt_zero j))
      have laB := (k_L_lt (hBn (fun _ => 0)).2.1).2
      obtain ⟨ow2, Λ2, hK⟩ := K_aB hG9 hb hJ41 Fz (by omega) (by omega) hL2 hB3 (by omega) (by omega) (by omega) (by omega) (by omega) hyes (by omega)
      obtain ⟨⟨tkK, vvK, hpK, -⟩, -⟩ := id hK.1
      refine sv_pop dX4_parseBox_78 rfl ?_
      refine sv_aload_n dX4_parseBox_79 rfl ?_
      refine sv_cvP _ (K_next hG9 hb hK) okX4_next kv_X4_36 (sx_rd_c hpK) rfl dX4_parseBox_80 rfl rfl (by omega) (Nat.le_of_ble_eq_true rfl) ?_
      intro vK τK hpK2
      obtain ⟨rfl, wdK, hJK⟩ := hpK2
      refine sv_vret rfl dX4_parseBox_83 ?_
      exact y_U_r (show p_bbx t S k = .inr (((S.1.1, S.1.2.1 ++ [(p_w t (p_nx t k), 1, [])], S.1.2.2), S.2), p_nx t (p_nx t k)) by unfold p_bbx; rw [if_pos (show S.1.2.1.length < 3 by omega), if_pos hyes, if_pos hno]) ⟨rfl, ow2, Λ2, wdK, hJK⟩
end CPM
