set_option maxRecDepth 100000
section CPN
variable {G : sx_G} {σ τ ρ σ0 : sx_St} {pa ps sel onl x0 inp o wd lo n0 s0 wb : Nat} {tt : Nat → Nat} {t : List Int32} {k : k_T} {w0 w1 w2 w3 w6 w7 w8 : Value} {S : p_S} {ow : Nat → Nat} {Λ : Nat → Nat → Nat → Nat} {T : List (Nat × Nat × (a_M → Bool))}
/-- a new message -/
theorem J_co {b sl a ar cap : Nat} {sz fl : Int32} (hG9 : g_Y G lo tt) (hJ : y_J G lo n0 s0 wb σ0 pa ps sel onl x0 inp w0 w1 w2 w3 w6 w7 w8 t σ S k ow Λ wd o []) (hb : b < S.1.2.1.length) (F : h_F (fun q => q = Λ 1 b 0 ∨ q = Λ 1 b 1 ∨ q = Λ 1 b 2) 2 sl σ τ) (hsl : sl ≤ 300) (hB : k_B G τ (Λ 1 b 0) (Λ 1 b 1) ar cap (Λ 1 b 4) (va_up (Λ 2 b) (a_b S.1 b).2.2.length a) ((a_b S.1 b).1, (a_b S.1 b).2.1 + 1, (a_b S.1 b).2.2 ++ [((a_b S.1 b).2.1, sz, fl)])) (har : ar = Λ 1 b 2 ∨ sx_n σ ≤ ar) (ha : sx_n σ ≤ a) (hcap : cap ≤ 62) (hok : p_ok (v_co S.1 b sz fl, S.2.1, S.2.2)) : ∃ ow2 Λ2, y_J G lo n0 s0 wb σ0 pa ps sel onl x0 inp w0 w1 w2 w3 w6 w7 w8 t τ (v_co S.1 b sz fl, S.2.1, S.2.2) k ow2 Λ2 wd o [] := by
  obtain ⟨-, ⟨hI, hcp⟩, ⟨how, o4, o5, o6, o7⟩, -, hz, hBd, hok0, ⟨b1, b2, b3, b4⟩, hx⟩ := id hJ
  obtain ⟨c1, ⟨mc, f, c2, c3, -⟩, -⟩ := id (hI.1.2.2.2.1 b hb).1
  have n1 := F.1.1
  have lt := (k_V_lt hI.1).2.2.2.2.2.1 b hb
  have tg := hI.2.1.2.2.2.2.2.1 b hb
  have hI2 := c_I_b F hI (by omega) hb (fun q z => by rcases z with z | z | z <;> rw [z] <;> omega) hB rfl har (fun i hi => by
    have hi : i < ((a_b S.1 b).2.2 ++ [((a_b S.1 b).2.1, sz, fl)]).length := hi
    rw [List.length_append, List.length_singleton] at hi
    unfold va_up
    by_cases hx : i = (a_b S.1 b).2.2.length
    · rw [if_pos hx]; exact Or.inr ha
    · rw [if_neg hx]; exact Or.inl ⟨i, rfl, by show i < (a_b S.1 b).2.2.length; omega⟩)
  refine ⟨_, _, J_sv hG9 hJ F (fun q _ z => by rcases z with z | z | z <;> rw [z] <;> omega) (fun q n f hq z => z.elim (e_kn hq c1 rfl) (fun z => z.elim (e_kn hq c2 rfl) (e_kn hq c3 rfl))) hI2 (c_cap_b hcp hcap) (fun q hq h => ?_) ⟨fun i hi => ?_, fun s hs => ?_⟩ ?_ hok⟩
  · unfold ow_b
    rw [if_neg]
    intro z
    rcases har with e | e
    · rw [z, e] at h; omega
    · omega
  · have hi : i < S.1.2.1.length := Nat.lt_of_lt_of_eq hi (a_ub_n _ _ _)
    rw [Λ_b_1 (Or.inr (by decide)), Λ_b_1 (Or.inr (by decide))]
    exact hz.1 i hi
  · rw [Λ_b_3, Λ_b_3]
    exact hz.2 s hs
  · have g1 := F.1.2
    have g2 := F.2.1
    unfold y_B at hBd ⊢
    have e1 : p_tot (v_co S.1 b sz fl) = p_tot S.1 + 1 := p_tot_c hb
    have e2 : (v_co S.1 b sz fl).2.1.length = S.1.2.1.length := a_ub_n _ _ _
    show sx_n τ ≤ n0 + 4 * k.2.2.1 + 2 * k.2.1 + 5 * (v_co S.1 b sz fl).2.1.length + 6 * S.1.2.2.length + 3 * p_tot (v_co S.1 b sz fl) ∧ sx_s τ ≤ s0 + 30 * k.2.2.1 + 4 * k.2.1 + 60 * (v_co S.1 b sz fl).2.1.length + 200 * S.1.2.2.length + 300 * p_tot (v_co S.1 b sz fl)
    rw [e1, e2]
    omega
theorem p_mes_0 {b : Nat} (h1 : p_bh t S.1 (p_nx t k) = .inr b) (h2 : ¬ nI (a_ms S.1 b).length < S.1.1) : p_mes t S k = .inl (p_er 4 (p_nx t k)) := by
  unfold p_mes
  rw [h1]
  exact if_neg h2
theorem p_mes_1 {b : Nat} (h1 : p_bh t S.1 (p_nx t k) = .inr b) (h2 : nI (a_ms S.1 b).length < S.1.1) : p_mes t S k = p_msg1 t S b (p_nx t (p_nx t k)) := by
  unfold p_mes
  rw [h1]
  exact if_pos h2
theorem p_mes_2 {b : Nat} {k2 : k_T} (h3 : p_is t k2 5 = true) : p_msg1 t S b k2 = p_bind (p_num t (p_nx t k2) 1 9999) (fun x => p_bind (p_fls t 701 0 x.2) (fun y => .inr ((v_co S.1 b (nI x.1) y.1, S.2), y.2))) := by
  unfold p_msg1
  exact if_pos h3
theorem p_mes_3 {b x f : Nat} {k4 k7 : k_T} {fl : Int32} (h1 : p_bh t S.1 (p_nx t k) = .inr b) (h2 : nI (a_ms S.1 b).length < S.1.1) (h3 : p_is t (p_nx t (p_nx t k)) 5 = true) (h4 : p_num t (p_nx t (p_nx t (p_nx t k))) 1 9999 = .inr (x, k4)) (h5 : p_fls t 701 0 k4 = p_fls t f fl k7) : p_mes t S k = p_bind (p_fls t f fl k7) (fun y => .inr ((v_co S.1 b (nI x) y.1, S.2), y.2)) := by
  rw [p_mes_1 h1 h2, p_mes_2 h3, h4, ← h5]
  rfl
theorem p_ex_i {k2 : k_T} {i : Nat} (h : p_ex t k i = .inr k2) : p_is t k i = true ∧ k2 = p_nx t k := by
  unfold p_ex at h
  by_cases h9 : p_is t k i = true
  · rw [if_pos h9] at h; cases h; exact ⟨h9, rfl⟩
  · rw [if_neg h9] at h; cases h
theorem p_ex_e {e : p_E} {i : Nat} (h : p_ex t k i = .inl e) : ¬ p_is t k i = true ∧ e = p_er 1 k := by
  unfold p_ex at h
  by_cases h9 : p_is t k i = true
  · rw [if_pos h9] at h; cases h
  · rw [if_neg h9] at h; cases h; exact ⟨h9, rfl⟩
theorem J_mes (hG9 : g_Y G lo tt) (hb : b_B t) (hJ : y_J G lo n0 s0 wb σ0 pa ps sel onl x0 inp w0 w1 w2 w3 w6 w7 w8 t σ S k ow Λ wd o []) (h0 : k.1 ≠ 0) : sx_C G 12 YX4_parseMessage [.ref pa] σ (y_U lo n0 s0 σ0 (p_mes t S k) (fun y oc τ => oc = .inl none ∧ ∃ ow Λ wd, y_J G lo n0 s0 wb σ0 pa ps sel onl x0 inp w0 w1 w2 w3 w6 w7 w8 t τ y.1 y.2 ow Λ wd o [])) := by
  have loop : ∀ (b x : Nat) (k4 : k_T), p_bh t S.1 (p_nx t k) = .inr b → nI (a_ms S.1 b).length < S.1.1 → p_is t (p_nx t (p_nx t k)) 5 = true → p_num t (p_nx t (p_nx t (p_nx t k))) 1 9999 = .inr (x, k4) → ∀ f (k7 : k_T) (fl : Int32) (τ : sx_St) (wd7 : Nat), y_J G lo n0 s0 wb σ0 pa ps sel onl x0 inp w0 w1 w2 w3 w6 w7 w8 t τ S k7 ow Λ wd7 o [] → t.length - k7.2.1 < f → p_fls t 701 0 k4 = p_fls t f fl k7 → sx_V G 12 YX4_parseMessage 57 [some (.ref pa), some (.int (nI b)), some (.int (nI x)), some (.int fl), some (.int (o_I (p_fl t k7)))] [] τ (y_U lo n0 s0 σ0 (p_mes t S k) (fun y oc τ => oc = .inl none ∧ ∃ ow Λ wd, y_J G lo n0 s0 wb σ0 pa ps sel onl x0 inp w0 w1 w2 w3 w6 w7 w8 t τ y.1 y.2 ow Λ wd o [])) := by
    intro b x k4 hbh hlt hie hnu f
    have hbl := (p_bh_ok hbh).2.2
    have hm30 : (a_b S.1 b).2.2.length ≤ 30 := (hJ.2.2.2.2.2.2.1.1.2.2.2.1 b hbl).2.1
    have hcap62 := hJ.2.1.2 b hbl
    have hms : (a_ms S.1 b).length = (a_b S.1 b).2.2.length := rfl
    have hl30 : (a_b S.1 b).2.2.length < 30 := (p_OV_co (x := 1) (fl := 0) hJ.2.2.2.2.2.2.1.1 hbl hlt (by decide)).2
    have hb3 := hJ.2.2.2.2.2.2.1.1.2.1
    induction f with
    | zero => intro k7 fl τ wd7 h1 h2; omega
    | succ f ih =>
    intro k7 fl τ wd7 hJ7 hm7 hfl
    obtain ⟨⟨tkJ1, vvJ1, hpJ1, kzJ1, hvvJ1, wwJ1, koJ1⟩, wlJ1⟩ := id hJ7.1
    obtain ⟨vsJ1, wrJ1⟩ := k_Sr_rd (y_w_r hG9 wwJ1 (by have := p_w_ll koJ1 (J_7 hJ7); omega))
    refine sv_iload dX4_parseMessage_57 rfl ?_
    refine sv_iconst (-1) dX4_parseMessage_59 (by decide +kernel) ?_
    refine sv_icmp_eq (tgt := 102) dX4_parseMessage_60 (by decide) (fun c60 => ?_) (fun c60 => ?_)
    · have hfn : p_fl t k7 = none := (o_I_m1 _ (fun b z => by have := (p_fl_5 z).1; omega)).mp c60
      have hres := p_mes_3 hbh hlt hie hnu hfl
      rw [fls_n hfn] at hres
      have hres : p_mes t S k = .inr ((v_co S.1 b (nI x) fl, S.2), k7) := hres
      have hko := hJ.1.1.choose_spec.choose_spec.2.2.2.2
      have hgo := p_mes_ok hJ.2.2.2.2.2.2.1 hko hres h0
      have hsv2 := (hJ7).2.1.1.1.1
      obtain ⟨mc6, fl5, hls3, har4, -⟩ := id (hJ7).2.1.1.1.2.1
      have hbx7 := ((hJ7).2.1.1.1.2.2.2.1 b hbl).1.1
      refine sv_aload_n dX4_parseMessage_102 rfl ?_
      refine sv_get fg_X4_18 dX4_parseMessage_103 (sx_rd_c hpJ1) rfl ?_
      refine sv_get fg_X4_175 dX4_parseMessage_106 (sx_rd_c hsv2) rfl ?_
      refine sv_iload_n dX4_parseMessage_109 rfl ?_
      refine sv_cvR _ (cj_get (hJ7).2.1.1.1.2.1 hbl) okJ2_get kv_X4_211 (sx_rd_c hls3) rfl dX4_parseMessage_110 rfl rfl (by omega) (Nat.le_of_ble_eq_true rfl) ?_
      refine sv_cast (C0 := "") (sx_rd_c hbx7) rfl q897 dX4_parseMessage_113 ?_
      refine sv_iload_n dX4_parseMessage_116 rfl ?_
      refine sv_iload_n dX4_parseMessage_117 rfl ?_
      refine sv_cvP _ (cc_badd ((hJ7).2.1.1.1.2.2.2.1 b hbl).1 (sz := nI x) (fl := fl) (by omega)) okX6_add kv_X4_215 (sx_rd_c hbx7) rfl dX4_parseMessage_118 rfl rfl (by omega) (Nat.le_of_ble_eq_true rfl) ?_
      intro v9 τ9 hp9
      obtain ⟨rfl, aM, ar2, cap2, d1, d2, d3, d4, hB2, F2⟩ := hp9
      refine sv_istore dX4_parseMessage_121 (by decide) ?_
      refine sv_vret rfl dX4_parseMessage_123 ?_
      obtain ⟨ow2, Λ2, hJ9⟩ := J_co hG9 hJ7 hbl F2 (by omega) hB2 d3 d4 (by omega) hgo.1
      exact y_U_r hres ⟨rfl, ow2, Λ2, wd7, hJ9⟩
    · obtain ⟨fx, hfx⟩ : ∃ fx, p_fl t k7 = some fx := by
        cases hz : p_fl t k7 with
        | none => rw [hz] at c60; exact absurd rfl c60
        | some fx => exact ⟨fx, rfl⟩
      have h5x := p_fl_5 hfx
      rw [show o_I (p_fl t k7) = nI fx by rw [hfx]; rfl]
      refine sv_aload_n dX4_parseMessage_63 rfl ?_
      refine sv_iload_n dX4_parseMessage_64 rfl ?_
      refine sv_iload dX4_parseMessage_65 rfl ?_
      refine sv_cnR _ cc_has okX1_has ks_X4_208 dX4_parseMessage_67 rfl rfl (by omega) (Nat.le_of_ble_eq_true rfl) ?_
      refine sv_tI (y := b_I (a_has fl fx)) rfl ?_
      refine sv_if_neB (tgt := 77) dX4_parseMessage_70 (by decide) (fun c70 => ?_) (fun c70 => ?_)
      · refine sv_iconst (nI 0) dX4_parseMessage_77 (by decide +kernel) ?_
        refine sv_tI b0_I ?_
        refine sv_iconst (nI 3) dX4_parseMessage_78 (by decide +kernel) ?_
        refine sv_cv _ (J_req0 hG9 hJ7 (c := 3)) okX4_require (sx_rd_c hpJ1) rfl kv_X4_115.1 kv_X4_115.2.1 kv_X4_115.2.2 dX4_parseMessage_79 rfl rfl (by omega) (Nat.le_of_ble_eq_true rfl) (fun v τ h => by obtain ⟨q, e, _⟩ := h; cases e) (fun E q τ h => ?_)
        obtain ⟨q9, e9, F9⟩ := id h
        cases e9
        refine sv_out (fun x hx => by cases hx) ?_
        exact y_U_l (by rw [p_mes_3 hbh hlt hie hnu hfl, fls_h hfx c70]; rfl) h
      · refine sv_iconst (nI 1) dX4_parseMessage_73 (by decide +kernel) ?_
        refine sv_goto (tgt := 78) dX4_parseMessage_74 (by decide) ?_
        refine sv_tI b1_I ?_
        refine sv_iconst (nI 3) dX4_parseMessage_78 (by decide +kernel) ?_
        refine sv_cvR _ J_req1 okX4_require kv_X4_115 (sx_rd_c hpJ1) rfl dX4_parseMessage_79 rfl rfl (by omega) (Nat.le_of_ble_eq_true rfl) ?_
        refine sv_iload_n dX4_parseMessage_82 rfl ?_
        refine sv_iconst (nI 1) dX4_parseMessage_83 (by decide +kernel) ?_
        refine sv_iload dX4_parseMessage_84 rfl ?_
        refine sv_ishl dX4_parseMessage_86 ?_
        refine sv_ior dX4_parseMessage_87 ?_
        refine sv_tI (y := fl ||| (nI 1 <<< (nI fx &&& 31))) rfl ?_
        refine sv_istore_n dX4_parseMessage_88 (by decide) ?_
        refine sv_aload_n dX4_parseMessage_89 rfl ?_
        refine sv_cvP _ (J_next hG9 hb hJ7) okX4_next kv_X4_36 (sx_rd_c hpJ1) rfl dX4_parseMessage_90 rfl rfl (by omega) (Nat.le_of_ble_eq_true rfl) ?_
        intro v8 τ9 hp10
        obtain ⟨rfl, wd12, hJ11⟩ := hp10
        obtain ⟨⟨tkJ13, vvJ13, hpJ13, kzJ13, hvvJ13, wwJ13, koJ13⟩, wlJ13⟩ := id hJ11.1
        obtain ⟨vsJ13, wrJ13⟩ := k_Sr_rd (y_w_r hG9 wwJ13 (by have := p_w_ll koJ13 (J_7 hJ11); omega))
        refine sv_aload_n dX4_parseMessage_93 rfl ?_
        refine sv_cvP _ (J_flag hG9 hb hJ11) okX4_flag kv_X4_153 (sx_rd_c hpJ13) rfl dX4_parseMessage_94 rfl rfl (by omega) (Nat.le_of_ble_eq_true rfl) ?_
        intro v14 τ15 hp16
        obtain ⟨rfl, hJ17⟩ := hp16
        obtain ⟨⟨tkJ19, vvJ19, hpJ19, kzJ19, hvvJ19, wwJ19, koJ19⟩, wlJ19⟩ := id hJ17.1
        obtain ⟨vsJ19, wrJ19⟩ := k_Sr_rd (y_w_r hG9 wwJ19 (by have := p_w_ll koJ19 (J_7 hJ17); omega))
        refine sv_istore dX4_parseMessage_97 (by decide) ?_
        refine sv_goto (tgt := 57) dX4_parseMessage_99 (by decide) ?_
        have hk7 := hJ7.1.1.choose_spec.choose_spec.2.2.2.2
        have g1 : k7.2.2.1 ≤ (p_nx t k7).2.1 := (k_n_p hk7.2.1).1
        have g2 := hk7.2.2.2.2.1 (by omega)
        have g3 := hk7.2.1
        exact ih _ _ _ _ hJ17 (by omega) (by rw [hfl, fls_s hfx c70])
  refine sx_body (by decide) (Nat.le_of_ble_eq_true rfl) ?_
  obtain ⟨⟨tkJ20, vvJ20, hpJ20, kzJ20, hvvJ20, wwJ20, koJ20⟩, wlJ20⟩ := id hJ.1
  obtain ⟨vsJ20, wrJ20⟩ := k_Sr_rd (y_w_r hG9 wwJ20 (by have := p_w_ll koJ20 (J_7 hJ); omega))
  refine sv_aload_n dX4_parseMessage_0 rfl ?_
  refine sv_cvP _ (J_next hG9 hb hJ) okX4_next kv_X4_36 (sx_rd_c hpJ20) rfl dX4_parseMessage_1 rfl rfl (by omega) (Nat.le_of_ble_eq_true rfl) ?_
  intro v21 τ22 hp23
  obtain ⟨rfl, wd25, hJ24⟩ := hp23
  obtain ⟨⟨tkJ26, vvJ26, hpJ26, kzJ26, hvvJ26, wwJ26, koJ26⟩, wlJ26⟩ := id hJ24.1
  obtain ⟨vsJ26, wrJ26⟩ := k_Sr_rd (y_w_r hG9 wwJ26 (by have := p_w_ll koJ26 (J_7 hJ24); omega))
  refine sv_aload_n dX4_parseMessage_4 rfl ?_
  refine sv_cv _ (J_bh hG9 hb hJ24) okX4_boxHere (sx_rd_c hpJ26) rfl kv_X4_198.1 kv_X4_198.2.1 kv_X4_198.2.2 dX4_parseMessage_5 rfl rfl (by omega) (Nat.le_of_ble_eq_true rfl) (fun v27 τ28 h29 => ?_) (fun E q τ h => ?_)
  rotate_left
  · have hU := y_U_thr h (fun _ _ _ z => ⟨_, z.1⟩)
    refine sv_out (fun x hx => by cases hx) ?_
    obtain ⟨e, he, hz⟩ := hU
    exact y_U_l (show p_mes t S k = .inl e by unfold p_mes; rw [he]; rfl) hz
  have hU := y_U_ret h29
  obtain ⟨b, hxb, hv9, hJ30⟩ := hU
  cases hv9
  have hbl := (p_bh_ok hxb).2.2
  obtain ⟨⟨tkJ31, vvJ31, hpJ31, kzJ31, hvvJ31, wwJ31, koJ31⟩, wlJ31⟩ := id hJ30.1
  obtain ⟨vsJ31, wrJ31⟩ := k_Sr_rd (y_w_r hG9 wwJ31 (by have := p_w_ll koJ31 (J_7 hJ30); omega))
  have hsv32 := (hJ30).2.1.1.1.1
  refine sv_istore_n dX4_parseMessage_8 (by decide) ?_
  refine sv_aload_n dX4_parseMessage_9 rfl ?_
  refine sv_aload_n dX4_parseMessage_10 rfl ?_
  refine sv_get fg_X4_18 dX4_parseMessage_11 (sx_rd_c hpJ31) rfl ?_
  refine sv_iload_n dX4_parseMessage_14 rfl ?_
  refine sv_cvR _ (cc_isFull (hJ30).2.1.1.1 hbl) okX2_isFull kv_X4_201 (sx_rd_c hsv32) rfl dX4_parseMessage_15 rfl rfl (by omega) (Nat.le_of_ble_eq_true rfl) ?_
  refine sv_if_neB (tgt := 25) dX4_parseMessage_18 (by decide) (fun c18 => ?_) (fun c18 => ?_)
  · refine sv_iconst (nI 0) dX4_parseMessage_25 (by decide +kernel) ?_
    refine sv_tI b0_I ?_
    refine sv_iconst (nI 4) dX4_parseMessage_26 (by decide +kernel) ?_
    refine sv_cv _ (J_req0 hG9 hJ30 (c := 4)) okX4_require (sx_rd_c hpJ31) rfl kv_X4_115.1 kv_X4_115.2.1 kv_X4_115.2.2 dX4_parseMessage_27 rfl rfl (by omega) (Nat.le_of_ble_eq_true rfl) (fun v τ h => by obtain ⟨q, e, _⟩ := h; cases e) (fun E q τ h => ?_)
    obtain ⟨q9, e9, F9⟩ := id h
    cases e9
    refine sv_out (fun x hx => by cases hx) ?_
    exact y_U_l (p_mes_0 hxb (Int32.not_lt.mpr (of_decide_eq_true c18))) h
  · have hlt : nI (a_ms S.1 b).length < S.1.1 := Int32.not_le.mp (of_decide_eq_false c18)
    refine sv_iconst (nI 1) dX4_parseMessage_21 (by decide +kernel) ?_
    refine sv_goto (tgt := 26) dX4_parseMessage_22 (by decide) ?_
    refine sv_tI b1_I ?_
    refine sv_iconst (nI 4) dX4_parseMessage_26 (by decide +kernel) ?_
    refine sv_cvR _ J_req1 okX4_require kv_X4_115 (sx_rd_c hpJ31) rfl dX4_parseMessage_27 rfl rfl (by omega) (Nat.le_of_ble_eq_true rfl) ?_
    refine sv_aload_n dX4_parseMessage_30 rfl ?_
    refine sv_cvP _ (J_next hG9 hb hJ30) okX4_next kv_X4_36 (sx_rd_c hpJ31) rfl dX4_parseMessage_31 rfl rfl (by omega) (Nat.le_of_ble_eq_true rfl) ?_
    intro v33 τ34 hp35
    obtain ⟨rfl, wd37, hJ36⟩ := hp35
    obtain ⟨⟨tkJ38, vvJ38, hpJ38, kzJ38, hvvJ38, wwJ38, koJ38⟩, wlJ38⟩ := id hJ36.1
    obtain ⟨vsJ38, wrJ38⟩ := k_Sr_rd (y_w_r hG9 wwJ38 (by have := p_w_ll koJ38 (J_7 hJ36); omega))
    refine sv_aload_n dX4_parseMessage_34 rfl ?_
    refine sv_ldcS 5 rfl dX4_parseMessage_35 ?_
    refine sv_cv _ (J_ex hG9 hb hJ36 (i := 5) (by decide) (by decide)) okX4_expect (sx_rd_c hpJ38) rfl kv_X4_205.1 kv_X4_205.2.1 kv_X4_205.2.2 dX4_parseMessage_37 rfl rfl (by omega) (Nat.le_of_ble_eq_true rfl) (fun v39 τ40 h41 => ?_) (fun E q τ h => ?_)
    rotate_left
    · have hU := y_U_thr h (fun _ _ _ z => ⟨_, z.1⟩)
      refine sv_out (fun x hx => by cases hx) ?_
      obtain ⟨e, he, hz⟩ := hU
      exact y_U_l (show p_mes t S k = .inl e by rw [p_mes_1 hxb hlt, (p_ex_e he).2]; unfold p_msg1; exact if_neg (p_ex_e he).1) hz
    have hU := y_U_ret h41
    obtain ⟨k3, hx8, hv8, wd3, hJ3⟩ := hU
    cases hv8
    obtain ⟨hie, rfl⟩ := p_ex_i hx8
    obtain ⟨⟨tkJ42, vvJ42, hpJ42, kzJ42, hvvJ42, wwJ42, koJ42⟩, wlJ42⟩ := id hJ3.1
    obtain ⟨vsJ42, wrJ42⟩ := k_Sr_rd (y_w_r hG9 wwJ42 (by have := p_w_ll koJ42 (J_7 hJ3); omega))
    refine sv_aload_n dX4_parseMessage_40 rfl ?_
    refine sv_iconst (nI 1) dX4_parseMessage_41 (by decide +kernel) ?_
    refine sv_sipush (nI 9999) dX4_parseMessage_42 (by decide +kernel) ?_
    refine sv_cv _ (J_num hG9 hb hJ3 (Nat.le_of_ble_eq_true rfl) (Nat.le_refl _)) okX4_number (sx_rd_c hpJ42) rfl kv_X4_170.1 kv_X4_170.2.1 kv_X4_170.2.2 dX4_parseMessage_45 rfl rfl (by omega) (Nat.le_of_ble_eq_true rfl) (fun v43 τ44 h45 => ?_) (fun E q τ h => ?_)
    rotate_left
    · have hU := y_U_thr h (fun _ _ _ z => ⟨_, z.1⟩)
      refine sv_out (fun x hx => by cases hx) ?_
      obtain ⟨e, he, hz⟩ := hU
      exact y_U_l (show p_mes t S k = .inl e by rw [p_mes_1 hxb hlt, p_mes_2 hie, he]; rfl) hz
    have hU := y_U_ret h45
    obtain ⟨⟨x, k2⟩, hx9, hv9, wdN, hJN⟩ := hU
    have hJN : y_J G lo n0 s0 wb σ0 pa ps sel onl x0 inp w0 w1 w2 w3 w6 w7 w8 t τ44 S k2 ow Λ wdN o [] := hJN
    cases hv9
    obtain ⟨⟨tkJ46, vvJ46, hpJ46, kzJ46, hvvJ46, wwJ46, koJ46⟩, wlJ46⟩ := id hJN.1
    obtain ⟨vsJ46, wrJ46⟩ := k_Sr_rd (y_w_r hG9 wwJ46 (by have := p_w_ll koJ46 (J_7 hJN); omega))
    have hsv47 := (hJN).2.1.1.1.1
    refine sv_istore_n dX4_parseMessage_48 (by decide) ?_
    refine sv_iconst (nI 0) dX4_parseMessage_49 (by decide +kernel) ?_
    refine sv_istore_n dX4_parseMessage_50 (by decide) ?_
    refine sv_aload_n dX4_parseMessage_51 rfl ?_
    refine sv_cvP _ (J_flag hG9 hb hJN) okX4_flag kv_X4_153 (sx_rd_c hpJ46) rfl dX4_parseMessage_52 rfl rfl (by omega) (Nat.le_of_ble_eq_true rfl) ?_
    intro v48 τ49 hp50
    obtain ⟨rfl, hJ51⟩ := hp50
    obtain ⟨⟨tkJ53, vvJ53, hpJ53, kzJ53, hvvJ53, wwJ53, koJ53⟩, wlJ53⟩ := id hJ51.1
    obtain ⟨vsJ53, wrJ53⟩ := k_Sr_rd (y_w_r hG9 wwJ53 (by have := p_w_ll koJ53 (J_7 hJ51); omega))
    refine sv_istore dX4_parseMessage_55 (by decide) ?_
    exact loop b x k2 hxb hlt hie hx9 701 k2 0 _ _ hJ51 (by have := J_7 hJ; omega) rfl
end CPN
