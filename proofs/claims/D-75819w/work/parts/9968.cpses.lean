set_option maxRecDepth 100000
section CPO
variable {G : sx_G} {σ τ ρ σ0 : sx_St} {pa ps sel onl x0 inp o wd lo n0 s0 wb : Nat} {tt : Nat → Nat} {t : List Int32} {k : k_T} {w0 w1 w2 w3 w6 w7 w8 : Value} {S : p_S} {ow : Nat → Nat} {Λ : Nat → Nat → Nat → Nat} {T : List (Nat × Nat × (a_M → Bool))}
/-- a new session -/
theorem K_aS {c sl so u tx ac sa cap : Nat} (hG9 : g_Y G lo tt) (hb : b_B t) (hJ : y_J G lo n0 s0 wb σ0 pa ps sel onl x0 inp w0 w1 w2 w3 w6 w7 w8 t σ S k ow Λ wd o []) (F : h_F (fun q => q = Λ 0 2 0 ∨ q = Λ 0 3 0) c sl σ τ) (hc : c ≤ 6) (hsl : sl ≤ 200) (hL : k_L G τ (Λ 0 2 0) sa cap (S.1.2.2.length + 1) (va_up (fun i => Λ 3 i 0) S.1.2.2.length so)) (hS : k_S G τ so u tx ac wd (p_w t k, none, false, false, 0, fun _ => 0, [])) (hsa : sa = Λ 0 3 0 ∨ sx_n σ ≤ sa) (hso : sx_n σ ≤ so) (hu : sx_n σ ≤ u) (htx : sx_n σ ≤ tx) (hac : sx_n σ ≤ ac) (hnm : p_nm t k = true) (h3 : S.1.2.2.length < 4) : ∃ ow2 Λ2, y_K G lo n0 s0 wb σ0 pa ps sel onl x0 inp w0 w1 w2 w3 w6 w7 w8 t τ (p_aS S.1 (p_w t k), S.2.1, S.2.2 ++ [(none, false)]) k ow2 Λ2 wd o [] (fun q => lo ≤ q) S.2.2.length := by
  obtain ⟨⟨⟨tk0, vv0, hp, hk9, hvv, hww, hko⟩, hwl⟩, ⟨hI, hcap⟩, ⟨how, o4, o5, o6, o7⟩, -, hz, hBd, hok, ⟨b1, b2, b3, b4⟩, hx⟩ := id hJ
  obtain ⟨hN, hk1⟩ := p_nm_o hb hko hnm
  obtain ⟨mc, fl, c1, c2, -⟩ := id hI.1.2.2.1
  have n1 := F.1.1
  have lt := k_V_lt hI.1
  have tg := hI.2.1
  have tg1 := tg.2.2.2.1
  have tg2 := tg.2.2.2.2.1
  rcases hww with ⟨h, -⟩ | ⟨hwn, nb, hn, hw1, hw2⟩
  · rw [h] at hN; have := hN.1; exact absurd this (by decide)
  obtain ⟨x1, x2, x3, x4, x5, x6⟩ := id hn
  have hn2 : k_Sn G τ wd nb (p_w t k) := k_Sn_fr F hn (fun z => z.elim (e_kn x4 c1 rfl) (e_kn x4 c2 rfl)) (fun z => z.elim (e_kn x5 c1 rfl) (e_kn x5 c2 rfl))
  have hnl := sx_lt x5
  have hI2 := c_I_aS F hI (by omega) (fun q _ z => by rcases z with z | z <;> rw [z] <;> omega) hL hS hn2 hsa hso hu htx hac ⟨o4, hw2⟩ ⟨by omega, by omega, by omega⟩
  have hlw := hwl hwn
  have hls := hI.2.2.1 sel (by omega)
  have hlen := hok.2.1
  refine ⟨_, _, K_sv hG9 hJ F (fun q _ z => by rcases z with z | z <;> rw [z] <;> omega) (fun q n f hq z => z.elim (e_kn hq c1 rfl) (e_kn hq c2 rfl)) hI2 ?_ ?_ ⟨fun i hi => ?_, fun i hi => ?_⟩ ?_ (p_ok_ses hok hN h3 (fun b h => by cases h)) ⟨fun s hs => ?_, fun s => ?_⟩⟩
  · intro i hi
    rw [Λ_S_1]
    exact hcap i hi
  · intro q hq h
    have h1 : q ≠ sa := by
      rcases hsa with e | e
      · intro z; rw [z, e] at h; omega
      · omega
    unfold ow_S
    rw [if_neg h1, if_neg (by omega), if_neg (by omega), if_neg (by omega), if_neg (by omega)]
  · rw [Λ_S_1, Λ_S_1]; exact ⟨(hz.1 i hi).1.1, (hz.1 i hi).2.1⟩
  · have hi : i < (S.1.2.2 ++ [_]).length := hi
    rw [List.length_append, List.length_singleton] at hi
    by_cases hx : i = S.1.2.2.length
    · rw [hx, Λ_S_3, Λ_S_3]; exact ⟨hlw, show lo ≤ nb by omega⟩
    · rw [Λ_S_3n hx, Λ_S_3n hx]; exact ⟨(hz.2 i (by omega)).1.1, (hz.2 i (by omega)).2.1⟩
  · have g1 := F.1.2
    have g2 := F.2.1
    unfold y_B at hBd ⊢
    have e1 : p_tot (p_aS S.1 (p_w t k)) = p_tot S.1 := p_tot_s
    have e2 : (p_aS S.1 (p_w t k)).2.2.length = S.1.2.2.length + 1 := by show (S.1.2.2 ++ [_]).length = _; rw [List.length_append]; rfl
    show sx_n τ ≤ n0 + 4 * k.2.2.1 + 2 * k.2.1 + 5 * S.1.2.1.length + 6 * (p_aS S.1 (p_w t k)).2.2.length + 3 * p_tot (p_aS S.1 (p_w t k)) ∧ sx_s τ ≤ s0 + 30 * k.2.2.1 + 4 * k.2.1 + 60 * S.1.2.1.length + 200 * (p_aS S.1 (p_w t k)).2.2.length + 300 * p_tot (p_aS S.1 (p_w t k))
    rw [e1, e2]
    omega
  · rw [gd_aps, if_pos (by omega)]
  · rw [gd_aps]
    by_cases h1 : s < S.2.2.length
    · rw [if_pos h1]
    · rw [if_neg h1]
      have e : S.2.2.getD s (none, false) = (none, false) := by rw [List.getD_eq_getElem?_getD, List.getElem?_eq_none (by omega)]; rfl
      rw [e]
      by_cases h2 : s = S.2.2.length
      · rw [if_pos h2]
      · rw [if_neg h2]
/-- what the new session selects -/
theorem K_ar {u1 u2 : Option Nat × Bool} {L : List (Option Nat × Bool)} {V : a_V} {hl : Bool} {m : Nat} {fs fo fs2 fo2 : Nat → Int32} (hJ : y_K G lo n0 s0 wb σ0 pa ps sel onl x0 inp w0 w1 w2 w3 w6 w7 w8 t σ (V, hl, L ++ [u1]) k ow Λ wd o [] (fun q => lo ≤ q ∧ q ≠ wd) m) (F : h_F (fun q => q = sel ∨ q = onl) 0 0 σ τ) (h1 : sx_c τ sel = some (.inl (sg_a G 0, 4, .inl fs2))) (h2 : sx_c τ onl = some (.inl (sg_a G 3, 4, .inl fo2))) (a3 : ∀ s, s < m → fs s = o_I ((L ++ [u1]).getD s (none, false)).1) (a4 : ∀ s, fo s = b_I ((L ++ [u1]).getD s (none, false)).2) (hs : fs2 L.length = o_I u2.1) (hs2 : ∀ s, s ≠ L.length → fs2 s = fs s) (ho2 : ∀ s, s ≠ L.length → fo2 s = fo s) (ho : fo2 L.length = b_I u2.2) (hm : L.length ≤ m) (hok : p_ok (V, hl, L ++ [u2])) : y_J G lo n0 s0 wb σ0 pa ps sel onl x0 inp w0 w1 w2 w3 w6 w7 w8 t τ (V, hl, L ++ [u2]) k ow Λ wd o [] := by
  obtain ⟨⟨⟨tk0, vv0, hp, hk9, hvv, hww, hko⟩, hwl⟩, ⟨hI, hcap⟩, ⟨how, o4, o5, o6, o7⟩, ⟨gs, go, c1, c2, -⟩, hz, hB, hok0, ⟨b1, b2, b3, b4⟩, hx⟩ := hJ
  have n1 := F.1.1
  refine ⟨⟨⟨tk0, vv0, h_F_c F hp (fun z => z.elim (e_kn hp c1 rfl) (e_kn hp c2 rfl)), hk9, hvv, ?_, hko⟩, hwl⟩, ⟨c_I_w9 F hI (fun q z => by rcases z with z | z <;> rw [z] <;> omega), hcap⟩, ⟨how, o4, o5, o6, by omega⟩, ⟨fs2, fo2, h1, h2, fun s h => ?_, fun s => ?_⟩, hz, ?_, hok, ⟨fun q hq => ?_, b2, by omega, b4⟩, hx.1, fun x hm => absurd hm List.not_mem_nil⟩
  · rcases hww with h | ⟨hne, nb, hn, hw⟩
    · exact Or.inl h
    · obtain ⟨x1, x2, x3, x4, x5, x6⟩ := id hn
      exact Or.inr ⟨hne, nb, k_Sn_fr F hn (fun z => z.elim (e_kn x4 c1 rfl) (e_kn x4 c2 rfl)) (fun z => by have := hw.1; omega), hw⟩
  · have h : s < (L ++ [u2]).length := h
    rw [List.length_append, List.length_singleton] at h
    show fs2 s = o_I ((L ++ [u2]).getD s (none, false)).1
    rw [gd_aps]
    by_cases h9 : s = L.length
    · rw [if_neg (by omega), if_pos h9, h9]; exact hs
    · rw [if_pos (by omega), hs2 s h9, a3 s (by omega), gd_aps, if_pos (by omega)]
  · show fo2 s = b_I ((L ++ [u2]).getD s (none, false)).2
    rw [gd_aps]
    by_cases h9 : s = L.length
    · rw [if_neg (by omega), if_pos h9, h9]; exact ho
    · rw [ho2 s h9, a4 s, gd_aps, if_neg h9, if_neg h9]
  · have g1 := F.1.2
    have g2 := F.2.1
    have hB : sx_n σ ≤ n0 + 4 * k.2.2.1 + 2 * k.2.1 + 5 * V.2.1.length + 6 * V.2.2.length + 3 * p_tot V ∧ sx_s σ ≤ s0 + 30 * k.2.2.1 + 4 * k.2.1 + 60 * V.2.1.length + 200 * V.2.2.length + 300 * p_tot V := hB
    show sx_n τ ≤ n0 + 4 * k.2.2.1 + 2 * k.2.1 + 5 * V.2.1.length + 6 * V.2.2.length + 3 * p_tot V ∧ sx_s τ ≤ s0 + 30 * k.2.2.1 + 4 * k.2.1 + 60 * V.2.1.length + 200 * V.2.2.length + 300 * p_tot V
    omega
  · have h8 := hI.2.2.1 sel (by omega)
    have h9 := hI.2.2.1 onl (by omega)
    rw [F.2.2 q (by omega) (by omega)]
    exact b1 q hq
theorem p_sss_1 (h1 : S.1.2.2.length < 4) (h2 : p_nm t (p_nx t k) = true) (h3 : (p_fs S.1 (p_w t (p_nx t k))).isNone = true) : p_sss t S k = p_ses1 t (p_aS S.1 (p_w t (p_nx t k)), S.2) (p_nx t (p_nx t k)) := by
  unfold p_sss
  rw [if_pos h1, if_pos h2, if_pos h3]
theorem p_sss_2 (h1 : S.1.2.2.length < 4) (h2 : p_nm t (p_nx t k) = true) (h3 : (p_fs S.1 (p_w t (p_nx t k))).isNone = true) (h4 : p_sy t (p_nx t (p_nx t k)) (nI 59) = true) : p_sss t S k = .inr ((p_aS S.1 (p_w t (p_nx t k)), S.2.1, S.2.2 ++ [(none, false)]), p_nx t (p_nx t k)) := by
  rw [p_sss_1 h1 h2 h3]
  unfold p_ses1
  exact if_pos h4
theorem p_sss_3 {k4 : k_T} (h1 : S.1.2.2.length < 4) (h2 : p_nm t (p_nx t k) = true) (h3 : (p_fs S.1 (p_w t (p_nx t k))).isNone = true) (h4 : p_sy t (p_nx t (p_nx t k)) (nI 59) = false) (h5 : (if p_is t (p_nx t (p_nx t k)) 6 = true then p_nx t (p_nx t (p_nx t k)) else p_nx t (p_nx t k)) = k4) : p_sss t S k = p_bind (p_bh t (p_aS S.1 (p_w t (p_nx t k))) k4) (fun b => .inr ((p_aS S.1 (p_w t (p_nx t k)), S.2.1, S.2.2 ++ [(some b, p_is t (p_nx t (p_nx t k)) 6)]), p_nx t k4)) := by
  rw [p_sss_1 h1 h2 h3]
  unfold p_ses1
  rw [← h5]
  exact if_neg (bf_n h4)
theorem J_ses (hG9 : g_Y G lo tt) (hb : b_B t) (hJ : y_J G lo n0 s0 wb σ0 pa ps sel onl x0 inp w0 w1 w2 w3 w6 w7 w8 t σ S k ow Λ wd o []) (h0 : k.1 ≠ 0) : sx_C G 12 YX4_parseSession [.ref pa] σ (y_U lo n0 s0 σ0 (p_sss t S k) (fun y oc τ => oc = .inl none ∧ ∃ ow Λ wd, y_J G lo n0 s0 wb σ0 pa ps sel onl x0 inp w0 w1 w2 w3 w6 w7 w8 t τ y.1 y.2 ow Λ wd o [])) := by
  refine sx_body (by decide) (Nat.le_of_ble_eq_true rfl) ?_
  obtain ⟨⟨tkJ1, vvJ1, hpJ1, kzJ1, hvvJ1, wwJ1, koJ1⟩, wlJ1⟩ := id hJ.1
  obtain ⟨vsJ1, wrJ1⟩ := k_Sr_rd (y_w_r hG9 wwJ1 (by have := p_w_ll koJ1 (J_7 hJ); omega))
  have hsv2 := (hJ).2.1.1.1.1
  obtain ⟨mc6, fl5, hls3, har4, -⟩ := id (hJ).2.1.1.1.2.2.1
  have hV4 := hJ.2.2.2.2.2.2.1.1.2.2.1
  have hlen := hJ.2.2.2.2.2.2.1.2.1
  have hll : ∀ o, (S.2.2 ++ [o]).length = S.2.2.length + 1 := fun o => by rw [List.length_append]; rfl
  refine sv_aload_n dX4_parseSession_0 rfl ?_
  refine sv_get fg_X4_18 dX4_parseSession_1 (sx_rd_c hpJ1) rfl ?_
  refine sv_get fg_X4_217 dX4_parseSession_4 (sx_rd_c hsv2) rfl ?_
  refine sv_cvR _ (cj_size (hJ).2.1.1.1.2.2.1) okJ2_size kv_X4_179 (sx_rd_c hls3) rfl dX4_parseSession_7 rfl rfl (by omega) (Nat.le_of_ble_eq_true rfl) ?_
  refine sv_istore_n dX4_parseSession_10 (by decide) ?_
  refine sv_aload_n dX4_parseSession_11 rfl ?_
  refine sv_iload_n dX4_parseSession_12 rfl ?_
  refine sv_iconst (nI 4) dX4_parseSession_13 (by decide +kernel) ?_
  refine sv_icmp_geN (tgt := 21) dX4_parseSession_14 (by decide) (by omega) (by omega) (fun c14 => ?_) (fun c14 => ?_)
  · refine sv_iconst (nI 0) dX4_parseSession_21 (by decide +kernel) ?_
    refine sv_tI b0_I ?_
    refine sv_iconst (nI 4) dX4_parseSession_22 (by decide +kernel) ?_
    refine sv_cv _ (J_req0 hG9 hJ (c := 4)) okX4_require (sx_rd_c hpJ1) rfl kv_X4_115.1 kv_X4_115.2.1 kv_X4_115.2.2 dX4_parseSession_23 rfl rfl (by omega) (Nat.le_of_ble_eq_true rfl) (fun v τ h => by obtain ⟨q, e, _⟩ := h; cases e) (fun E q τ h => ?_)
    obtain ⟨q9, e9, F9⟩ := id h
    cases e9
    refine sv_out (fun x hx => by cases hx) ?_
    exact y_U_l (by unfold p_sss; rw [if_neg (show ¬ S.1.2.2.length < 4 by omega)]) h
  · refine sv_iconst (nI 1) dX4_parseSession_17 (by decide +kernel) ?_
    refine sv_goto (tgt := 22) dX4_parseSession_18 (by decide) ?_
    refine sv_tI b1_I ?_
    refine sv_iconst (nI 4) dX4_parseSession_22 (by decide +kernel) ?_
    refine sv_cvR _ J_req1 okX4_require kv_X4_115 (sx_rd_c hpJ1) rfl dX4_parseSession_23 rfl rfl (by omega) (Nat.le_of_ble_eq_true rfl) ?_
    refine sv_aload_n dX4_parseSession_26 rfl ?_
    refine sv_cvP _ (J_next hG9 hb hJ) okX4_next kv_X4_36 (sx_rd_c hpJ1) rfl dX4_parseSession_27 rfl rfl (by omega) (Nat.le_of_ble_eq_true rfl) ?_
    intro v7 τ8 hp9
    obtain ⟨rfl, wd11, hJ10⟩ := hp9
    obtain ⟨⟨tkJ12, vvJ12, hpJ12, kzJ12, hvvJ12, wwJ12, koJ12⟩, wlJ12⟩ := id hJ10.1
    obtain ⟨vsJ12, wrJ12⟩ := k_Sr_rd (y_w_r hG9 wwJ12 (by have := p_w_ll koJ12 (J_7 hJ10); omega))
    refine sv_aload_n dX4_parseSession_30 rfl ?_
    refine sv_cv _ (J_rn hG9 hb hJ10) okX4_requireName (sx_rd_c hpJ12) rfl kv_X4_183.1 kv_X4_183.2.1 kv_X4_183.2.2 dX4_parseSession_31 rfl rfl (by omega) (Nat.le_of_ble_eq_true rfl) (fun v13 τ14 h15 => ?_) (fun E q τ h => ?_)
    rotate_left
    · have hU := y_U_thr h (fun _ _ _ z => ⟨_, z.1⟩)
      refine sv_out (fun x hx => by cases hx) ?_
      obtain ⟨e, he, hz⟩ := hU
      have he2 : p_sss t S k = .inl e := by
        unfold p_rn at he
        unfold p_sss
        rw [if_pos (show S.1.2.2.length < 4 by omega)]
        by_cases h : p_nm t (p_nx t k) = true
        · rw [if_pos h] at he; cases he
        · rw [if_neg h] at he ⊢; cases he; rfl
      exact y_U_l he2 hz
    have hU := y_U_ret h15
    obtain ⟨_, hx9, hv9, hJ16⟩ := hU
    have hyes : p_nm t (p_nx t k) = true := by
      cases hz : p_nm t (p_nx t k) with
      | true => rfl
      | false => unfold p_rn at hx9; rw [if_neg (bf_n hz)] at hx9; cases hx9
    cases hv9
    obtain ⟨⟨tkJ17, vvJ17, hpJ17, kzJ17, hvvJ17, wwJ17, koJ17⟩, wlJ17⟩ := id hJ16.1
    obtain ⟨vsJ17, wrJ17⟩ := k_Sr_rd (y_w_r hG9 wwJ17 (by have := p_w_ll koJ17 (J_7 hJ16); omega))
    have hsv18 := (hJ16).2.1.1.1.1
    refine sv_aload_n dX4_parseSession_34 rfl ?_
    refine sv_aload_n dX4_parseSession_35 rfl ?_
    refine sv_get fg_X4_18 dX4_parseSession_36 (sx_rd_c hpJ17) rfl ?_
    refine sv_aload_n dX4_parseSession_39 rfl ?_
    refine sv_get fg_X4_32 dX4_parseSession_40 (sx_rd_c hpJ17) rfl ?_
    refine sv_cvR _ (cc_fse hG9.1 (hJ16).2.1.1.1 (p_OV_w (hJ16).2.2.2.2.2.2.1.1) (y_w_r hG9 wwJ17 (by have := p_w_ll koJ17 (J_7 hJ16); omega)) (fun k9 hk9 => by have := ((hJ16).2.2.2.2.2.2.1.1.2.2.2.2 k9 hk9).1.2.1; omega) (fun k9 hk9 => ((hJ16).2.2.2.2.1.2 k9 hk9).1.2)) okX2_findSession kv_X4_220 (sx_rd_c hsv18) rfl dX4_parseSession_43 rfl rfl (by omega) (Nat.le_of_ble_eq_true rfl) ?_
    rw [fs_w (hJ16).2.2.2.2.2.2.1.1 (p_w_128 hb koJ17)]
    refine sv_iconst (-1) dX4_parseSession_46 (by decide +kernel) ?_
    refine sv_icmp_ne (tgt := 54) dX4_parseSession_47 (by decide) (fun c47 => ?_) (fun c47 => ?_)
    · have hno : (p_fs S.1 (p_w t (p_nx t k))).isNone = false := by
        cases hz : p_fs S.1 (p_w t (p_nx t k)) with
        | none => rw [hz] at c47; exact absurd rfl c47
        | some b => rfl
      refine sv_iconst (nI 0) dX4_parseSession_54 (by decide +kernel) ?_
      refine sv_tI b0_I ?_
      refine sv_iconst (nI 3) dX4_parseSession_55 (by decide +kernel) ?_
      refine sv_cv _ (J_req0 hG9 hJ16 (c := 3)) okX4_require (sx_rd_c hpJ17) rfl kv_X4_115.1 kv_X4_115.2.1 kv_X4_115.2.2 dX4_parseSession_56 rfl rfl (by omega) (Nat.le_of_ble_eq_true rfl) (fun v τ h => by obtain ⟨q, e, _⟩ := h; cases e) (fun E q τ h => ?_)
      obtain ⟨q9, e9, F9⟩ := id h
      cases e9
      refine sv_out (fun x hx => by cases hx) ?_
      exact y_U_l (by unfold p_sss; rw [if_pos (show S.1.2.2.length < 4 by omega), if_pos hyes, if_neg (bf_n hno)]) h
    · have hno : (p_fs S.1 (p_w t (p_nx t k))).isNone = true := by
        rw [(o_I_m1 _ (fun b z => by have h8 := p_fs_lt z; have h9 := hJ.2.2.2.2.2.2.1.1.2.2.1; omega)).mp c47]
        rfl
      refine sv_iconst (nI 1) dX4_parseSession_50 (by decide +kernel) ?_
      refine sv_goto (tgt := 55) dX4_parseSession_51 (by decide) ?_
      refine sv_tI b1_I ?_
      refine sv_iconst (nI 3) dX4_parseSession_55 (by decide +kernel) ?_
      refine sv_cvR _ J_req1 okX4_require kv_X4_115 (sx_rd_c hpJ17) rfl dX4_parseSession_56 rfl rfl (by omega) (Nat.le_of_ble_eq_true rfl) ?_
      obtain ⟨mc22, fl21, hls19, har20, -⟩ := id (hJ16).2.1.1.1.2.2.1
      have FFa : h_F (fun q => False) 0 0 τ14 τ14 := h_F_r
      refine sv_aload_n dX4_parseSession_59 rfl ?_
      refine sv_get fg_X4_18 dX4_parseSession_60 (sx_rd_c hpJ17) rfl ?_
      refine sv_get fg_X4_217 dX4_parseSession_63 (sx_rd_c hsv18) rfl ?_
      refine sv_new fn_X4_223 dX4_parseSession_66 ?_
      refine hs_al (fun a23 τ24 E29 F25 h26 N27 Z28 => ?_)
      have hpJ17' := h_F_c F25 hpJ17 (fun z => z)
      have hsv18' := h_F_c F25 hsv18 (fun z => z)
      have hls19' := h_F_c F25 hls19 (fun z => z)
      have har20' := h_F_c F25 har20 (fun z => z)
      have FF30 := h_F_u FFa F25 (fun _ _ z => z) (fun _ _ z => z.elim) (Nat.le_refl _) (Nat.le_refl _)
      have h26 : sx_c τ24 a23 = some (.inr (7, [.null, .int (nI 0), .int (nI 0), .int (nI 0), .int (b_I false), .int (b_I false), .null, .null, .null])) := by rw [nI_0, b_I_f]; exact h26
      refine sv_dup dX4_parseSession_69 rfl ?_
      refine sv_aload_n dX4_parseSession_70 rfl ?_
      refine sv_get fg_X4_32 dX4_parseSession_71 (sx_rd_c hpJ17') rfl ?_
      refine sv_ciP _ (cc_sinit (l := p_w t (p_nx t k)) h26) okX8_init ki_X4_225 dX4_parseSession_74 rfl rfl (by omega) (Nat.le_of_ble_eq_true rfl) ?_
      intro v34 τ32 hp33
      obtain ⟨rfl, uS, tS, aS, du, dt, da, hSn, F31⟩ := hp33
      have hSn := hSn
      have N35 := (F31).1.1
      have hpJ17'' := h_F_c F31 hpJ17' (e_kn hpJ17' h26 rfl)
      have hsv18'' := h_F_c F31 hsv18' (e_kn hsv18' h26 rfl)
      have hls19'' := h_F_c F31 hls19' (e_kn hls19' h26 rfl)
      have har20'' := h_F_c F31 har20' (e_kn har20' h26 rfl)
      have FF36 := h_F_u FF30 F31 (fun _ _ z => z) (by intro q hq hz; omega) (Nat.le_refl _) (Nat.le_refl _)
      have FFb := FF36
      have hVb := (hJ16).2.1.1.1
      have hel : ∀ i, i < S.1.2.2.length → k_E G τ32 7 (Λ 3 i 0) := fun i hi => ⟨_, h_F_c FFb (hVb.2.2.2.2 i hi).1.choose_spec.choose_spec.choose_spec.1 (fun z => z)⟩
      have hLa := k_L_fr FFb hVb.2.2.1 (fun z => z) (fun z => z)
      have ltI := k_V_lt hVb
      have lt2 := ltI.2.1
      have lt3 := ltI.2.2.1
      have lt4 := ltI.2.2.2.1
      have lt5 := ltI.2.2.2.2.1
      have nFb := FFb.1.1
      refine sv_cvP _ (cj_add hLa k_O_7 (by decide) ⟨_, hSn.choose_spec.choose_spec.choose_spec.1⟩ hel (by omega)) okJ2_add kv_X4_195 (sx_rd_c hls19'') rfl dX4_parseSession_77 rfl rfl (by omega) (Nat.le_of_ble_eq_true rfl) ?_
      intro vA τA hA
      obtain ⟨rfl, ba, cap2, d1, d2, d3, hL2, F3⟩ := hA
      have Fz : h_F (fun q => q = Λ 0 2 0 ∨ q = Λ 0 3 0) _ _ τ14 τA := h_F_u FFb F3 (fun _ _ z => z.elim) (fun _ _ z => z) (Nat.le_refl _) (Nat.le_refl _)
      have n3 := F3.1.1
      have hS3 := k_S_fr F3 hSn (by omega) (by omega) (by omega) (by omega)
      obtain ⟨ow2, Λ2, hK⟩ := K_aS hG9 hb hJ16 Fz (by omega) (by omega) hL2 hS3 (by omega) (by omega) (by omega) (by omega) (by omega) hyes (by omega)
      obtain ⟨⟨tkK, vvK, hpK, -⟩, -⟩ := id hK.1
      refine sv_pop dX4_parseSession_80 rfl ?_
      refine sv_aload_n dX4_parseSession_81 rfl ?_
      refine sv_cvP _ (K_next hG9 hb hK) okX4_next kv_X4_36 (sx_rd_c hpK) rfl dX4_parseSession_82 rfl rfl (by omega) (Nat.le_of_ble_eq_true rfl) ?_
      intro vK τK hpK2
      obtain ⟨rfl, wdK, hJK⟩ := hpK2
      obtain ⟨⟨tkL, vvL, hpL, -⟩, -⟩ := id hJK.1
      have hN := (p_nm_o hb koJ17 hyes).1
      obtain ⟨fs37, fo38, ha39, hb40, hc41, hd42⟩ := id (hJK).2.2.2.1
      have he43 : sel ≠ onl := fun z => by have h8 := (hJK).2.2.1.1; rw [z] at h8; omega
      refine sv_aload_n dX4_parseSession_85 rfl ?_
      refine sv_get fg_X4_22 dX4_parseSession_86 (sx_rd_c hpL) rfl ?_
      refine sv_iload_n dX4_parseSession_89 rfl ?_
      refine sv_iconst (-1) dX4_parseSession_90 (by decide +kernel) ?_
      refine sv_iast dX4_parseSession_91 ha39 (vp_in_nI (by omega) (by omega)) ?_
      rw [nI_clamp (show S.1.2.2.length < 2 ^ 31 by omega)]
      refine hs_up ha39 (fun τ44 F45 h46 N47 Z48 => ?_)
      have h46 : sx_c τ44 sel = some (.inl (sg_a G 0, 4, .inl ((upd fs37 S.1.2.2.length ((-1)))))) := h46
      have hpL' := h_F_c F45 hpL (e_kn hpL ha39 rfl)
      have hb40' := h_F_c F45 hb40 (Ne.symm he43)
      have hJ6 := K_ar (u1 := (none, false)) (u2 := (none, false)) hJK (h_F_w F45 (fun _ _ z => Or.inl z) (Nat.le_refl _) (Nat.le_refl _)) h46 hb40' hc41 hd42 (by unfold upd; exact (if_pos hlen).trans rfl) (fun s hs => by unfold upd; exact if_neg (by rw [← hlen]; exact hs)) (fun _ _ => rfl) (by rw [hd42, gd_aps, if_neg (Nat.lt_irrefl _), if_pos rfl]) (by first | exact Nat.le_refl _ | (show S.2.2.length ≤ (S.2.2 ++ [_]).length; rw [hll]; omega)) (p_ok_ses hJ.2.2.2.2.2.2.1 hN (by omega) (fun b9 h9 => by cases h9))
      obtain ⟨⟨tkJ49, vvJ49, hpJ49, kzJ49, hvvJ49, wwJ49, koJ49⟩, wlJ49⟩ := id hJ6.1
      obtain ⟨vsJ49, wrJ49⟩ := k_Sr_rd (y_w_r hG9 wwJ49 (by have := p_w_ll koJ49 (J_7 hJ6); omega))
      obtain ⟨fs50, fo51, ha52, hb53, hc54, hd55⟩ := id (hJ6).2.2.2.1
      have he56 : sel ≠ onl := fun z => by have h8 := (hJ6).2.2.1.1; rw [z] at h8; omega
      refine sv_aload_n dX4_parseSession_92 rfl ?_
      refine sv_bipush (nI 59) dX4_parseSession_93 (by decide +kernel) ?_
      refine sv_cvR _ (J_sym hG9 hb hJ6 (c := 59) (by decide)) okX4_isSymbol kv_X4_226 (sx_rd_c hpJ49) rfl dX4_parseSession_95 rfl rfl (by omega) (Nat.le_of_ble_eq_true rfl) ?_
      refine sv_if_eqB (tgt := 102) dX4_parseSession_98 (by decide) (fun c98 => ?_) (fun c98 => ?_)
      · refine sv_aload_n dX4_parseSession_102 rfl ?_
        refine sv_get fg_X4_26 dX4_parseSession_103 (sx_rd_c hpJ49) rfl ?_
        refine sv_iload_n dX4_parseSession_106 rfl ?_
        refine sv_aload_n dX4_parseSession_107 rfl ?_
        refine sv_ldcS 6 rfl dX4_parseSession_108 ?_
        refine sv_cvR _ (J_word hG9 hb hJ6 (i := 6) (by decide) (by decide)) okX4_isWord kv_X4_111 (sx_rd_c hpJ49) rfl dX4_parseSession_110 rfl rfl (by omega) (Nat.le_of_ble_eq_true rfl) ?_
        refine sv_zast dX4_parseSession_113 hb53 (vp_in_nI (by omega) (by omega)) ?_
        rw [nI_clamp (show S.1.2.2.length < 2 ^ 31 by omega)]
        refine hs_up hb53 (fun τ57 F58 h59 N60 Z61 => ?_)
        have h59 : sx_c τ57 onl = some (.inl (sg_a G 3, 4, .inl ((upd fo51 S.1.2.2.length (vp_nar .boolean ((b_I (p_is t (p_nx t (p_nx t k)) 6)))))))) := h59
        have hpJ49' := h_F_c F58 hpJ49 (e_kn hpJ49 hb53 rfl)
        have ha52' := h_F_c F58 ha52 he56
        have hJ7 := K_ar (u1 := (none, false)) (u2 := (none, (p_is t (p_nx t (p_nx t k)) 6))) hJ6 (h_F_w F58 (fun _ _ z => Or.inr z) (Nat.le_refl _) (Nat.le_refl _)) ha52' h59 hc54 hd55 (by rw [hc54 _ (by show S.2.2.length < (S.2.2 ++ [_]).length; rw [hll]; omega), gd_aps, if_neg (Nat.lt_irrefl _), if_pos rfl]) (fun _ _ => rfl) (fun s hs => by unfold upd; exact if_neg (by rw [← hlen]; exact hs)) (by unfold upd; exact (if_pos hlen).trans (b_I_vn _)) (by first | exact Nat.le_refl _ | (show S.2.2.length ≤ (S.2.2 ++ [_]).length; rw [hll]; omega)) (p_ok_ses hJ.2.2.2.2.2.2.1 hN (by omega) (fun b9 h9 => by cases h9))
        obtain ⟨⟨tkJ62, vvJ62, hpJ62, kzJ62, hvvJ62, wwJ62, koJ62⟩, wlJ62⟩ := id hJ7.1
        obtain ⟨vsJ62, wrJ62⟩ := k_Sr_rd (y_w_r hG9 wwJ62 (by have := p_w_ll koJ62 (J_7 hJ7); omega))
        obtain ⟨fs63, fo64, ha65, hb66, hc67, hd68⟩ := id (hJ7).2.2.2.1
        have he69 : sel ≠ onl := fun z => by have h8 := (hJ7).2.2.1.1; rw [z] at h8; omega
        refine sv_aload_n dX4_parseSession_114 rfl ?_
        refine sv_get fg_X4_26 dX4_parseSession_115 (sx_rd_c hpJ62) rfl ?_
        refine sv_iload_n dX4_parseSession_118 rfl ?_
        refine sv_zald dX4_parseSession_119 (sx_rd_c hb66) (vp_in_nI (by omega) (by omega)) ?_
        rw [nI_clamp (show S.1.2.2.length < 2 ^ 31 by omega)]
        refine sv_tI (y := b_I (p_is t (p_nx t (p_nx t k)) 6)) (by rw [hd68, ← hlen]; show b_I ((S.2.2 ++ [_]).getD S.2.2.length _).2 = _; rw [gd_aps, if_neg (Nat.lt_irrefl _), if_pos rfl]) ?_
        refine sv_if_eqB (tgt := 127) dX4_parseSession_120 (by decide) (fun c120 => ?_) (fun c120 => ?_)
        · refine sv_aload_n dX4_parseSession_127 rfl ?_
          refine sv_get fg_X4_22 dX4_parseSession_128 (sx_rd_c hpJ62) rfl ?_
          refine sv_iload_n dX4_parseSession_131 rfl ?_
          refine sv_aload_n dX4_parseSession_132 rfl ?_
          refine sv_cv _ (J_bh hG9 hb hJ7) okX4_boxHere (sx_rd_c hpJ62) rfl kv_X4_198.1 kv_X4_198.2.1 kv_X4_198.2.2 dX4_parseSession_133 rfl rfl (by omega) (Nat.le_of_ble_eq_true rfl) (fun v70 τ71 h72 => ?_) (fun E q τ h => ?_)
          rotate_left
          · have hU := y_U_thr h (fun _ _ _ z => ⟨_, z.1⟩)
            refine sv_out (fun x hx => by cases hx) ?_
            obtain ⟨e, he, hz⟩ := hU
            exact y_U_l (show p_sss t S k = .inl e by rw [p_sss_3 (by omega) hyes hno c98 (if_neg (bf_n c120)), he]; rfl) hz
          have hU := y_U_ret h72
          obtain ⟨b, hxb, hv9, hJ73⟩ := hU
          cases hv9
          have hbl := (p_bh_ok hxb).2.2
          obtain ⟨⟨tkJ74, vvJ74, hpJ74, kzJ74, hvvJ74, wwJ74, koJ74⟩, wlJ74⟩ := id hJ73.1
          obtain ⟨vsJ74, wrJ74⟩ := k_Sr_rd (y_w_r hG9 wwJ74 (by have := p_w_ll koJ74 (J_7 hJ73); omega))
          obtain ⟨fs75, fo76, ha77, hb78, hc79, hd80⟩ := id (hJ73).2.2.2.1
          have he81 : sel ≠ onl := fun z => by have h8 := (hJ73).2.2.1.1; rw [z] at h8; omega
          refine sv_iast dX4_parseSession_136 ha77 (vp_in_nI (by omega) (by omega)) ?_
          rw [nI_clamp (show S.1.2.2.length < 2 ^ 31 by omega)]
          refine hs_up ha77 (fun τ82 F83 h84 N85 Z86 => ?_)
          have h84 : sx_c τ82 sel = some (.inl (sg_a G 0, 4, .inl ((upd fs75 S.1.2.2.length ((nI b)))))) := h84
          have hpJ74' := h_F_c F83 hpJ74 (e_kn hpJ74 ha77 rfl)
          have hb78' := h_F_c F83 hb78 (Ne.symm he81)
          have hJ9 := K_ar (u1 := (none, (p_is t (p_nx t (p_nx t k)) 6))) (u2 := (some b, (p_is t (p_nx t (p_nx t k)) 6))) hJ73 (h_F_w F83 (fun _ _ z => Or.inl z) (Nat.le_refl _) (Nat.le_refl _)) h84 hb78' hc79 hd80 (by unfold upd; exact (if_pos hlen).trans rfl) (fun s hs => by unfold upd; exact if_neg (by rw [← hlen]; exact hs)) (fun _ _ => rfl) (by rw [hd80, gd_aps, if_neg (Nat.lt_irrefl _), if_pos rfl]) (by first | exact Nat.le_refl _ | (show S.2.2.length ≤ (S.2.2 ++ [_]).length; rw [hll]; omega)) (p_ok_ses hJ.2.2.2.2.2.2.1 hN (by omega) (fun b9 h9 => by cases h9; exact hbl))
          obtain ⟨⟨tkJ87, vvJ87, hpJ87, kzJ87, hvvJ87, wwJ87, koJ87⟩, wlJ87⟩ := id hJ9.1
          obtain ⟨vsJ87, wrJ87⟩ := k_Sr_rd (y_w_r hG9 wwJ87 (by have := p_w_ll koJ87 (J_7 hJ9); omega))
          obtain ⟨fs88, fo89, ha90, hb91, hc92, hd93⟩ := id (hJ9).2.2.2.1
          have he94 : sel ≠ onl := fun z => by have h8 := (hJ9).2.2.1.1; rw [z] at h8; omega
          refine sv_aload_n dX4_parseSession_137 rfl ?_
          refine sv_cvP _ (J_next hG9 hb hJ9) okX4_next kv_X4_36 (sx_rd_c hpJ87) rfl dX4_parseSession_138 rfl rfl (by omega) (Nat.le_of_ble_eq_true rfl) ?_
          intro v95 τ96 hp97
          obtain ⟨rfl, wd99, hJ98⟩ := hp97
          obtain ⟨⟨tkJ100, vvJ100, hpJ100, kzJ100, hvvJ100, wwJ100, koJ100⟩, wlJ100⟩ := id hJ98.1
          obtain ⟨vsJ100, wrJ100⟩ := k_Sr_rd (y_w_r hG9 wwJ100 (by have := p_w_ll koJ100 (J_7 hJ98); omega))
          refine sv_vret rfl dX4_parseSession_141 ?_
          exact y_U_r (show p_sss t S k = .inr (((p_aS S.1 (p_w t (p_nx t k))), S.2.1, S.2.2 ++ [(some b, (p_is t (p_nx t (p_nx t k)) 6))]), (p_nx t (p_nx t (p_nx t k)))) by rw [p_sss_3 (by omega) hyes hno c98 (if_neg (bf_n c120)), hxb]; rfl) ⟨rfl, ow2, Λ2, wd99, hJ98⟩
        · refine sv_aload_n dX4_parseSession_123 rfl ?_
          refine sv_cvP _ (J_next hG9 hb hJ7) okX4_next kv_X4_36 (sx_rd_c hpJ62) rfl dX4_parseSession_124 rfl rfl (by omega) (Nat.le_of_ble_eq_true rfl) ?_
          intro v101 τ102 hp103
          obtain ⟨rfl, wd105, hJ104⟩ := hp103
          obtain ⟨⟨tkJ106, vvJ106, hpJ106, kzJ106, hvvJ106, wwJ106, koJ106⟩, wlJ106⟩ := id hJ104.1
          obtain ⟨vsJ106, wrJ106⟩ := k_Sr_rd (y_w_r hG9 wwJ106 (by have := p_w_ll koJ106 (J_7 hJ104); omega))
          refine sv_aload_n dX4_parseSession_127 rfl ?_
          refine sv_get fg_X4_22 dX4_parseSession_128 (sx_rd_c hpJ106) rfl ?_
          refine sv_iload_n dX4_parseSession_131 rfl ?_
          refine sv_aload_n dX4_parseSession_132 rfl ?_
          refine sv_cv _ (J_bh hG9 hb hJ104) okX4_boxHere (sx_rd_c hpJ106) rfl kv_X4_198.1 kv_X4_198.2.1 kv_X4_198.2.2 dX4_parseSession_133 rfl rfl (by omega) (Nat.le_of_ble_eq_true rfl) (fun v107 τ108 h109 => ?_) (fun E q τ h => ?_)
          rotate_left
          · have hU := y_U_thr h (fun _ _ _ z => ⟨_, z.1⟩)
            refine sv_out (fun x hx => by cases hx) ?_
            obtain ⟨e, he, hz⟩ := hU
            exact y_U_l (show p_sss t S k = .inl e by rw [p_sss_3 (by omega) hyes hno c98 (if_pos c120), he]; rfl) hz
          have hU := y_U_ret h109
          obtain ⟨b, hxb, hv9, hJ110⟩ := hU
          cases hv9
          have hbl := (p_bh_ok hxb).2.2
          obtain ⟨⟨tkJ111, vvJ111, hpJ111, kzJ111, hvvJ111, wwJ111, koJ111⟩, wlJ111⟩ := id hJ110.1
          obtain ⟨vsJ111, wrJ111⟩ := k_Sr_rd (y_w_r hG9 wwJ111 (by have := p_w_ll koJ111 (J_7 hJ110); omega))
          obtain ⟨fs112, fo113, ha114, hb115, hc116, hd117⟩ := id (hJ110).2.2.2.1
          have he118 : sel ≠ onl := fun z => by have h8 := (hJ110).2.2.1.1; rw [z] at h8; omega
          refine sv_iast dX4_parseSession_136 ha114 (vp_in_nI (by omega) (by omega)) ?_
          rw [nI_clamp (show S.1.2.2.length < 2 ^ 31 by omega)]
          refine hs_up ha114 (fun τ119 F120 h121 N122 Z123 => ?_)
          have h121 : sx_c τ119 sel = some (.inl (sg_a G 0, 4, .inl ((upd fs112 S.1.2.2.length ((nI b)))))) := h121
          have hpJ111' := h_F_c F120 hpJ111 (e_kn hpJ111 ha114 rfl)
          have hb115' := h_F_c F120 hb115 (Ne.symm he118)
          have hJ9 := K_ar (u1 := (none, (p_is t (p_nx t (p_nx t k)) 6))) (u2 := (some b, (p_is t (p_nx t (p_nx t k)) 6))) hJ110 (h_F_w F120 (fun _ _ z => Or.inl z) (Nat.le_refl _) (Nat.le_refl _)) h121 hb115' hc116 hd117 (by unfold upd; exact (if_pos hlen).trans rfl) (fun s hs => by unfold upd; exact if_neg (by rw [← hlen]; exact hs)) (fun _ _ => rfl) (by rw [hd117, gd_aps, if_neg (Nat.lt_irrefl _), if_pos rfl]) (by first | exact Nat.le_refl _ | (show S.2.2.length ≤ (S.2.2 ++ [_]).length; rw [hll]; omega)) (p_ok_ses hJ.2.2.2.2.2.2.1 hN (by omega) (fun b9 h9 => by cases h9; exact hbl))
          obtain ⟨⟨tkJ124, vvJ124, hpJ124, kzJ124, hvvJ124, wwJ124, koJ124⟩, wlJ124⟩ := id hJ9.1
          obtain ⟨vsJ124, wrJ124⟩ := k_Sr_rd (y_w_r hG9 wwJ124 (by have := p_w_ll koJ124 (J_7 hJ9); omega))
          obtain ⟨fs125, fo126, ha127, hb128, hc129, hd130⟩ := id (hJ9).2.2.2.1
          have he131 : sel ≠ onl := fun z => by have h8 := (hJ9).2.2.1.1; rw [z] at h8; omega
          refine sv_aload_n dX4_parseSession_137 rfl ?_
          refine sv_cvP _ (J_next hG9 hb hJ9) okX4_next kv_X4_36 (sx_rd_c hpJ124) rfl dX4_parseSession_138 rfl rfl (by omega) (Nat.le_of_ble_eq_true rfl) ?_
          intro v132 τ133 hp134
          obtain ⟨rfl, wd136, hJ135⟩ := hp134
          obtain ⟨⟨tkJ137, vvJ137, hpJ137, kzJ137, hvvJ137, wwJ137, koJ137⟩, wlJ137⟩ := id hJ135.1
          obtain ⟨vsJ137, wrJ137⟩ := k_Sr_rd (y_w_r hG9 wwJ137 (by have := p_w_ll koJ137 (J_7 hJ135); omega))
          refine sv_vret rfl dX4_parseSession_141 ?_
          exact y_U_r (show p_sss t S k = .inr (((p_aS S.1 (p_w t (p_nx t k))), S.2.1, S.2.2 ++ [(some b, (p_is t (p_nx t (p_nx t k)) 6))]), (p_nx t (p_nx t (p_nx t (p_nx t k))))) by rw [p_sss_3 (by omega) hyes hno c98 (if_pos c120), hxb]; rfl) ⟨rfl, ow2, Λ2, wd136, hJ135⟩
      · refine sv_vret rfl dX4_parseSession_101 ?_
        exact y_U_r (p_sss_2 (by omega) hyes hno c98) ⟨rfl, ow2, Λ2, wdK, hJ6⟩
end CPO
