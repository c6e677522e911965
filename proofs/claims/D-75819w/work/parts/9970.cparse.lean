set_option maxRecDepth 100000
section CPR
variable {G : sx_G} {σ τ ρ σ0 : sx_St} {pa ps sel onl x0 inp o wd lo n0 s0 wb : Nat} {tt : Nat → Nat} {t : List Int32} {k : k_T} {w0 w1 w2 w3 w6 w7 w8 : Value} {S : p_S} {ow : Nat → Nat} {Λ : Nat → Nat → Nat → Nat} {T : List (Nat × Nat × (a_M → Bool))}
theorem p_se_n1 {V : a_V} {n : Nat} {l : List (Option Nat × Bool)} {r : Bool} (h : l.getD n (none, false) = (none, r)) : p_se (n + 1) V l = p_se n V l := by rw [p_se, h]
theorem p_se_s1 {V : a_V} {n b : Nat} {l : List (Option Nat × Bool)} {r : Bool} (h : l.getD n (none, false) = (some b, r)) : p_se (n + 1) V l = v_se (p_se n V l) n b r := by rw [p_se, h]
theorem p_all_0 {f : Nat} {e : p_E} (h : p_st t S k = .inl e) : p_all t (f + 1) S k = .inl e := by
  show p_bind (p_st t S k) _ = _
  rw [h]
  rfl
theorem p_all_1 {f : Nat} {y : p_S × k_T} (h : p_st t S k = .inr y) (h2 : p_sy t y.2 (nI 59) = false) : p_all t (f + 1) S k = .inl (p_er 1 y.2) := by
  show p_bind (p_st t S k) _ = _
  rw [h]
  exact if_neg (bf_n h2)
theorem p_all_2 {f : Nat} {y : p_S × k_T} (h : p_st t S k = .inr y) (h2 : p_sy t y.2 (nI 59) = true) (h3 : (p_nx t y.2).1 = 0) : p_all t (f + 1) S k = .inr y.1 := by
  show p_bind (p_st t S k) _ = _
  rw [h]
  exact (if_pos h2).trans (if_pos h3)
theorem p_all_3 {f : Nat} {y : p_S × k_T} (h : p_st t S k = .inr y) (h2 : p_sy t y.2 (nI 59) = true) (h3 : ¬ (p_nx t y.2).1 = 0) : p_all t (f + 1) S k = p_all t f y.1 (p_nx t y.2) := by
  show p_bind (p_st t S k) _ = _
  rw [h]
  exact (if_pos h2).trans (if_neg h3)
theorem J_parse (hG9 : g_Y G lo tt) (hb : b_B t) (hJ : y_J G lo n0 s0 wb σ0 pa ps sel onl x0 inp w0 w1 w2 w3 w6 w7 w8 t σ S k ow Λ wd o []) : sx_C G 14 YX4_parse [.ref pa] σ (y_U lo n0 s0 σ0 (p_bind (p_all t 701 S k) (fun S9 => .inr (p_se S9.1.2.2.length S9.1 S9.2.2))) (fun V oc τ => oc = .inl (some (.ref ps)) ∧ ∃ ow Λ, c_I G lo τ ow ps Λ V ∧ c_cap Λ V ∧ c_Z (fun q => lo ≤ q) Λ V ∧ (∀ q, q < lo → sx_c τ q = sx_c σ0 q) ∧ sx_n σ0 ≤ sx_n τ ∧ sx_n τ ≤ n0 + 5000 ∧ sx_s τ ≤ s0 + 60000)) := by
  have loop2 : ∀ (S2 : p_S) (k2 : k_T) (ow2 : Nat → Nat) (Λ2 : Nat → Nat → Nat → Nat) (wd2 : Nat) (τ1 : sx_St), y_J G lo n0 s0 wb σ0 pa ps sel onl x0 inp w0 w1 w2 w3 w6 w7 w8 t τ1 S2 k2 ow2 Λ2 wd2 o [] → p_all t 701 S k = .inr S2 → ∀ r s (τ : sx_St), s ≤ S2.1.2.2.length → S2.1.2.2.length + 1 ≤ s + r → c_I G lo τ ow2 ps Λ2 (p_se s S2.1 S2.2.2) → h_F (fun q => 14 ≤ ow2 q) 0 0 τ1 τ → sx_V G 14 YX4_parse 46 [some (.ref pa), some (.int (nI 0)), some (.int (nI s))] [] τ (y_U lo n0 s0 σ0 (p_bind (p_all t 701 S k) (fun S9 => .inr (p_se S9.1.2.2.length S9.1 S9.2.2))) (fun V oc τ => oc = .inl (some (.ref ps)) ∧ ∃ ow Λ, c_I G lo τ ow ps Λ V ∧ c_cap Λ V ∧ c_Z (fun q => lo ≤ q) Λ V ∧ (∀ q, q < lo → sx_c τ q = sx_c σ0 q) ∧ sx_n σ0 ≤ sx_n τ ∧ sx_n τ ≤ n0 + 5000 ∧ sx_s τ ≤ s0 + 60000)) := by
    intro S2 k2 ow2 Λ2 wd2 τ1 hJ1 hall r
    obtain ⟨⟨⟨tk, vv, hp0, -⟩, -⟩, ⟨hI0, hcap⟩, ⟨⟨w1, w2, w3⟩, w4, -⟩, ⟨fs, fo, b1, b2, a3, a4⟩, hz, hB, hok, ⟨c1, c2, c3, -⟩, -⟩ := id hJ1
    have hbd := J_bd hJ1
    have hlen := hok.2.1
    have hV4 := hok.1.2.2.1
    have hV3 := hok.1.2.1
    induction r with
    | zero => intro s τ h1 h2; omega
    | succ r ih =>
    intro s τ hs1 hs2 hI F
    have hp9 := h_F_c F hp0 (by omega)
    have hs9 := h_F_c F b1 (by omega)
    have ho9 := h_F_c F b2 (by omega)
    obtain ⟨mc9, fl9, hls9, -⟩ := id hI.1.2.2.1
    obtain ⟨q1, q2, q3, q4⟩ := p_se_b (V := S2.1) s S2.2.2
    refine sv_iload_n dX4_parse_46 rfl ?_
    refine sv_aload_n dX4_parse_47 rfl ?_
    refine sv_get fg_X4_18 dX4_parse_48 (sx_rd_c hp9) rfl ?_
    refine sv_get fg_X4_217 dX4_parse_51 (sx_rd_c hI.1.1) rfl ?_
    refine sv_cvR _ (cj_size hI.1.2.2.1) okJ2_size kv_X4_179 (sx_rd_c hls9) rfl dX4_parse_54 rfl rfl (by omega) (Nat.le_of_ble_eq_true rfl) ?_
    rw [q3]
    refine sv_icmp_geN (tgt := 109) dX4_parse_57 (by decide) (by omega) (by omega) (fun c57 => ?_) (fun c57 => ?_)
    · refine sv_aload_n dX4_parse_109 rfl ?_
      refine sv_get fg_X4_18 dX4_parse_110 (sx_rd_c hp9) rfl ?_
      refine sv_aret (Or.inr ⟨_, rfl⟩) (Or.inl ⟨_, rfl⟩) rfl dX4_parse_113 ?_
      have hse : s = S2.1.2.2.length := by omega
      refine y_U_r (a := p_se S2.1.2.2.length S2.1 S2.2.2) (by rw [hall]; rfl) ⟨rfl, ow2, Λ2, by rw [← hse]; exact hI, fun i hi => ?_, ⟨fun i hi => ?_, fun i hi => ?_⟩, fun q hq => ?_, ?_, ?_, ?_⟩
      · rw [(p_se_b (V := S2.1) S2.1.2.2.length S2.2.2).1] at hi; exact hcap i hi
      · rw [(p_se_b (V := S2.1) S2.1.2.2.length S2.2.2).1] at hi; exact ⟨(hz.1 i hi).1.1, (hz.1 i hi).2.1⟩
      · rw [(p_se_b (V := S2.1) S2.1.2.2.length S2.2.2).2.2.1] at hi; exact ⟨(hz.2 i hi).1.1, (hz.2 i hi).2.1⟩
      · rw [F.2.2 q (by omega) (fun z => by have := hI0.2.2.1 q (by omega); omega)]; exact c1 q hq
      · have := F.1.1; omega
      · have := F.1.2; omega
      · have := F.2.1; omega
    · have hsl : s < (p_se s S2.1 S2.2.2).2.2.length := by rw [q3]; omega
      refine sv_aload_n dX4_parse_60 rfl ?_
      refine sv_get fg_X4_22 dX4_parse_61 (sx_rd_c hp9) rfl ?_
      refine sv_iload_n dX4_parse_64 rfl ?_
      refine sv_iald dX4_parse_65 (sx_rd_c hs9) (vp_in_nI (by omega) (by omega)) ?_
      rw [nI_clamp (show s < 2 ^ 31 by omega)]
      refine sv_iconst (-1) dX4_parse_66 (by decide +kernel) ?_
      refine sv_icmp_eq (tgt := 103) dX4_parse_67 (by decide) (fun c67 => ?_) (fun c67 => ?_)
      · have hx : S2.2.2.getD s (none, false) = (none, (S2.2.2.getD s (none, false)).2) := by
          have h9 := a3 s (by omega)
          rw [c67] at h9
          have h8 := (o_I_m1 _ (fun b z => by have := hok.2.2 s b z; omega)).mp h9.symm
          exact Prod.ext h8 rfl
        refine sv_iincN dX4_parse_103 rfl (by decide) ?_
        refine sv_goto (tgt := 46) dX4_parse_106 (by decide) ?_
        exact ih (s + 1) τ (by omega) (by omega) (by rw [p_se_n1 hx]; exact hI) F
      · obtain ⟨b, hb9⟩ : ∃ b, (S2.2.2.getD s (none, false)).1 = some b := by
          cases hz : (S2.2.2.getD s (none, false)).1 with
          | none => exact absurd (by rw [a3 s (by omega), hz]; rfl) c67
          | some b => exact ⟨b, rfl⟩
        obtain ⟨rd, hr9⟩ : ∃ rd, (S2.2.2.getD s (none, false)).2 = rd := ⟨_, rfl⟩
        have hx : S2.2.2.getD s (none, false) = (some b, rd) := by rw [← hb9, ← hr9]
        have hbl := hok.2.2 s b hb9
        obtain ⟨_, _, _, hso9, -⟩ := id (hI.1.2.2.2.2 s hsl).1
        refine sv_aload_n dX4_parse_70 rfl ?_
        refine sv_get fg_X4_18 dX4_parse_71 (sx_rd_c hp9) rfl ?_
        refine sv_aload_n dX4_parse_74 rfl ?_
        refine sv_get fg_X4_18 dX4_parse_75 (sx_rd_c hp9) rfl ?_
        refine sv_get fg_X4_217 dX4_parse_78 (sx_rd_c hI.1.1) rfl ?_
        refine sv_iload_n dX4_parse_81 rfl ?_
        refine sv_cvR _ (cj_get hI.1.2.2.1 hsl) okJ2_get kv_X4_211 (sx_rd_c hls9) rfl dX4_parse_82 rfl rfl (by omega) (Nat.le_of_ble_eq_true rfl) ?_
        refine sv_cast (C0 := "") (sx_rd_c hso9) rfl q1038 dX4_parse_85 ?_
        refine sv_aload_n dX4_parse_88 rfl ?_
        refine sv_get fg_X4_22 dX4_parse_89 (sx_rd_c hp9) rfl ?_
        refine sv_iload_n dX4_parse_92 rfl ?_
        refine sv_iald dX4_parse_93 (sx_rd_c hs9) (vp_in_nI (by omega) (by omega)) ?_
        rw [nI_clamp (show s < 2 ^ 31 by omega)]
        refine sv_tI (y := nI b) (by rw [a3 s (by omega), hb9]; rfl) ?_
        refine sv_aload_n dX4_parse_94 rfl ?_
        refine sv_get fg_X4_26 dX4_parse_95 (sx_rd_c hp9) rfl ?_
        refine sv_iload_n dX4_parse_98 rfl ?_
        refine sv_zald dX4_parse_99 (sx_rd_c ho9) (vp_in_nI (by omega) (by omega)) ?_
        rw [nI_clamp (show s < 2 ^ 31 by omega)]
        refine sv_tI (y := b_I rd) (by rw [a4 s, hr9]) ?_
        refine sv_cvP _ (cc_select hI.1 hI.2.1 (s := s) (b := b) (rd := rd) hsl (by rw [q1]; exact hbl) (by unfold a_ms; rw [p_se_bb]; exact (hok.1.2.2.2.1 b hbl).2.1)) okX2_select kv_X4_245 (sx_rd_c hI.1.1) rfl dX4_parse_100 rfl rfl (by omega) (Nat.le_of_ble_eq_true rfl) ?_
        intro v9 τ9 hp9
        obtain ⟨rfl, hS9, F9⟩ := hp9
        refine sv_iincN dX4_parse_103 rfl (by decide) ?_
        refine sv_goto (tgt := 46) dX4_parse_106 (by decide) ?_
        have hsl9 := a_us_s (V := (p_se s S2.1 S2.2.2)) ((a_s (p_se s S2.1 S2.2.2) s).1, some b, rd, (a_s (p_se s S2.1 S2.2.2) s).2.2.2.1, (a_b (p_se s S2.1 S2.2.2) b).2.1 - 1, (a_s (p_se s S2.1 S2.2.2) s).2.2.2.2.2.1, (a_ms (p_se s S2.1 S2.2.2) b).map (fun m => (m.1, m.2.2))) hsl
        have hS9 := hsl9 ▸ (show k_S G τ9 _ _ _ _ _ (a_s (a_us (p_se s S2.1 S2.2.2) s _) s) from hS9)
        have tg := hI.2.1.2.2.2.2.2.2 s hsl
        exact ih (s + 1) τ9 (by omega) (by omega) (by rw [p_se_s1 hx]; exact c_I_s F9 hI hsl (fun q z => by rcases z with z | z | z <;> rw [z] <;> omega) hS9 rfl) (h_F_u F F9 (fun _ _ z => z) (fun q _ z => by rcases z with z | z | z <;> rw [z] <;> omega) (Nat.le_refl _) (Nat.le_refl _))
  have fin : ∀ (S2 : p_S) (k2 : k_T) (ow2 : Nat → Nat) (Λ2 : Nat → Nat → Nat → Nat) (wd2 : Nat) (τ1 : sx_St), y_J G lo n0 s0 wb σ0 pa ps sel onl x0 inp w0 w1 w2 w3 w6 w7 w8 t τ1 S2 k2 ow2 Λ2 wd2 o [] → p_all t 701 S k = .inr S2 → sx_V G 14 YX4_parse 2 [some (.ref pa), some (.int (nI 0)), none] [] τ1 (y_U lo n0 s0 σ0 (p_bind (p_all t 701 S k) (fun S9 => .inr (p_se S9.1.2.2.length S9.1 S9.2.2))) (fun V oc τ => oc = .inl (some (.ref ps)) ∧ ∃ ow Λ, c_I G lo τ ow ps Λ V ∧ c_cap Λ V ∧ c_Z (fun q => lo ≤ q) Λ V ∧ (∀ q, q < lo → sx_c τ q = sx_c σ0 q) ∧ sx_n σ0 ≤ sx_n τ ∧ sx_n τ ≤ n0 + 5000 ∧ sx_s τ ≤ s0 + 60000)) := by
    intro S2 k2 ow2 Λ2 wd2 τ1 hJ1 hall
    refine sv_iload_n dX4_parse_2 rfl ?_
    refine sv_if_eqN (tgt := 44) dX4_parse_3 (by decide) (by omega) (fun c3 => ?_) (fun c3 => ?_)
    · refine sv_iconst (nI 0) dX4_parse_44 (by decide +kernel) ?_
      refine sv_istore_n dX4_parse_45 (by decide) ?_
      exact loop2 S2 _ _ _ _ _ hJ1 hall (S2.1.2.2.length + 1) 0 _ (Nat.zero_le _) (by omega) hJ1.2.1.1 h_F_r
    · exact absurd c3 (by decide)
  have loop : ∀ f (S7 : p_S) (k7 : k_T) (ow7 : Nat → Nat) (Λ7 : Nat → Nat → Nat → Nat) (wd7 : Nat) (τ : sx_St), y_J G lo n0 s0 wb σ0 pa ps sel onl x0 inp w0 w1 w2 w3 w6 w7 w8 t τ S7 k7 ow7 Λ7 wd7 o [] → t.length - k7.2.1 < f → p_all t 701 S k = p_all t f S7 k7 → sx_V G 14 YX4_parse 2 [some (.ref pa), some (.int (nI 1)), none] [] τ (y_U lo n0 s0 σ0 (p_bind (p_all t 701 S k) (fun S9 => .inr (p_se S9.1.2.2.length S9.1 S9.2.2))) (fun V oc τ => oc = .inl (some (.ref ps)) ∧ ∃ ow Λ, c_I G lo τ ow ps Λ V ∧ c_cap Λ V ∧ c_Z (fun q => lo ≤ q) Λ V ∧ (∀ q, q < lo → sx_c τ q = sx_c σ0 q) ∧ sx_n σ0 ≤ sx_n τ ∧ sx_n τ ≤ n0 + 5000 ∧ sx_s τ ≤ s0 + 60000)) := by
    intro f
    induction f with
    | zero => intro S7 k7 ow7 Λ7 wd7 τ h1 h2; omega
    | succ f ih =>
    intro S7 k7 ow7 Λ7 wd7 τ hJ7 hm7 hall
    obtain ⟨⟨tkJ1, vvJ1, hpJ1, kzJ1, hvvJ1, wwJ1, koJ1⟩, wlJ1⟩ := id hJ7.1
    obtain ⟨vsJ1, wrJ1⟩ := k_Sr_rd (y_w_r hG9 wwJ1 (by have := p_w_ll koJ1 (J_7 hJ7); omega))
    refine sv_iload_n dX4_parse_2 rfl ?_
    refine sv_if_eqN (tgt := 44) dX4_parse_3 (by decide) (by omega) (fun c3 => ?_) (fun c3 => ?_)
    · exact absurd c3 (by decide)
    · refine sv_aload_n dX4_parse_6 rfl ?_
      refine sv_cv _ (J_st hG9 hb hJ7) okX4_parseStatement (sx_rd_c hpJ1) rfl kv_X4_242.1 kv_X4_242.2.1 kv_X4_242.2.2 dX4_parse_7 rfl rfl (by omega) (Nat.le_of_ble_eq_true rfl) (fun v2 τ3 h4 => ?_) (fun E q τ h => ?_)
      rotate_left
      · have hU := y_U_thr h (fun _ _ _ z => ⟨_, z.1⟩)
        refine sv_out (fun x hx => by cases hx) ?_
        obtain ⟨e, he, hz⟩ := hU
        exact y_U_l (by rw [hall, p_all_0 he]; rfl) hz
      have hU := y_U_ret h4
      obtain ⟨y, hy, hv9, ow9, Λ9, wd9, hJ9⟩ := hU
      cases hv9
      have hko7 := hJ7.1.1.choose_spec.choose_spec.2.2.2.2
      have hmo := p_st_ok hb hJ7.2.2.2.2.2.2.1 hko7 hy
      obtain ⟨⟨tkJ5, vvJ5, hpJ5, kzJ5, hvvJ5, wwJ5, koJ5⟩, wlJ5⟩ := id hJ9.1
      obtain ⟨vsJ5, wrJ5⟩ := k_Sr_rd (y_w_r hG9 wwJ5 (by have := p_w_ll koJ5 (J_7 hJ9); omega))
      refine sv_aload_n dX4_parse_10 rfl ?_
      refine sv_aload_n dX4_parse_11 rfl ?_
      refine sv_bipush (nI 59) dX4_parse_12 (by decide +kernel) ?_
      refine sv_cvR _ (J_sym hG9 hb hJ9 (c := 59) (by decide)) okX4_isSymbol kv_X4_226 (sx_rd_c hpJ5) rfl dX4_parse_14 rfl rfl (by omega) (Nat.le_of_ble_eq_true rfl) ?_
      refine sv_iconst (nI 1) dX4_parse_17 (by decide +kernel) ?_
      by_cases q18 : ((p_sy t y.2 (nI 59))) = false
      · rw [q18]
        refine sv_cv _ (J_req0 hG9 hJ9 (c := 1)) okX4_require (sx_rd_c hpJ5) rfl kv_X4_115.1 kv_X4_115.2.1 kv_X4_115.2.2 dX4_parse_18 rfl rfl (by omega) (Nat.le_of_ble_eq_true rfl) (fun v τ h => by obtain ⟨q, e, _⟩ := h; cases e) (fun E q τ h => ?_)
        obtain ⟨q9, e9, F9⟩ := id h
        cases e9
        refine sv_out (fun x hx => by cases hx) ?_
        exact y_U_l (by rw [hall, p_all_1 hy q18]; rfl) h
      have r18 : ((p_sy t y.2 (nI 59))) = true := by
        cases hz : ((p_sy t y.2 (nI 59))) with
        | true => rfl
        | false => exact absurd hz q18
      rw [r18]
      refine sv_cvR _ J_req1 okX4_require kv_X4_115 (sx_rd_c hpJ5) rfl dX4_parse_18 rfl rfl (by omega) (Nat.le_of_ble_eq_true rfl) ?_
      refine sv_aload_n dX4_parse_21 rfl ?_
      refine sv_cvP _ (J_next hG9 hb hJ9) okX4_next kv_X4_36 (sx_rd_c hpJ5) rfl dX4_parse_22 rfl rfl (by omega) (Nat.le_of_ble_eq_true rfl) ?_
      intro v6 τ7 hp8
      obtain ⟨rfl, wd10, hJ9⟩ := hp8
      obtain ⟨⟨tkJ11, vvJ11, hpJ11, kzJ11, hvvJ11, wwJ11, koJ11⟩, wlJ11⟩ := id hJ9.1
      obtain ⟨vsJ11, wrJ11⟩ := k_Sr_rd (y_w_r hG9 wwJ11 (by have := p_w_ll koJ11 (J_7 hJ9); omega))
      refine sv_aload_n dX4_parse_25 rfl ?_
      refine sv_get fg_X4_70 dX4_parse_26 (sx_rd_c hpJ11) rfl ?_
      refine sv_gets 0 rfl q650 dX4_parse_29 ?_
      rw [hG9.2.2.2.2.1 0 (by decide)]
      refine sv_acmp_eq (rx := (some tkJ11)) (ry := (some ((tt 0)))) (tgt := 39) dX4_parse_32 (by decide) (fun c32 => ?_) (fun c32 => ?_)
      · have h0e : (p_nx t y.2).1 = 0 := (tk_e hG9 koJ11 kzJ11 (by decide)).mp c32
        refine sv_iconst (nI 0) dX4_parse_39 (by decide +kernel) ?_
        refine sv_istore_n dX4_parse_40 (by decide) ?_
        refine sv_goto (tgt := 2) dX4_parse_41 (by decide) ?_
        exact fin _ _ _ _ _ _ hJ9 (by rw [hall, p_all_2 hy r18 h0e])
      · have h0e : ¬ (p_nx t y.2).1 = 0 := fun z => c32 ((tk_e hG9 koJ11 kzJ11 (by decide)).mpr z)
        refine sv_iconst (nI 1) dX4_parse_35 (by decide +kernel) ?_
        refine sv_goto (tgt := 40) dX4_parse_36 (by decide) ?_
        refine sv_istore_n dX4_parse_40 (by decide) ?_
        refine sv_goto (tgt := 2) dX4_parse_41 (by decide) ?_
        have g1 : y.2.2.2.1 ≤ (p_nx t y.2).2.1 := (k_n_p hmo.2.1.2.1).1
        have g3 := hmo.2.1.2.1
        have g4 := hmo.2.2
        have g5 := hmo.2.1.1
        exact ih _ _ _ _ _ _ hJ9 (by omega) (by rw [hall, p_all_3 hy r18 h0e])
  refine sx_body (by decide) (Nat.le_of_ble_eq_true rfl) ?_
  refine sv_iconst (nI 1) dX4_parse_0 (by decide +kernel) ?_
  refine sv_istore_n dX4_parse_1 (by decide) ?_
  exact loop 701 S k ow Λ wd _ hJ (by have := J_7 hJ; omega) rfl
end CPR
