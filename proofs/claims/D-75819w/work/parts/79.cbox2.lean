set_option maxRecDepth 100000
section CBY
variable {G : sx_G} {σ τ : sx_St}
theorem e_kn' {a b : Nat} {x : ClassId × vp_A} {y : Nat × List Value} (ha : sx_c σ a = some (.inl x)) (hb : sx_c σ b = some (.inr y)) : a ≠ b := by
  intro z
  subst z
  have h1 := Option.some.inj (ha.symm.trans hb)
  cases h1
theorem k_L_l {l ar cap n q ci : Nat} {g : Nat → Nat} {vs : List Value} (h : k_L G σ l ar cap n g) (hq : sx_c σ q = some (.inr (ci, vs))) (hc : ci ≠ 9) : l ≠ q := by
  obtain ⟨mc, f, a1, -⟩ := h
  intro z
  subst z
  have h1 := Option.some.inj (a1.symm.trans hq)
  exact hc (congrArg Prod.fst (Sum.inr.inj h1)).symm
theorem k_L_a {l ar cap n q ci : Nat} {g : Nat → Nat} {vs : List Value} (h : k_L G σ l ar cap n g) (hq : sx_c σ q = some (.inr (ci, vs))) : ar ≠ q := by
  obtain ⟨mc, f, -, a2, -⟩ := h
  exact e_kn' a2 hq
theorem r_V {x y : Int32} (h : x = y) : some (Value.int x) = some (Value.int y) := by rw [h]
theorem va_up_id (g : Nat → Nat) (k i : Nat) : va_up g k (g k) i = g i := by
  unfold va_up
  by_cases h : i = k
  · rw [if_pos h, h]
  · rw [if_neg h]
theorem k_M_E {a : Nat} {m : a_M} (h : k_M σ a m) : k_E G σ 6 a := ⟨_, h⟩
theorem gd_am (l : List a_M) (e : a_M) (j : Nat) : (l ++ [e]).getD j (0, 0, 0) = if j < l.length then l.getD j (0, 0, 0) else if j = l.length then e else (0, 0, 0) := by
  simp only [List.getD_eq_getElem?_getD]
  by_cases h : j < l.length
  · rw [if_pos h, List.getElem?_append_left h]
  · rw [if_neg h, List.getElem?_append_right (by omega)]
    by_cases h2 : j = l.length
    · subst h2; simp
    · rw [if_neg h2, List.getElem?_eq_none (by simp; omega)]; rfl
theorem k_Ms_ap {g : Nat → Nat} {ms : List a_M} {a : Nat} {m : a_M} (h : ∀ i, i < ms.length → k_M σ (g i) (ms.getD i (0, 0, 0))) (ha : k_M σ a m) : ∀ i, i < (ms ++ [m]).length → k_M σ (va_up g ms.length a i) ((ms ++ [m]).getD i (0, 0, 0)) := by
  intro i hi
  rw [List.length_append] at hi
  have hi : i < ms.length + 1 := hi
  rw [gd_am]
  unfold va_up
  by_cases hx : i = ms.length
  · rw [if_pos hx, if_neg (by omega), if_pos hx]; exact ha
  · rw [if_neg hx, if_pos (by omega)]; exact h i (by omega)
theorem cc_badd {b l ar cap nm : Nat} {g : Nat → Nat} {B : a_B} (hB : k_B G σ b l ar cap nm g B) {sz fl : Int32} (hn : B.2.2.length ≤ 1000) : sx_Cp G 8 YX6_add [.ref b, .int sz, .int fl] σ (fun v τ => v = some (.int B.2.1) ∧ ∃ a ar2 cap2, cap ≤ cap2 ∧ (cap2 ≤ cap ∨ cap2 ≤ 2 * B.2.2.length + 2) ∧ (ar2 = ar ∨ sx_n σ ≤ ar2) ∧ sx_n σ ≤ a ∧ k_B G τ b l ar2 cap2 nm (va_up g B.2.2.length a) (B.1, B.2.1 + 1, B.2.2 ++ [(B.2.1, sz, fl)]) ∧ h_F (fun q => q = b ∨ q = l ∨ q = ar) 2 (3 + 4 * (cap2 - cap)) σ τ) := by
  refine sx_body (by decide) (Nat.le_of_ble_eq_true rfl) ?_
  obtain ⟨hb, hL, hm⟩ := hB
  obtain ⟨mc, f, hl, ha, l1, l2, l3, hg⟩ := id hL
  have hm0 := hm
  have FF0 : h_F (fun q => q = b ∨ q = l ∨ q = ar) 0 0 σ σ := h_F_r
  refine sv_aload_n dX6_add_0 rfl ?_
  refine sv_get fg_X6_14 dX6_add_1 (sx_rd_c hb) rfl ?_
  refine sv_new fn_X6_39 dX6_add_4 ?_
  refine hs_al (fun a τ1 E6 F2 h3 N4 Z5 => ?_)
  have hb' := h_F_c F2 hb (fun z => z)
  have hl' := h_F_c F2 hl (fun z => z)
  have ha' := h_F_c F2 ha (fun z => z)
  have hL := k_L_fr F2 hL (fun z => z) (fun z => z)
  have hm := fun (i : Nat) (hi : _) => k_M_fr F2 (hm i hi) (fun z => z)
  have FF7 := h_F_u FF0 F2 (fun _ _ z => z) (fun _ _ z => z.elim) (Nat.le_refl _) (Nat.le_refl _)
  have h3 : sx_c τ1 a = some (.inr (6, [.int (nI 0), .int (nI 0), .int (nI 0)])) := by rw [nI_0]; exact h3
  refine sv_dup dX6_add_7 rfl ?_
  refine sv_aload_n dX6_add_8 rfl ?_
  refine sv_get fg_X6_20 dX6_add_9 (sx_rd_c hb') rfl ?_
  refine sv_iload_n dX6_add_12 rfl ?_
  refine sv_iload_n dX6_add_13 rfl ?_
  refine sv_ciP _ (cc_minit h3) okX7_init ki_X6_45 dX6_add_14 rfl rfl (by omega) (Nat.le_of_ble_eq_true rfl) ?_
  intro v12 τ10 hp11
  obtain ⟨rfl, h9, F8⟩ := hp11
  have N13 := (F8).1.1
  have hb'' := h_F_c F8 hb' (e_kn hb' h3 rfl)
  have hl'' := h_F_c F8 hl' (e_kn hl' h3 rfl)
  have ha'' := h_F_c F8 ha' (e_kn ha' h3 rfl)
  have hL := k_L_fr F8 hL (e_kn hl' h3 rfl) (e_kn ha' h3 rfl)
  have hm := fun (i : Nat) (hi : _) => k_M_fr F8 (hm i hi) (by have h9 := sx_lt (hm0 i hi); omega)
  have FF14 := h_F_u FF7 F8 (fun _ _ z => z) (by intro q hq hz; omega) (Nat.le_refl _) (Nat.le_refl _)
  refine sv_cvP _ (cj_add hL k_O_6 (by decide) (k_M_E h9) (fun i hi => k_M_E (hm i hi)) (by omega)) okJ2_add kv_X6_41 (sx_rd_c hl'') rfl dX6_add_17 rfl rfl (by omega) (Nat.le_of_ble_eq_true rfl) ?_
  intro v23 τ21 hp22
  obtain ⟨rfl, ar16, c17, l119, l220, d18, hL2, F15⟩ := hp22
  have N24 := (F15).1.1
  have hb''' := h_F_c F15 hb'' (fun z => z.elim (e_kn hb'' hl'' rfl) (e_kn hb'' ha'' rfl))
  have h9' := h_F_c F15 h9 (fun z => z.elim (e_kn h9 hl'' rfl) (e_kn h9 ha'' rfl))
  have hm := fun (i : Nat) (hi : _) => k_M_fr F15 (hm i hi) (fun z => z.elim (e_kn (hm i hi) hl'' rfl) (e_kn (hm i hi) ha'' rfl))
  have FF25 := h_F_u FF14 F15 (fun _ _ z => z) (by intro q hq hz; omega) (Nat.le_refl _) (Nat.le_refl _)
  refine sv_pop dX6_add_20 rfl ?_
  refine sv_aload_n dX6_add_21 rfl ?_
  refine sv_dup dX6_add_22 rfl ?_
  refine sv_get fg_X6_20 dX6_add_23 (sx_rd_c hb''') rfl ?_
  refine sv_iconst (nI 1) dX6_add_26 (by decide +kernel) ?_
  refine sv_iadd dX6_add_27 ?_
  refine sv_put fp_X6_20 dX6_add_28 hb''' rfl rfl (Nat.le_of_ble_eq_true rfl) ?_
  refine hs_up hb''' (fun τ26 F27 h28 N29 Z30 => ?_)
  have h28 : sx_c τ26 b = some (.inr (5, [.ref nm, .ref l, .int _])) := h28
  have h9'' := h_F_c F27 h9' (e_kn h9' hb''' rfl)
  have hm := fun (i : Nat) (hi : _) => k_M_fr F27 (hm i hi) (e_kn (hm i hi) hb''' rfl)
  have hL2 := k_L_fr F27 hL2 (k_L_l hL2 hb''' (by decide)) (k_L_a hL2 hb''')
  have FF31 := h_F_u FF25 F27 (fun _ _ z => z) (by intro q hq hz; omega) (Nat.le_refl _) (Nat.le_refl _)
  refine sv_aload_n dX6_add_31 rfl ?_
  refine sv_get fg_X6_20 dX6_add_32 (sx_rd_c h28) rfl ?_
  refine sv_iconst (nI 1) dX6_add_35 (by decide +kernel) ?_
  refine sv_isub dX6_add_36 ?_
  refine sv_iret rfl rfl dX6_add_37 ?_
  exact ⟨_, rfl, r_V (Int32.add_sub_cancel _ _), a, ar16, c17, l119, l220, by omega, by omega, ⟨h28, by rw [List.length_append]; exact hL2, k_Ms_ap hm h9''⟩, h_F_w FF31 (fun _ _ z => z) (by omega) (by omega)⟩
theorem cc_binit {b nm : Nat} {l0 : List Nat} (hb : sx_c σ b = some (.inr (5, [.null, .null, .int (nI 0)]))) : sx_Cp G 4 YX6_init [.ref b, .ref nm] σ (fun v τ => v = none ∧ ∃ l ar, sx_n σ ≤ l ∧ sx_n σ ≤ ar ∧ (∀ g, k_B G τ b l ar 4 nm g (l0, nI 1, [])) ∧ h_F (fun q => q = b) 2 7 σ τ) := by
  refine sx_body (by decide) (Nat.le_of_ble_eq_true rfl) ?_
  have FF0 : h_F (fun q => q = b) 0 0 σ σ := h_F_r
  refine sv_aload_n dX6_init_0 rfl ?_
  refine sv_oi q902 q194 q195 dX6_init_1 (by decide) (Nat.le_of_ble_eq_true rfl) ?_
  refine sv_aload_n dX6_init_4 rfl ?_
  refine sv_new fn_X6_9 dX6_init_5 ?_
  refine hs_al (fun l τ32 E37 F33 h34 N35 Z36 => ?_)
  have hb' := h_F_c F33 hb (fun z => z)
  have FF38 := h_F_u FF0 F33 (fun _ _ z => z) (fun _ _ z => z.elim) (Nat.le_refl _) (Nat.le_refl _)
  have h34 : sx_c τ32 l = some (.inr (9, [.int (nI 0), .null, .int (nI 0)])) := by rw [nI_0]; exact h34
  refine sv_dup dX6_init_8 rfl ?_
  refine sv_iconst (nI 4) dX6_init_9 (by decide +kernel) ?_
  refine sv_ciP _ (cj_init (c := 4) (by decide) (by decide) h34) okJ2_init ki_X6_11 dX6_init_10 rfl rfl (by omega) (Nat.le_of_ble_eq_true rfl) ?_
  intro v44 τ42 hp43
  obtain ⟨rfl, ar40, hn41, hL, F39⟩ := hp43
  have N45 := (F39).1.1
  have hb'' := h_F_c F39 hb' (e_kn hb' h34 rfl)
  have FF46 := h_F_u FF38 F39 (fun _ _ z => z) (by intro q hq hz; omega) (Nat.le_refl _) (Nat.le_refl _)
  refine sv_put fp_X6_14 dX6_init_13 hb'' rfl rfl (Nat.le_of_ble_eq_true rfl) ?_
  refine hs_up hb'' (fun τ47 F48 h49 N50 Z51 => ?_)
  have h49 : sx_c τ47 b = some (.inr (5, [.null, .ref l, .int (nI 0)])) := h49
  have hL := fun g => k_L_fr F48 (hL g) (k_L_l (hL g) hb'' (by decide)) (k_L_a (hL g) hb'')
  have FF52 := h_F_u FF46 F48 (fun _ _ z => z) (by intro q hq hz; omega) (Nat.le_refl _) (Nat.le_refl _)
  refine sv_aload_n dX6_init_16 rfl ?_
  refine sv_iconst (nI 1) dX6_init_17 (by decide +kernel) ?_
  refine sv_put fp_X6_20 dX6_init_18 h49 rfl rfl (Nat.le_of_ble_eq_true rfl) ?_
  refine hs_up h49 (fun τ53 F54 h55 N56 Z57 => ?_)
  have h55 : sx_c τ53 b = some (.inr (5, [.null, .ref l, .int (nI 1)])) := h55
  have hL := fun g => k_L_fr F54 (hL g) (k_L_l (hL g) h49 (by decide)) (k_L_a (hL g) h49)
  have FF58 := h_F_u FF52 F54 (fun _ _ z => z) (by intro q hq hz; omega) (Nat.le_refl _) (Nat.le_refl _)
  refine sv_aload_n dX6_init_21 rfl ?_
  refine sv_aload_n dX6_init_22 rfl ?_
  refine sv_put fp_X6_24 dX6_init_23 h55 rfl rfl (Nat.le_of_ble_eq_true rfl) ?_
  refine hs_up h55 (fun τ59 F60 h61 N62 Z63 => ?_)
  have h61 : sx_c τ59 b = some (.inr (5, [.ref nm, .ref l, .int (nI 1)])) := h61
  have hL := fun g => k_L_fr F60 (hL g) (k_L_l (hL g) h55 (by decide)) (k_L_a (hL g) h55)
  have FF64 := h_F_u FF58 F60 (fun _ _ z => z) (by intro q hq hz; omega) (Nat.le_refl _) (Nat.le_refl _)
  refine sv_vret rfl dX6_init_26 ?_
  exact ⟨_, rfl, rfl, l, _, by omega, by omega, fun g => ⟨h61, hL g, fun i hi => absurd hi (Nat.not_lt_zero i)⟩, h_F_w FF64 (fun _ _ z => z) (by omega) (by omega)⟩
theorem cc_binit2 {b o lo aro capo nm : Nat} {g : Nat → Nat} {B : a_B} (hB : k_B G σ o lo aro capo nm g B) (hne : b ≠ o) (hn : B.2.2.length ≤ 30) (hb : sx_c σ b = some (.inr (5, [.null, .null, .int (nI 0)]))) : sx_Cp G 7 YX6_init_2 [.ref b, .ref o] σ (fun v τ => v = none ∧ ∃ l ar cap, sx_n σ ≤ l ∧ sx_n σ ≤ ar ∧ cap ≤ 62 ∧ k_B G τ b l ar cap nm g B ∧ h_F (fun q => q = b) 32 240 σ τ) := by
  have loop : ∀ r k (τ : sx_St) (l ar cap : Nat) (x : Int32), k ≤ B.2.2.length → B.2.2.length + 1 ≤ k + r → h_F (fun q => q = b) (2 + k) (7 + 4 * (cap - 4)) σ τ → 4 ≤ cap → cap ≤ 62 → sx_n σ ≤ l → sx_n σ ≤ ar → sx_c τ b = some (.inr (5, [.ref nm, .ref l, .int x])) → k_L G τ l ar cap k g → sx_V G 7 YX6_init_2 10 [some (.ref b), some (.ref o), some (.int (nI k))] [] τ (fun o τ => ∃ v, o = .inl v ∧ (v = none ∧ ∃ l ar cap, sx_n σ ≤ l ∧ sx_n σ ≤ ar ∧ cap ≤ 62 ∧ k_B G τ b l ar cap nm g B ∧ h_F (fun q => q = b) 32 240 σ τ)) := by
    obtain ⟨ho, hLo, hmo⟩ := hB
    obtain ⟨mco, fo, hlo, hao, o1, o2, o3, hgo⟩ := id hLo
    intro r
    induction r with
    | zero => intro k τ l ar cap x h1 h2; omega
    | succ r ih =>
    intro k τ l ar cap x hk1 hk2 FF hc1 hc2 hl1 hl2 hb2 hL
    have n0 := FF.1.1
    have hlo1 := sx_lt hlo
    have hao1 := sx_lt hao
    have ho2 := h_F_c FF ho (Ne.symm hne)
    have hLo2 := k_L_fr FF hLo (fun z => e_kn hlo hb rfl z) (fun z => e_kn hao hb rfl z)
    have hm2 : ∀ i, i < B.2.2.length → k_M τ (g i) (B.2.2.getD i (0, 0, 0)) := fun i hi => k_M_fr FF (hmo i hi) (e_kn (hmo i hi) hb rfl)
    obtain ⟨mc, f, hl, ha, l1, l2, l3, hg⟩ := id hL
    obtain ⟨mc3, f3, hl3, ha3, -⟩ := id hLo2
    refine sv_iload_n dX6_init_2_10 rfl ?_
    refine sv_aload_n dX6_init_2_11 rfl ?_
    refine sv_get fg_X6_14 dX6_init_2_12 (sx_rd_c ho2) rfl ?_
    refine sv_cvR _ (cj_size hLo2) okJ2_size kv_X6_31 (sx_rd_c hl3) rfl dX6_init_2_15 rfl rfl (by omega) (Nat.le_of_ble_eq_true rfl) ?_
    refine sv_icmp_geN (tgt := 46) dX6_init_2_18 (by decide) (by omega) (by omega) (fun c18 => ?_) (fun c18 => ?_)
    · refine sv_aload_n dX6_init_2_46 rfl ?_
      refine sv_aload_n dX6_init_2_47 rfl ?_
      refine sv_get fg_X6_20 dX6_init_2_48 (sx_rd_c ho2) rfl ?_
      refine sv_put fp_X6_20 dX6_init_2_51 hb2 rfl rfl (Nat.le_of_ble_eq_true rfl) ?_
      refine hs_up hb2 (fun τ65 F66 h67 N68 Z69 => ?_)
      have h67 : sx_c τ65 b = some (.inr (5, [.ref nm, .ref l, .int B.2.1])) := h67
      have ho2' := h_F_c F66 ho2 (Ne.symm hne)
      have hl' := h_F_c F66 hl (e_kn hl hb2 rfl)
      have ha' := h_F_c F66 ha (e_kn ha hb2 rfl)
      have hl3' := h_F_c F66 hl3 (e_kn hl3 hb2 rfl)
      refine sv_vret rfl dX6_init_2_54 ?_
      exact ⟨_, rfl, rfl, l, ar, cap, by omega, by omega, by omega, ⟨h67, by rw [show B.2.2.length = k by omega]; exact k_L_fr F66 hL (k_L_l hL hb2 (by decide)) (k_L_a hL hb2), fun i hi => k_M_fr F66 (hm2 i hi) (e_kn (hm2 i hi) hb2 rfl)⟩, h_F_u FF F66 (fun _ _ z => z) (fun _ _ z => z) (by omega) (by omega)⟩
    · refine sv_aload_n dX6_init_2_21 rfl ?_
      refine sv_get fg_X6_14 dX6_init_2_22 (sx_rd_c hb2) rfl ?_
      refine sv_aload_n dX6_init_2_25 rfl ?_
      refine sv_get fg_X6_14 dX6_init_2_26 (sx_rd_c ho2) rfl ?_
      refine sv_iload_n dX6_init_2_29 rfl ?_
      refine sv_cvR _ (cj_get hLo2 (i := k) (by omega)) okJ2_get kv_X6_35 (sx_rd_c hl3) rfl dX6_init_2_30 rfl rfl (by omega) (Nat.le_of_ble_eq_true rfl) ?_
      have hmk := hm2 k (by omega)
      refine sv_cast (C0 := "") (sx_rd_c hmk) rfl q999 dX6_init_2_33 ?_
      refine sv_cvP _ (cj_add hL k_O_6 (by decide) (k_M_E hmk) (fun i hi => k_M_E (hm2 i (by omega))) (by omega)) okJ2_add kv_X6_41 (sx_rd_c hl) rfl dX6_init_2_36 rfl rfl (by omega) (Nat.le_of_ble_eq_true rfl) ?_
      intro v78 τ76 hp77
      obtain ⟨rfl, ar71, c72, l174, l275, d73, hL2, F70⟩ := hp77
      have N79 := (F70).1.1
      have hb2' := h_F_c F70 hb2 (fun z => z.elim (e_kn hb2 hl rfl) (e_kn hb2 ha rfl))
      have ho2' := h_F_c F70 ho2 (fun z => z.elim (e_kn ho2 hl rfl) (e_kn ho2 ha rfl))
      have hmk' := h_F_c F70 hmk (fun z => z.elim (e_kn hmk hl rfl) (e_kn hmk ha rfl))
      refine sv_pop dX6_init_2_39 rfl ?_
      refine sv_iincN dX6_init_2_40 rfl (by decide) ?_
      refine sv_goto (tgt := 10) dX6_init_2_43 (by decide) ?_
      exact ih (k + 1) _ l ar71 c72 x (by omega) (by omega) (h_F_u FF F70 (fun _ _ z => z) (by intro q hq hz; omega) (by omega) (by omega)) (by omega) (by omega) (by omega) (by omega) hb2' (k_L_g hL2 (fun i hi => va_up_id g k i))
  refine sx_body (by decide) (Nat.le_of_ble_eq_true rfl) ?_
  obtain ⟨ho, hLo, hmo⟩ := hB
  refine sv_aload_n dX6_init_2_0 rfl ?_
  refine sv_aload_n dX6_init_2_1 rfl ?_
  refine sv_get fg_X6_24 dX6_init_2_2 (sx_rd_c ho) rfl ?_
  refine sv_ciP _ (cc_binit (l0 := []) hb) okX6_init ki_X6_28 dX6_init_2_5 rfl rfl (by omega) (Nat.le_of_ble_eq_true rfl) ?_
  intro v88 τ86 hp87
  obtain ⟨rfl, l83, ar81, n184, n285, h82, F80⟩ := hp87
  have N89 := (F80).1.1
  have ho' := h_F_c F80 ho (Ne.symm hne)
  refine sv_iconst (nI 0) dX6_init_2_8 (by decide +kernel) ?_
  refine sv_istore_n dX6_init_2_9 (by decide) ?_
  exact loop 31 0 _ l83 ar81 4 _ (by omega) (by omega) F80 (by omega) (by omega) n184 n285 (h82 (fun _ => 0)).1 (k_L_g (h82 (fun _ => 0)).2.1 (fun i hi => absurd hi (Nat.not_lt_zero i)))
def m_rm (p : a_M → Bool) (ms : List a_M) (k : Nat) : List a_M := ms.take k ++ (ms.drop k).filter (fun m => !(p m))
theorem m_rm_s (p : a_M → Bool) {ms : List a_M} {k : Nat} (h : k < ms.length) : m_rm p ms k = if p (ms.getD k (0, 0, 0)) then (m_rm p ms (k + 1)).eraseIdx k else m_rm p ms (k + 1) := by
  unfold m_rm
  have e1 : ms.drop k = ms.getD k (0, 0, 0) :: ms.drop (k + 1) := by
    rw [List.drop_eq_getElem_cons h, List.getD_eq_getElem?_getD, List.getElem?_eq_getElem h]; rfl
  have hl : (ms.take k).length = k := by rw [List.length_take]; omega
  rw [e1, tk_s (0, 0, 0) h, List.filter_cons]
  cases hp : p (ms.getD k (0, 0, 0)) with
  | true =>
    rw [if_neg (by simp), if_pos rfl, List.append_assoc, List.eraseIdx_append_of_length_le (by omega), hl, Nat.sub_self]
    rfl
  | false =>
    rw [if_pos (by simp), if_neg (by simp), List.append_assoc]
    rfl
theorem m_rm_g (p : a_M → Bool) {ms : List a_M} {k : Nat} (h : k < ms.length) : (m_rm p ms (k + 1)).getD k (0, 0, 0) = ms.getD k (0, 0, 0) := by
  unfold m_rm
  rw [List.getD_eq_getElem?_getD, List.getElem?_append_left (by rw [List.length_take]; omega), List.getElem?_take, if_pos (by omega), ← List.getD_eq_getElem?_getD]
theorem m_rm_l (p : a_M → Bool) {ms : List a_M} {k : Nat} (h : k ≤ ms.length) : k ≤ (m_rm p ms k).length ∧ (m_rm p ms k).length ≤ ms.length := by
  unfold m_rm
  have h1 := List.length_filter_le (fun m => !(p m)) (ms.drop k)
  rw [List.length_append, List.length_take]
  rw [List.length_drop] at h1
  omega
theorem m_rm_n (p : a_M → Bool) (ms : List a_M) : m_rm p ms ms.length = ms := by
  unfold m_rm
  rw [List.take_length, List.drop_length]
  simp
theorem m_rm_0 (p : a_M → Bool) (ms : List a_M) : m_rm p ms 0 = ms.filter (fun m => !(p m)) := by
  unfold m_rm
  simp
theorem m_rm_c (p : a_M → Bool) (ms : List a_M) : ms.length - (ms.filter (fun m => !(p m))).length = ms.countP p := by
  have h1 := List.length_eq_countP_add_countP p (l := ms)
  have h2 := List.countP_eq_length_filter (p := fun m => !(p m)) (l := ms)
  have h3 : ms.countP (fun a => decide ¬p a = true) = ms.countP (fun m => !(p m)) := by
    congr 1
    funext m
    cases p m <;> rfl
  omega
theorem gd_em (l : List a_M) (k j : Nat) : (l.eraseIdx k).getD j (0, 0, 0) = if j < k then l.getD j (0, 0, 0) else l.getD (j + 1) (0, 0, 0) := by
  simp only [List.getD_eq_getElem?_getD, List.getElem?_eraseIdx]
  split <;> rfl
theorem k_Ms_er {g : Nat → Nat} {ms : List a_M} {k : Nat} (hk : k < ms.length) (h : ∀ i, i < ms.length → k_M σ (g i) (ms.getD i (0, 0, 0))) : ∀ i, i < (ms.eraseIdx k).length → k_M σ ((fun j => if j < k then g j else g (j + 1)) i) ((ms.eraseIdx k).getD i (0, 0, 0)) := by
  intro i hi
  rw [List.length_eraseIdx, if_pos hk] at hi
  rw [gd_em]
  show k_M σ (if i < k then g i else g (i + 1)) _
  by_cases hx : i < k
  · rw [if_pos hx, if_pos hx]; exact h i (by omega)
  · rw [if_neg hx, if_neg hx]; exact h (i + 1) (by omega)
theorem k_W_la {l ar : Nat} {vs : List Value} {c : ClassId} {n : Nat} {f : Nat → Option Nat} (hl : sx_c σ l = some (.inr (9, vs))) (ha : sx_c σ ar = some (.inl (c, n, .inr (.inr (.inr (.inr f)))))) : k_W (fun q => q = l ∨ q = ar) σ := by
  intro q e hq he
  rcases hq with rfl | rfl
  · cases Option.some.inj (he.symm.trans hl)
    show (9 + 8 ≠ 0 ∧ 9 + 8 ≠ 15 ∧ 9 + 8 < 25)
    omega
  · cases Option.some.inj (he.symm.trans ha)
    show (4 ≠ 0 ∧ 4 ≠ 15 ∧ 4 < 25)
    omega
theorem k_W_a {ar : Nat} {c : ClassId} {n : Nat} {f : Nat → Option Nat} (ha : sx_c σ ar = some (.inl (c, n, .inr (.inr (.inr (.inr f)))))) : k_W (fun q => q = ar) σ := by
  intro q e hq he
  subst hq
  cases Option.some.inj (he.symm.trans ha)
  show (4 ≠ 0 ∧ 4 ≠ 15 ∧ 4 < 25)
  omega
theorem k_W_0 : k_W (fun _ => False) σ := fun _ _ h => h.elim
theorem n1_s (j : Nat) : nI (j + 1) - nI 1 = nI j := by
  rw [show (nI 1 : Int32) = 1 from by decide +kernel]
  exact nI_pred j
theorem n1_i (x : Int32) : x + Int32.ofInt (-1) = x - nI 1 := by
  rw [Int32.sub_eq_add_neg]
  rfl
theorem cc_bremove {b l ar cap nm : Nat} {g : Nat → Nat} {B : a_B} (hB : k_B G σ b l ar cap nm g B) {te n : Nat} {p : a_M → Bool} (hG : g_L G) (hP : k_P G n σ te p) (hn : B.2.2.length ≤ 1000) : sx_Cp G (9 + 3 * n) YX6_remove [.ref b, .ref te] σ (fun v τ => v = some (.int (nI (B.2.2.countP p))) ∧ ∃ g2, k_B G τ b l ar cap nm g2 (B.1, B.2.1, B.2.2.filter (fun m => !(p m))) ∧ (∀ i, i < (B.2.2.filter (fun m => !(p m))).length → ∃ j, g2 i = g j ∧ j < B.2.2.length) ∧ h_F (fun q => q = l ∨ q = ar) 0 0 σ τ) := by
  have base : ∀ (τ : sx_St) (g2 : Nat → Nat) (y : Option Value), k_B G τ b l ar cap nm g2 (B.1, B.2.1, m_rm p B.2.2 0) → (∀ i, i < (m_rm p B.2.2 0).length → ∃ j, g2 i = g j ∧ j < B.2.2.length) → h_F (fun q => q = l ∨ q = ar) 0 0 σ τ → k_P G n τ te p → sx_V G (9 + 3 * n) YX6_remove 12 [some (.ref b), some (.ref te), some (.int (nI B.2.2.length)), some (.int (nI 0 - nI 1)), y] [] τ (fun o τ => ∃ v, o = .inl v ∧ (v = some (.int (nI (B.2.2.countP p))) ∧ ∃ g2, k_B G τ b l ar cap nm g2 (B.1, B.2.1, B.2.2.filter (fun m => !(p m))) ∧ (∀ i, i < (B.2.2.filter (fun m => !(p m))).length → ∃ j, g2 i = g j ∧ j < B.2.2.length) ∧ h_F (fun q => q = l ∨ q = ar) 0 0 σ τ)) := by
    intro τ g2 y hB2 hj FF hP2
    obtain ⟨hb2, hL2, hm2⟩ := id hB2
    have hL2 : k_L G τ l ar cap (m_rm p B.2.2 0).length g2 := hL2
    have hm2 : ∀ i, i < (m_rm p B.2.2 0).length → k_M τ (g2 i) ((m_rm p B.2.2 0).getD i (0, 0, 0)) := hm2
    obtain ⟨mc2, f2, hl2, ha2, -⟩ := id hL2
    have hlen := m_rm_l p (ms := B.2.2) (k := 0) (by omega)
    refine sv_iload_n dX6_remove_12 rfl ?_
    refine sv_if_lt (tgt := 58) dX6_remove_13 (by decide) (fun c13 => ?_) (fun c13 => ?_)
    · refine sv_iload_n dX6_remove_58 rfl ?_
      refine sv_aload_n dX6_remove_59 rfl ?_
      refine sv_get fg_X6_14 dX6_remove_60 (sx_rd_c hb2) rfl ?_
      refine sv_cvR _ (cj_size hL2) okJ2_size kv_X6_31 (sx_rd_c hl2) rfl dX6_remove_63 rfl rfl (by omega) (Nat.le_of_ble_eq_true rfl) ?_
      refine sv_isubN dX6_remove_66 (by omega) ?_
      refine sv_iret rfl rfl dX6_remove_67 ?_
      refine ⟨_, rfl, r_I ?_, g2, ?_, ?_, FF⟩
      · rw [m_rm_0, m_rm_c]
      · rw [← m_rm_0]; exact hB2
      · rw [← m_rm_0]; exact hj
    · exact absurd (by decide) c13
  have loop : ∀ k, k ≤ B.2.2.length → ∀ (τ : sx_St) (g2 : Nat → Nat) (y : Option Value), k_B G τ b l ar cap nm g2 (B.1, B.2.1, m_rm p B.2.2 k) → (∀ i, i < (m_rm p B.2.2 k).length → ∃ j, g2 i = g j ∧ j < B.2.2.length) → h_F (fun q => q = l ∨ q = ar) 0 0 σ τ → k_P G n τ te p → sx_V G (9 + 3 * n) YX6_remove 12 [some (.ref b), some (.ref te), some (.int (nI B.2.2.length)), some (.int (nI k - nI 1)), y] [] τ (fun o τ => ∃ v, o = .inl v ∧ (v = some (.int (nI (B.2.2.countP p))) ∧ ∃ g2, k_B G τ b l ar cap nm g2 (B.1, B.2.1, B.2.2.filter (fun m => !(p m))) ∧ (∀ i, i < (B.2.2.filter (fun m => !(p m))).length → ∃ j, g2 i = g j ∧ j < B.2.2.length) ∧ h_F (fun q => q = l ∨ q = ar) 0 0 σ τ)) := by
    intro k
    induction k with
    | zero => intro _; exact base
    | succ k ih =>
    intro hk
    intro τ g2 y hB2 hj FF hP2
    obtain ⟨hb2, hL2, hm2⟩ := id hB2
    have hL2 : k_L G τ l ar cap (m_rm p B.2.2 (k + 1)).length g2 := hL2
    have hm2 : ∀ i, i < (m_rm p B.2.2 (k + 1)).length → k_M τ (g2 i) ((m_rm p B.2.2 (k + 1)).getD i (0, 0, 0)) := hm2
    obtain ⟨mc2, f2, hl2, ha2, -⟩ := id hL2
    have hlen := m_rm_l p (ms := B.2.2) (k := k + 1) hk
    rw [n1_s]
    have hmk : k_M τ (g2 k) (B.2.2.getD k (0, 0, 0)) := by have h9 := hm2 k (by omega); rwa [m_rm_g p (by omega)] at h9
    refine sv_iload_n dX6_remove_12 rfl ?_
    refine sv_if_lt (tgt := 58) dX6_remove_13 (by decide) (fun c13 => ?_) (fun c13 => ?_)
    · exact absurd c13 (nI_pos (by omega))
    · refine sv_aload_n dX6_remove_16 rfl ?_
      refine sv_aload_n dX6_remove_17 rfl ?_
      refine sv_get fg_X6_14 dX6_remove_18 (sx_rd_c hb2) rfl ?_
      refine sv_iload_n dX6_remove_21 rfl ?_
      refine sv_cvR _ (cj_get hL2 (i := k) (by omega)) okJ2_get kv_X6_35 (sx_rd_c hl2) rfl dX6_remove_22 rfl rfl (by omega) (Nat.le_of_ble_eq_true rfl) ?_
      refine sv_cast (C0 := "") (sx_rd_c hmk) rfl q999 dX6_remove_25 ?_
      refine sv_hol hG n _ _ _ _ _ _ _ _ _ _ _ _ _ hP2 hmk q1272 dX6_remove_28 (by omega) (Nat.le_of_ble_eq_true rfl) ?_
      refine sv_if_neB (tgt := 39) dX6_remove_33 (by decide) (fun c33 => ?_) (fun c33 => ?_)
      · refine sv_aload_n dX6_remove_39 rfl ?_
        refine sv_get fg_X6_14 dX6_remove_40 (sx_rd_c hb2) rfl ?_
        refine sv_iload_n dX6_remove_43 rfl ?_
        refine sv_cvP _ (cj_remove hL2 (i := k) (ci := 6) (by omega) k_O_6 (by decide) (fun i hi => k_M_E (hm2 i hi))) okJ2_remove kv_X6_67 (sx_rd_c hl2) rfl dX6_remove_44 rfl rfl (by omega) (Nat.le_of_ble_eq_true rfl) ?_
        intro v94 τ92 hp93
        obtain ⟨rfl, L91, F90⟩ := hp93
        have N95 := (F90).1.1
        have hb2' := h_F_c F90 hb2 (fun z => z.elim (e_kn hb2 hl2 rfl) (e_kn hb2 ha2 rfl))
        have hmk' := h_F_c F90 hmk (fun z => z.elim (e_kn hmk hl2 rfl) (e_kn hmk ha2 rfl))
        refine sv_cast (C0 := "") (sx_rd_c hmk') rfl q999 dX6_remove_47 ?_
        refine sv_astore dX6_remove_50 (by decide) ?_
        refine sv_iinc _ dX6_remove_52 rfl rfl (by decide) ?_
        refine sv_goto (tgt := 12) dX6_remove_55 (by decide) ?_
        rw [n1_i]
        refine ih (by omega) _ (fun j => if j < k then g2 j else g2 (j + 1)) _ ⟨hb2', ?_, ?_⟩ ?_ (h_F_u FF F90 (fun _ _ z => z) (fun _ _ z => z) (by omega) (by omega)) (k_P_fr F90 (k_W_la hl2 ha2) n te p hP2)
        · show k_L G _ l ar cap (m_rm p B.2.2 k).length _
          rw [m_rm_s p (by omega), if_pos c33, List.length_eraseIdx, if_pos (by omega)]
          exact L91
        · show ∀ i, i < (m_rm p B.2.2 k).length → _
          rw [m_rm_s p (by omega), if_pos c33]
          exact k_Ms_er (by omega) (fun i hi => k_M_fr F90 (hm2 i hi) (fun z => z.elim (e_kn (hm2 i hi) hl2 rfl) (e_kn (hm2 i hi) ha2 rfl)))
        · rw [m_rm_s p (by omega), if_pos c33, List.length_eraseIdx, if_pos (by omega)]
          intro i hi
          show ∃ j, (if i < k then g2 i else g2 (i + 1)) = g j ∧ j < B.2.2.length
          by_cases hx : i < k
          · rw [if_pos hx]; exact hj i (by omega)
          · rw [if_neg hx]; exact hj (i + 1) (by omega)
      · refine sv_goto (tgt := 52) dX6_remove_36 (by decide) ?_
        refine sv_iinc _ dX6_remove_52 rfl rfl (by decide) ?_
        refine sv_goto (tgt := 12) dX6_remove_55 (by decide) ?_
        rw [n1_i]
        have e9 : m_rm p B.2.2 k = m_rm p B.2.2 (k + 1) := by rw [m_rm_s p (by omega), c33]; rfl
        exact ih (by omega) τ g2 _ (by rw [e9]; exact hB2) (by rw [e9]; exact hj) FF hP2
  refine sx_body (by decide) (Nat.le_of_ble_eq_true rfl) ?_
  have hB0 := hB
  obtain ⟨hb, hL, hm⟩ := hB
  obtain ⟨mc, f, hl, ha, l1, l2, l3, hg⟩ := id hL
  refine sv_aload_n dX6_remove_0 rfl ?_
  refine sv_get fg_X6_14 dX6_remove_1 (sx_rd_c hb) rfl ?_
  refine sv_cvR _ (cj_size hL) okJ2_size kv_X6_31 (sx_rd_c hl) rfl dX6_remove_4 rfl rfl (by omega) (Nat.le_of_ble_eq_true rfl) ?_
  refine sv_istore_n dX6_remove_7 (by decide) ?_
  refine sv_iload_n dX6_remove_8 rfl ?_
  refine sv_iconst (nI 1) dX6_remove_9 (by decide +kernel) ?_
  refine sv_isub dX6_remove_10 ?_
  refine sv_istore_n dX6_remove_11 (by decide) ?_
  exact loop B.2.2.length (Nat.le_refl _) σ g _ (by rw [m_rm_n]; exact hB0) (fun i hi => ⟨i, rfl, by rw [m_rm_n] at hi; exact hi⟩) h_F_r hP
end CBY
