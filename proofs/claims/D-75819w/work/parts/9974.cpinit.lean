set_option maxRecDepth 100000
section CPI
variable {G : sx_G} {σ τ ρ σ0 : sx_St} {pa x0 inp o lo n0 s0 : Nat} {tt : Nat → Nat} {t : List Int32} {w0 w1 w2 w3 w6 w7 w8 : Value}
/-- owners with the parser's own cells -/
def ow_p (ow : Nat → Nat) (pa sel onl : Nat) : Nat → Nat := fun q => if q = pa then 8 else if q = sel then 9 else if q = onl then 10 else ow q
theorem J_new {ps sel onl wd nr : Nat} {ow : Nat → Nat} {Λ : Nat → Nat → Nat → Nat} {σv : sx_St} {c sl : Nat} (hG9 : g_Y G lo tt) (hI : c_I G ps σv ow ps Λ (30, [], [])) (hpa : pa < ps) (hlo : lo ≤ pa) (hpc : ∃ vs, sx_c σv pa = some (.inr (3, vs))) (FF : h_F (fun q => q = pa) c sl σv τ) (hsel : sx_n σv ≤ sel) (honl : sx_n σv ≤ onl) (hso : sel ≠ onl) (hsr : sel < nr) (hor : onl < nr) (hnr : nr ≤ sx_n τ)
    (h1 : sx_c τ sel = some (.inl (sg_a G 0, 4, .inl (fun _ => 0)))) (h2 : sx_c τ onl = some (.inl (sg_a G 3, 4, .inl (fun _ => 0))))
    (hy : y_P G (fun q => nr ≤ q ∧ ow_p ow pa sel onl q = 0) τ pa ps sel onl x0 t (k_n t 0) 0 false wd) (hw : p_w t (k_n t 0) ≠ [] → nr ≤ wd)
    (hn : sx_n τ ≤ n0 + 4 * (k_n t 0).2.2.1) (hs : sx_s τ ≤ s0 + 30 * (k_n t 0).2.2.1)
    (hf : ∀ q, q < lo → sx_c τ q = sx_c σ0 q) (hl0 : lo ≤ sx_n σ0) (hl1 : sx_n σ0 ≤ sx_n τ) (hx0 : x0 < lo) (hin : inp < lo) (hk : k_I G σ0 x0 inp w0 w1 w2 w3 w6 w7 w8 t) : y_J G lo n0 s0 nr σ0 pa ps sel onl x0 inp w0 w1 w2 w3 w6 w7 w8 t τ ((30, [], []), false, []) (k_n t 0) (ow_p ow pa sel onl) Λ wd 0 [] := by
  have lt := k_V_lt hI.1
  obtain ⟨l1, l2, l3, l4, l5, -, -⟩ := lt
  obtain ⟨⟨v1, v2, v3, -, -⟩, ⟨t1, t2, t3, t4, t5, -, -⟩, g1, g2⟩ := hI
  obtain ⟨vs, hpc⟩ := hpc
  obtain ⟨mc, fl, c1, c2, -⟩ := id v2
  obtain ⟨mc', fl', c1', c2', -⟩ := id v3
  have nF := FF.1.1
  have e1 := g1 ps (by omega)
  have e2 := g1 (Λ 0 0 0) (by omega)
  have e3 := g1 (Λ 0 1 0) (by omega)
  have e4 := g1 (Λ 0 2 0) (by omega)
  have e5 := g1 (Λ 0 3 0) (by omega)
  have ow9 : ∀ q, q ≠ pa → q ≠ sel → q ≠ onl → ow_p ow pa sel onl q = ow q := fun q a b c => by unfold ow_p; rw [if_neg a, if_neg b, if_neg c]
  have owlo : ∀ q, ow_p ow pa sel onl q ≠ 0 → lo ≤ q := fun q h => by
    by_cases a : q = pa
    · omega
    · by_cases b : q = sel
      · omega
      · by_cases d : q = onl
        · omega
        · rw [ow9 q a b d] at h; have := g1 q h; omega
  have owhi : ∀ q, nr ≤ q → ow_p ow pa sel onl q = 0 := fun q h => by rw [ow9 q (by omega) (by omega) (by omega)]; exact g2 q (by omega)
  refine ⟨⟨hy, fun z => by have := hw z; omega⟩, ⟨⟨⟨h_F_c FF v1 (e_kn v1 hpc rfl), k_L_fr FF v2 (e_kn c1 hpc rfl) (e_kn c2 hpc rfl), k_L_fr FF v3 (e_kn c1' hpc rfl) (e_kn c2' hpc rfl), fun i hi => absurd hi (Nat.not_lt_zero i), fun i hi => absurd hi (Nat.not_lt_zero i)⟩, ⟨(ow9 _ (by omega) (by omega) (by omega)).trans t1, (ow9 _ (by omega) (by omega) (by omega)).trans t2, (ow9 _ (by omega) (by omega) (by omega)).trans t3, (ow9 _ (by omega) (by omega) (by omega)).trans t4, (ow9 _ (by omega) (by omega) (by omega)).trans t5, fun i hi => absurd hi (Nat.not_lt_zero i), fun i hi => absurd hi (Nat.not_lt_zero i)⟩, owlo, fun q hq => owhi q (by omega)⟩, fun i hi => absurd hi (Nat.not_lt_zero i)⟩, ⟨⟨if_pos rfl, ?_, ?_⟩, ?_, hsr, hor, hnr⟩, ⟨_, _, h1, h2, fun s hs => absurd hs (Nat.not_lt_zero s), fun s => rfl⟩, ⟨fun i hi => absurd hi (Nat.not_lt_zero i), fun i hi => absurd hi (Nat.not_lt_zero i)⟩, ?_, p_ok_0, ⟨hf, hl0, hl1, hx0, hin⟩, hk, fun x hm => absurd hm List.not_mem_nil⟩
  · unfold ow_p; rw [if_neg (by omega), if_pos rfl]
  · unfold ow_p; rw [if_neg (by omega), if_neg (Ne.symm hso), if_pos rfl]
  · obtain ⟨_, _, _, _, _, hw3, _⟩ := hy
    rcases hw3 with ⟨-, e⟩ | ⟨e, -⟩
    · have h9 := hG9.2.2.2.1 0 (by decide)
      cases h8 : ow_p ow pa sel onl wd with
      | zero => rfl
      | succ n => have := owlo wd (by omega); omega
    · exact owhi wd (hw e)
  · unfold y_B
    omega
theorem J_init (hG9 : g_Y G lo tt) (hb : b_B t) (hp : sx_c σ pa = some (.inr (3, [.null, .null, .null, .int (nI 0), .int (nI 0), .int (nI 0), .int (nI 0), .int (b_I false), .null, .null, .null]))) (hlo : lo ≤ pa) (h0 : ∀ q, q < lo → sx_c σ q = sx_c σ0 q) (hl0 : lo ≤ sx_n σ0) (h0n : sx_n σ0 ≤ sx_n σ) (hx0 : x0 < lo) (hin : inp < lo) (hk : k_I G σ0 x0 inp w0 w1 w2 w3 w6 w7 w8 t) (hn0 : sx_n σ + 10 ≤ n0) (hs0 : sx_s σ + 60 ≤ s0) : sx_Cp G 12 YX4_init [.ref pa, .ref x0] σ (fun v τ => v = none ∧ ∃ ps sel onl wb ow Λ wd, y_J G lo n0 s0 wb σ0 pa ps sel onl x0 inp w0 w1 w2 w3 w6 w7 w8 t τ ((30, [], []), false, []) (k_n t 0) ow Λ wd 0 []) := by
  refine sx_body (by decide) (Nat.le_of_ble_eq_true rfl) ?_
  have lpa := sx_lt hp
  have FF0 : h_F (fun q => q = pa) 0 0 σ σ := h_F_r
  refine sv_aload_n dX4_init_0 rfl ?_
  refine sv_aload_n dX4_init_1 rfl ?_
  refine sv_put fp_X4_3 dX4_init_2 hp rfl rfl (Nat.le_of_ble_eq_true rfl) ?_
  refine hs_up hp (fun τ1 F2 h3 N4 Z5 => ?_)
  have h3 : sx_c τ1 pa = some (.inr (3, [.null, .null, .null, .int (nI 0), .int (nI 0), .int (nI 0), .int (nI 0), .int (b_I false), .null, .null, .ref x0])) := h3
  have FF6 := h_F_u FF0 F2 (fun _ _ z => z) (by intro q hq hz; omega) (Nat.le_refl _) (Nat.le_refl _)
  refine sv_aload_n dX4_init_5 rfl ?_
  refine sv_oi q635 q194 q195 dX4_init_6 (by decide) (Nat.le_of_ble_eq_true rfl) ?_
  refine sv_aload_n dX4_init_9 rfl ?_
  refine sv_new fn_X4_15 dX4_init_10 ?_
  refine hs_al (fun ps τ7 E12 F8 h9 N10 Z11 => ?_)
  have h3' := h_F_c F8 h3 (fun z => z)
  have FF13 := h_F_u FF6 F8 (fun _ _ z => z) (fun _ _ z => z.elim) (Nat.le_refl _) (Nat.le_refl _)
  have h9 : sx_c τ7 ps = some (.inr (1, [.null, .null, .int (nI 0)])) := by rw [nI_0]; exact h9
  refine sv_dup dX4_init_13 rfl ?_
  have FF9 := FF13
  have nn9 := FF9.1.1
  have nn10 := FF9.1.2
  have nn11 := FF9.2.1
  refine sv_ciP _ (cc_vinit h9) okX2_init ki_X4_17 dX4_init_14 rfl rfl (by omega) (Nat.le_of_ble_eq_true rfl) ?_
  intro v9 τ14 hp9
  obtain ⟨rfl, ow, Λ, hIv, Fv⟩ := hp9
  have nv := Fv.1.1
  have h3'' := h_F_c Fv h3' (e_kn h3' h9 rfl)
  have FF15 := h_F_u FF13 Fv (fun _ _ z => z) (by intro q hq hz; omega) (Nat.le_refl _) (Nat.le_refl _)
  have hps9 := hIv.1.1
  have hpav := h3''
  have FFv : h_F (fun q => q = pa) 0 0 τ14 τ14 := h_F_r
  have lps := sx_lt hps9
  refine sv_put fp_X4_18 dX4_init_17 h3'' rfl rfl (Nat.le_of_ble_eq_true rfl) ?_
  refine hs_up h3'' (fun τ16 F17 h18 N19 Z20 => ?_)
  have h18 : sx_c τ16 pa = some (.inr (3, [.ref ps, .null, .null, .int (nI 0), .int (nI 0), .int (nI 0), .int (nI 0), .int (b_I false), .null, .null, .ref x0])) := h18
  have hps9' := h_F_c F17 hps9 (e_kn hps9 h3'' rfl)
  have FF21 := h_F_u FFv F17 (fun _ _ z => z) (by intro q hq hz; omega) (Nat.le_refl _) (Nat.le_refl _)
  refine sv_aload_n dX4_init_20 rfl ?_
  refine sv_iconst (nI 4) dX4_init_21 (by decide +kernel) ?_
  refine sv_newa_int 4 q719 dX4_init_22 (nI_pos (by omega)) (nI_clamp (by omega)) (by omega) ?_
  refine hs_al (fun a22 τ23 E28 F24 h25 N26 Z27 => ?_)
  have hps9'' := h_F_c F24 hps9' (fun z => z)
  have h18' := h_F_c F24 h18 (fun z => z)
  have FF29 := h_F_u FF21 F24 (fun _ _ z => z) (fun _ _ z => z.elim) (Nat.le_refl _) (Nat.le_refl _)
  have h25 : sx_c τ23 a22 = some (.inl (sg_a G 0, 4, .inl ((fun _ => 0)))) := h25
  refine sv_put fp_X4_22 dX4_init_24 h18' rfl rfl (Nat.le_of_ble_eq_true rfl) ?_
  refine hs_up h18' (fun τ30 F31 h32 N33 Z34 => ?_)
  have h32 : sx_c τ30 pa = some (.inr (3, [.ref ps, .ref a22, .null, .int (nI 0), .int (nI 0), .int (nI 0), .int (nI 0), .int (b_I false), .null, .null, .ref x0])) := h32
  have hps9''' := h_F_c F31 hps9'' (e_kn hps9'' h18' rfl)
  have h25' := h_F_c F31 h25 (e_kn h25 h18' rfl)
  have FF35 := h_F_u FF29 F31 (fun _ _ z => z) (by intro q hq hz; omega) (Nat.le_refl _) (Nat.le_refl _)
  refine sv_aload_n dX4_init_27 rfl ?_
  refine sv_iconst (nI 4) dX4_init_28 (by decide +kernel) ?_
  refine sv_newa_boolean 4 q720 dX4_init_29 (nI_pos (by omega)) (nI_clamp (by omega)) (by omega) ?_
  refine hs_al (fun a36 τ37 E42 F38 h39 N40 Z41 => ?_)
  have e43 : a22 ≠ a36 := by have := sx_lt h25'; omega
  have hps9'''' := h_F_c F38 hps9''' (fun z => z)
  have h25'' := h_F_c F38 h25' (fun z => z)
  have h32' := h_F_c F38 h32 (fun z => z)
  have FF44 := h_F_u FF35 F38 (fun _ _ z => z) (fun _ _ z => z.elim) (Nat.le_refl _) (Nat.le_refl _)
  have h39 : sx_c τ37 a36 = some (.inl (sg_a G 3, 4, .inl ((fun _ => 0)))) := h39
  refine sv_put fp_X4_26 dX4_init_31 h32' rfl rfl (Nat.le_of_ble_eq_true rfl) ?_
  refine hs_up h32' (fun τ45 F46 h47 N48 Z49 => ?_)
  have h47 : sx_c τ45 pa = some (.inr (3, [.ref ps, .ref a22, .ref a36, .int (nI 0), .int (nI 0), .int (nI 0), .int (nI 0), .int (b_I false), .null, .null, .ref x0])) := h47
  have hps9''''' := h_F_c F46 hps9'''' (e_kn hps9'''' h32' rfl)
  have h25''' := h_F_c F46 h25'' (e_kn h25'' h32' rfl)
  have h39' := h_F_c F46 h39 (e_kn h39 h32' rfl)
  have FF50 := h_F_u FF44 F46 (fun _ _ z => z) (by intro q hq hz; omega) (Nat.le_refl _) (Nat.le_refl _)
  refine sv_aload_n dX4_init_34 rfl ?_
  refine sv_ldcS 0 rfl dX4_init_35 ?_
  refine sv_put fp_X4_32 dX4_init_37 h47 rfl rfl (Nat.le_of_ble_eq_true rfl) ?_
  refine hs_up h47 (fun τ51 F52 h53 N54 Z55 => ?_)
  have h53 : sx_c τ51 pa = some (.inr (3, [.ref ps, .ref a22, .ref a36, .int (nI 0), .int (nI 0), .int (nI 0), .int (nI 0), .int (b_I false), .ref (sg_t G 0), .null, .ref x0])) := h53
  have hps9'''''' := h_F_c F52 hps9''''' (e_kn hps9''''' h47 rfl)
  have h25'''' := h_F_c F52 h25''' (e_kn h25''' h47 rfl)
  have h39'' := h_F_c F52 h39' (e_kn h39' h47 rfl)
  have FF56 := h_F_u FF50 F52 (fun _ _ z => z) (by intro q hq hz; omega) (Nat.le_refl _) (Nat.le_refl _)
  have FFr := FF56
  have nFr := FFr.1.1
  have frz : ∀ q, q < lo → sx_c τ51 q = sx_c σ0 q := fun q hq => by rw [FFr.2.2 q (by have := nv; omega) (by omega)]; rw [Fv.2.2 q (by omega) (by omega)]; rw [FF9.2.2 q (by omega) (by omega)]; exact h0 q hq
  have hkr : k_I G τ51 x0 inp w0 w1 w2 w3 w6 w7 w8 t := by obtain ⟨a1, f, a2, a3⟩ := hk; exact ⟨(frz _ hx0).trans a1, f, (frz _ hin).trans a2, a3⟩
  have lsel := sx_lt h25''''
  have lonl := sx_lt h39''
  have nso : a22 ≠ a36 := e43
  have hwb9 : ∀ q, sx_n τ51 ≤ q → sx_n τ51 ≤ q ∧ ow_p ow pa a22 a36 q = 0 := fun q hq => ⟨hq, by unfold ow_p; rw [if_neg (by omega), if_neg (by omega), if_neg (by omega)]; exact hIv.2.2.2 q (by omega)⟩
  refine sv_aload_n dX4_init_40 rfl ?_
  refine sv_cvP _ (cy_next (wb := fun q => sx_n τ51 ≤ q ∧ ow_p ow pa a22 a36 q = 0) hG9.1 hG9.2.2.2.2.1 h53 hkr hb (Nat.zero_le _) hwb9) okX4_next kv_X4_36 (sx_rd_c h53) rfl dX4_init_41 rfl rfl (by omega) (Nat.le_of_ble_eq_true rfl) ?_
  intro v8 τ57 hp8
  obtain ⟨rfl, wd, hy, hw2, Fn⟩ := hp8
  have nn := Fn.1.1
  have nn2 := Fn.1.2
  have nn3 := Fn.2.1
  have nn4 := FFr.1.2
  have nn5 := FFr.2.1
  have nn6 := Fv.1.2
  have nn7 := Fv.2.1
  have hs9 := h_F_c Fn h25'''' (e_kn h25'''' h53 rfl)
  have ho9 := h_F_c Fn h39'' (e_kn h39'' h53 rfl)
  refine sv_vret rfl dX4_init_44 ?_
  exact ⟨_, rfl, rfl, ps, a22, a36, _, _, Λ, wd, J_new hG9 hIv (by omega) hlo ⟨_, hpav⟩ (h_F_u FFr Fn (fun _ _ z => z) (fun _ _ z => z) (Nat.le_refl _) (Nat.le_refl _)) (by omega) (by omega) nso lsel lonl nn hs9 ho9 hy hw2 (by omega) (by omega) (fun q hq => (Fn.2.2 q (by omega) (by omega)).trans (frz q hq)) hl0 (by omega) hx0 hin hk⟩
end CPI
