set_option maxRecDepth 100000
section CNX
variable {G : sx_G} {σ τ ρ : sx_St} {pa ps sel onl x0 inp o : Nat} {wb : Nat → Prop} {t : List Int32} {k : k_T} {hl : Bool} {v0 v1 v2 v3 v4 v5 v6 v7 v8 v9 : Value} {w0 w1 w2 w3 w6 w7 w8 : Value}
/-- the word that stands here -/
def y_w (G : sx_G) (wb : Nat → Prop) (σ : sx_St) (wd : Nat) (w : List Nat) : Prop := (w = [] ∧ wd = sg_t G 0) ∨ (w ≠ [] ∧ ∃ nb, k_Sn G σ wd nb w ∧ wb nb)
/-- the parser at a token -/
def y_P (G : sx_G) (wb : Nat → Prop) (σ : sx_St) (pa ps sel onl x0 : Nat) (t : List Int32) (k : k_T) (o : Nat) (hl : Bool) (wd : Nat) : Prop := ∃ (tk : Nat) (vv : Int32), sx_c σ pa = some (.inr (3, [.ref ps, .ref sel, .ref onl, .int (nI k.2.2.1), .int (nI k.2.1), .int vv, .int (nI o), .int (b_I hl), .ref wd, .ref tk, .ref x0])) ∧ sg_z G k.1 = .ref tk ∧ (k.1 = 2 → vv = nI (min 10000000 k.2.2.2)) ∧ y_w G wb σ wd (p_w t k) ∧ k_ok t k
theorem ain_s (c : Int32) : a_in c (nI 32) (nI 32) = decide (c = 32) ∧ a_in c (nI 10) (nI 10) = decide (c = 10) := by
  have key : ∀ x : Int32, a_in c x x = decide (c = x) := fun x => by
    unfold a_in
    refine decide_eq_decide.mpr ⟨fun z => ?_, fun z => ?_⟩
    · rw [i64_le, i64_le] at z
      exact Int32.le_antisymm z.2 z.1
    · rw [z, i64_le]
      exact ⟨Int32.le_refl _, Int32.le_refl _⟩
  exact ⟨key _, key _⟩
theorem i2c_n : ∀ n, n < 128 → ((nI n).toUInt32 % 65536).toInt32 = nI n := by decide +kernel
theorem dt_s {s j : Nat} (hs : s ≤ j) (hj : j < t.length) : (t.drop s).take (j - s) ++ [t.getD j 0] = (t.drop s).take (j + 1 - s) := by
  rw [show j + 1 - s = (j - s) + 1 by omega, List.take_add_one, List.getElem?_drop, show s + (j - s) = j by omega, List.getD_eq_getElem?_getD, List.getElem?_eq_getElem hj]
  rfl
theorem dt_l {s j : Nat} (hs : s ≤ j) (hj : j ≤ t.length) : ((t.drop s).take (j - s)).length = j - s := by
  rw [List.length_take, List.length_drop]
  omega
theorem k_min7 {v d : Nat} (hd : d < 100) : (if nI (10 * min 10000000 v + d) < nI 10000000 then nI (10 * min 10000000 v + d) else nI 10000000) = nI (min 10000000 (10 * v + d)) := by
  by_cases hv : v ≤ 10000000
  · rw [Nat.min_eq_right hv]
    by_cases hc : 10 * v + d < 10000000
    · rw [if_pos ((nI_ltI (by omega) (by omega)).mpr hc), Nat.min_eq_right (by omega)]
    · rw [if_neg (fun z => hc ((nI_ltI (by omega) (by omega)).mp z)), Nat.min_eq_left (by omega)]
  · rw [Nat.min_eq_left (by omega), if_neg (fun z => by have := (nI_ltI (by omega) (by omega)).mp z; omega), Nat.min_eq_left (by omega)]
/-- the word of a token out of its string -/
theorem y_w_of {wd nb s e : Nat} (hb : b_B t) (hk : k_ok t (1, s, e, 0)) (h : k_Sf G σ wd nb ((t.drop s).take (e - s))) (hnb : wb nb) : y_w G wb σ wd (p_w t (1, s, e, 0)) := by
  obtain ⟨f, h1, h2, h3⟩ := h
  have hl := p_w_l hk rfl
  have hlt : s < e := hk.2.2.2.2.1 (fun z => by cases z)
  have hse : s ≤ e := hk.1
  have het : e ≤ t.length := hk.2.1
  rw [dt_l hse het] at h2
  have hl2 : (p_w t (1, s, e, 0)).length = e - s := hl
  refine Or.inr ⟨fun z => by rw [z] at hl2; have : 0 = e - s := hl2; omega, nb, ⟨nI 0, false, f, h1, by rw [hl2]; exact h2, fun i hi => ?_, Or.inl rfl, fun z => by cases z⟩, hnb⟩
  rw [hl2] at hi
  rw [h3 i (by rw [dt_l hse het]; exact hi), ← (p_w_g hb hk rfl (i := i) hi).1]
  show ((t.drop s).take (e - s)).getD i 0 = t.getD (s + i) 0
  rw [List.getD_eq_getElem?_getD, List.getElem?_take_of_lt hi, List.getElem?_drop, List.getD_eq_getElem?_getD]
theorem k_Sf_fr {W : Nat → Prop} {c s wd nb : Nat} {B : List Int32} (F : h_F W c s σ τ) (h : k_Sf G σ wd nb B) (h1 : ¬ W wd) (h2 : ¬ W nb) : k_Sf G τ wd nb B := by
  obtain ⟨f, a1, a2, a3⟩ := h
  exact ⟨f, h_F_c F a1 h1, h_F_c F a2 h2, a3⟩
theorem k_Sf_3 {wd nb q : Nat} {B : List Int32} {vs : List Value} (h : k_Sf G σ wd nb B) (hq : sx_c σ q = some (.inr (3, vs))) : wd ≠ q ∧ nb ≠ q := by
  obtain ⟨f, a1, a2, a3⟩ := h
  exact ⟨e_kn a1 hq rfl, e_kn a2 hq rfl⟩
theorem cy_next (hC : g_C G) {tt : Nat → Nat} (htt : ∀ i, i < 4 → sg_z G i = .ref (tt i)) {i0 : Nat} (hp : sx_c σ pa = some (.inr (3, [.ref ps, .ref sel, .ref onl, .int (nI i0), v4, v5, .int (nI o), .int (b_I hl), v8, v9, .ref x0]))) (hI : k_I G σ x0 inp w0 w1 w2 w3 w6 w7 w8 t) (hb : b_B t) (hi0 : i0 ≤ t.length) (hwb : ∀ q, sx_n σ ≤ q → wb q) : sx_C G 9 YX4_next [.ref pa] σ (fun oc τ => ∃ v, oc = .inl v ∧ v = none ∧ ∃ wd, y_P G wb τ pa ps sel onl x0 t (k_n t i0) o hl wd ∧ (p_w t (k_n t i0) ≠ [] → sx_n σ ≤ wd) ∧ h_F (fun q => q = pa) (4 * ((k_n t i0).2.2.1 - i0)) (30 * ((k_n t i0).2.2.1 - i0)) σ τ) := by
  have loop2 : ∀ s sb r j (ρ : sx_St) sa cap, s ≤ j → j ≤ t.length → t.length + 1 ≤ j + r → sx_c ρ pa = some (.inr (3, [.ref ps, .ref sel, .ref onl, .int (nI j), .int (nI s), .int (nI 0), .int (nI o), .int (b_I hl), .ref (sg_t G 0), .ref (tt 1), .ref x0])) → k_U G ρ sb sa cap ((t.drop s).take (j - s)) → sx_n σ ≤ sb → sx_n σ ≤ sa → cap ≤ max 16 (2 * (j - s)) → h_F (fun q => q = pa) (2 + cap) (20 + 2 * cap) σ ρ → 16 * sx_n ρ + 16 ≤ 16 * sx_n σ + cap + 32 → sx_s ρ + 32 ≤ sx_s σ + 20 + 2 * cap → i0 ≤ s → s < t.length → k_a (k_b t s) = true → k_w k_a t r j = k_w k_a t 701 s → sx_V G 9 YX4_next 104 [some (.ref pa), some (.ref sb)] [] ρ (fun oc τ => ∃ v, oc = .inl v ∧ v = none ∧ ∃ wd, y_P G wb τ pa ps sel onl x0 t (1, s, k_w k_a t 701 s, 0) o hl wd ∧ (p_w t (1, s, k_w k_a t 701 s, 0) ≠ [] → sx_n σ ≤ wd) ∧ h_F (fun q => q = pa) (4 * ((1, s, k_w k_a t 701 s, 0).2.2.1 - i0)) (30 * ((1, s, k_w k_a t 701 s, 0).2.2.1 - i0)) σ τ) := by
    obtain ⟨hx, fi, hin, ht7, hfi⟩ := id hI
    have ht0 := htt 0 (by decide)
    have ht1 := htt 1 (by decide)
    have ht2 := htt 2 (by decide)
    have ht3 := htt 3 (by decide)
    intro s sb r
    induction r with
    | zero => intro j ρ sa cap h1 h2 h3; omega
    | succ r ih =>
    intro j ρ sa cap g1 g2 g3 hp1 hU1 hsb hsa hcap Fo hn1 hz1 g4 g5 hka hkw
    have hp0 := sx_lt hp
    obtain ⟨_, _, hsb1, hsa1, -⟩ := id hU1
    have hx1 := h_F_c Fo hx (e_kn hx hp rfl)
    have hin1 := h_F_c Fo hin (e_kn hin hp rfl)
    have FFa : h_F (fun q => q = pa) 0 0 ρ ρ := h_F_r
    refine sv_aload_n dX4_next_104 rfl ?_
    refine sv_bipush (nI 97) dX4_next_105 (by decide +kernel) ?_
    refine sv_bipush (nI 122) dX4_next_107 (by decide +kernel) ?_
    refine sv_cvR _ (cy_isAt (i := j) hp1 ⟨hx1, fi, hin1, ht7, hfi⟩ hb (by omega) (by decide) (by decide)) okX4_isAt kv_X4_54 (sx_rd_c hp1) rfl dX4_next_109 rfl rfl (by omega) (Nat.le_of_ble_eq_true rfl) ?_
    refine sv_if_eqB (tgt := 146) dX4_next_112 (by decide) (fun c112 => ?_) (fun c112 => ?_)
    · have hke : k_w k_a t 701 s = j := by rw [← hkw, k_w_n (p := k_a) c112]
      refine sv_aload_n dX4_next_146 rfl ?_
      refine sv_aload_n dX4_next_147 rfl ?_
      refine sv_cvP _ (cb_str hC hU1) okJ8_toString kv_X4_83 (sx_rd_c hsb1) rfl dX4_next_148 rfl rfl (by omega) (Nat.le_of_ble_eq_true rfl) ?_
      intro v6 τ4 hp5
      obtain ⟨nm, nb, rfl, h12, h23, hSf, F1⟩ := hp5
      have N7 := (F1).1.1
      have hp1' := h_F_c F1 hp1 (fun z => z)
      have hx1' := h_F_c F1 hx1 (fun z => z)
      have hin1' := h_F_c F1 hin1 (fun z => z)
      have hsb1' := h_F_c F1 hsb1 (fun z => z)
      have FF8 := h_F_u FFa F1 (fun _ _ z => z) (fun _ _ z => z.elim) (Nat.le_refl _) (Nat.le_refl _)
      have hnm9 := h12
      have hnb9 := h23
      refine sv_put fp_X4_32 dX4_next_151 hp1' rfl rfl (Nat.le_of_ble_eq_true rfl) ?_
      refine hs_up hp1' (fun τ9 F10 h11 N12 Z13 => ?_)
      have h11 : sx_c τ9 pa = some (.inr (3, [.ref ps, .ref sel, .ref onl, .int (nI j), .int (nI s), .int (nI 0), .int (nI o), .int (b_I hl), .ref nm, .ref (tt 1), .ref x0])) := h11
      have hx1'' := h_F_c F10 hx1' (e_kn hx1' hp1' rfl)
      have hin1'' := h_F_c F10 hin1' (e_kn hin1' hp1' rfl)
      have hsb1'' := h_F_c F10 hsb1' (e_kn hsb1' hp1' rfl)
      have hSf := k_Sf_fr F10 hSf (k_Sf_3 hSf hp1').1 (k_Sf_3 hSf hp1').2
      have FF14 := h_F_u FF8 F10 (fun _ _ z => z) (by intro q hq hz; omega) (Nat.le_refl _) (Nat.le_refl _)
      refine sv_goto (tgt := 248) dX4_next_154 (by decide) ?_
      refine sv_vret rfl dX4_next_248 ?_
      rw [hke]
      have hsj : s < j := by
       have h9 := k_w_le (t := t) (p := k_a) (by decide +kernel) 700 (s + 1) (by omega)
       rw [← k_w_s hka] at h9
       have h9 : s + 1 ≤ k_w k_a t 701 s ∧ _ := h9
       omega
      have hko : k_ok t (1, s, j, 0) := ⟨g1, g2, Nat.le_of_ble_eq_true rfl, fun z => (by cases z), fun _ => hsj, fun _ x x1 x2 => k_w_all 701 s x x1 (by rw [hke]; exact x2)⟩
      have hFz := FF14
      have hsl := dt_l (t := t) g1 g2
      rw [hsl] at hFz
      refine ⟨_, rfl, rfl, nm, ⟨tt 1, nI 0, h11, ht1, fun z => (by cases z), y_w_of hb hko hSf (hwb _ (by have := Fo.1.1; omega)), hko⟩, fun _ => ?_, ⟨⟨?_, ?_⟩, ?_, fun q x1 x2 => ?_⟩⟩
      · have := Fo.1.1; omega
      · have := Fo.1.1; have := hFz.1.1; omega
      · show sx_n _ ≤ sx_n σ + 4 * (j - i0)
        have := hFz.1.2
        omega
      · show sx_s _ ≤ sx_s σ + 30 * (j - i0)
        have := hFz.2.1
        omega
      · rw [hFz.2.2 q (by have := Fo.1.1; omega) x2]
        exact Fo.2.2 q x1 x2
    · have hjl := k_b_lt (p := k_a) (by decide +kernel) c112
      obtain ⟨cc, hcb, hc1, hc2⟩ := k_a_of c112
      have hcc := (k_b_x hb hjl (by omega)).mp hcb
      rw [k_w_s (p := k_a) c112] at hkw
      refine sv_aload_n dX4_next_115 rfl ?_
      refine sv_aload_n dX4_next_116 rfl ?_
      refine sv_get fg_X4_3 dX4_next_117 (sx_rd_c hp1) rfl ?_
      refine sv_get fg_X4_46 dX4_next_120 (sx_rd_c hx1) rfl ?_
      refine sv_aload_n dX4_next_123 rfl ?_
      refine sv_get fg_X4_39 dX4_next_124 (sx_rd_c hp1) rfl ?_
      refine sv_bald dX4_next_127 (sx_rd_c hin1) (vp_in_nI (by omega) (by omega)) ?_
      rw [nI_clamp (show j < 2 ^ 31 by omega)]
      refine sv_tI (y := t.getD j 0) (hfi j hjl) ?_
      refine sv_i2c dX4_next_128 ?_
      rw [hcc]
      refine sv_tI (y := nI cc) (i2c_n _ (by omega)) ?_
      refine sv_cvP _ (cb_app hC hU1 (c := cc) (by omega) (by rw [dt_l (by omega) (by omega)]; omega)) okJ8_append_3 kv_X4_79 (sx_rd_c hsb1) rfl dX4_next_129 rfl rfl (by omega) (Nat.le_of_ble_eq_true rfl) ?_
      intro v15 τ16 hp17
      obtain ⟨rfl, sa2, cap2, hm2, hU2, hg2⟩ := hp17
      have FF2 := k_Uf_F hg2
      rw [dt_l (by omega) (by omega)] at hm2
      rw [b_n128 _ (by omega), ← hcc, dt_s (by omega) hjl] at hU2
      have hp2 := h_F_c FF2 hp1 (fun z => z.elim (e_kn hp1 hsb1 rfl) (e_kn hp1 hsa1 rfl))
      have hx2 := h_F_c FF2 hx1 (fun z => z.elim (e_kn hx1 hsb1 rfl) (e_kn hx1 hsa1 rfl))
      have hin2 := h_F_c FF2 hin1 (fun z => z.elim (e_kn hin1 hsb1 rfl) (fun z => by have := sx_lt hin; omega))
      obtain ⟨_, _, hsb2, hsa2, -⟩ := id hU2
      have FFb : h_F (fun q => q = pa) 0 0 τ16 τ16 := h_F_r
      refine sv_pop dX4_next_132 rfl ?_
      refine sv_aload_n dX4_next_133 rfl ?_
      refine sv_dup dX4_next_134 rfl ?_
      refine sv_get fg_X4_39 dX4_next_135 (sx_rd_c hp2) rfl ?_
      refine sv_iconst (nI 1) dX4_next_138 (by decide +kernel) ?_
      refine sv_iaddN dX4_next_139 ?_
      refine sv_put fp_X4_39 dX4_next_140 hp2 rfl rfl (Nat.le_of_ble_eq_true rfl) ?_
      refine hs_up hp2 (fun τ18 F19 h20 N21 Z22 => ?_)
      have h20 : sx_c τ18 pa = some (.inr (3, [.ref ps, .ref sel, .ref onl, .int (nI (j + 1)), .int (nI s), .int (nI 0), .int (nI o), .int (b_I hl), .ref (sg_t G 0), .ref (tt 1), .ref x0])) := h20
      have hx2' := h_F_c F19 hx2 (e_kn hx2 hp2 rfl)
      have hin2' := h_F_c F19 hin2 (e_kn hin2 hp2 rfl)
      have FF23 := h_F_u FFb F19 (fun _ _ z => z) (by intro q hq hz; omega) (Nat.le_refl _) (Nat.le_refl _)
      refine sv_goto (tgt := 104) dX4_next_143 (by decide) ?_
      have h16 := hg2.2.2.1.2
      have hss := hg2.2.2.2.1
      have hU3 := k_U_fr FF23 hU2 (e_kn hsb2 hp2 rfl) (e_kn hsa2 hp2 rfl)
      have hnF := (FF23).1
      have hsF := (FF23).2.1
      exact ih (j + 1) _ sa2 cap2 (by omega) (by omega) (by omega) h20 hU3 hsb (hg2.1.elim (fun z => by rw [z]; exact hsa) (fun z => by have := Fo.1.1; omega)) (by omega) ⟨⟨by have := Fo.1.1; have := FF2.1.1; omega, by omega⟩, by omega, fun q h1 h2 => by rw [(FF23).2.2 q (by have := Fo.1.1; have := FF2.1.1; omega) h2, hg2.2.2.2.2 q (by have := Fo.1.1; omega) (by omega) (by omega)]; exact Fo.2.2 q h1 h2⟩ (by omega) (by omega) g4 g5 hka hkw
  have loop3 : ∀ s r j (ρ : sx_St), s ≤ j → j ≤ t.length → t.length + 1 ≤ j + r → sx_c ρ pa = some (.inr (3, [.ref ps, .ref sel, .ref onl, .int (nI j), .int (nI s), .int (nI (min 10000000 (k_u t s (j - s)))), .int (nI o), .int (b_I hl), .ref (sg_t G 0), .ref (tt 2), .ref x0])) → h_F (fun q => q = pa) 0 0 σ ρ → i0 ≤ s → s < t.length → k_d (k_b t s) = true → k_w k_d t r j = k_w k_d t 701 s → sx_V G 9 YX4_next 175 [some (.ref pa), none] [] ρ (fun oc τ => ∃ v, oc = .inl v ∧ v = none ∧ ∃ wd, y_P G wb τ pa ps sel onl x0 t (2, s, k_w k_d t 701 s, k_u t s (k_w k_d t 701 s - s)) o hl wd ∧ (p_w t (2, s, k_w k_d t 701 s, k_u t s (k_w k_d t 701 s - s)) ≠ [] → sx_n σ ≤ wd) ∧ h_F (fun q => q = pa) (4 * ((2, s, k_w k_d t 701 s, k_u t s (k_w k_d t 701 s - s)).2.2.1 - i0)) (30 * ((2, s, k_w k_d t 701 s, k_u t s (k_w k_d t 701 s - s)).2.2.1 - i0)) σ τ) := by
    obtain ⟨hx, fi, hin, ht7, hfi⟩ := id hI
    have ht0 := htt 0 (by decide)
    have ht1 := htt 1 (by decide)
    have ht2 := htt 2 (by decide)
    have ht3 := htt 3 (by decide)
    intro s r
    induction r with
    | zero => intro j ρ h1 h2 h3; omega
    | succ r ih =>
    intro j ρ g1 g2 g3 hp1 Fo g4 g5 hka hkw
    have hx1 := h_F_c Fo hx (e_kn hx hp rfl)
    have hin1 := h_F_c Fo hin (e_kn hin hp rfl)
    have FFa : h_F (fun q => q = pa) 0 0 ρ ρ := h_F_r
    refine sv_aload_n dX4_next_175 rfl ?_
    refine sv_bipush (nI 48) dX4_next_176 (by decide +kernel) ?_
    refine sv_bipush (nI 57) dX4_next_178 (by decide +kernel) ?_
    refine sv_cvR _ (cy_isAt (i := j) hp1 ⟨hx1, fi, hin1, ht7, hfi⟩ hb (by omega) (by decide) (by decide)) okX4_isAt kv_X4_54 (sx_rd_c hp1) rfl dX4_next_180 rfl rfl (by omega) (Nat.le_of_ble_eq_true rfl) ?_
    refine sv_if_eqB (tgt := 248) dX4_next_183 (by decide) (fun c183 => ?_) (fun c183 => ?_)
    · have hke : k_w k_d t 701 s = j := by rw [← hkw, k_w_n (p := k_d) c183]
      refine sv_vret rfl dX4_next_248 ?_
      rw [hke]
      have hsj : s < j := by
       have h9 := k_w_le (t := t) (p := k_d) (by decide +kernel) 700 (s + 1) (by omega)
       rw [← k_w_s hka] at h9
       have h9 : s + 1 ≤ k_w k_d t 701 s ∧ _ := h9
       omega
      have hko : k_ok t (2, s, j, k_u t s (j - s)) := ⟨g1, g2, Nat.le_of_ble_eq_true rfl, fun z => (by cases z), fun _ => hsj, fun z => (by cases z)⟩
      exact ⟨_, rfl, rfl, sg_t G 0, ⟨tt 2, _, hp1, ht2, fun _ => rfl, Or.inl ⟨rfl, rfl⟩, hko⟩, fun z => absurd rfl z, h_F_w Fo (fun _ _ z => z) (by omega) (by omega)⟩
    · have hjl := k_b_lt (p := k_d) (by decide +kernel) c183
      obtain ⟨dd, hdb, hdc0, hd1, hd2⟩ := k_d_of c183
      have hdc : fi j = nI dd := (hfi j hjl).trans ((k_b_x hb hjl (by omega)).mp hdb)
      rw [k_w_s (p := k_d) c183] at hkw
      have hku : k_u t s (j + 1 - s) = 10 * k_u t s (j - s) + (dd - 48) := by rw [show j + 1 - s = j - s + 1 by omega]; show 10 * _ + ((k_b t (s + (j - s))).toNatClampNeg - 48) = _; rw [show s + (j - s) = j by omega, hdc0]
      have hmn : (if nI (10 * min 10000000 (k_u t s (j - s)) + (dd - 48)) < nI 10000000 then nI (10 * min 10000000 (k_u t s (j - s)) + (dd - 48)) else nI 10000000) = nI (min 10000000 (k_u t s (j + 1 - s))) := by rw [hku]; exact k_min7 (by omega)
      refine sv_aload_n dX4_next_186 rfl ?_
      refine sv_ldc q681 dX4_next_187 ?_
      refine sv_tI (y := nI 10000000) (by decide +kernel) ?_
      refine sv_bipush (nI 10) dX4_next_189 (by decide +kernel) ?_
      refine sv_aload_n dX4_next_191 rfl ?_
      refine sv_get fg_X4_61 dX4_next_192 (sx_rd_c hp1) rfl ?_
      refine sv_imulN dX4_next_195 ?_
      refine sv_aload_n dX4_next_196 rfl ?_
      refine sv_get fg_X4_3 dX4_next_197 (sx_rd_c hp1) rfl ?_
      refine sv_get fg_X4_46 dX4_next_200 (sx_rd_c hx1) rfl ?_
      refine sv_aload_n dX4_next_203 rfl ?_
      refine sv_get fg_X4_39 dX4_next_204 (sx_rd_c hp1) rfl ?_
      refine sv_bald dX4_next_207 (sx_rd_c hin1) (vp_in_nI (by omega) (by omega)) ?_
      rw [nI_clamp (show j < 2 ^ 31 by omega)]
      refine sv_tI (y := nI dd) hdc ?_
      refine sv_iaddN dX4_next_208 ?_
      refine sv_bipush (nI 48) dX4_next_209 (by decide +kernel) ?_
      refine sv_isubN dX4_next_211 (by omega) ?_
      rw [show 10 * min 10000000 (k_u t s (j - s)) + dd - 48 = 10 * min 10000000 (k_u t s (j - s)) + (dd - 48) by omega]
      refine sv_jmin q682 q338 q165 q339 dX4_next_212 (by decide) (Nat.le_of_ble_eq_true rfl) ?_
      refine sv_tI (y := nI (min 10000000 (k_u t s (j + 1 - s)))) hmn ?_
      refine sv_put fp_X4_61 dX4_next_215 hp1 rfl rfl (Nat.le_of_ble_eq_true rfl) ?_
      refine hs_up hp1 (fun τ24 F25 h26 N27 Z28 => ?_)
      have h26 : sx_c τ24 pa = some (.inr (3, [.ref ps, .ref sel, .ref onl, .int (nI j), .int (nI s), .int (nI (min 10000000 (k_u t s (j + 1 - s)))), .int (nI o), .int (b_I hl), .ref (sg_t G 0), .ref (tt 2), .ref x0])) := h26
      have hx1' := h_F_c F25 hx1 (e_kn hx1 hp1 rfl)
      have hin1' := h_F_c F25 hin1 (e_kn hin1 hp1 rfl)
      have FF29 := h_F_u FFa F25 (fun _ _ z => z) (by intro q hq hz; omega) (Nat.le_refl _) (Nat.le_refl _)
      refine sv_aload_n dX4_next_218 rfl ?_
      refine sv_dup dX4_next_219 rfl ?_
      refine sv_get fg_X4_39 dX4_next_220 (sx_rd_c h26) rfl ?_
      refine sv_iconst (nI 1) dX4_next_223 (by decide +kernel) ?_
      refine sv_iaddN dX4_next_224 ?_
      refine sv_put fp_X4_39 dX4_next_225 h26 rfl rfl (Nat.le_of_ble_eq_true rfl) ?_
      refine hs_up h26 (fun τ30 F31 h32 N33 Z34 => ?_)
      have h32 : sx_c τ30 pa = some (.inr (3, [.ref ps, .ref sel, .ref onl, .int (nI (j + 1)), .int (nI s), .int (nI (min 10000000 (k_u t s (j + 1 - s)))), .int (nI o), .int (b_I hl), .ref (sg_t G 0), .ref (tt 2), .ref x0])) := h32
      have hx1'' := h_F_c F31 hx1' (e_kn hx1' h26 rfl)
      have hin1'' := h_F_c F31 hin1' (e_kn hin1' h26 rfl)
      have FF35 := h_F_u FF29 F31 (fun _ _ z => z) (by intro q hq hz; omega) (Nat.le_refl _) (Nat.le_refl _)
      refine sv_goto (tgt := 175) dX4_next_228 (by decide) ?_
      exact ih (j + 1) _ (by omega) (by omega) (by omega) h32 (h_F_w (h_F_t Fo FF35 (fun _ _ z => z)) (fun _ _ z => z) (by omega) (by omega)) g4 g5 hka hkw
  have mid : ∀ s (ρ : sx_St), i0 ≤ s → s ≤ t.length → sx_c ρ pa = some (.inr (3, [.ref ps, .ref sel, .ref onl, .int (nI s), v4, v5, .int (nI o), .int (b_I hl), v8, v9, .ref x0])) → h_F (fun q => q = pa) 0 0 σ ρ → sx_V G 9 YX4_next 35 [some (.ref pa), none] [] ρ (fun oc τ => ∃ v, oc = .inl v ∧ v = none ∧ ∃ wd, y_P G wb τ pa ps sel onl x0 t (k_c t s) o hl wd ∧ (p_w t (k_c t s) ≠ [] → sx_n σ ≤ wd) ∧ h_F (fun q => q = pa) (4 * ((k_c t s).2.2.1 - i0)) (30 * ((k_c t s).2.2.1 - i0)) σ τ) := by
    obtain ⟨hx, fi, hin, ht7, hfi⟩ := id hI
    have ht0 := htt 0 (by decide)
    have ht1 := htt 1 (by decide)
    have ht2 := htt 2 (by decide)
    have ht3 := htt 3 (by decide)
    intro s ρ g4 g1 hp1 Fo
    have hx1 := h_F_c Fo hx (e_kn hx hp rfl)
    have hin1 := h_F_c Fo hin (e_kn hin hp rfl)
    have FFa : h_F (fun q => q = pa) 0 0 ρ ρ := h_F_r
    refine sv_aload_n dX4_next_35 rfl ?_
    refine sv_aload_n dX4_next_36 rfl ?_
    refine sv_get fg_X4_39 dX4_next_37 (sx_rd_c hp1) rfl ?_
    refine sv_put fp_X4_58 dX4_next_40 hp1 rfl rfl (Nat.le_of_ble_eq_true rfl) ?_
    refine hs_up hp1 (fun τ36 F37 h38 N39 Z40 => ?_)
    have h38 : sx_c τ36 pa = some (.inr (3, [.ref ps, .ref sel, .ref onl, .int (nI s), .int (nI s), v5, .int (nI o), .int (b_I hl), v8, v9, .ref x0])) := h38
    have hx1' := h_F_c F37 hx1 (e_kn hx1 hp1 rfl)
    have hin1' := h_F_c F37 hin1 (e_kn hin1 hp1 rfl)
    have FF41 := h_F_u FFa F37 (fun _ _ z => z) (by intro q hq hz; omega) (Nat.le_refl _) (Nat.le_refl _)
    refine sv_aload_n dX4_next_43 rfl ?_
    refine sv_ldcS 0 rfl dX4_next_44 ?_
    refine sv_put fp_X4_32 dX4_next_46 h38 rfl rfl (Nat.le_of_ble_eq_true rfl) ?_
    refine hs_up h38 (fun τ42 F43 h44 N45 Z46 => ?_)
    have h44 : sx_c τ42 pa = some (.inr (3, [.ref ps, .ref sel, .ref onl, .int (nI s), .int (nI s), v5, .int (nI o), .int (b_I hl), .ref (sg_t G 0), v9, .ref x0])) := h44
    have hx1'' := h_F_c F43 hx1' (e_kn hx1' h38 rfl)
    have hin1'' := h_F_c F43 hin1' (e_kn hin1' h38 rfl)
    have FF47 := h_F_u FF41 F43 (fun _ _ z => z) (by intro q hq hz; omega) (Nat.le_refl _) (Nat.le_refl _)
    refine sv_aload_n dX4_next_49 rfl ?_
    refine sv_iconst (nI 0) dX4_next_50 (by decide +kernel) ?_
    refine sv_put fp_X4_61 dX4_next_51 h44 rfl rfl (Nat.le_of_ble_eq_true rfl) ?_
    refine hs_up h44 (fun τ48 F49 h50 N51 Z52 => ?_)
    have h50 : sx_c τ48 pa = some (.inr (3, [.ref ps, .ref sel, .ref onl, .int (nI s), .int (nI s), .int (nI 0), .int (nI o), .int (b_I hl), .ref (sg_t G 0), v9, .ref x0])) := h50
    have hx1''' := h_F_c F49 hx1'' (e_kn hx1'' h44 rfl)
    have hin1''' := h_F_c F49 hin1'' (e_kn hin1'' h44 rfl)
    have FF53 := h_F_u FF47 F49 (fun _ _ z => z) (by intro q hq hz; omega) (Nat.le_refl _) (Nat.le_refl _)
    refine sv_aload_n dX4_next_54 rfl ?_
    refine sv_get fg_X4_39 dX4_next_55 (sx_rd_c h50) rfl ?_
    refine sv_aload_n dX4_next_58 rfl ?_
    refine sv_get fg_X4_3 dX4_next_59 (sx_rd_c h50) rfl ?_
    refine sv_get fg_X4_43 dX4_next_62 (sx_rd_c hx1''') rfl ?_
    refine sv_icmp_neN (tgt := 78) dX4_next_65 (by decide) (by omega) (by omega) (fun c65 => ?_) (fun c65 => ?_)
    · have hlt : s < t.length := by omega
      refine sv_aload_n dX4_next_78 rfl ?_
      refine sv_bipush (nI 97) dX4_next_79 (by decide +kernel) ?_
      refine sv_bipush (nI 122) dX4_next_81 (by decide +kernel) ?_
      refine sv_cvR _ (cy_isAt (i := s) h50 ⟨hx1''', fi, hin1''', ht7, hfi⟩ hb (by omega) (by decide) (by decide)) okX4_isAt kv_X4_54 (sx_rd_c h50) rfl dX4_next_83 rfl rfl (by omega) (Nat.le_of_ble_eq_true rfl) ?_
      refine sv_if_eqB (tgt := 157) dX4_next_86 (by decide) (fun c86 => ?_) (fun c86 => ?_)
      · refine sv_aload_n dX4_next_157 rfl ?_
        refine sv_bipush (nI 48) dX4_next_158 (by decide +kernel) ?_
        refine sv_bipush (nI 57) dX4_next_160 (by decide +kernel) ?_
        refine sv_cvR _ (cy_isAt (i := s) h50 ⟨hx1''', fi, hin1''', ht7, hfi⟩ hb (by omega) (by decide) (by decide)) okX4_isAt kv_X4_54 (sx_rd_c h50) rfl dX4_next_162 rfl rfl (by omega) (Nat.le_of_ble_eq_true rfl) ?_
        refine sv_if_eqB (tgt := 231) dX4_next_165 (by decide) (fun c165 => ?_) (fun c165 => ?_)
        · have hk : k_c t s = (3, s, s + 1, 0) := by unfold k_c; rw [if_pos hlt, if_neg (show ¬ k_a (k_b t s) = true by rw [show k_a (k_b t s) = false from c86]; decide), if_neg (show ¬ k_d (k_b t s) = true by rw [show k_d (k_b t s) = false from c165]; decide)]
          rw [hk]
          refine sv_aload_n dX4_next_231 rfl ?_
          refine sv_gets 3 rfl q683 dX4_next_232 ?_
          rw [ht3]
          refine sv_put fp_X4_70 dX4_next_235 h50 rfl rfl (Nat.le_of_ble_eq_true rfl) ?_
          refine hs_up h50 (fun τ54 F55 h56 N57 Z58 => ?_)
          have h56 : sx_c τ54 pa = some (.inr (3, [.ref ps, .ref sel, .ref onl, .int (nI s), .int (nI s), .int (nI 0), .int (nI o), .int (b_I hl), .ref (sg_t G 0), .ref (tt 3), .ref x0])) := h56
          have hx1'''' := h_F_c F55 hx1''' (e_kn hx1''' h50 rfl)
          have hin1'''' := h_F_c F55 hin1''' (e_kn hin1''' h50 rfl)
          have FF59 := h_F_u FF53 F55 (fun _ _ z => z) (by intro q hq hz; omega) (Nat.le_refl _) (Nat.le_refl _)
          refine sv_aload_n dX4_next_238 rfl ?_
          refine sv_dup dX4_next_239 rfl ?_
          refine sv_get fg_X4_39 dX4_next_240 (sx_rd_c h56) rfl ?_
          refine sv_iconst (nI 1) dX4_next_243 (by decide +kernel) ?_
          refine sv_iaddN dX4_next_244 ?_
          refine sv_put fp_X4_39 dX4_next_245 h56 rfl rfl (Nat.le_of_ble_eq_true rfl) ?_
          refine hs_up h56 (fun τ60 F61 h62 N63 Z64 => ?_)
          have h62 : sx_c τ60 pa = some (.inr (3, [.ref ps, .ref sel, .ref onl, .int (nI (s + 1)), .int (nI s), .int (nI 0), .int (nI o), .int (b_I hl), .ref (sg_t G 0), .ref (tt 3), .ref x0])) := h62
          have hx1''''' := h_F_c F61 hx1'''' (e_kn hx1'''' h56 rfl)
          have hin1''''' := h_F_c F61 hin1'''' (e_kn hin1'''' h56 rfl)
          have FF65 := h_F_u FF59 F61 (fun _ _ z => z) (by intro q hq hz; omega) (Nat.le_refl _) (Nat.le_refl _)
          refine sv_vret rfl dX4_next_248 ?_
          first
          | exact ⟨_, rfl, rfl, sg_t G 0, ⟨tt 0, _, h62, ht0, fun z => (by cases z), Or.inl ⟨rfl, rfl⟩, ⟨Nat.le_refl _, g1, Nat.le_of_ble_eq_true rfl, fun _ => hse, fun z => absurd rfl z, fun z => (by cases z)⟩⟩, fun z => absurd rfl z, (h_F_w (h_F_t Fo FF65 (fun _ _ z => z)) (fun _ _ z => z) (by omega) (by omega))⟩
          | exact ⟨_, rfl, rfl, sg_t G 0, ⟨tt 3, _, h62, ht3, fun z => (by cases z), Or.inl ⟨rfl, rfl⟩, ⟨Nat.le_succ s, hlt, Nat.le_of_ble_eq_true rfl, fun z => (by cases z), fun _ => Nat.lt_succ_self s, fun z => (by cases z)⟩⟩, fun z => absurd rfl z, (h_F_w (h_F_t Fo FF65 (fun _ _ z => z)) (fun _ _ z => z) (by omega) (by omega))⟩
        · have hk : k_c t s = (2, s, k_w k_d t 701 s, k_u t s (k_w k_d t 701 s - s)) := by unfold k_c; rw [if_pos hlt, if_neg (show ¬ k_a (k_b t s) = true by rw [show k_a (k_b t s) = false from c86]; decide), if_pos (show k_d (k_b t s) = true from c165)]
          rw [hk]
          refine sv_aload_n dX4_next_168 rfl ?_
          refine sv_gets 2 rfl q679 dX4_next_169 ?_
          rw [ht2]
          refine sv_put fp_X4_70 dX4_next_172 h50 rfl rfl (Nat.le_of_ble_eq_true rfl) ?_
          refine hs_up h50 (fun τ66 F67 h68 N69 Z70 => ?_)
          have h68 : sx_c τ66 pa = some (.inr (3, [.ref ps, .ref sel, .ref onl, .int (nI s), .int (nI s), .int (nI 0), .int (nI o), .int (b_I hl), .ref (sg_t G 0), .ref (tt 2), .ref x0])) := h68
          have hx1'''' := h_F_c F67 hx1''' (e_kn hx1''' h50 rfl)
          have hin1'''' := h_F_c F67 hin1''' (e_kn hin1''' h50 rfl)
          have FF71 := h_F_u FF53 F67 (fun _ _ z => z) (by intro q hq hz; omega) (Nat.le_refl _) (Nat.le_refl _)
          have hz0 : nI 0 = nI (min 10000000 (k_u t s (s - s))) := by rw [Nat.sub_self]; rfl
          have hpz := h68
          rw [hz0] at hpz
          exact loop3 s 701 s _ (Nat.le_refl _) (by omega) (by omega) hpz (h_F_w (h_F_t Fo FF71 (fun _ _ z => z)) (fun _ _ z => z) (by omega) (by omega)) g4 hlt c165 rfl
      · have hk : k_c t s = (1, s, k_w k_a t 701 s, 0) := by unfold k_c; rw [if_pos hlt, if_pos (show k_a (k_b t s) = true from c86)]
        rw [hk]
        refine sv_aload_n dX4_next_89 rfl ?_
        refine sv_gets 1 rfl q652 dX4_next_90 ?_
        rw [ht1]
        refine sv_put fp_X4_70 dX4_next_93 h50 rfl rfl (Nat.le_of_ble_eq_true rfl) ?_
        refine hs_up h50 (fun τ72 F73 h74 N75 Z76 => ?_)
        have h74 : sx_c τ72 pa = some (.inr (3, [.ref ps, .ref sel, .ref onl, .int (nI s), .int (nI s), .int (nI 0), .int (nI o), .int (b_I hl), .ref (sg_t G 0), .ref (tt 1), .ref x0])) := h74
        have hx1'''' := h_F_c F73 hx1''' (e_kn hx1''' h50 rfl)
        have hin1'''' := h_F_c F73 hin1''' (e_kn hin1''' h50 rfl)
        have FF77 := h_F_u FF53 F73 (fun _ _ z => z) (by intro q hq hz; omega) (Nat.le_refl _) (Nat.le_refl _)
        refine sv_new fn_X4_76 dX4_next_96 ?_
        refine hs_al (fun sb τ78 E83 F79 h80 N81 Z82 => ?_)
        have hx1''''' := h_F_c F79 hx1'''' (fun z => z)
        have hin1''''' := h_F_c F79 hin1'''' (fun z => z)
        have h74' := h_F_c F79 h74 (fun z => z)
        have FF84 := h_F_u FF77 F79 (fun _ _ z => z) (fun _ _ z => z.elim) (Nat.le_refl _) (Nat.le_refl _)
        have h80 : sx_c τ78 sb = some (.inr (11, [.null, .int (nI 0), .int (b_I false), .int (nI 0)])) := by rw [nI_0, b_I_f]; exact h80
        refine sv_dup dX4_next_99 rfl ?_
        refine sv_ciP _ (cb_ini hC h80) okJ8_init ki_X4_78 dX4_next_100 rfl rfl (by omega) (Nat.le_of_ble_eq_true rfl) ?_
        intro v88 τ86 hp87
        obtain ⟨rfl, sa0, hsa0, hU0, F85⟩ := hp87
        have N89 := (F85).1.1
        have hx1'''''' := h_F_c F85 hx1''''' (e_kn hx1''''' h80 rfl)
        have hin1'''''' := h_F_c F85 hin1''''' (e_kn hin1''''' h80 rfl)
        have h74'' := h_F_c F85 h74' (e_kn h74' h80 rfl)
        have FF90 := h_F_u FF84 F85 (fun _ _ z => z) (by intro q hq hz; omega) (Nat.le_refl _) (Nat.le_refl _)
        refine sv_astore_n dX4_next_103 (by decide) ?_
        have hUz : k_U G τ86 sb sa0 16 ((t.drop s).take (s - s)) := by rw [Nat.sub_self, List.take_zero]; exact hU0
        have hFz := FF90
        have hF1 := Fo.1
        have hF2 := Fo.2.1
        have hF3 := hFz.1
        have hF4 := hFz.2.1
        exact loop2 s sb 701 s _ sa0 16 (Nat.le_refl _) (by omega) (by omega) h74'' hUz (by omega) (by omega) (by omega) (h_F_w (h_F_t Fo FF90 (fun _ _ z => z)) (fun _ _ z => z) (by omega) (by omega)) (by omega) (by omega) g4 hlt c86 rfl
    · have hse : s = t.length := by omega
      have hk : k_c t s = (0, s, s, 0) := by unfold k_c; rw [if_neg (by omega)]
      rw [hk]
      refine sv_aload_n dX4_next_68 rfl ?_
      refine sv_gets 0 rfl q650 dX4_next_69 ?_
      rw [ht0]
      refine sv_put fp_X4_70 dX4_next_72 h50 rfl rfl (Nat.le_of_ble_eq_true rfl) ?_
      refine hs_up h50 (fun τ91 F92 h93 N94 Z95 => ?_)
      have h93 : sx_c τ91 pa = some (.inr (3, [.ref ps, .ref sel, .ref onl, .int (nI s), .int (nI s), .int (nI 0), .int (nI o), .int (b_I hl), .ref (sg_t G 0), .ref (tt 0), .ref x0])) := h93
      have hx1'''' := h_F_c F92 hx1''' (e_kn hx1''' h50 rfl)
      have hin1'''' := h_F_c F92 hin1''' (e_kn hin1''' h50 rfl)
      have FF96 := h_F_u FF53 F92 (fun _ _ z => z) (by intro q hq hz; omega) (Nat.le_refl _) (Nat.le_refl _)
      refine sv_goto (tgt := 248) dX4_next_75 (by decide) ?_
      refine sv_vret rfl dX4_next_248 ?_
      first
      | exact ⟨_, rfl, rfl, sg_t G 0, ⟨tt 0, _, h93, ht0, fun z => (by cases z), Or.inl ⟨rfl, rfl⟩, ⟨Nat.le_refl _, g1, Nat.le_of_ble_eq_true rfl, fun _ => hse, fun z => absurd rfl z, fun z => (by cases z)⟩⟩, fun z => absurd rfl z, (h_F_w (h_F_t Fo FF96 (fun _ _ z => z)) (fun _ _ z => z) (by omega) (by omega))⟩
      | exact ⟨_, rfl, rfl, sg_t G 0, ⟨tt 3, _, h93, ht3, fun z => (by cases z), Or.inl ⟨rfl, rfl⟩, ⟨Nat.le_succ s, hlt, Nat.le_of_ble_eq_true rfl, fun z => (by cases z), fun _ => Nat.lt_succ_self s, fun z => (by cases z)⟩⟩, fun z => absurd rfl z, (h_F_w (h_F_t Fo FF96 (fun _ _ z => z)) (fun _ _ z => z) (by omega) (by omega))⟩
  have loop1 : ∀ r i (ρ : sx_St), i0 ≤ i → i ≤ t.length → t.length + 1 ≤ i + r → sx_c ρ pa = some (.inr (3, [.ref ps, .ref sel, .ref onl, .int (nI i), v4, v5, .int (nI o), .int (b_I hl), v8, v9, .ref x0])) → h_F (fun q => q = pa) 0 0 σ ρ → sx_V G 9 YX4_next 0 [some (.ref pa), none] [] ρ (fun oc τ => ∃ v, oc = .inl v ∧ v = none ∧ ∃ wd, y_P G wb τ pa ps sel onl x0 t (k_c t (k_w k_s t r i)) o hl wd ∧ (p_w t (k_c t (k_w k_s t r i)) ≠ [] → sx_n σ ≤ wd) ∧ h_F (fun q => q = pa) (4 * ((k_c t (k_w k_s t r i)).2.2.1 - i0)) (30 * ((k_c t (k_w k_s t r i)).2.2.1 - i0)) σ τ) := by
    obtain ⟨hx, fi, hin, ht7, hfi⟩ := id hI
    have ht0 := htt 0 (by decide)
    have ht1 := htt 1 (by decide)
    have ht2 := htt 2 (by decide)
    have ht3 := htt 3 (by decide)
    intro r
    induction r with
    | zero => intro i ρ h1 h2 h3; omega
    | succ r ih =>
    intro i ρ g4 g2 g3 hp1 Fo
    have hx1 := h_F_c Fo hx (e_kn hx hp rfl)
    have hin1 := h_F_c Fo hin (e_kn hin hp rfl)
    have FFa : h_F (fun q => q = pa) 0 0 ρ ρ := h_F_r
    refine sv_aload_n dX4_next_0 rfl ?_
    refine sv_bipush (nI 32) dX4_next_1 (by decide +kernel) ?_
    refine sv_bipush (nI 32) dX4_next_3 (by decide +kernel) ?_
    refine sv_cvR _ (cy_isAt (i := i) hp1 ⟨hx1, fi, hin1, ht7, hfi⟩ hb (by omega) (by decide) (by decide)) okX4_isAt kv_X4_54 (sx_rd_c hp1) rfl dX4_next_5 rfl rfl (by omega) (Nat.le_of_ble_eq_true rfl) ?_
    refine sv_if_neB (tgt := 22) dX4_next_8 (by decide) (fun c8 => ?_) (fun c8 => ?_)
    · rw [(ain_s _).1] at c8
      have hks : k_s (k_b t i) = true := by unfold k_s; rw [c8]; rfl
      have hil := k_b_lt (p := k_s) (by decide +kernel) hks
      rw [k_w_s hks]
      refine sv_aload_n dX4_next_22 rfl ?_
      refine sv_dup dX4_next_23 rfl ?_
      refine sv_get fg_X4_39 dX4_next_24 (sx_rd_c hp1) rfl ?_
      refine sv_iconst (nI 1) dX4_next_27 (by decide +kernel) ?_
      refine sv_iaddN dX4_next_28 ?_
      refine sv_put fp_X4_39 dX4_next_29 hp1 rfl rfl (Nat.le_of_ble_eq_true rfl) ?_
      refine hs_up hp1 (fun τ97 F98 h99 N100 Z101 => ?_)
      have h99 : sx_c τ97 pa = some (.inr (3, [.ref ps, .ref sel, .ref onl, .int (nI (i + 1)), v4, v5, .int (nI o), .int (b_I hl), v8, v9, .ref x0])) := h99
      have hx1' := h_F_c F98 hx1 (e_kn hx1 hp1 rfl)
      have hin1' := h_F_c F98 hin1 (e_kn hin1 hp1 rfl)
      have FF102 := h_F_u FFa F98 (fun _ _ z => z) (by intro q hq hz; omega) (Nat.le_refl _) (Nat.le_refl _)
      refine sv_goto (tgt := 0) dX4_next_32 (by decide) ?_
      exact ih (i + 1) _ (by omega) (by omega) (by omega) h99 (h_F_w (h_F_t Fo FF102 (fun _ _ z => z)) (fun _ _ z => z) (by omega) (by omega))
    · rw [(ain_s _).1] at c8
      refine sv_aload_n dX4_next_11 rfl ?_
      refine sv_bipush (nI 10) dX4_next_12 (by decide +kernel) ?_
      refine sv_bipush (nI 10) dX4_next_14 (by decide +kernel) ?_
      refine sv_cvR _ (cy_isAt (i := i) hp1 ⟨hx1, fi, hin1, ht7, hfi⟩ hb (by omega) (by decide) (by decide)) okX4_isAt kv_X4_54 (sx_rd_c hp1) rfl dX4_next_16 rfl rfl (by omega) (Nat.le_of_ble_eq_true rfl) ?_
      refine sv_if_eqB (tgt := 35) dX4_next_19 (by decide) (fun c19 => ?_) (fun c19 => ?_)
      · rw [(ain_s _).2] at c19
        have hks : k_s (k_b t i) = false := by unfold k_s; rw [c8, c19]; rfl
        rw [k_w_n hks]
        exact mid i _ g4 g2 hp1 Fo
      · rw [(ain_s _).2] at c19
        have hks : k_s (k_b t i) = true := by unfold k_s; rw [c19, Bool.or_true]
        have hil := k_b_lt (p := k_s) (by decide +kernel) hks
        rw [k_w_s hks]
        refine sv_aload_n dX4_next_22 rfl ?_
        refine sv_dup dX4_next_23 rfl ?_
        refine sv_get fg_X4_39 dX4_next_24 (sx_rd_c hp1) rfl ?_
        refine sv_iconst (nI 1) dX4_next_27 (by decide +kernel) ?_
        refine sv_iaddN dX4_next_28 ?_
        refine sv_put fp_X4_39 dX4_next_29 hp1 rfl rfl (Nat.le_of_ble_eq_true rfl) ?_
        refine hs_up hp1 (fun τ103 F104 h105 N106 Z107 => ?_)
        have h105 : sx_c τ103 pa = some (.inr (3, [.ref ps, .ref sel, .ref onl, .int (nI (i + 1)), v4, v5, .int (nI o), .int (b_I hl), v8, v9, .ref x0])) := h105
        have hx1' := h_F_c F104 hx1 (e_kn hx1 hp1 rfl)
        have hin1' := h_F_c F104 hin1 (e_kn hin1 hp1 rfl)
        have FF108 := h_F_u FFa F104 (fun _ _ z => z) (by intro q hq hz; omega) (Nat.le_refl _) (Nat.le_refl _)
        refine sv_goto (tgt := 0) dX4_next_32 (by decide) ?_
        exact ih (i + 1) _ (by omega) (by omega) (by omega) h105 (h_F_w (h_F_t Fo FF108 (fun _ _ z => z)) (fun _ _ z => z) (by omega) (by omega))
  refine sx_body (by decide) (Nat.le_of_ble_eq_true rfl) ?_
  exact loop1 701 i0 σ (Nat.le_refl _) hi0 (by have := hI.2; obtain ⟨_, _, h7, _⟩ := this; omega) hp h_F_r
end CNX
