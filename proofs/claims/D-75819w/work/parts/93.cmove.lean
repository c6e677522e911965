set_option maxRecDepth 100000
section CMC
variable {G : sx_G} {σ τ : sx_St} {ow : Nat → Nat} {a lo : Nat} {Λ Λ2 Λ3 : Nat → Nat → Nat → Nat} {V : a_V}
/-- layouts that differ in boxes' arrays, capacities and messages alone -/
def c_E (Λ Λ2 : Nat → Nat → Nat → Nat) : Prop := (∀ i, Λ2 1 i 0 = Λ 1 i 0 ∧ Λ2 1 i 1 = Λ 1 i 1 ∧ Λ2 1 i 4 = Λ 1 i 4 ∧ Λ2 1 i 5 = Λ 1 i 5) ∧ (∀ s j, Λ2 3 s j = Λ 3 s j) ∧ ∀ j k, Λ2 0 j k = Λ 0 j k
theorem c_E_r : c_E Λ Λ := ⟨fun _ => ⟨rfl, rfl, rfl, rfl⟩, fun _ _ => rfl, fun _ _ => rfl⟩
theorem c_E_t (h : c_E Λ Λ2) (h' : c_E Λ2 Λ3) : c_E Λ Λ3 := ⟨fun i => ⟨(h'.1 i).1.trans (h.1 i).1, (h'.1 i).2.1.trans (h.1 i).2.1, (h'.1 i).2.2.1.trans (h.1 i).2.2.1, (h'.1 i).2.2.2.trans (h.1 i).2.2.2⟩, fun s j => (h'.2.1 s j).trans (h.2.1 s j), fun j k => (h'.2.2 j k).trans (h.2.2 j k)⟩
theorem c_E_b {b ar cap : Nat} {g : Nat → Nat} : c_E Λ (Λ_b Λ b ar cap g) := ⟨fun i => ⟨Λ_b_1 (Or.inr ⟨by decide, by decide⟩), Λ_b_1 (Or.inr ⟨by decide, by decide⟩), Λ_b_1 (Or.inr ⟨by decide, by decide⟩), Λ_b_1 (Or.inr ⟨by decide, by decide⟩)⟩, fun s j => Λ_b_3 s j, fun j k => Λ_b_0 j k⟩
theorem c_cap_b {b ar cap : Nat} {g : Nat → Nat} {B : a_B} (h : c_cap Λ V) (hc : cap ≤ 62) : c_cap (Λ_b Λ b ar cap g) (a_ub V b B) := by
  intro i hi
  rw [a_ub_n] at hi
  by_cases hx : i = b
  · rw [hx, Λ_b_13]; exact hc
  · rw [Λ_b_1 (Or.inl hx)]; exact h i hi
theorem fl_s (p : a_M → Bool) {ms : List a_M} {k : Nat} (h : k < ms.length) : (ms.take (k + 1)).filter p = (ms.take k).filter p ++ (if p (ms.getD k (0, 0, 0)) then [ms.getD k (0, 0, 0)] else []) := by
  rw [tk_s (0, 0, 0) h, List.filter_append, List.filter_cons, List.filter_nil]
theorem k_W_b {b l ar n : Nat} {vs ws : List Value} {c : ClassId} {f : Nat → Option Nat} (hb : sx_c σ b = some (.inr (5, ws))) (hl : sx_c σ l = some (.inr (9, vs))) (ha : sx_c σ ar = some (.inl (c, n, .inr (.inr (.inr (.inr f)))))) : k_W (fun q => q = b ∨ q = l ∨ q = ar) σ := by
  intro q e hq he
  rcases hq with rfl | rfl | rfl
  · cases Option.some.inj (he.symm.trans hb)
    show (5 + 8 ≠ 0 ∧ 5 + 8 ≠ 15 ∧ 5 + 8 < 25)
    omega
  · cases Option.some.inj (he.symm.trans hl)
    show (9 + 8 ≠ 0 ∧ 9 + 8 ≠ 15 ∧ 9 + 8 < 25)
    omega
  · cases Option.some.inj (he.symm.trans ha)
    show (4 ≠ 0 ∧ 4 ≠ 15 ∧ 4 < 25)
    omega
theorem cc_copy (hG : g_L G) (hI : c_I G lo σ ow a Λ V) (hlo : lo ≤ sx_n σ) (hcap : c_cap Λ V) {bf bt te n : Nat} {p : a_M → Bool} (hbf : bf < V.2.1.length) (hbt : bt < V.2.1.length) (hP : k_P G n σ te p) (hmf : (a_ms V bf).length ≤ 30) (hroom : ((a_ms V bf).filter p).length = 0 ∨ (a_ms V bt).length + ((a_ms V bf).filter p).length ≤ 30) : sx_Cp G (10 + 3 * n) YX2_copy [.ref a, .ref (Λ 1 bf 0), .ref te, .ref (Λ 1 bt 0)] σ (fun v ρ => v = some (.int (nI ((a_ms V bf).filter p).length)) ∧ ∃ ow2 Λ2, c_I G lo ρ ow2 a Λ2 (v_cs V bt ((a_ms V bf).filter p)) ∧ c_E Λ Λ2 ∧ c_cap Λ2 (v_cs V bt ((a_ms V bf).filter p)) ∧ k_P G n ρ te p ∧ (∀ q, q < sx_n σ → ow2 q = ow q) ∧ h_F (fun q => 10 * bt + 11 ≤ ow q ∧ ow q ≤ 10 * bt + 13) 60 8000 σ ρ) := by
  have loop : ∀ r k (τ : sx_St) (ow2 : Nat → Nat) (Λ2 : Nat → Nat → Nat → Nat) (y z : Option Value), k ≤ (a_ms V bf).length → (a_ms V bf).length + 1 ≤ k + r → c_I G lo τ ow2 a Λ2 (v_cs V bt (((a_ms V bf).take k).filter p)) → c_E Λ Λ2 → c_cap Λ2 (v_cs V bt (((a_ms V bf).take k).filter p)) → k_P G n τ te p → (∀ q, q < sx_n σ → ow2 q = ow q) → h_F (fun q => 10 * bt + 11 ≤ ow q ∧ ow q ≤ 10 * bt + 13) (2 * (((a_ms V bf).take k).filter p).length) (260 * (((a_ms V bf).take k).filter p).length) σ τ → sx_V G (10 + 3 * n) YX2_copy 15 [some (.ref a), some (.ref (Λ 1 bf 0)), some (.ref te), some (.ref (Λ 1 bt 0)), some (.int (nI (a_ms V bf).length)), some (.int (nI (((a_ms V bf).take k).filter p).length)), some (.int (nI k)), y, z] [] τ (fun o ρ => ∃ v, o = .inl v ∧ (v = some (.int (nI ((a_ms V bf).filter p).length)) ∧ ∃ ow2 Λ2, c_I G lo ρ ow2 a Λ2 (v_cs V bt ((a_ms V bf).filter p)) ∧ c_E Λ Λ2 ∧ c_cap Λ2 (v_cs V bt ((a_ms V bf).filter p)) ∧ k_P G n ρ te p ∧ (∀ q, q < sx_n σ → ow2 q = ow q) ∧ h_F (fun q => 10 * bt + 11 ≤ ow q ∧ ow q ≤ 10 * bt + 13) 60 8000 σ ρ)) := by
    intro r
    induction r with
    | zero => intro k τ ow2 Λ2 y z h1 h2; omega
    | succ r ih =>
    intro k τ ow2 Λ2 y z hk1 hk2 hI2 hE2 hcap2 hP2 hO2 FFg
    have hbf2 : bf < (v_cs V bt (((a_ms V bf).take k).filter p)).2.1.length := by show bf < (a_ub _ _ _).2.1.length; rw [a_ub_n]; exact hbf
    have hbt2 : bt < (v_cs V bt (((a_ms V bf).take k).filter p)).2.1.length := by show bt < (a_ub _ _ _).2.1.length; rw [a_ub_n]; exact hbt
    have hBf := (hI2.1.2.2.2.1 bf hbf2).1
    rw [(hE2.1 bf).1, (hE2.1 bf).2.1, (hE2.1 bf).2.2.1] at hBf
    obtain ⟨hfb, hLf, hMf⟩ := hBf
    obtain ⟨mc, ff, hlf, -⟩ := id hLf
    have hBt := (hI2.1.2.2.2.1 bt hbt2).1
    have hBt0 := hBt
    rw [(hE2.1 bt).1, (hE2.1 bt).2.1, (hE2.1 bt).2.2.1] at hBt
    have hbt9 := hBt.1
    obtain ⟨mct, ftt, hlt, hat, -⟩ := id hBt.2.1
    obtain ⟨l9, e9, -⟩ := v_cs_ms (V := V) (b := bt) (c := bf) (l := ((a_ms V bf).take k).filter p)
    have hlen9 : (a_ms V bf).length ≤ (a_b (v_cs V bt (((a_ms V bf).take k).filter p)) bf).2.2.length := by show _ ≤ (a_ms (v_cs V bt (((a_ms V bf).take k).filter p)) bf).length; rw [e9, List.length_append]; omega
    have hle9 : (((a_ms V bf).take k).filter p).length ≤ ((a_ms V bf).filter p).length := ((List.take_sublist k (a_ms V bf)).filter p).length_le
    have hlt9 : (a_b (v_cs V bt (((a_ms V bf).take k).filter p)) bt).2.2.length = (a_ms V bt).length + (((a_ms V bf).take k).filter p).length := by rw [v_cs_b hbt]; show (a_ms V bt ++ n_um _ _).length = _; rw [List.length_append, n_um_l]
    have hfk : ((a_ms V bf).filter p).length ≤ 30 := by have := List.length_filter_le p (a_ms V bf); omega
    refine sv_iload dX2_copy_15 rfl ?_
    refine sv_iload dX2_copy_17 rfl ?_
    refine sv_icmp_geN (tgt := 75) dX2_copy_19 (by decide) (by omega) (by omega) (fun c19 => ?_) (fun c19 => ?_)
    · refine sv_iload dX2_copy_75 rfl ?_
      refine sv_iret rfl rfl dX2_copy_77 ?_
      have e5 : ((a_ms V bf).take k).filter p = (a_ms V bf).filter p := by rw [List.take_of_length_le (by omega)]
      rw [e5] at hI2 hcap2 FFg
      exact ⟨_, rfl, r_I (by rw [e5]), ow2, Λ2, hI2, hE2, hcap2, hP2, hO2, h_F_w FFg (fun _ _ z => z) (by omega) (by omega)⟩
    · have hk : k < (a_ms V bf).length := by omega
      have hmk : k_M τ (Λ2 2 bf k) (a_m V bf k) := by have h9 := hMf k (by omega); rw [show (a_b (v_cs V bt (((a_ms V bf).take k).filter p)) bf).2.2.getD k (0, 0, 0) = a_m V bf k from v_cs_m hk] at h9; exact h9
      refine sv_aload_n dX2_copy_22 rfl ?_
      refine sv_get fg_X2_59 dX2_copy_23 (sx_rd_c hfb) rfl ?_
      refine sv_iload dX2_copy_26 rfl ?_
      refine sv_cvR _ (cj_get hLf (i := k) (by omega)) okJ2_get kv_X2_33 (sx_rd_c hlf) rfl dX2_copy_28 rfl rfl (by omega) (Nat.le_of_ble_eq_true rfl) ?_
      refine sv_cast (C0 := "") (sx_rd_c hmk) rfl q1100 dX2_copy_31 ?_
      refine sv_astore dX2_copy_34 (by decide) ?_
      refine sv_aload_n dX2_copy_36 rfl ?_
      refine sv_aload dX2_copy_37 rfl ?_
      refine sv_hol hG n _ _ _ _ _ _ _ _ _ _ _ _ _ hP2 hmk q1928 dX2_copy_39 (by omega) (Nat.le_of_ble_eq_true rfl) ?_
      refine sv_if_neB (tgt := 50) dX2_copy_44 (by decide) (fun c44 => ?_) (fun c44 => ?_)
      · have hpos : 0 < (((a_ms V bf).take (k + 1)).filter p).length := by rw [fl_s p hk, show p ((a_ms V bf).getD k (0, 0, 0)) = true from c44, List.length_append]; show 0 < _ + 1; omega
        have hle8 : (((a_ms V bf).take (k + 1)).filter p).length ≤ ((a_ms V bf).filter p).length := ((List.take_sublist (k + 1) (a_ms V bf)).filter p).length_le
        have hle7 : (((a_ms V bf).take (k + 1)).filter p).length = (((a_ms V bf).take k).filter p).length + 1 := by rw [fl_s p hk, show p ((a_ms V bf).getD k (0, 0, 0)) = true from c44, List.length_append]; rfl
        refine sv_aload_n dX2_copy_50 rfl ?_
        refine sv_aload dX2_copy_51 rfl ?_
        refine sv_get fg_X2_173 dX2_copy_53 (sx_rd_c hmk) rfl ?_
        refine sv_aload dX2_copy_56 rfl ?_
        refine sv_get fg_X2_99 dX2_copy_58 (sx_rd_c hmk) rfl ?_
        refine sv_cvP _ (cc_badd (sz := (a_m V bf k).2.1) (fl := (a_m V bf k).2.2) hBt (by omega)) okX6_add kv_X2_175 (sx_rd_c hbt9) rfl dX2_copy_61 rfl rfl (by omega) (Nat.le_of_ble_eq_true rfl) ?_
        intro v6 τ4 hp5
        obtain ⟨rfl, x4, ar4, cap4, l1, l2, d4, nx4, hB4, F4⟩ := hp5
        have hP4 := k_P_fr F4 (k_W_b hbt9 hlt hat) n te p hP2
        rw [← (hE2.1 bt).1, ← (hE2.1 bt).2.1, ← (hE2.1 bt).2.2.1] at hB4
        rw [← (hE2.1 bt).1, ← (hE2.1 bt).2.1] at F4
        have hc9 := hcap2 bt hbt2
        have hcp4 : cap4 ≤ 62 := by omega
        have tgb := hI2.2.1.2.2.2.2.2.1 bt hbt2
        have hg4 : ∀ i, i < ((a_b (v_cs V bt (((a_ms V bf).take k).filter p)) bt).2.2 ++ [((a_b (v_cs V bt (((a_ms V bf).take k).filter p)) bt).2.1, (a_m V bf k).2.1, (a_m V bf k).2.2)]).length → (∃ j, va_up (Λ2 2 bt) (a_b (v_cs V bt (((a_ms V bf).take k).filter p)) bt).2.2.length x4 i = Λ2 2 bt j ∧ j < (a_ms (v_cs V bt (((a_ms V bf).take k).filter p)) bt).length) ∨ sx_n τ ≤ va_up (Λ2 2 bt) (a_b (v_cs V bt (((a_ms V bf).take k).filter p)) bt).2.2.length x4 i := by
          intro i hi
          rw [List.length_append] at hi
          have hi : i < (a_b (v_cs V bt (((a_ms V bf).take k).filter p)) bt).2.2.length + 1 := hi
          unfold va_up
          by_cases hx : i = (a_b (v_cs V bt (((a_ms V bf).take k).filter p)) bt).2.2.length
          · rw [if_pos hx]; exact Or.inr nx4
          · rw [if_neg hx]; exact Or.inl ⟨i, rfl, by show i < (a_b (v_cs V bt (((a_ms V bf).take k).filter p)) bt).2.2.length; omega⟩
        refine sv_istore dX2_copy_64 (by decide) ?_
        refine sv_iincN dX2_copy_66 rfl (by decide) ?_
        refine sv_iincN dX2_copy_69 rfl (by decide) ?_
        refine sv_goto (tgt := 15) dX2_copy_72 (by decide) ?_
        have e8 : ((a_ms V bf).take (k + 1)).filter p = ((a_ms V bf).take k).filter p ++ [a_m V bf k] := by rw [fl_s p hk, show p ((a_ms V bf).getD k (0, 0, 0)) = true from c44]; rfl
        have e7 : (((a_ms V bf).take (k + 1)).filter p).length = (((a_ms V bf).take k).filter p).length + 1 := by rw [e8, List.length_append]; rfl
        have n0 := FFg.1.1
        have hl9 : lo ≤ sx_n τ := by omega
        have tgb := hI2.2.1.2.2.2.2.2.1 bt hbt2
        have hI4 := c_I_b F4 hI2 hl9 hbt2 (fun q z => by rcases z with z | z | z <;> rw [z] <;> omega) hB4 rfl d4 hg4
        have e6 : a_ub (v_cs V bt (((a_ms V bf).take k).filter p)) bt ((a_b (v_cs V bt (((a_ms V bf).take k).filter p)) bt).1, (a_b (v_cs V bt (((a_ms V bf).take k).filter p)) bt).2.1 + 1, (a_b (v_cs V bt (((a_ms V bf).take k).filter p)) bt).2.2 ++ [((a_b (v_cs V bt (((a_ms V bf).take k).filter p)) bt).2.1, (a_m V bf k).2.1, (a_m V bf k).2.2)]) = v_cs V bt (((a_ms V bf).take (k + 1)).filter p) := by rw [e8, ← v_cs_s hbt]; rfl
        have hc4 := c_cap_b (b := bt) (ar := ar4) (g := va_up (Λ2 2 bt) (a_b (v_cs V bt (((a_ms V bf).take k).filter p)) bt).2.2.length x4) (B := ((a_b (v_cs V bt (((a_ms V bf).take k).filter p)) bt).1, (a_b (v_cs V bt (((a_ms V bf).take k).filter p)) bt).2.1 + 1, (a_b (v_cs V bt (((a_ms V bf).take k).filter p)) bt).2.2 ++ [((a_b (v_cs V bt (((a_ms V bf).take k).filter p)) bt).2.1, (a_m V bf k).2.1, (a_m V bf k).2.2)])) hcap2 hcp4
        rw [e6] at hI4 hc4
        rw [← e7]
        refine ih (k + 1) _ _ _ _ _ (by omega) (by omega) hI4 (c_E_t hE2 c_E_b) hc4 hP4 (fun q hq => ?_) (h_F_u FFg F4 (fun _ _ z => z) (fun q hq z => by have h8 := hO2 q hq; rcases z with z | z | z <;> rw [z] at h8 ⊢ <;> omega) (by omega) (by omega))
        have h8 := hO2 q hq
        unfold ow_b
        by_cases hqa : q = ar4
        · rw [if_pos hqa]
          rcases d4 with d4 | d4
          · rw [hqa, d4] at h8 ⊢
            omega
          · omega
        · rw [if_neg hqa]; exact h8
      · refine sv_goto (tgt := 69) dX2_copy_47 (by decide) ?_
        refine sv_iincN dX2_copy_69 rfl (by decide) ?_
        refine sv_goto (tgt := 15) dX2_copy_72 (by decide) ?_
        have e8 : ((a_ms V bf).take (k + 1)).filter p = ((a_ms V bf).take k).filter p := by rw [fl_s p hk, show p ((a_ms V bf).getD k (0, 0, 0)) = false from c44]; simp
        rw [← e8]
        exact ih (k + 1) τ ow2 Λ2 _ _ (by omega) (by omega) (by rw [e8]; exact hI2) hE2 (by rw [e8]; exact hcap2) hP2 hO2 (by rw [e8]; exact FFg)
  refine sx_body (by decide) (Nat.le_of_ble_eq_true rfl) ?_
  have hfb := (hI.1.2.2.2.1 bf hbf).1.1
  obtain ⟨mc, ff, hlf, -⟩ := id (hI.1.2.2.2.1 bf hbf).1.2.1
  refine sv_aload_n dX2_copy_0 rfl ?_
  refine sv_get fg_X2_59 dX2_copy_1 (sx_rd_c hfb) rfl ?_
  refine sv_cvR _ (cj_size (n := (a_ms V bf).length) (hI.1.2.2.2.1 bf hbf).1.2.1) okJ2_size kv_X2_27 (sx_rd_c hlf) rfl dX2_copy_4 rfl rfl (by omega) (Nat.le_of_ble_eq_true rfl) ?_
  refine sv_istore dX2_copy_7 (by decide) ?_
  refine sv_iconst (nI 0) dX2_copy_9 (by decide +kernel) ?_
  refine sv_istore dX2_copy_10 (by decide) ?_
  refine sv_iconst (nI 0) dX2_copy_12 (by decide +kernel) ?_
  refine sv_istore dX2_copy_13 (by decide) ?_
  refine loop 31 0 σ ow Λ _ _ (by omega) (by omega) ?_ c_E_r ?_ hP (fun _ _ => rfl) (h_F_w h_F_r (fun _ _ z => z) (Nat.zero_le _) (Nat.zero_le _))
  · rw [List.take_zero, List.filter_nil, v_cs_nil hbt]; exact hI
  · rw [List.take_zero, List.filter_nil, v_cs_nil hbt]; exact hcap
end CMC
