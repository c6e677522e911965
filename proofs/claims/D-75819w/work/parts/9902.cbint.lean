set_option maxRecDepth 100000
section JB2
variable {G : sx_G} {σ τ ρ : sx_St} {sb sa cap : Nat} {O : List Int32}
theorem nI_neg_i {a : Nat} (ha : a < 2 ^ 31) : (-nI a).toInt = -(a : Int) := by
  rw [Int32.toInt_neg, nI_toInt ha, Int.bmod_eq_of_le (by omega) (by omega)]
theorem nI_neg_le {a b : Nat} (ha : a < 2 ^ 31) (hb : b < 2 ^ 31) : -nI a ≤ -nI b ↔ b ≤ a := by
  rw [Int32.le_iff_toInt_le, nI_neg_i ha, nI_neg_i hb]
  omega
theorem nI_neg_lt {a b : Nat} (ha : a < 2 ^ 31) (hb : b < 2 ^ 31) : -nI a < -nI b ↔ b < a := by
  rw [Int32.lt_iff_toInt_lt, nI_neg_i ha, nI_neg_i hb]
  omega
theorem nI_neg_div {a b : Nat} (ha : a < 2 ^ 31) (hb : b < 2 ^ 31) (hb0 : 1 < b) : -nI a / nI b = -nI (a / b) := by
  have h1 : a / b < 2 ^ 31 := Nat.lt_of_le_of_lt (Nat.div_le_self a b) ha
  apply Int32.toInt_inj.mp
  rw [Int32.toInt_div, nI_neg_i ha, nI_toInt hb, nI_neg_i h1, Int.neg_tdiv]
  rw [show ((a : Int).tdiv (b : Int)) = ((a / b : Nat) : Int) from rfl]
  have key : ∀ c : Nat, c < 2 ^ 31 → Int.bmod (-(c : Int)) (2 ^ 32) = -c := fun c hc => Int.bmod_eq_of_le (by omega) (by omega)
  exact key _ h1
theorem nI_neg_mod {m : Nat} : -nI (m / 100) * nI 100 - -nI m = nI (m % 100) := by
  rw [Int32.neg_mul, pk_mul, Int32.sub_neg, Int32.add_comm, ← Int32.sub_eq_add_neg, pk_sub (Nat.div_mul_le_self m 100)]
  congr 1
  omega
theorem nI_neg_10 {k : Nat} : nI 10 * -nI (10 ^ k) = -nI (10 ^ (k + 1)) := by
  rw [Int32.mul_neg, pk_mul, Nat.pow_succ, Nat.mul_comm]
theorem nI_byte2 : ∀ n, n < 128 → vp_nar .byte (nI n) = nI n := by decide +kernel
theorem nI_dec {p : Nat} (h : 0 < p) : nI p + Int32.ofInt (-1) = nI (p - 1) := by
  have e : nI (p - 1) + nI 1 = nI p := by rw [nI_add, Nat.sub_add_cancel h]
  rw [← e, Int32.add_assoc, show nI 1 + Int32.ofInt (-1) = 0 from by decide +kernel, Int32.add_zero]
theorem p10_2 (k : Nat) : 10 ^ (k + 2) = 100 * 10 ^ k := by rw [Nat.pow_succ, Nat.pow_succ]; omega
theorem d_l_u {n k : Nat} (hn : n < 10 ^ 8) (h1 : n < 10 ^ (k + 1)) (h2 : k = 0 ∨ 10 ^ k ≤ n) : d_l n 7 = k := by
  obtain ⟨g1, g2⟩ := d_l_s 7 n hn
  rcases Nat.lt_trichotomy (d_l n 7) k with z | z | z
  · exfalso
    have h3 : 10 ^ (d_l n 7 + 1) ≤ 10 ^ k := Nat.pow_le_pow_right (by decide) z
    omega
  · exact z
  · exfalso
    have := g2 k z
    omega
theorem d_l_9 {m : Nat} (h : m < 10) : d_l m 7 = 0 := d_l_u (by omega) (by omega) (Or.inl rfl)
theorem d_l_99 {m : Nat} (h : ¬ m < 10) (h2 : m < 100) : d_l m 7 = 1 := d_l_u (by omega) (by omega) (Or.inr (by omega))
theorem d_l_h {m : Nat} (h : 100 ≤ m) (hm : m < 10 ^ 8) : d_l m 7 = d_l (m / 100) 7 + 2 := by
  obtain ⟨g1, g2⟩ := d_l_s 7 (m / 100) (by omega)
  refine d_l_u hm ?_ (Or.inr ?_)
  · rw [show d_l (m / 100) 7 + 2 + 1 = d_l (m / 100) 7 + 1 + 2 from rfl, p10_2]
    omega
  · rw [p10_2]
    rcases Nat.eq_zero_or_pos (d_l (m / 100) 7) with z | z
    · rw [z]; omega
    · have := g2 (d_l (m / 100) 7 - 1) (by omega)
      rw [Nat.sub_add_cancel z] at this
      omega
theorem d_g2 (m j : Nat) : m / 100 / 10 ^ j % 10 = m / 10 ^ (j + 2) % 10 := by rw [Nat.div_div_eq_div_mul, p10_2]
theorem d_r_g (n : Nat) : ∀ k i, i < k → (d_r n k).getD i 0 = nI (48 + n / 10 ^ (k - 1 - i) % 10) := by
  intro k
  induction k with
  | zero => intro i hi; exact absurd hi (Nat.not_lt_zero i)
  | succ k ih =>
    intro i hi
    show (nI (48 + n / 10 ^ k % 10) :: d_r n k).getD i 0 = _
    cases i with
    | zero => rfl
    | succ i =>
      rw [List.getD_cons_succ, ih i (by omega), show k + 1 - 1 - (i + 1) = k - 1 - i by omega]
theorem cb_ssz {n : Nat} (hn : n < 10 ^ 8) : sx_Cr G 0 YJ16_stringSize [.int (nI n)] σ (some (.int (nI (d_l n 7 + 1)))) σ := by
  have loop : ∀ r k, 1 ≤ k → k ≤ 8 → 9 ≤ k + r → (k = 1 ∨ 10 ^ (k - 1) ≤ n) → sx_V G 0 YJ16_stringSize 16 [some (.int (-nI n)), some (.int (nI 0)), some (.int (-nI (10 ^ k))), some (.int (nI k))] [] σ (fun o τ => ∃ v, o = .inl v ∧ v = some (.int (nI (d_l n 7 + 1))) ∧ τ = σ) := by
    intro r
    induction r with
    | zero => intro k h1 h2 h3; omega
    | succ r ih =>
    intro k h1 h2 h3 h4
    have hp8 : 10 ^ k ≤ 10 ^ 8 := Nat.pow_le_pow_right (by decide) h2
    refine sv_iload_n dJ16_stringSize_16 rfl ?_
    refine sv_bipush (nI 10) dJ16_stringSize_17 (by decide +kernel) ?_
    refine sv_icmp_geN (tgt := 42) dJ16_stringSize_19 (by decide) (by omega) (by omega) (fun c19 => ?_) (fun c19 => ?_)
    · exact absurd c19 (by omega)
    · refine sv_iload_n dJ16_stringSize_22 rfl ?_
      refine sv_iload_n dJ16_stringSize_23 rfl ?_
      refine sv_icmp_le (tgt := 31) dJ16_stringSize_24 (by decide) (fun c24 => ?_) (fun c24 => ?_)
      · refine sv_bipush (nI 10) dJ16_stringSize_31 (by decide +kernel) ?_
        refine sv_iload_n dJ16_stringSize_33 rfl ?_
        refine sv_imul dJ16_stringSize_34 ?_
        refine sv_tI (y := -nI (10 ^ (k + 1))) nI_neg_10 ?_
        refine sv_istore_n dJ16_stringSize_35 (by decide) ?_
        refine sv_iincN dJ16_stringSize_36 rfl (by decide) ?_
        refine sv_goto (tgt := 16) dJ16_stringSize_39 (by decide) ?_
        have h9 := (nI_neg_le (by omega) (by omega)).mp c24
        have hk8 : k < 8 := by
          rcases Nat.lt_or_ge k 8 with z | z
          · exact z
          · exfalso; obtain rfl : k = 8 := by omega
            omega
        exact ih (k + 1) (by omega) (by omega) (by omega) (Or.inr h9)
      · refine sv_iload_n dJ16_stringSize_27 rfl ?_
        refine sv_iload_n dJ16_stringSize_28 rfl ?_
        refine sv_iaddN dJ16_stringSize_29 ?_
        refine sv_iret rfl rfl dJ16_stringSize_30 ?_
        have h9 : n < 10 ^ k := Nat.lt_of_not_le (fun z => c24 ((nI_neg_le (by omega) (by omega)).mpr z))
        refine ⟨_, rfl, r_I ?_, rfl⟩
        rw [d_l_u (k := k - 1) hn (by rw [Nat.sub_add_cancel h1]; exact h9) (by omega), Nat.sub_add_cancel h1]
        rfl
  refine sx_body (by decide) (Nat.le_of_ble_eq_true rfl) ?_
  refine sv_iconst (nI 1) dJ16_stringSize_0 (by decide +kernel) ?_
  refine sv_istore_n dJ16_stringSize_1 (by decide) ?_
  refine sv_iload_n dJ16_stringSize_2 rfl ?_
  refine sv_if_lt (tgt := 11) dJ16_stringSize_3 (by decide) (fun c3 => ?_) (fun c3 => ?_)
  · exact absurd c3 (nI_pos (by omega))
  · refine sv_iconst (nI 0) dJ16_stringSize_6 (by decide +kernel) ?_
    refine sv_istore_n dJ16_stringSize_7 (by decide) ?_
    refine sv_iload_n dJ16_stringSize_8 rfl ?_
    refine sv_ineg dJ16_stringSize_9 ?_
    refine sv_tI (y := -nI n) rfl ?_
    refine sv_istore_n dJ16_stringSize_10 (by decide) ?_
    refine sv_bipush (-10) dJ16_stringSize_11 (by decide +kernel) ?_
    refine sv_tI (y := -nI (10 ^ 1)) (by decide +kernel) ?_
    refine sv_istore_n dJ16_stringSize_13 (by decide) ?_
    refine sv_iconst (nI 1) dJ16_stringSize_14 (by decide +kernel) ?_
    refine sv_istore_n dJ16_stringSize_15 (by decide) ?_
    exact loop 8 1 (by omega) (by omega) (by omega) (Or.inl rfl)
theorem cb_gch (hC : g_C G) {m p : Nat} {f : Nat → Int32} (hm8 : m < 10 ^ 8) (hsa : sx_c σ sa = some (.inl (sg_a G 2, cap, .inl f))) (hp : d_l m 7 + 1 ≤ p) (hpc : p ≤ cap) (hcp : cap ≤ 200000) : sx_C G 0 YJ16_getChars [.int (nI m), .int (nI p), .ref sa] σ (fun o τ => ∃ v, o = .inl v ∧ v = some (.int (nI (p - (d_l m 7 + 1)))) ∧ ∃ g, sx_c τ sa = some (.inl (sg_a G 2, cap, .inl g)) ∧ (∀ i, (i < p - (d_l m 7 + 1) ∨ p ≤ i) → g i = f i) ∧ (∀ j, j < d_l m 7 + 1 → g (p - 1 - j) = nI (48 + m / 10 ^ j % 10)) ∧ ((∀ i, fits .byte (.int (f i)) = true) → ∀ i, fits .byte (.int (g i)) = true) ∧ h_F (fun q => q = sa) 0 0 σ τ) := by
  have loop : ∀ (P0 : Option Value) r m p (f : Nat → Int32) (ρ : sx_St) (y3 y4 : Option Value), sx_c ρ sa = some (.inl (sg_a G 2, cap, .inl f)) → m < 10 ^ 8 → m + 1 ≤ r → d_l m 7 + 1 ≤ p → p ≤ cap → sx_V G 0 YJ16_getChars 22 [some (.int (-nI m)), P0, some (.ref sa), y3, y4, some (.int (nI p)), some (.int (nI 0))] [] ρ (fun o τ => ∃ v, o = .inl v ∧ v = some (.int (nI (p - (d_l m 7 + 1)))) ∧ ∃ g, sx_c τ sa = some (.inl (sg_a G 2, cap, .inl g)) ∧ (∀ i, (i < p - (d_l m 7 + 1) ∨ p ≤ i) → g i = f i) ∧ (∀ j, j < d_l m 7 + 1 → g (p - 1 - j) = nI (48 + m / 10 ^ j % 10)) ∧ ((∀ i, fits .byte (.int (f i)) = true) → ∀ i, fits .byte (.int (g i)) = true) ∧ h_F (fun q => q = sa) 0 0 ρ τ) := by
    obtain ⟨-, -, ⟨a7, f7, hz7, hk7, hd7⟩, a8, f8, hz8, hk8, hd8⟩ := hC
    intro P0 r
    induction r with
    | zero => intro m p f ρ y3 y4 h0 h1 h2; omega
    | succ r ih =>
    intro m p f ρ y3 y4 hsa hm8 h2 h3 h4
    have FFa : h_F (fun q => q = sa) 0 0 ρ ρ := h_F_r
    refine sv_iload_n dJ16_getChars_22 rfl ?_
    refine sv_bipush (-100) dJ16_getChars_23 (by decide +kernel) ?_
    refine sv_tI (y := -nI 100) (by decide +kernel) ?_
    refine sv_icmp_gt (tgt := 72) dJ16_getChars_25 (by decide) (fun c25 => ?_) (fun c25 => ?_)
    · have hm100 : m < 100 := (nI_neg_lt (by omega) (by omega)).mp c25
      have hdlp : 1 ≤ p := by omega
      refine sv_aload_n dJ16_getChars_72 rfl ?_
      refine sv_iinc (nI (p - 1)) dJ16_getChars_73 rfl (nI_dec (by omega)) (by decide) ?_
      refine sv_iload dJ16_getChars_76 rfl ?_
      refine sv_gets 7 rfl q430 dJ16_getChars_78 ?_
      rw [hz7]
      refine sv_iload_n dJ16_getChars_81 rfl ?_
      refine sv_ineg dJ16_getChars_82 ?_
      refine sv_tI (y := nI m) Int32.neg_neg ?_
      refine sv_bald dJ16_getChars_83 (Or.inr hk7) (vp_in_nI (by omega) (by omega)) ?_
      rw [nI_clamp (show m < 2 ^ 31 by omega)]
      refine sv_tI (y := nI (48 + m % 10)) (hd7 _ (by omega)) ?_
      refine sv_bast dJ16_getChars_84 hsa (vp_in_nI (by omega) (by omega)) ?_
      rw [nI_clamp (show (p - 1) < 2 ^ 31 by omega)]
      refine hs_up hsa (fun τ1 F2 h3 N4 Z5 => ?_)
      have h3 : sx_c τ1 sa = some (.inl (sg_a G 2, cap, .inl ((upd f ((p - 1)) (vp_nar .byte ((nI (48 + m % 10)))))))) := h3
      have FF6 := h_F_u FFa F2 (fun _ _ z => z) (by intro q hq hz; omega) (Nat.le_refl _) (Nat.le_refl _)
      refine sv_iload_n dJ16_getChars_85 rfl ?_
      refine sv_bipush (-9) dJ16_getChars_86 (by decide +kernel) ?_
      refine sv_tI (y := -nI 9) (by decide +kernel) ?_
      refine sv_icmp_ge (tgt := 104) dJ16_getChars_88 (by decide) (fun c88 => ?_) (fun c88 => ?_)
      · have h9 : m ≤ 9 := (nI_neg_le (by omega) (by omega)).mp c88
        refine sv_iload dJ16_getChars_104 rfl ?_
        refine sv_if_eqN (tgt := 118) dJ16_getChars_106 (by decide) (by omega) (fun c106 => ?_) (fun c106 => ?_)
        · refine sv_iload dJ16_getChars_118 rfl ?_
          refine sv_iret rfl rfl dJ16_getChars_120 ?_
          have hdl := d_l_9 (m := m) (by omega)
          refine ⟨_, rfl, r_I ?_, _, h3, fun i hi => ?_, fun j hj => ?_, fun hf i => ?_, FF6⟩
          · rw [hdl]
          · rw [hdl] at hi
            rw [pk_un (by omega)]
          · rw [hdl] at hj
            match j, hj with
            | 0, _ => rw [Nat.sub_zero, pk_us, nI_byte2 _ (by omega), Nat.pow_zero, Nat.div_one]
          · by_cases h1 : i = p - 1
            · rw [h1, pk_us]; exact fit_b _
            · rw [pk_un h1]; exact hf i
        · exact absurd c106 (by omega)
      · have h9 : ¬ m ≤ 9 := fun z => c88 ((nI_neg_le (by omega) (by omega)).mpr z)
        have hd99 := d_l_99 (m := m) (by omega) hm100
        refine sv_aload_n dJ16_getChars_91 rfl ?_
        refine sv_iinc (nI (p - 1 - 1)) dJ16_getChars_92 rfl (nI_dec (by omega)) (by decide) ?_
        refine sv_iload dJ16_getChars_95 rfl ?_
        refine sv_gets 8 rfl q432 dJ16_getChars_97 ?_
        rw [hz8]
        refine sv_iload_n dJ16_getChars_100 rfl ?_
        refine sv_ineg dJ16_getChars_101 ?_
        refine sv_tI (y := nI m) Int32.neg_neg ?_
        refine sv_bald dJ16_getChars_102 (Or.inr hk8) (vp_in_nI (by omega) (by omega)) ?_
        rw [nI_clamp (show m < 2 ^ 31 by omega)]
        refine sv_tI (y := nI (48 + m / 10)) (hd8 _ (by omega)) ?_
        refine sv_bast dJ16_getChars_103 h3 (vp_in_nI (by omega) (by omega)) ?_
        rw [nI_clamp (show (p - 1 - 1) < 2 ^ 31 by omega)]
        refine hs_up h3 (fun τ7 F8 h9 N10 Z11 => ?_)
        have h9 : sx_c τ7 sa = some (.inl (sg_a G 2, cap, .inl ((upd ((upd f ((p - 1)) (vp_nar .byte ((nI (48 + m % 10)))))) ((p - 1 - 1)) (vp_nar .byte ((nI (48 + m / 10)))))))) := h9
        have FF12 := h_F_u FF6 F8 (fun _ _ z => z) (by intro q hq hz; omega) (Nat.le_refl _) (Nat.le_refl _)
        refine sv_iload dJ16_getChars_104 rfl ?_
        refine sv_if_eqN (tgt := 118) dJ16_getChars_106 (by decide) (by omega) (fun c106 => ?_) (fun c106 => ?_)
        · refine sv_iload dJ16_getChars_118 rfl ?_
          refine sv_iret rfl rfl dJ16_getChars_120 ?_
          have hdl := d_l_99 (m := m) (by omega) hm100
          refine ⟨_, rfl, r_I ?_, _, h9, fun i hi => ?_, fun j hj => ?_, fun hf i => ?_, FF12⟩
          · rw [hdl, Nat.sub_sub]
          · rw [hdl] at hi
            rw [pk_un (by omega), pk_un (by omega)]
          · rw [hdl] at hj
            match j, hj with
            | 0, _ => rw [Nat.sub_zero, pk_un (by omega), pk_us, nI_byte2 _ (by omega), Nat.pow_zero, Nat.div_one]
            | 1, _ => rw [pk_us, nI_byte2 _ (by omega), Nat.pow_one, Nat.mod_eq_of_lt (show m / 10 < 10 by omega)]
          · by_cases h1 : i = p - 1 - 1
            · rw [h1, pk_us]; exact fit_b _
            · rw [pk_un h1]
              by_cases h2 : i = p - 1
              · rw [h2, pk_us]; exact fit_b _
              · rw [pk_un h2]; exact hf i
        · exact absurd c106 (by omega)
    · have hm100 : 100 ≤ m := Nat.le_of_not_lt (fun z => c25 ((nI_neg_lt (by omega) (by omega)).mpr z))
      have hdh := d_l_h hm100 hm8
      refine sv_iload_n dJ16_getChars_28 rfl ?_
      refine sv_bipush (nI 100) dJ16_getChars_29 (by decide +kernel) ?_
      refine sv_idiv dJ16_getChars_31 (by decide) ?_
      refine sv_tI (y := -nI (m / 100)) (nI_neg_div (by omega) (by omega) (by omega)) ?_
      refine sv_istore_n dJ16_getChars_32 (by decide) ?_
      refine sv_iload_n dJ16_getChars_33 rfl ?_
      refine sv_bipush (nI 100) dJ16_getChars_34 (by decide +kernel) ?_
      refine sv_imul dJ16_getChars_36 ?_
      refine sv_iload_n dJ16_getChars_37 rfl ?_
      refine sv_isub dJ16_getChars_38 ?_
      refine sv_tI (y := nI (m % 100)) nI_neg_mod ?_
      refine sv_istore dJ16_getChars_39 (by decide) ?_
      refine sv_iload_n dJ16_getChars_41 rfl ?_
      refine sv_istore_n dJ16_getChars_42 (by decide) ?_
      refine sv_aload_n dJ16_getChars_43 rfl ?_
      refine sv_iinc (nI (p - 1)) dJ16_getChars_44 rfl (nI_dec (by omega)) (by decide) ?_
      refine sv_iload dJ16_getChars_47 rfl ?_
      refine sv_gets 7 rfl q430 dJ16_getChars_49 ?_
      rw [hz7]
      refine sv_iload dJ16_getChars_52 rfl ?_
      refine sv_bald dJ16_getChars_54 (Or.inr hk7) (vp_in_nI (by omega) (by omega)) ?_
      rw [nI_clamp (show (m % 100) < 2 ^ 31 by omega)]
      refine sv_tI (y := nI (48 + m % 100 % 10)) (hd7 _ (by omega)) ?_
      refine sv_bast dJ16_getChars_55 hsa (vp_in_nI (by omega) (by omega)) ?_
      rw [nI_clamp (show (p - 1) < 2 ^ 31 by omega)]
      refine hs_up hsa (fun τ13 F14 h15 N16 Z17 => ?_)
      have h15 : sx_c τ13 sa = some (.inl (sg_a G 2, cap, .inl ((upd f ((p - 1)) (vp_nar .byte ((nI (48 + m % 100 % 10)))))))) := h15
      have FF18 := h_F_u FFa F14 (fun _ _ z => z) (by intro q hq hz; omega) (Nat.le_refl _) (Nat.le_refl _)
      refine sv_aload_n dJ16_getChars_56 rfl ?_
      refine sv_iinc (nI (p - 1 - 1)) dJ16_getChars_57 rfl (nI_dec (by omega)) (by decide) ?_
      refine sv_iload dJ16_getChars_60 rfl ?_
      refine sv_gets 8 rfl q432 dJ16_getChars_62 ?_
      rw [hz8]
      refine sv_iload dJ16_getChars_65 rfl ?_
      refine sv_bald dJ16_getChars_67 (Or.inr hk8) (vp_in_nI (by omega) (by omega)) ?_
      rw [nI_clamp (show (m % 100) < 2 ^ 31 by omega)]
      refine sv_tI (y := nI (48 + m % 100 / 10)) (hd8 _ (by omega)) ?_
      refine sv_bast dJ16_getChars_68 h15 (vp_in_nI (by omega) (by omega)) ?_
      rw [nI_clamp (show (p - 1 - 1) < 2 ^ 31 by omega)]
      refine hs_up h15 (fun τ19 F20 h21 N22 Z23 => ?_)
      have h21 : sx_c τ19 sa = some (.inl (sg_a G 2, cap, .inl ((upd ((upd f ((p - 1)) (vp_nar .byte ((nI (48 + m % 100 % 10)))))) ((p - 1 - 1)) (vp_nar .byte ((nI (48 + m % 100 / 10)))))))) := h21
      have FF24 := h_F_u FF18 F20 (fun _ _ z => z) (by intro q hq hz; omega) (Nat.le_refl _) (Nat.le_refl _)
      refine sv_goto (tgt := 22) dJ16_getChars_69 (by decide) ?_
      have hdl := d_l_h (m := m) (by omega) hm8
      have hih := ih (m / 100) (p - 1 - 1) _ _ (some (.int (-nI (m / 100)))) (some (.int (nI (m % 100)))) h21 (by omega) (by omega) (by omega) (by omega)
      refine sx_V_Q hih ?_
      rintro o τ ⟨v, rfl, rfl, g, hg, e1, e2, e3, F⟩
      refine ⟨_, rfl, r_I ?_, g, hg, fun i hi => ?_, fun j hj => ?_, fun hf => e3 (fun i => ?_), h_F_w (h_F_t FF24 F (fun q _ z => z)) (fun _ _ z => z) (by omega) (by omega)⟩
      · rw [hdl]; congr 1; omega
      · rw [e1 i (by omega), pk_un (by omega), pk_un (by omega)]
      · match j with
        | 0 => rw [Nat.sub_zero, e1 _ (by omega), pk_un (by omega), pk_us, nI_byte2 _ (by omega), Nat.pow_zero, Nat.div_one]; congr 1; omega
        | 1 => rw [e1 _ (by omega), pk_us, nI_byte2 _ (by omega), Nat.pow_one]; congr 1; omega
        | j + 2 => rw [show p - 1 - (j + 2) = p - 1 - 1 - 1 - j by omega, e2 j (by omega), d_g2]
      · by_cases h1 : i = p - 1 - 1
        · rw [h1, pk_us]; exact fit_b _
        · rw [pk_un h1]
          by_cases h2 : i = p - 1
          · rw [h2, pk_us]; exact fit_b _
          · rw [pk_un h2]; exact hf i
  refine sx_body (by decide) (Nat.le_of_ble_eq_true rfl) ?_
  refine sv_iload_n dJ16_getChars_0 rfl ?_
  refine sv_istore dJ16_getChars_1 (by decide) ?_
  refine sv_iload_n dJ16_getChars_3 rfl ?_
  refine sv_if_ge (tgt := 11) dJ16_getChars_4 (by decide) (fun c4 => ?_) (fun c4 => ?_)
  · refine sv_iconst (nI 0) dJ16_getChars_11 (by decide +kernel) ?_
    refine sv_istore dJ16_getChars_12 (by decide) ?_
    refine sv_iload dJ16_getChars_14 rfl ?_
    refine sv_if_neN (tgt := 22) dJ16_getChars_16 (by decide) (by omega) (fun c16 => ?_) (fun c16 => ?_)
    · exact absurd c16 (by omega)
    · refine sv_iload_n dJ16_getChars_19 rfl ?_
      refine sv_ineg dJ16_getChars_20 ?_
      refine sv_tI (y := -nI m) rfl ?_
      refine sv_istore_n dJ16_getChars_21 (by decide) ?_
      exact loop (some (.int (nI p))) (m + 1) m p f σ none none hsa hm8 (by omega) hp hpc
  · exact absurd (nI_pos' (by omega)) c4
theorem cb_api7 (hC : g_C G) (hU : k_U G σ sb sa cap O) {n : Nat} (hn : n < 10 ^ 8) (hl : O.length < 40000) : sx_Cp G 4 YJ7_append_2 [.ref sb, .int (nI n)] σ (fun v τ => v = some (.ref sb) ∧ ∃ sa2 cap2, cap2 ≤ max cap (2 * (O.length + 8)) ∧ k_U G τ sb sa2 cap2 (O ++ d_n n) ∧ k_Uf sb sa cap sa2 cap2 σ τ) := by
  refine sx_body (by decide) (Nat.le_of_ble_eq_true rfl) ?_
  have hU0 := hU
  obtain ⟨fo, z0, hsb, hsa, hle, hcp, hfo, hfi⟩ := hU
  have hdl7 := d_l_le 7 n
  refine sv_aload_n dJ7_append_2_0 rfl ?_
  refine sv_get fg_J7_79 dJ7_append_2_1 (sx_rd_c hsb) rfl ?_
  refine sv_istore_n dJ7_append_2_4 (by decide) ?_
  refine sv_iload_n dJ7_append_2_5 rfl ?_
  refine sv_iload_n dJ7_append_2_6 rfl ?_
  refine sv_csR _ (cb_ssz hn) okJ16_stringSize ks_J7_245 dJ7_append_2_7 rfl rfl (by omega) (Nat.le_of_ble_eq_true rfl) ?_
  refine sv_iaddN dJ7_append_2_10 ?_
  refine sv_istore_n dJ7_append_2_11 (by decide) ?_
  refine sv_aload_n dJ7_append_2_12 rfl ?_
  refine sv_iload_n dJ7_append_2_13 rfl ?_
  refine sv_cvpP _ (cb_ens hU0 (m := O.length + (d_l n 7 + 1)) (by omega)) okJ7_ensureCapacityInternal rfl (sx_rd_c hsb) rfl q308 q310 q346 rfl q309 dJ7_append_2_14 rfl rfl (by omega) (Nat.le_of_ble_eq_true rfl) ?_
  intro v27 τ25 hp26
  obtain ⟨rfl, sa2, cap2, hm1, hm2, hU2, hf2⟩ := hp26
  have N28 := ((k_Uf_F hf2)).1.1
  have hU3 := hU2
  obtain ⟨fo2, z2, hsb2, hsa2, hle2, hcp2, hfo2, hfi2⟩ := hU2
  refine sv_aload_n dJ7_append_2_17 rfl ?_
  refine sv_cuR (x := yJ7_isLatin1) _ (cb_lat hC hU3) okJ7_isLatin1 rfl (sx_rd_c hsb2) rfl rfl q343 q345 q344 q346 dJ7_append_2_18 rfl rfl (by omega) (Nat.le_of_ble_eq_true rfl) ?_
  refine sv_if_eqB (tgt := 37) dJ7_append_2_21 (by decide) (fun c21 => ?_) (fun c21 => ?_)
  · exact absurd c21 (by decide)
  · refine sv_iload_n dJ7_append_2_24 rfl ?_
    refine sv_iload_n dJ7_append_2_25 rfl ?_
    refine sv_aload_n dJ7_append_2_26 rfl ?_
    refine sv_get fg_J7_15 dJ7_append_2_27 (sx_rd_c hsb2) rfl ?_
    refine sv_csP _ (cb_gch hC (m := n) (p := O.length + (d_l n 7 + 1)) hn hsa2 (by omega) (by omega) (by omega)) okJ16_getChars ks_J7_248 dJ7_append_2_30 rfl rfl (by omega) (Nat.le_of_ble_eq_true rfl) ?_
    intro v31 τ29 hp30
    obtain ⟨rfl, g, hg, e1, e2, e3, F1⟩ := hp30
    have N32 := (F1).1.1
    have hsb2' := h_F_c F1 hsb2 (e_kn hsb2 hsa2 rfl)
    refine sv_pop dJ7_append_2_33 rfl ?_
    refine sv_goto (tgt := 48) dJ7_append_2_34 (by decide) ?_
    refine sv_aload_n dJ7_append_2_48 rfl ?_
    refine sv_iload_n dJ7_append_2_49 rfl ?_
    refine sv_put fp_J7_79 dJ7_append_2_50 hsb2' rfl rfl (Nat.le_of_ble_eq_true rfl) ?_
    refine hs_up hsb2' (fun τ33 F34 h35 N36 Z37 => ?_)
    have h35 : sx_c τ33 sb = some (.inr (11, [.ref sa2, .int (nI 0), .int (b_I z2), .int (nI (O.length + (d_l n 7 + 1)))])) := h35
    have hg' := h_F_c F34 hg (e_kn hg hsb2' rfl)
    have F2 := F34
    refine sv_aload_n dJ7_append_2_53 rfl ?_
    refine sv_aret (Or.inr ⟨_, rfl⟩) (Or.inl ⟨_, rfl⟩) rfl dJ7_append_2_54 ?_
    have hlen : (O ++ d_n n).length = O.length + (d_l n 7 + 1) := by rw [List.length_append]; unfold d_n; rw [d_r_l]
    have hs9 := h35
    refine ⟨_, rfl, rfl, sa2, cap2, by omega, ⟨_, z2, ?_, hg', ?_, hcp2, fun i hi => ?_, e3 hfi2⟩, k_Uf_t hf2 (k_Uf_of (h_F_u F1 F2 (U := fun q => q = sb ∨ q = sa2) (fun _ _ z => Or.inr z) (fun _ _ z => Or.inl z) (Nat.le_refl _) (Nat.le_refl _)) (fun _ z => z) (Or.inl rfl) (Nat.le_refl _) (by omega) (by omega))⟩
    · rw [hlen]
      exact hs9
    · rw [hlen]
      exact hm1
    · rw [hlen] at hi
      rw [List.getD_eq_getElem?_getD]
      by_cases hx : i < O.length
      · rw [List.getElem?_append_left hx, e1 i (Or.inl (by omega)), hfo2 i hx, List.getD_eq_getElem?_getD]
      · rw [List.getElem?_append_right (by omega), ← List.getD_eq_getElem?_getD]
        unfold d_n
        rw [d_r_g n _ _ (by omega)]
        have := e2 (d_l n 7 + 1 - 1 - (i - O.length)) (by omega)
        rw [show O.length + (d_l n 7 + 1) - 1 - (d_l n 7 + 1 - 1 - (i - O.length)) = i by omega] at this
        exact this
theorem cb_api (hC : g_C G) (hU : k_U G σ sb sa cap O) {n : Nat} (hn : n < 10 ^ 8) (hl : O.length < 40000) : sx_Cp G 5 YJ8_append_2 [.ref sb, .int (nI n)] σ (fun v τ => v = some (.ref sb) ∧ ∃ sa2 cap2, cap2 ≤ max cap (2 * (O.length + 8)) ∧ k_U G τ sb sa2 cap2 (O ++ d_n n) ∧ k_Uf sb sa cap sa2 cap2 σ τ) := by
  refine sx_body (by decide) (Nat.le_of_ble_eq_true rfl) ?_
  have hU0 := hU
  obtain ⟨fo, z0, hsb, hsa, hle, hcp, hfo, hfi⟩ := hU
  refine sv_aload_n dJ8_append_2_0 rfl ?_
  refine sv_iload_n dJ8_append_2_1 rfl ?_
  refine sv_cpP _ (cb_api7 hC hU0 hn hl) okJ7_append_2 rfl (sx_rd_c hsb) rfl (by decide) q421 q2803 q422 q294 dJ8_append_2_2 rfl rfl (by omega) (Nat.le_of_ble_eq_true rfl) ?_
  intro v40 τ38 hp39
  obtain ⟨rfl, sa2, cap2, hm2, hU2, hf2⟩ := hp39
  have N41 := ((k_Uf_F hf2)).1.1
  refine sv_pop dJ8_append_2_5 rfl ?_
  refine sv_aload_n dJ8_append_2_6 rfl ?_
  refine sv_aret (Or.inr ⟨_, rfl⟩) (Or.inl ⟨_, rfl⟩) rfl dJ8_append_2_7 ?_
  exact ⟨_, rfl, rfl, sa2, cap2, hm2, hU2, hf2⟩
end JB2
