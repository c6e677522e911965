set_option maxRecDepth 100000
section CFL
def gd64 (d : FP.Core.Datum) : Prop := match d with
  | .nan => False
  | .inf _ => True
  | .fin _ c q => c < 2 ^ 53 ∧ q ≤ 971
theorem gd64_e {d : FP.Core.Datum} (h : gd64 d) : FP.Core.encode FP.Core.b64 d % 2 ^ 63 ≤ 2047 * 2 ^ 52 := by
  have ht : FP.Core.Fmt.tails FP.Core.b64 = 2 ^ 52 := rfl
  have hx : FP.Core.Fmt.exps FP.Core.b64 = 2048 := rfl
  have hq : FP.Core.Fmt.qmin FP.Core.b64 = -1074 := rfl
  cases d with
  | nan => exact h.elim
  | inf s =>
    show FP.Core.assemble FP.Core.b64 s (FP.Core.Fmt.exps FP.Core.b64 - 1) 0 % 2 ^ 63 ≤ 2047 * 2 ^ 52
    unfold FP.Core.assemble
    rw [hx, ht]
    cases s <;> decide
  | fin s c q =>
    obtain ⟨h1, h2⟩ := h
    show (if c < FP.Core.Fmt.tails FP.Core.b64 then FP.Core.assemble FP.Core.b64 s 0 c else FP.Core.assemble FP.Core.b64 s ((q - FP.Core.Fmt.qmin FP.Core.b64).toNat + 1) (c - FP.Core.Fmt.tails FP.Core.b64)) % 2 ^ 63 ≤ 2047 * 2 ^ 52
    unfold FP.Core.assemble
    rw [hx, ht, hq]
    have hs : s.toNat = 0 ∨ s.toNat = 1 := by cases s; exact Or.inl rfl; exact Or.inr rfl
    split
    · rcases hs with hs | hs <;> rw [hs] <;> omega
    · rcases hs with hs | hs <;> rw [hs] <;> omega
theorem gd64_r (s : Bool) (num den : Nat) (e : Int) : gd64 (FP.Core.roundRatio FP.Core.b64 s num den e) := by
  have hb : ∀ c q, c < 2 ^ 53 → gd64 (FP.Core.bound FP.Core.b64 s c q) := by
    intro c q hc
    unfold FP.Core.bound
    have hqx : FP.Core.Fmt.qmax FP.Core.b64 = 971 := rfl
    rw [hqx]
    split
    · exact ⟨hc, by assumption⟩
    · exact True.intro
  unfold FP.Core.roundRatio
  split
  · exact ⟨by decide, by decide⟩
  · unfold FP.Core.roundAt FP.Core.settle
    have hp : FP.Core.Fmt.p FP.Core.b64 = 53 := rfl
    rw [hp]
    split
    · exact hb _ _ (by assumption)
    · exact hb _ _ (by decide)
theorem gd64_d {n : Nat} (h : n % 2 ^ 63 ≤ 2047 * 2 ^ 52) : FP.Core.decode FP.Core.b64 n ≠ .nan := by
  have ht : FP.Core.Fmt.tails FP.Core.b64 = 2 ^ 52 := rfl
  have hx : FP.Core.Fmt.exps FP.Core.b64 = 2048 := rfl
  unfold FP.Core.decode FP.Core.fieldE FP.Core.fieldT
  rw [hx, ht]
  split
  · split
    · intro z; cases z
    · exfalso; omega
  · split
    · intro z; cases z
    · intro z; cases z
theorem gd64_q {a b : FP.Core.Datum} (ha : a ≠ .nan) {t : Bool} {dd : Nat} {r : Int} (hb : b = .fin t dd r) (hd : dd ≠ 0) : gd64 (FP.Core.quotient FP.Core.b64 a b) := by
  subst hb
  cases a with
  | nan => exact absurd rfl ha
  | inf s => exact True.intro
  | fin s c q =>
    show gd64 (if dd = 0 then (if c = 0 then .nan else .inf (s != t)) else FP.Core.roundRatio FP.Core.b64 (s != t) c dd (q - r))
    rw [if_neg hd]
    exact gd64_r _ _ _ _
theorem gd64_n {n : Nat} (h : n % 2 ^ 63 ≤ 2047 * 2 ^ 52) : vf_n64 (UInt64.ofNat n) := by
  show UInt64.ofNat n &&& 0x7fffffffffffffff ≤ 0x7ff0000000000000
  rw [UInt64.le_iff_toNat_le, UInt64.toNat_and, UInt64.toNat_ofNat', show (0x7fffffffffffffff : UInt64).toNat = 2 ^ 63 - 1 from rfl, Nat.and_two_pow_sub_one_eq_mod, Nat.mod_mod_of_dvd _ (by decide)]
  exact h
theorem gd64_t {n : Nat} (h : n % 2 ^ 63 ≤ 2047 * 2 ^ 52) : (UInt64.ofNat n).toNat % 2 ^ 63 ≤ 2047 * 2 ^ 52 := by
  rw [UInt64.toNat_ofNat', Nat.mod_mod_of_dvd _ (by decide)]
  exact h
def gd32 (d : FP.Core.Datum) : Prop := match d with
  | .nan => False
  | .inf _ => True
  | .fin _ c q => c < 2 ^ 24 ∧ q ≤ 104
theorem gd32_e {d : FP.Core.Datum} (h : gd32 d) : FP.Core.encode FP.Core.b32 d % 2 ^ 31 ≤ 255 * 2 ^ 23 := by
  have ht : FP.Core.Fmt.tails FP.Core.b32 = 2 ^ 23 := rfl
  have hx : FP.Core.Fmt.exps FP.Core.b32 = 256 := rfl
  have hq : FP.Core.Fmt.qmin FP.Core.b32 = -149 := rfl
  cases d with
  | nan => exact h.elim
  | inf s =>
    show FP.Core.assemble FP.Core.b32 s (FP.Core.Fmt.exps FP.Core.b32 - 1) 0 % 2 ^ 31 ≤ 255 * 2 ^ 23
    unfold FP.Core.assemble
    rw [hx, ht]
    cases s <;> decide
  | fin s c q =>
    obtain ⟨h1, h2⟩ := h
    show (if c < FP.Core.Fmt.tails FP.Core.b32 then FP.Core.assemble FP.Core.b32 s 0 c else FP.Core.assemble FP.Core.b32 s ((q - FP.Core.Fmt.qmin FP.Core.b32).toNat + 1) (c - FP.Core.Fmt.tails FP.Core.b32)) % 2 ^ 31 ≤ 255 * 2 ^ 23
    unfold FP.Core.assemble
    rw [hx, ht, hq]
    have hs : s.toNat = 0 ∨ s.toNat = 1 := by cases s; exact Or.inl rfl; exact Or.inr rfl
    split
    · rcases hs with hs | hs <;> rw [hs] <;> omega
    · rcases hs with hs | hs <;> rw [hs] <;> omega
theorem gd32_r (s : Bool) (num den : Nat) (e : Int) : gd32 (FP.Core.roundRatio FP.Core.b32 s num den e) := by
  have hb : ∀ c q, c < 2 ^ 24 → gd32 (FP.Core.bound FP.Core.b32 s c q) := by
    intro c q hc
    unfold FP.Core.bound
    have hqx : FP.Core.Fmt.qmax FP.Core.b32 = 104 := rfl
    rw [hqx]
    split
    · exact ⟨hc, by assumption⟩
    · exact True.intro
  unfold FP.Core.roundRatio
  split
  · exact ⟨by decide, by decide⟩
  · unfold FP.Core.roundAt FP.Core.settle
    have hp : FP.Core.Fmt.p FP.Core.b32 = 24 := rfl
    rw [hp]
    split
    · exact hb _ _ (by assumption)
    · exact hb _ _ (by decide)
theorem gd32_d {n : Nat} (h : n % 2 ^ 31 ≤ 255 * 2 ^ 23) : FP.Core.decode FP.Core.b32 n ≠ .nan := by
  have ht : FP.Core.Fmt.tails FP.Core.b32 = 2 ^ 23 := rfl
  have hx : FP.Core.Fmt.exps FP.Core.b32 = 256 := rfl
  unfold FP.Core.decode FP.Core.fieldE FP.Core.fieldT
  rw [hx, ht]
  split
  · split
    · intro z; cases z
    · exfalso; omega
  · split
    · intro z; cases z
    · intro z; cases z
theorem gd32_q {a b : FP.Core.Datum} (ha : a ≠ .nan) {t : Bool} {dd : Nat} {r : Int} (hb : b = .fin t dd r) (hd : dd ≠ 0) : gd32 (FP.Core.quotient FP.Core.b32 a b) := by
  subst hb
  cases a with
  | nan => exact absurd rfl ha
  | inf s => exact True.intro
  | fin s c q =>
    show gd32 (if dd = 0 then (if c = 0 then .nan else .inf (s != t)) else FP.Core.roundRatio FP.Core.b32 (s != t) c dd (q - r))
    rw [if_neg hd]
    exact gd32_r _ _ _ _
theorem gd32_n {n : Nat} (h : n % 2 ^ 31 ≤ 255 * 2 ^ 23) : vf_n32 (UInt32.ofNat n) := by
  show UInt32.ofNat n &&& 0x7fffffff ≤ 0x7f800000
  rw [UInt32.le_iff_toNat_le, UInt32.toNat_and, UInt32.toNat_ofNat', show (0x7fffffff : UInt32).toNat = 2 ^ 31 - 1 from rfl, Nat.and_two_pow_sub_one_eq_mod, Nat.mod_mod_of_dvd _ (by decide)]
  exact h
theorem gd32_t {n : Nat} (h : n % 2 ^ 31 ≤ 255 * 2 ^ 23) : (UInt32.ofNat n).toNat % 2 ^ 31 ≤ 255 * 2 ^ 23 := by
  rw [UInt32.toNat_ofNat', Nat.mod_mod_of_dvd _ (by decide)]
  exact h
def fz64 (d : FP.Core.Datum) : Bool := match d with
  | .fin _ c _ => c != 0
  | _ => false
theorem fz64_o {d : FP.Core.Datum} (h : fz64 d = true) : ∃ t c r, d = .fin t c r ∧ c ≠ 0 := by
  cases d with
  | nan => cases h
  | inf s => cases h
  | fin s c q => exact ⟨s, c, q, rfl, by simpa [fz64] using h⟩
theorem i2d_nz : ∀ n, n < 31 → 0 < n → fz64 (FP.Core.decode FP.Core.b64 (FP.i2d (nI n)).toNat) = true := by decide +kernel
theorem i2f_nz : ∀ n, n < 31 → 0 < n → fz64 (FP.Core.decode FP.Core.b32 (FP.i2f (nI n)).toNat) = true := by decide +kernel
theorem i2d_nn (x : Int32) : FP.Core.decode FP.Core.b64 (FP.i2d x).toNat ≠ .nan := gd64_d (gd64_t (gd64_e (gd64_r _ _ _ _)))
theorem i2f_nn (x : Int32) : FP.Core.decode FP.Core.b32 (FP.i2f x).toNat ≠ .nan := gd32_d (gd32_t (gd32_e (gd32_r _ _ _ _)))
theorem fp_dd (x : Int32) {n : Nat} (h : 0 < n) (h2 : n < 31) : vf_n64 (FP.ddiv (FP.i2d x) (FP.i2d (nI n))) := by
  obtain ⟨t, c, r, e, hc⟩ := fz64_o (i2d_nz n h2 h)
  exact gd64_n (gd64_e (gd64_q (i2d_nn x) e hc))
theorem fp_fe (x : Int32) {n : Nat} (h : 0 < n) (h2 : n < 31) : (FP.fdiv (FP.i2f x) (FP.i2f (nI n))).toNat % 2 ^ 31 ≤ 255 * 2 ^ 23 := by
  obtain ⟨t, c, r, e, hc⟩ := fz64_o (i2f_nz n h2 h)
  exact gd32_t (gd32_e (gd32_q (i2f_nn x) e hc))
theorem fp_fd (x : Int32) {n : Nat} (h : 0 < n) (h2 : n < 31) : vf_n32 (FP.fdiv (FP.i2f x) (FP.i2f (nI n))) := by
  obtain ⟨t, c, r, e, hc⟩ := fz64_o (i2f_nz n h2 h)
  exact gd32_n (gd32_e (gd32_q (i2f_nn x) e hc))
theorem fp_f2d {x : UInt32} (h : x.toNat % 2 ^ 31 ≤ 255 * 2 ^ 23) : vf_n64 (FP.f2d x) := by
  have hn := gd32_d h
  have hf : FP.Core.fIsNaN x = false := decide_eq_false hn
  unfold FP.f2d
  rw [hf, if_neg (by decide)]
  refine gd64_n (gd64_e ?_)
  cases hd : FP.Core.decode FP.Core.b32 x.toNat with
  | nan => exact absurd hd hn
  | inf s => exact True.intro
  | fin s c q => exact gd64_r _ _ _ _
end CFL
