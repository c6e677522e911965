set_option maxRecDepth 100000
section CBA
/-- kinds of cells -/
def e_k (e : va_E) : Nat := match e with
  | .inr (ci, _) => ci + 8
  | .inl (_, _, .inl _) => 0
  | .inl (_, _, .inr (.inl _)) => 1
  | .inl (_, _, .inr (.inr (.inl _))) => 2
  | .inl (_, _, .inr (.inr (.inr (.inl _)))) => 3
  | .inl (_, _, .inr (.inr (.inr (.inr _)))) => 4
variable {G : sx_G} {d : Nat} {Y : sx_Y} {pc : Nat} {L : List (Option Value)} {st : List Value} {σ τ ρ : sx_St} {Q : sx_O → sx_St → Prop}
theorem e_kn {a b : Nat} {e e' : va_E} (ha : sx_c σ a = some e) (hb : sx_c σ b = some e') (hk : Nat.beq (e_k e) (e_k e') = false) : a ≠ b := by
  intro z
  subst z
  have h1 := Option.some.inj (ha.symm.trans hb)
  rw [h1] at hk
  have h2 : Nat.beq (e_k e') (e_k e') = true := Nat.beq_refl _
  rw [h2] at hk
  cases hk
theorem h_F_u {W W' U : Nat → Prop} {c c' s s' c2 s2 : Nat} (h : h_F W c s σ τ) (h' : h_F W' c' s' τ ρ) (h1 : ∀ q, q < sx_n σ → W q → U q) (h2 : ∀ q, q < sx_n σ → W' q → U q) (hc : c + c' ≤ c2) (hs : s + s' ≤ s2) : h_F U c2 s2 σ ρ := by
  obtain ⟨⟨a1, a2⟩, a3, a4⟩ := h
  obtain ⟨⟨b1, b2⟩, b3, b4⟩ := h'
  refine ⟨⟨by omega, by omega⟩, by omega, fun q hq hn => ?_⟩
  rw [b4 q (by omega) (fun z => hn (h2 q hq z)), a4 q hq (fun z => hn (h1 q hq z))]
theorem va_rf_cat (r : Option Nat) : (va_rf r).category = 1 := by cases r <;> rfl
theorem va_rf_nar (r : Option Nat) {c : String} : narrow (.object c) (va_rf r) = va_rf r := by cases r <;> rfl
theorem va_rf_fit (r : Option Nat) {c : String} : fits (.object c) (va_rf r) = true := by cases r <;> rfl
/-- the top of the stack by another name -/
theorem sv_topR {r : Option Nat} {a : Nat} (h : r = some a) (k : sx_V G d Y pc L (.ref a :: st) σ Q) : sx_V G d Y pc L (va_rf r :: st) σ Q := by
  rw [h]
  exact k
theorem sv_tI {x y : Int32} (e : x = y) (k : sx_V G d Y pc L (.int y :: st) σ Q) : sx_V G d Y pc L (.int x :: st) σ Q := by
  rw [e]
  exact k
theorem sv_top {v w : Value} (h : v = w) (k : sx_V G d Y pc L (w :: st) σ Q) : sx_V G d Y pc L (v :: st) σ Q := by
  rw [h]
  exact k
/-- Math.min, Math.max -/
theorem sv_jmin {x y : Int32} {idx : Nat} (hw : Cond.methodLink Y.1.cls idx Lib.Math.min.name ∈ lw_all) (hw2 : Cond.static Lib.Math.min.name ∈ lw_all) (hw3 : Cond.initialized "java/lang/Math" ∈ lw_all) (hw4 : Cond.code Lib.Math.min.name Lib.Math.min.code 2 (some .int) ∈ lw_all) (hd : decode Y.2.1 pc = .ok (.invokestatic idx, 3)) (hdd : 0 < d) (hcat : (st.map fun v => v.category).sum ≤ 8) (k : sx_V G d Y (pc + 3) L (.int (if y < x then y else x) :: st) σ Q) : sx_V G d Y pc L (.int y :: .int x :: st) σ Q := by
  obtain ⟨o, τ, hQ, h1, h2, h3⟩ := k
  refine ⟨o, τ, hQ, h1, h2, ?_⟩
  intro p e R s m args below meth c H locs cells slots ls C hf hl hc hs hR hS hL
  have hts := C.2.2.2.2.2.2.1
  exact va_mmin C.1 C.2.1 (by rw [C.2.2.2.1]; exact hL.1.symm) C.2.2.2.2.2.1 (hts _ hw) (hts _ hw2) (hts _ hw3) (hts _ hw4) (by omega) (by omega) (by omega) (by omega) hd (h3 p e R s m args below meth c H locs cells slots ls C hf hl hc hs hR hS hL)
theorem sv_jmax {x y : Int32} {idx : Nat} (hw : Cond.methodLink Y.1.cls idx Lib.Math.max.name ∈ lw_all) (hw2 : Cond.static Lib.Math.max.name ∈ lw_all) (hw3 : Cond.initialized "java/lang/Math" ∈ lw_all) (hw4 : Cond.code Lib.Math.max.name Lib.Math.max.code 2 (some .int) ∈ lw_all) (hd : decode Y.2.1 pc = .ok (.invokestatic idx, 3)) (hdd : 0 < d) (hcat : (st.map fun v => v.category).sum ≤ 8) (k : sx_V G d Y (pc + 3) L (.int (if x < y then y else x) :: st) σ Q) : sx_V G d Y pc L (.int y :: .int x :: st) σ Q := by
  obtain ⟨o, τ, hQ, h1, h2, h3⟩ := k
  refine ⟨o, τ, hQ, h1, h2, ?_⟩
  intro p e R s m args below meth c H locs cells slots ls C hf hl hc hs hR hS hL
  have hts := C.2.2.2.2.2.2.1
  exact va_mmax C.1 C.2.1 (by rw [C.2.2.2.1]; exact hL.1.symm) C.2.2.2.2.2.1 (hts _ hw) (hts _ hw2) (hts _ hw3) (hts _ hw4) (by omega) (by omega) (by omega) (by omega) hd (h3 p e R s m args below meth c H locs cells slots ls C hf hl hc hs hR hS hL)
theorem nI_mx {b c : Nat} (hb : b < 2 ^ 31) (hc : c < 2 ^ 31) : (if nI b < nI c then nI c else nI b) = nI (max b c) := by
  by_cases h : b < c
  · rw [if_pos (nI_lt h hc), Nat.max_eq_right (by omega)]
  · rw [if_neg (nI_nlt (by omega) hb), Nat.max_eq_left (by omega)]
theorem nI_mn {b c : Nat} (hb : b < 2 ^ 31) (hc : c < 2 ^ 31) : (if nI c < nI b then nI c else nI b) = nI (min b c) := by
  by_cases h : c < b
  · rw [if_pos (nI_lt h hb), Nat.min_eq_right (by omega)]
  · rw [if_neg (nI_nlt (by omega) hc), Nat.min_eq_left (by omega)]
theorem nI_half {n : Nat} (h : n < 2 ^ 31) : nI n >>> (nI 1 &&& 31) = nI (n / 2) := pk_shrN h _ 1 (by decide +kernel)
/-- a list's cells: list, array, capacity, how many, which -/
def k_L (G : sx_G) (σ : sx_St) (l ar cap n : Nat) (g : Nat → Nat) : Prop := ∃ (mc : Int32) (f : Nat → Option Nat), sx_c σ l = some (.inr (9, [.int mc, .ref ar, .int (nI n)])) ∧ sx_c σ ar = some (.inl (sg_a G 5, cap, .inr (.inr (.inr (.inr f))))) ∧ n ≤ cap ∧ 0 < cap ∧ cap ≤ 100000 ∧ ∀ i, i < n → f i = some (g i)
/-- an object of the class ci stands at y -/
def k_E (G : sx_G) (σ : sx_St) (ci y : Nat) : Prop := ∃ vs, sx_c σ y = some (.inr (ci, vs))
/-- the class ci may stand in an array of objects -/
def k_O (ci : Nat) : Prop := ∃ (C0 : String) (T0 : u_T) (N0 : Nat), sx_clR[ci]? = some (C0, T0, N0) ∧ Cond.castable C0 "java/lang/Object" ∈ lw_tbl
theorem k_L_fr {W : Nat → Prop} {c s l ar cap n : Nat} {g : Nat → Nat} (F : h_F W c s σ τ) (h : k_L G σ l ar cap n g) (h1 : ¬ W l) (h2 : ¬ W ar) : k_L G τ l ar cap n g := by
  obtain ⟨mc, f, a1, a2, a3⟩ := h
  exact ⟨mc, f, h_F_c F a1 h1, h_F_c F a2 h2, a3⟩
theorem k_L_g {l ar cap n : Nat} {g g' : Nat → Nat} (h : k_L G σ l ar cap n g) (hg : ∀ i, i < n → g i = g' i) : k_L G σ l ar cap n g' := by
  obtain ⟨mc, f, a1, a2, a3, a4, a5, a6⟩ := h
  exact ⟨mc, f, a1, a2, a3, a4, a5, fun i hi => by rw [a6 i hi, hg i hi]⟩
theorem k_E_fr {W : Nat → Prop} {c s ci y : Nat} (F : h_F W c s σ τ) (h : k_E G σ ci y) (h1 : ¬ W y) : k_E G τ ci y := by
  obtain ⟨vs, a⟩ := h
  exact ⟨vs, h_F_c F a h1⟩
theorem k_E_l {ci y l : Nat} {vs : List Value} (h : k_E G σ ci y) (hl : sx_c σ l = some (.inr (9, vs))) (hc : ci ≠ 9) : y ≠ l := by
  obtain ⟨ws, a⟩ := h
  intro z
  subst z
  have h1 := Option.some.inj (a.symm.trans hl)
  exact hc (congrArg Prod.fst (Sum.inr.inj h1))
theorem k_E_a {ci y ar : Nat} {x : ClassId × vp_A} (h : k_E G σ ci y) (hl : sx_c σ ar = some (.inl x)) : y ≠ ar := by
  obtain ⟨ws, a⟩ := h
  intro z
  subst z
  have h1 := Option.some.inj (a.symm.trans hl)
  cases h1
/-- the constant that an empty list holds -/
def g_Z (G : sx_G) (z : Nat) : Prop := sg_z G 5 = .ref z ∧ ∃ f, sg_k G z = some (.inl (sg_a G 5, 0, .inr (.inr (.inr (.inr f)))))
/-- a list that was never written -/
def k_L0 (G : sx_G) (σ : sx_St) (l : Nat) : Prop := ∃ (mc : Int32) (z : Nat), sx_c σ l = some (.inr (9, [.int mc, .ref z, .int (nI 0)])) ∧ g_Z G z
theorem k_L0_fr {W : Nat → Prop} {c s l : Nat} (F : h_F W c s σ τ) (h : k_L0 G σ l) (h1 : ¬ W l) : k_L0 G τ l := by
  obtain ⟨mc, z, a1, a2⟩ := h
  exact ⟨mc, z, h_F_c F a1 h1, a2⟩
end CBA
