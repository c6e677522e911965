set_option maxRecDepth 100000
section CJN
variable {G : sx_G} {σ τ : sx_St} {mu : Nat → Nat} {oc : Nat} {A : a_A} {d : Nat} {Y : sx_Y} {av : List Value}
/-- what a public method hands back: value or exception by the spec's code; the state; how much was made -/
def c_Rv (es : List String) (r : Int32 × a_A) (o : sx_O) : Prop := (A_t r.2 = 0 ∧ o = .inl (some (.int r.1))) ∨ ∃ k q E, es[k]? = some E ∧ A_t r.2 = nI (k + 1) ∧ o = .inr (E, q)
/-- the state behind: x's own cells but the output's bytes stay where they are -/
def c_S (G : sx_G) (mu : Nat → Nat) (oc : Nat) (σ τ : sx_St) (A : a_A) : Prop := ∃ mu2 oc2, (∀ i, i < 6 → mu2 i = mu i) ∧ c_K G mu2 oc2 τ A ∧ oc ≤ oc2 ∧ sx_n σ ≤ sx_n τ ∧ sx_n τ ≤ sx_n σ + 8000 ∧ sx_s τ ≤ sx_s σ + 90000 + 2 * (oc2 - oc)
def c_R (es : List String) (G : sx_G) (mu : Nat → Nat) (oc : Nat) (σ : sx_St) (r : Int32 × a_A) (o : sx_O) (τ : sx_St) : Prop := c_Rv es r o ∧ c_S G mu oc σ τ r.2
def c_X0 (E : String) (σ : sx_St) (o : sx_O) (τ : sx_St) : Prop := ∃ q, o = .inr (E, q) ∧ h_F (fun _ => False) 1 6 σ τ
theorem c_K_0 {c s : Nat} (h : c_K G mu oc σ A) (F : h_F (fun _ => False) c s σ τ) : c_K G mu oc τ A := by
  obtain ⟨sv, nl, h1, h2, h3⟩ := h
  exact ⟨sv, nl, c_X_n (c_X_fr h1 F (fun _ _ z => z) (fun _ _ z => z)) F.1.1 (Nat.le_refl _), c_F_fr h2 F (fun _ _ z => z) F.1.1, c_Fn_fr h3 F (fun _ _ z => z) F.1.1⟩
theorem c_K_t (h : c_K G mu oc σ A) (x : Int32) : c_K G mu oc σ (A_st A x) := h
theorem c_S_0 {c s : Nat} (h : c_K G mu oc σ A) (F : h_F (fun _ => False) c s σ τ) (hc : c ≤ 8000) (hs : s ≤ 90000) : c_S G mu oc σ τ A := ⟨mu, oc, fun _ _ => rfl, c_K_0 h F, Nat.le_refl _, F.1.1, by have := F.1.2; omega, by have := F.2.1; omega⟩
theorem c_S_B {c s : Nat} {B : a_A} (h : c_K G mu oc τ B) (hB : c_B c s σ τ) (hc : c ≤ 8000) (hs : s ≤ 90000) : c_S G mu oc σ τ B := ⟨mu, oc, fun _ _ => rfl, h, Nat.le_refl _, hB.1, by have := hB.2.1; omega, by have := hB.2.2; omega⟩
theorem c_thr {E : String} {es : List String} {k : Nat} {r : Int32 × a_A} (hK : c_K G mu oc σ A) (he : es[k]? = some E) (hr : r = (0, A_st A (nI (k + 1)))) (h : sx_C G d Y av σ (c_X0 E σ)) : sx_C G d Y av σ (c_R es G mu oc σ r) := by
  refine sx_C_Q h ?_
  rintro o τ ⟨q, rfl, F⟩
  subst hr
  exact ⟨Or.inr ⟨k, q, E, he, rfl, rfl⟩, c_S_0 (c_K_t hK _) F (by omega) (by omega)⟩
/-- a method of two guards, of three, of one -/
theorem c_2 {a b : Bool} {x : Int32 × a_A} {E1 E2 : String} (hK : c_K G mu oc σ A) (h1 : a = false → sx_C G d Y av σ (c_X0 E1 σ)) (h2 : a = true → b = false → sx_C G d Y av σ (c_X0 E2 σ)) (h3 : a = true → b = true → sx_C G d Y av σ (c_R [E1, E2] G mu oc σ x)) : sx_C G d Y av σ (c_R [E1, E2] G mu oc σ (g_2 a b A x)) := by
  cases a with
  | false => exact c_thr (k := 0) hK rfl rfl (h1 rfl)
  | true =>
    cases b with
    | false => exact c_thr (k := 1) hK rfl rfl (h2 rfl rfl)
    | true => exact h3 rfl rfl
theorem c_1 {a : Bool} {x : Int32 × a_A} {E1 : String} (hK : c_K G mu oc σ A) (h1 : a = false → sx_C G d Y av σ (c_X0 E1 σ)) (h3 : a = true → sx_C G d Y av σ (c_R [E1] G mu oc σ x)) : sx_C G d Y av σ (c_R [E1] G mu oc σ (g_1 a A x)) := by
  cases a with
  | false => exact c_thr (k := 0) hK rfl rfl (h1 rfl)
  | true => exact h3 rfl
theorem c_3 {a b c : Bool} {x : Int32 × a_A} {E1 E2 E3 : String} (hK : c_K G mu oc σ A) (h1 : a = false → sx_C G d Y av σ (c_X0 E1 σ)) (h2 : a = true → b = false → sx_C G d Y av σ (c_X0 E2 σ)) (h3 : a = true → b = true → c = false → sx_C G d Y av σ (c_X0 E3 σ)) (h4 : a = true → b = true → c = true → sx_C G d Y av σ (c_R [E1, E2, E3] G mu oc σ x)) : sx_C G d Y av σ (c_R [E1, E2, E3] G mu oc σ (g_3 a b c A x)) := by
  cases a with
  | false => exact c_thr (k := 0) hK rfl rfl (h1 rfl)
  | true =>
    cases b with
    | false => exact c_thr (k := 1) hK rfl rfl (h2 rfl rfl)
    | true =>
      cases c with
      | false => exact c_thr (k := 2) hK rfl rfl (h3 rfl rfl rfl)
      | true => exact h4 rfl rfl rfl
theorem sp_noop_2 {s : Int32} : sp_noop A s = g_2 (i_in s (A_v A).2.2.length) (a_can (A_v A) s) A (nI (A_n (s_te (s_be (A_st A 0) s.toNatClampNeg) s.toNatClampNeg true)).length, s_en (s_be (A_st A 0) s.toNatClampNeg) s.toNatClampNeg true) := by
  unfold sp_noop g_2
  cases i_in s (A_v A).2.2.length with
  | false => exact congrArg (fun x => ((0 : Int32), A_st A x)) (show (1 : Int32) = nI 1 by decide +kernel)
  | true =>
    cases a_can (A_v A) s with
    | false => exact congrArg (fun x => ((0 : Int32), A_st A x)) (show (2 : Int32) = nI 2 by decide +kernel)
    | true => exact rfl
theorem sp_idle_2 {s : Int32} : sp_idle A s = g_2 (i_in s (A_v A).2.2.length) (a_can (A_v A) s) A (nI (A_n (s_te (s_id (s_be (A_st A 0) s.toNatClampNeg) s.toNatClampNeg true) s.toNatClampNeg true)).length, s_en (s_id (s_be (A_st A 0) s.toNatClampNeg) s.toNatClampNeg true) s.toNatClampNeg true) := by
  unfold sp_idle g_2
  cases i_in s (A_v A).2.2.length with
  | false => exact congrArg (fun x => ((0 : Int32), A_st A x)) (show (1 : Int32) = nI 1 by decide +kernel)
  | true =>
    cases a_can (A_v A) s with
    | false => exact congrArg (fun x => ((0 : Int32), A_st A x)) (show (2 : Int32) = nI 2 by decide +kernel)
    | true => exact rfl
theorem sp_stop_2 {s : Int32} : sp_stop A s = g_2 (i_in s (A_v A).2.2.length) (a_id (A_v A) s.toNatClampNeg) A (nI (A_n (s_te (s_id (s_be (A_st A 0) s.toNatClampNeg) s.toNatClampNeg false) s.toNatClampNeg true)).length, s_en (s_id (s_be (A_st A 0) s.toNatClampNeg) s.toNatClampNeg false) s.toNatClampNeg true) := by
  unfold sp_stop g_2
  cases i_in s (A_v A).2.2.length with
  | false => exact congrArg (fun x => ((0 : Int32), A_st A x)) (show (1 : Int32) = nI 1 by decide +kernel)
  | true =>
    cases a_id (A_v A) s.toNatClampNeg with
    | false => exact congrArg (fun x => ((0 : Int32), A_st A x)) (show (2 : Int32) = nI 2 by decide +kernel)
    | true => exact rfl
end CJN
