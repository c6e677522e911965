set_option maxRecDepth 100000
section CSD
variable {G : sx_G} {σ τ : sx_St} {mu : Nat → Nat} {oc n sv nl : Nat} {A : a_A} {t : List Int32} {k : k_T} {S : p_S} {tt : Nat → Nat} {es9 : List String} {b j z : Nat}
/-- as c_R, for a method that answers a long -/
def c_RL (es : List String) (G : sx_G) (mu : Nat → Nat) (oc : Nat) (σ : sx_St) (r : Int64 × a_A) (o : sx_O) (τ : sx_St) : Prop := ((A_t r.2 = 0 ∧ o = .inl (some (.long r.1))) ∨ ∃ k q E, es[k]? = some E ∧ A_t r.2 = nI (k + 1) ∧ o = .inr (E, q)) ∧ c_S G mu oc σ τ r.2
theorem c_RL_ok {es : List String} {x : Int64 × a_A} {v : Int64} (hv : v = x.1) (ht : A_t x.2 = 0) (hS : c_S G mu oc σ τ x.2) : c_RL es G mu oc σ x (.inl (some (.long v))) τ := ⟨Or.inl ⟨ht, by rw [hv]⟩, hS⟩
theorem k_W_m {B : a_A} (hX : c_X G mu (sx_n σ) oc σ sv nl B) : k_W (fun q => q = mu 0 ∨ q = mu 1 ∨ q = mu 2 ∨ sx_n σ ≤ q) σ := by
  intro q e w hc
  have hl := sx_lt hc
  obtain ⟨x, g, ⟨fd, d1, d2, -⟩, -⟩ := hX.2.1
  have h0 := hX.1
  rcases w with w | w | w | w
  · rw [w, h0] at hc; cases hc; exact ⟨Nat.ne_of_beq_eq_false rfl, Nat.ne_of_beq_eq_false rfl, Nat.le_of_ble_eq_true rfl⟩
  · rw [w, d1] at hc; cases hc; exact ⟨Nat.ne_of_beq_eq_false rfl, Nat.ne_of_beq_eq_false rfl, Nat.le_of_ble_eq_true rfl⟩
  · rw [w, d2] at hc; cases hc; exact ⟨Nat.ne_of_beq_eq_false rfl, Nat.ne_of_beq_eq_false rfl, Nat.le_of_ble_eq_true rfl⟩
  · omega
end CSD
