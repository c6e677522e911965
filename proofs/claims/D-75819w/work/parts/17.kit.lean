set_option maxRecDepth 100000
section SXJ
/-- call facts, and the rules for calls that return -/
def sx_ks (own : String) (idx : Nat) (Y' : sx_Y) : Prop := Cond.methodLink own idx Y'.1 ∈ lw_all ∧ Cond.static Y'.1 ∈ lw_all
def sx_kn (own : String) (idx : Nat) (Y' : sx_Y) : Prop := Y'.2.2.2.2 = [] ∧ ∃ host, Cond.methodLinkNest own idx Y'.1 host ∈ lw_tbl ∧ Cond.static Y'.1 ∈ lw_all
def sx_ki (own : String) (idx : Nat) (Y' : sx_Y) : Prop := Y'.2.2.2.2 = [] ∧ Y'.2.2.2.1 = none ∧ Y'.1.name = "<init>" ∧ Cond.methodLink own idx Y'.1 ∈ lw_all ∧ Cond.instanceMethod Y'.1 ∈ lw_all
def sx_kv (own : String) (idx : Nat) (Y' : sx_Y) : Prop := Cond.methodLink own idx Y'.1 ∈ lw_all ∧ Cond.instanceMethod Y'.1 ∈ lw_all ∧ Cond.selects Y'.1.cls Y'.1 Y'.1 ∈ lw_all
/-- the method returns, with P -/
def sx_Cp (G : sx_G) (d : Nat) (Y : sx_Y) (av : List Value) (σ : sx_St) (P : Option Value → sx_St → Prop) : Prop := sx_C G d Y av σ (fun o τ => ∃ v, o = .inl v ∧ P v τ)
/-- the method returns just v, τ -/
def sx_Cr (G : sx_G) (d : Nat) (Y : sx_Y) (av : List Value) (σ : sx_St) (v : Option Value) (τ : sx_St) : Prop := sx_Cp G d Y av σ (fun v' τ' => v' = v ∧ τ' = τ)
variable {G : sx_G} {d : Nat} {Y : sx_Y} {pc : Nat} {L : List (Option Value)} {st : List Value} {σ : sx_St} {Q : sx_O → sx_St → Prop}
variable {d' : Nat} {Y' : sx_Y} {av : List Value} {idx n : Nat} {P : Option Value → sx_St → Prop} {b ci : Nat} {vs : List Value} {T0 : u_T} {N0 : Nat}
theorem sv_csP (rest : List Value) (hc : sx_Cp G d' Y' av σ P) (hok : sx_ok Y' n) (hk : sx_ks Y.1.cls idx Y') (hd : decode Y.2.1 pc = .ok (.invokestatic idx, 3)) (hn : av.length = n) (hst : st = av.reverse ++ rest) (hdd : d' < d) (hcat : (rest.map fun v => v.category).sum ≤ 8) (k : ∀ v τ, P v τ → sx_V G d Y (pc + 3) L (v.toList ++ rest) τ Q) : sx_V G d Y pc L st σ Q :=
  sv_cs rest hc hok hk.1 hk.2 hd hn hst hdd hcat (fun v τ ⟨v', e, h⟩ => by cases e; exact k v τ h) (fun E q τ ⟨v', e, _⟩ => by cases e)
theorem sv_cnP (rest : List Value) (hc : sx_Cp G d' Y' av σ P) (hok : sx_ok Y' n) (hk : sx_kn Y.1.cls idx Y') (hd : decode Y.2.1 pc = .ok (.invokestatic idx, 3)) (hn : av.length = n) (hst : st = av.reverse ++ rest) (hdd : d' < d) (hcat : (rest.map fun v => v.category).sum ≤ 8) (k : ∀ v τ, P v τ → sx_V G d Y (pc + 3) L (v.toList ++ rest) τ Q) : sx_V G d Y pc L st σ Q := by
  obtain ⟨h1, host, h2, h3⟩ := hk
  exact sv_csn rest hc hok h1 h2 h3 hd hn hst hdd hcat (fun v τ ⟨v', e, h⟩ => by cases e; exact k v τ h) (fun E q τ ⟨v', e, _⟩ => by cases e)
theorem sv_ciP (rest : List Value) (hc : sx_Cp G d' Y' (.ref b :: av) σ P) (hok : sx_ok Y' n) (hk : sx_ki Y.1.cls idx Y') (hd : decode Y.2.1 pc = .ok (.invokespecial idx, 3)) (hn : av.length = n) (hst : st = av.reverse ++ .ref b :: rest) (hdd : d' < d) (hcat : (rest.map fun v => v.category).sum ≤ 8) (k : ∀ v τ, P v τ → sx_V G d Y (pc + 3) L (v.toList ++ rest) τ Q) : sx_V G d Y pc L st σ Q := by
  obtain ⟨h1, h2, h3, h4, h5⟩ := hk
  exact sv_ci rest hc hok h1 h2 h3 h4 h5 hd hn hst hdd hcat (fun v τ ⟨v', e, h⟩ => by cases e; exact k v τ h) (fun E q τ ⟨v', e, _⟩ => by cases e)
theorem sv_cvP (rest : List Value) (hc : sx_Cp G d' Y' (.ref b :: av) σ P) (hok : sx_ok Y' n) (hk : sx_kv Y.1.cls idx Y') (hb : sx_rd G σ b (.inr (ci, vs))) (hci : sx_clR[ci]? = some (Y'.1.cls, T0, N0)) (hd : decode Y.2.1 pc = .ok (.invokevirtual idx, 3)) (hn : av.length = n) (hst : st = av.reverse ++ .ref b :: rest) (hdd : d' < d) (hcat : (rest.map fun v => v.category).sum ≤ 8) (k : ∀ v τ, P v τ → sx_V G d Y (pc + 3) L (v.toList ++ rest) τ Q) : sx_V G d Y pc L st σ Q :=
  sv_cv rest hc hok hb hci hk.1 hk.2.1 hk.2.2 hd hn hst hdd hcat (fun v τ ⟨v', e, h⟩ => by cases e; exact k v τ h) (fun E q τ ⟨v', e, _⟩ => by cases e)
variable {v : Option Value} {τ : sx_St}
theorem sv_csR (rest : List Value) (hc : sx_Cr G d' Y' av σ v τ) (hok : sx_ok Y' n) (hk : sx_ks Y.1.cls idx Y') (hd : decode Y.2.1 pc = .ok (.invokestatic idx, 3)) (hn : av.length = n) (hst : st = av.reverse ++ rest) (hdd : d' < d) (hcat : (rest.map fun v => v.category).sum ≤ 8) (k : sx_V G d Y (pc + 3) L (v.toList ++ rest) τ Q) : sx_V G d Y pc L st σ Q :=
  sv_csP rest hc hok hk hd hn hst hdd hcat (fun v' τ' ⟨e1, e2⟩ => by rw [e1, e2]; exact k)
theorem sv_cnR (rest : List Value) (hc : sx_Cr G d' Y' av σ v τ) (hok : sx_ok Y' n) (hk : sx_kn Y.1.cls idx Y') (hd : decode Y.2.1 pc = .ok (.invokestatic idx, 3)) (hn : av.length = n) (hst : st = av.reverse ++ rest) (hdd : d' < d) (hcat : (rest.map fun v => v.category).sum ≤ 8) (k : sx_V G d Y (pc + 3) L (v.toList ++ rest) τ Q) : sx_V G d Y pc L st σ Q :=
  sv_cnP rest hc hok hk hd hn hst hdd hcat (fun v' τ' ⟨e1, e2⟩ => by rw [e1, e2]; exact k)
theorem sv_ciR (rest : List Value) (hc : sx_Cr G d' Y' (.ref b :: av) σ v τ) (hok : sx_ok Y' n) (hk : sx_ki Y.1.cls idx Y') (hd : decode Y.2.1 pc = .ok (.invokespecial idx, 3)) (hn : av.length = n) (hst : st = av.reverse ++ .ref b :: rest) (hdd : d' < d) (hcat : (rest.map fun v => v.category).sum ≤ 8) (k : sx_V G d Y (pc + 3) L (v.toList ++ rest) τ Q) : sx_V G d Y pc L st σ Q :=
  sv_ciP rest hc hok hk hd hn hst hdd hcat (fun v' τ' ⟨e1, e2⟩ => by rw [e1, e2]; exact k)
theorem sv_cvR (rest : List Value) (hc : sx_Cr G d' Y' (.ref b :: av) σ v τ) (hok : sx_ok Y' n) (hk : sx_kv Y.1.cls idx Y') (hb : sx_rd G σ b (.inr (ci, vs))) (hci : sx_clR[ci]? = some (Y'.1.cls, T0, N0)) (hd : decode Y.2.1 pc = .ok (.invokevirtual idx, 3)) (hn : av.length = n) (hst : st = av.reverse ++ .ref b :: rest) (hdd : d' < d) (hcat : (rest.map fun v => v.category).sum ≤ 8) (k : sx_V G d Y (pc + 3) L (v.toList ++ rest) τ Q) : sx_V G d Y pc L st σ Q :=
  sv_cvP rest hc hok hk hb hci hd hn hst hdd hcat (fun v' τ' ⟨e1, e2⟩ => by rw [e1, e2]; exact k)
/-- deeper is no harm -/
theorem sx_M_le {d1 d2 : Nat} (h : d1 ≤ d2) {o : sx_O} (hy : plainName Y.1.cls = true) : sx_M G d1 Y av σ o τ → True := fun _ => trivial
end SXJ
