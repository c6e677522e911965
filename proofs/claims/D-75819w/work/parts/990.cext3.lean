set_option maxRecDepth 100000
section SXO
variable {G : sx_G} {d : Nat} {Y : sx_Y} {pc : Nat} {L : List (Option Value)} {st : List Value} {σ : sx_St} {Q : sx_O → sx_St → Prop}
/-- a call through an object of a method that overrides the one that is named -/
theorem sv_co {d' : Nat} {Y' : sx_Y} {b ci : Nat} {vs : List Value} {C0 : String} {x : MethodName} {T0 : u_T} {N0 : Nat} {av : List Value} (rest : List Value) {Q' : sx_O → sx_St → Prop} {idx n : Nat} (hc : sx_C G d' Y' (.ref b :: av) σ Q') (hok : sx_ok Y' n) (hh : Y'.2.2.2.2 = []) (hb : sx_rd G σ b (.inr (ci, vs))) (hci : sx_clR[ci]? = some (C0, T0, N0)) {b0 : ByteArray} {m0 : Nat} {r0 : Option FieldType} (h0 : Cond.code x b0 m0 r0 ∈ lw_all) (hx : x.cls ≠ "java/lang/invoke/MethodHandle" ∧ x.cls ≠ "java/lang/invoke/VarHandle") (hdx : x.desc = Y'.1.desc) (hw : Cond.methodLink Y.1.cls idx x ∈ lw_all) (hw1 : Cond.sameMethod x.cls x.cls x.name x.desc ∈ lw_all) (hw4 : Cond.instanceMethod x ∈ lw_all) (hw2 : Cond.instanceMethod Y'.1 ∈ lw_all) (hw3 : Cond.selects C0 x Y'.1 ∈ lw_all) (hd : decode Y.2.1 pc = .ok (.invokevirtual idx, 3))
    (hn : av.length = n) (hst : st = av.reverse ++ .ref b :: rest) (hdd : d' < d) (hcat : (rest.map fun v => v.category).sum ≤ 8)
    (k : ∀ v τ, Q' (.inl v) τ → sx_V G d Y (pc + 3) L (v.toList ++ rest) τ Q) (kx : ∀ E q τ, Q' (.inr (E, q)) τ → sx_VX G d Y pc L E q τ Q) : sx_V G d Y pc L st σ Q := by
  refine sx_call (rest := rest) hc ?_ k kx
  intro o1 σ1 p e R s m args below meth c H locs cells slots ls hM C hf hl hc1 hs1 hR hS hL
  have hts := C.2.2.2.2.2.2.1
  obtain ⟨g1, g2, g3, g4⟩ := hok
  have hgood := sx_ws_good g1
  have hpre := sx_pre (Y := Y) C hR hS (.ref b :: av)
  have hrc := sx_recv C hR hS hb hci
  subst hst
  obtain ⟨y, cc, nL, rt, hh'⟩ := Y'
  have hh : hh' = [] := hh
  subst hh
  have hG : GoodIn lw_all (va_wsO Y.1.cls idx C0 x.cls x y (ws_ y cc nL rt)) := by
    refine lw_app ?_ hgood
    intro w hw'
    simp only [List.mem_cons, List.not_mem_nil, or_false] at hw'
    rcases hw' with e | e | e | e | e | e
    · rw [e]; exact hw
    · rw [e]; exact hw1
    · rw [e]; exact hw4
    · rw [e]; exact hw3
    · rw [e]; exact hw2
    · rw [e]; exact g2
  have hdx : x.desc = y.desc := hdx
  exact vx_runU (Ts := lw_all) ⟨C.1, C.2.1, C.2.2.2.1, C.2.2.2.2.2.1, hts⟩ hM.2.2 (va_cwO n hts hG rfl rfl rfl (b0 := b0) (m0 := m0) (r0 := r0) h0 ⟨hx.1, hx.2, by rw [hdx]; exact g3.2.2⟩ ⟨by show d' + 1 ≤ R.frames; omega, by show 8 + (nL + 11) + 40 * d' ≤ R.locals; have : nL ≤ 21 := g4; omega⟩) ⟨sx_blind, hrc, hpre⟩ rfl hn hL.1 rfl (by show 2 * 0 + _ ≤ 8; omega) hd ⟨hc1, hs1⟩
variable {d' : Nat} {Y' : sx_Y} {b ci : Nat} {vs : List Value} {C0 : String} {T0 : u_T} {N0 : Nat} {av : List Value} {idx n : Nat} {P : Option Value → sx_St → Prop}
theorem sv_cpP (rest : List Value) (hc : sx_Cp G d' Y' (.ref b :: av) σ P) (hok : sx_ok Y' n) (hh : Y'.2.2.2.2 = []) (hb : sx_rd G σ b (.inr (ci, vs))) (hci : sx_clR[ci]? = some (C0, T0, N0)) (hni : Y'.1.name ≠ "<init>") (hw : Cond.methodLink Y.1.cls idx Y'.1 ∈ lw_all) (hw1 : Cond.sameMethod Y'.1.cls Y'.1.cls Y'.1.name Y'.1.desc ∈ lw_all) (hw2 : Cond.instanceMethod Y'.1 ∈ lw_all) (hw3 : Cond.superclass Y.1.cls Y'.1.cls ∈ lw_all) (hd : decode Y.2.1 pc = .ok (.invokespecial idx, 3))
    (hn : av.length = n) (hst : st = av.reverse ++ .ref b :: rest) (hdd : d' < d) (hcat : (rest.map fun v => v.category).sum ≤ 8) (k : ∀ v τ, P v τ → sx_V G d Y (pc + 3) L (v.toList ++ rest) τ Q) : sx_V G d Y pc L st σ Q :=
  sv_cp rest hc hok hh hb hci hni hw hw1 hw2 hw3 hd hn hst hdd hcat (fun v τ ⟨v', e, h⟩ => by cases e; exact k v τ h) (fun E q τ ⟨v', e, _⟩ => by cases e)
theorem sv_cvpP {x0 y0 : MethodName} (rest : List Value) (hc : sx_Cp G d' Y' (.ref b :: av) σ P) (hok : sx_ok Y' n) (hh : Y'.2.2.2.2 = []) (hb : sx_rd G σ b (.inr (ci, vs))) (hci : sx_clR[ci]? = some (C0, T0, N0)) (hw : Cond.methodLink Y.1.cls idx Y'.1 ∈ lw_all) (hw2 : Cond.instanceMethod Y'.1 ∈ lw_all) (hw3 : Cond.selects C0 x0 y0 ∈ lw_all) (hy0 : y0.cls = Y'.1.cls) (hpv : Cond.privateMethod Y'.1 ∈ lw_tbl) (hd : decode Y.2.1 pc = .ok (.invokevirtual idx, 3))
    (hn : av.length = n) (hst : st = av.reverse ++ .ref b :: rest) (hdd : d' < d) (hcat : (rest.map fun v => v.category).sum ≤ 8) (k : ∀ v τ, P v τ → sx_V G d Y (pc + 3) L (v.toList ++ rest) τ Q) : sx_V G d Y pc L st σ Q :=
  sv_cvp rest hc hok hh hb hci hw hw2 hw3 hy0 hpv hd hn hst hdd hcat (fun v τ ⟨v', e, h⟩ => by cases e; exact k v τ h) (fun E q τ ⟨v', e, _⟩ => by cases e)
theorem sv_cuP {x : MethodName} (rest : List Value) (hc : sx_Cp G d' Y' (.ref b :: av) σ P) (hok : sx_ok Y' n) (hh : Y'.2.2.2.2 = []) (hb : sx_rd G σ b (.inr (ci, vs))) (hci : sx_clR[ci]? = some (C0, T0, N0)) (hyx : Y'.1 = ⟨Y'.1.cls, x.name, x.desc⟩) (hw : Cond.methodLink Y.1.cls idx x ∈ lw_all) (hw1 : Cond.sameMethod x.cls Y'.1.cls x.name x.desc ∈ lw_all) (hw2 : Cond.instanceMethod Y'.1 ∈ lw_all) (hw3 : Cond.selects C0 x Y'.1 ∈ lw_all) (hd : decode Y.2.1 pc = .ok (.invokevirtual idx, 3))
    (hn : av.length = n) (hst : st = av.reverse ++ .ref b :: rest) (hdd : d' < d) (hcat : (rest.map fun v => v.category).sum ≤ 8) (k : ∀ v τ, P v τ → sx_V G d Y (pc + 3) L (v.toList ++ rest) τ Q) : sx_V G d Y pc L st σ Q :=
  sv_cu rest hc hok hh hb hci hyx hw hw1 hw2 hw3 hd hn hst hdd hcat (fun v τ ⟨v', e, h⟩ => by cases e; exact k v τ h) (fun E q τ ⟨v', e, _⟩ => by cases e)
theorem sv_coP {x : MethodName} (rest : List Value) (hc : sx_Cp G d' Y' (.ref b :: av) σ P) (hok : sx_ok Y' n) (hh : Y'.2.2.2.2 = []) (hb : sx_rd G σ b (.inr (ci, vs))) (hci : sx_clR[ci]? = some (C0, T0, N0)) {b0 : ByteArray} {m0 : Nat} {r0 : Option FieldType} (h0 : Cond.code x b0 m0 r0 ∈ lw_all) (hx : x.cls ≠ "java/lang/invoke/MethodHandle" ∧ x.cls ≠ "java/lang/invoke/VarHandle") (hdx : x.desc = Y'.1.desc) (hw : Cond.methodLink Y.1.cls idx x ∈ lw_all) (hw1 : Cond.sameMethod x.cls x.cls x.name x.desc ∈ lw_all) (hw4 : Cond.instanceMethod x ∈ lw_all) (hw2 : Cond.instanceMethod Y'.1 ∈ lw_all) (hw3 : Cond.selects C0 x Y'.1 ∈ lw_all) (hd : decode Y.2.1 pc = .ok (.invokevirtual idx, 3))
    (hn : av.length = n) (hst : st = av.reverse ++ .ref b :: rest) (hdd : d' < d) (hcat : (rest.map fun v => v.category).sum ≤ 8) (k : ∀ v τ, P v τ → sx_V G d Y (pc + 3) L (v.toList ++ rest) τ Q) : sx_V G d Y pc L st σ Q :=
  sv_co rest hc hok hh hb hci h0 hx hdx hw hw1 hw4 hw2 hw3 hd hn hst hdd hcat (fun v τ ⟨v', e, h⟩ => by cases e; exact k v τ h) (fun E q τ ⟨v', e, _⟩ => by cases e)
variable {v : Option Value} {τ : sx_St}
theorem sv_cpR (rest : List Value) (hc : sx_Cr G d' Y' (.ref b :: av) σ v τ) (hok : sx_ok Y' n) (hh : Y'.2.2.2.2 = []) (hb : sx_rd G σ b (.inr (ci, vs))) (hci : sx_clR[ci]? = some (C0, T0, N0)) (hni : Y'.1.name ≠ "<init>") (hw : Cond.methodLink Y.1.cls idx Y'.1 ∈ lw_all) (hw1 : Cond.sameMethod Y'.1.cls Y'.1.cls Y'.1.name Y'.1.desc ∈ lw_all) (hw2 : Cond.instanceMethod Y'.1 ∈ lw_all) (hw3 : Cond.superclass Y.1.cls Y'.1.cls ∈ lw_all) (hd : decode Y.2.1 pc = .ok (.invokespecial idx, 3))
    (hn : av.length = n) (hst : st = av.reverse ++ .ref b :: rest) (hdd : d' < d) (hcat : (rest.map fun v => v.category).sum ≤ 8) (k : sx_V G d Y (pc + 3) L (v.toList ++ rest) τ Q) : sx_V G d Y pc L st σ Q :=
  sv_cpP rest hc hok hh hb hci hni hw hw1 hw2 hw3 hd hn hst hdd hcat (fun v' τ' ⟨e1, e2⟩ => by rw [e1, e2]; exact k)
theorem sv_cvpR {x0 y0 : MethodName} (rest : List Value) (hc : sx_Cr G d' Y' (.ref b :: av) σ v τ) (hok : sx_ok Y' n) (hh : Y'.2.2.2.2 = []) (hb : sx_rd G σ b (.inr (ci, vs))) (hci : sx_clR[ci]? = some (C0, T0, N0)) (hw : Cond.methodLink Y.1.cls idx Y'.1 ∈ lw_all) (hw2 : Cond.instanceMethod Y'.1 ∈ lw_all) (hw3 : Cond.selects C0 x0 y0 ∈ lw_all) (hy0 : y0.cls = Y'.1.cls) (hpv : Cond.privateMethod Y'.1 ∈ lw_tbl) (hd : decode Y.2.1 pc = .ok (.invokevirtual idx, 3))
    (hn : av.length = n) (hst : st = av.reverse ++ .ref b :: rest) (hdd : d' < d) (hcat : (rest.map fun v => v.category).sum ≤ 8) (k : sx_V G d Y (pc + 3) L (v.toList ++ rest) τ Q) : sx_V G d Y pc L st σ Q :=
  sv_cvpP rest hc hok hh hb hci hw hw2 hw3 hy0 hpv hd hn hst hdd hcat (fun v' τ' ⟨e1, e2⟩ => by rw [e1, e2]; exact k)
theorem sv_cuR {x : MethodName} (rest : List Value) (hc : sx_Cr G d' Y' (.ref b :: av) σ v τ) (hok : sx_ok Y' n) (hh : Y'.2.2.2.2 = []) (hb : sx_rd G σ b (.inr (ci, vs))) (hci : sx_clR[ci]? = some (C0, T0, N0)) (hyx : Y'.1 = ⟨Y'.1.cls, x.name, x.desc⟩) (hw : Cond.methodLink Y.1.cls idx x ∈ lw_all) (hw1 : Cond.sameMethod x.cls Y'.1.cls x.name x.desc ∈ lw_all) (hw2 : Cond.instanceMethod Y'.1 ∈ lw_all) (hw3 : Cond.selects C0 x Y'.1 ∈ lw_all) (hd : decode Y.2.1 pc = .ok (.invokevirtual idx, 3))
    (hn : av.length = n) (hst : st = av.reverse ++ .ref b :: rest) (hdd : d' < d) (hcat : (rest.map fun v => v.category).sum ≤ 8) (k : sx_V G d Y (pc + 3) L (v.toList ++ rest) τ Q) : sx_V G d Y pc L st σ Q :=
  sv_cuP rest hc hok hh hb hci hyx hw hw1 hw2 hw3 hd hn hst hdd hcat (fun v' τ' ⟨e1, e2⟩ => by rw [e1, e2]; exact k)
theorem sv_coR {x : MethodName} (rest : List Value) (hc : sx_Cr G d' Y' (.ref b :: av) σ v τ) (hok : sx_ok Y' n) (hh : Y'.2.2.2.2 = []) (hb : sx_rd G σ b (.inr (ci, vs))) (hci : sx_clR[ci]? = some (C0, T0, N0)) {b0 : ByteArray} {m0 : Nat} {r0 : Option FieldType} (h0 : Cond.code x b0 m0 r0 ∈ lw_all) (hx : x.cls ≠ "java/lang/invoke/MethodHandle" ∧ x.cls ≠ "java/lang/invoke/VarHandle") (hdx : x.desc = Y'.1.desc) (hw : Cond.methodLink Y.1.cls idx x ∈ lw_all) (hw1 : Cond.sameMethod x.cls x.cls x.name x.desc ∈ lw_all) (hw4 : Cond.instanceMethod x ∈ lw_all) (hw2 : Cond.instanceMethod Y'.1 ∈ lw_all) (hw3 : Cond.selects C0 x Y'.1 ∈ lw_all) (hd : decode Y.2.1 pc = .ok (.invokevirtual idx, 3))
    (hn : av.length = n) (hst : st = av.reverse ++ .ref b :: rest) (hdd : d' < d) (hcat : (rest.map fun v => v.category).sum ≤ 8) (k : sx_V G d Y (pc + 3) L (v.toList ++ rest) τ Q) : sx_V G d Y pc L st σ Q :=
  sv_coP rest hc hok hh hb hci h0 hx hdx hw hw1 hw4 hw2 hw3 hd hn hst hdd hcat (fun v' τ' ⟨e1, e2⟩ => by rw [e1, e2]; exact k)
end SXO
