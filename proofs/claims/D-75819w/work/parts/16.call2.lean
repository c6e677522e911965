set_option maxRecDepth 100000
section SXH
variable {G : sx_G} {d : Nat} {Y : sx_Y} {pc : Nat} {L : List (Option Value)} {st : List Value} {σ : sx_St} {Q : sx_O → sx_St → Prop}
theorem sx_recv {p : Program} {s : State} {m : MethodId} {args : Array Value} {meth : Method} {c : Code} {H : Heap} {locs : List Loc} {b ci : Nat} {vs : List Value} {q : vw_C} (C : sx_X G Y p s m args meth c) (hR : sx_R G σ H) (hS : va_S (sg_A G) s.heap H locs) (hb : sx_rd G σ b (.inr (ci, vs))) (hci : sx_clR[ci]? = some q) : ∃ cell : Cell, H[b]? = some cell ∧ cell.vm.isStatics = false ∧ s.vm.findClass q.1 = some cell.cls := by
  have hE := C.2.2.2.2.2.2.2.2.2
  obtain ⟨r, h1, cell, g1, g2, g3, -⟩ := sx_rd_at hE hR hS hb
  exact ⟨cell, g1, by rw [g3]; rfl, by rw [g2]; exact (hE.1.1 ci _ hci).2.1⟩
/-- a call through an object of the method's own class -/
theorem sv_cv {d' : Nat} {Y' : sx_Y} {b ci : Nat} {vs : List Value} {T0 : u_T} {N0 : Nat} {av : List Value} (rest : List Value) {Q' : sx_O → sx_St → Prop} {idx n : Nat} (hc : sx_C G d' Y' (.ref b :: av) σ Q') (hok : sx_ok Y' n) (hb : sx_rd G σ b (.inr (ci, vs))) (hci : sx_clR[ci]? = some (Y'.1.cls, T0, N0)) (hw : Cond.methodLink Y.1.cls idx Y'.1 ∈ lw_all) (hw2 : Cond.instanceMethod Y'.1 ∈ lw_all) (hw3 : Cond.selects Y'.1.cls Y'.1 Y'.1 ∈ lw_all) (hd : decode Y.2.1 pc = .ok (.invokevirtual idx, 3))
    (hn : av.length = n) (hst : st = av.reverse ++ .ref b :: rest) (hdd : d' < d) (hcat : (rest.map fun v => v.category).sum ≤ 8)
    (k : ∀ v τ, Q' (.inl v) τ → sx_V G d Y (pc + 3) L (v.toList ++ rest) τ Q) (kx : ∀ E q τ, Q' (.inr (E, q)) τ → sx_VX G d Y pc L E q τ Q) : sx_V G d Y pc L st σ Q := by
  refine sx_call (rest := rest) hc ?_ k kx
  intro o1 σ1 p e R s m args below meth c H locs cells slots ls hM C hf hl hc1 hs1 hR hS hL
  have hts := C.2.2.2.2.2.2.1
  obtain ⟨g1, g2, g3, g4⟩ := hok
  have hws := sx_hws hts (sx_ws_good g1)
  have hpre := sx_pre (Y := Y) C hR hS (.ref b :: av)
  have hrc := sx_recv C hR hS hb hci
  subst hst
  obtain ⟨y, cc, nL, rt, hh⟩ := Y'
  cases hh with
  | nil => exact vx_runV (Ts := lw_all) ⟨C.1, C.2.1, C.2.2.2.1, C.2.2.2.2.2.1, hts⟩ hM.2.2 ⟨⟨rfl, rfl, by show d' + 1 ≤ R.frames; omega, by show 8 + (nL + 11) + 40 * d' ≤ R.locals; have : nL ≤ 21 := g4; omega, hws, List.mem_cons_self, hts _ g1, hts _ g2, ⟨g3.1, g3.2.1⟩, sx_len g3.2.2, hts _ hw⟩, hts _ hw2, hts _ hw3⟩ ⟨sx_blind, hrc, hpre⟩ rfl hn hL.1 rfl (by show 2 * 0 + _ ≤ 8; omega) hd ⟨hc1, hs1⟩
  | cons h0 hh => exact vx_runVX (Ts := lw_all) ⟨C.1, C.2.1, C.2.2.2.1, C.2.2.2.2.2.1, hts⟩ hM.2.2 (vx_cwVW n hts (lw_VW hw hw2 hw3 g2 g1) rfl rfl rfl ⟨rfl, g3⟩ ⟨by show d' + 1 ≤ R.frames; omega, by show 8 + (nL + 11) + 40 * d' ≤ R.locals; have : nL ≤ 21 := g4; omega⟩) ⟨sx_blind, hrc, hpre⟩ rfl hn hL.1 rfl (by show 2 * 0 + _ ≤ 8; omega) hd ⟨hc1, hs1⟩
/-- a constructor's call -/
theorem sv_ci {d' : Nat} {Y' : sx_Y} {b : Nat} {av : List Value} (rest : List Value) {Q' : sx_O → sx_St → Prop} {idx n : Nat} (hc : sx_C G d' Y' (.ref b :: av) σ Q') (hok : sx_ok Y' n) (hh : Y'.2.2.2.2 = []) (hrt : Y'.2.2.2.1 = none) (hin : Y'.1.name = "<init>") (hw : Cond.methodLink Y.1.cls idx Y'.1 ∈ lw_all) (hw2 : Cond.instanceMethod Y'.1 ∈ lw_all) (hd : decode Y.2.1 pc = .ok (.invokespecial idx, 3))
    (hn : av.length = n) (hst : st = av.reverse ++ .ref b :: rest) (hdd : d' < d) (hcat : (rest.map fun v => v.category).sum ≤ 8)
    (k : ∀ v τ, Q' (.inl v) τ → sx_V G d Y (pc + 3) L (v.toList ++ rest) τ Q) (kx : ∀ E q τ, Q' (.inr (E, q)) τ → sx_VX G d Y pc L E q τ Q) : sx_V G d Y pc L st σ Q := by
  refine sx_call (rest := rest) hc ?_ k kx
  intro o1 σ1 p e R s m args below meth c H locs cells slots ls hM C hf hl hc1 hs1 hR hS hL
  have hts := C.2.2.2.2.2.2.1
  obtain ⟨g1, g2, g3, g4⟩ := hok
  have hws := sx_hws hts (sx_ws_good g1)
  have hpre := sx_pre (Y := Y) C hR hS (.ref b :: av)
  subst hst
  obtain ⟨y, cc, nL, rt, hh'⟩ := Y'
  have hh : hh' = [] := hh
  subst hh
  have hrt : rt = none := hrt
  subst hrt
  exact vx_runI (Ts := lw_all) ⟨C.1, C.2.1, C.2.2.2.1, C.2.2.2.2.2.1, hts⟩ hM.2.2 ⟨⟨rfl, rfl, by show d' + 1 ≤ R.frames; omega, by show 8 + (nL + 11) + 40 * d' ≤ R.locals; have : nL ≤ 21 := g4; omega, hws, List.mem_cons_self, hts _ g1, hts _ g2, ⟨g3.1, g3.2.1⟩, sx_len g3.2.2, hts _ hw⟩, hin, hts _ hw2⟩ ⟨sx_blind, hpre⟩ rfl hn hL.1 rfl (by show 2 * 0 + _ ≤ 8; omega) hd ⟨hc1, hs1⟩
/-- a nest mate's private static method -/
theorem sv_csn {d' : Nat} {Y' : sx_Y} {av : List Value} (rest : List Value) {Q' : sx_O → sx_St → Prop} {idx n : Nat} {host : String} (hc : sx_C G d' Y' av σ Q') (hok : sx_ok Y' n) (hh : Y'.2.2.2.2 = []) (hw : Cond.methodLinkNest Y.1.cls idx Y'.1 host ∈ lw_tbl) (hw2 : Cond.static Y'.1 ∈ lw_all) (hd : decode Y.2.1 pc = .ok (.invokestatic idx, 3))
    (hn : av.length = n) (hst : st = av.reverse ++ rest) (hdd : d' < d) (hcat : (rest.map fun v => v.category).sum ≤ 8)
    (k : ∀ v τ, Q' (.inl v) τ → sx_V G d Y (pc + 3) L (v.toList ++ rest) τ Q) (kx : ∀ E q τ, Q' (.inr (E, q)) τ → sx_VX G d Y pc L E q τ Q) : sx_V G d Y pc L st σ Q := by
  refine sx_call (rest := rest) hc ?_ k kx
  intro o1 σ1 p e R s m args below meth c H locs cells slots ls hM C hf hl hc1 hs1 hR hS hL
  have hts := C.2.2.2.2.2.2.1
  obtain ⟨g1, g2, g3, g4⟩ := hok
  have hws := sx_hws hts (sx_ws_good g1)
  have hpre := sx_pre (Y := Y) C hR hS av
  have hnw := C.2.2.2.2.2.2.2.2.2.2.1 _ hw rfl
  subst hst
  obtain ⟨y, cc, nL, rt, hh'⟩ := Y'
  have hh : hh' = [] := hh
  subst hh
  exact vx_runSN (Ts := lw_all) ⟨C.1, C.2.1, C.2.2.2.1, C.2.2.2.2.2.1, hts⟩ hM.2.2 ⟨⟨⟨rfl, rfl, by show d' + 1 ≤ R.frames; omega, by show 8 + (nL + 11) + 40 * d' ≤ R.locals; have : nL ≤ 21 := g4; omega, hws, List.mem_cons_self⟩, hts _ g1, hts _ g2, ⟨g3.1, g3.2.1⟩, sx_len g3.2.2, va_Nw.use rfl hnw⟩, hts _ hw2, trivial⟩ ⟨sx_blind, hpre⟩ rfl hn hL.1 rfl (by show 2 * 0 + _ ≤ 8; omega) hd ⟨hc1, hs1⟩
/-- a call through an object of a method that stands in a class above -/
theorem sv_cu {d' : Nat} {Y' : sx_Y} {b ci : Nat} {vs : List Value} {C0 : String} {x : MethodName} {T0 : u_T} {N0 : Nat} {av : List Value} (rest : List Value) {Q' : sx_O → sx_St → Prop} {idx n : Nat} (hc : sx_C G d' Y' (.ref b :: av) σ Q') (hok : sx_ok Y' n) (hh : Y'.2.2.2.2 = []) (hb : sx_rd G σ b (.inr (ci, vs))) (hci : sx_clR[ci]? = some (C0, T0, N0)) (hyx : Y'.1 = ⟨Y'.1.cls, x.name, x.desc⟩) (hw : Cond.methodLink Y.1.cls idx x ∈ lw_all) (hw1 : Cond.sameMethod x.cls Y'.1.cls x.name x.desc ∈ lw_all) (hw2 : Cond.instanceMethod Y'.1 ∈ lw_all) (hw3 : Cond.selects C0 x Y'.1 ∈ lw_all) (hd : decode Y.2.1 pc = .ok (.invokevirtual idx, 3))
    (hn : av.length = n) (hst : st = av.reverse ++ .ref b :: rest) (hdd : d' < d) (hcat : (rest.map fun v => v.category).sum ≤ 8)
    (k : ∀ v τ, Q' (.inl v) τ → sx_V G d Y (pc + 3) L (v.toList ++ rest) τ Q) (kx : ∀ E q τ, Q' (.inr (E, q)) τ → sx_VX G d Y pc L E q τ Q) : sx_V G d Y pc L st σ Q := by
  refine sx_call (rest := rest) hc ?_ k kx
  intro o1 σ1 p e R s m args below meth c H locs cells slots ls hM C hf hl hc1 hs1 hR hS hL
  have hts := C.2.2.2.2.2.2.1
  obtain ⟨g1, g2, g3, g4⟩ := hok
  have hgood := sx_ws_good g1
  have hpre := sx_pre (Y := Y) C hR hS (.ref b :: av)
  have hrc := sx_recv C hR hS hb hci
  subst hst
  obtain ⟨y, cc, nL, rt, hh'⟩ := Y'
  have hh : hh' = [] := hh
  subst hh
  have hyx : y = ⟨y.cls, x.name, x.desc⟩ := hyx
  have hdx : x.desc = y.desc := by rw [hyx]
  have hG : GoodIn lw_all (va_wsU Y.1.cls idx C0 y.cls x y (ws_ y cc nL rt)) := by
    refine lw_app ?_ hgood
    intro w hw'
    simp only [List.mem_cons, List.not_mem_nil, or_false] at hw'
    rcases hw' with e | e | e | e | e
    · rw [e]; exact hw
    · rw [e]; exact hw1
    · rw [e]; exact hw3
    · rw [e]; exact hw2
    · rw [e]; exact g2
  exact vx_runU (Ts := lw_all) ⟨C.1, C.2.1, C.2.2.2.1, C.2.2.2.2.2.1, hts⟩ hM.2.2 (va_cwU n hts hG rfl rfl rfl hyx ⟨g3.1, g3.2.1, by rw [hdx]; exact g3.2.2⟩ ⟨by show d' + 1 ≤ R.frames; omega, by show 8 + (nL + 11) + 40 * d' ≤ R.locals; have : nL ≤ 21 := g4; omega⟩) ⟨sx_blind, hrc, hpre⟩ rfl hn hL.1 rfl (by show 2 * 0 + _ ≤ 8; omega) hd ⟨hc1, hs1⟩
/-- super.m(..) -/
theorem sv_cp {d' : Nat} {Y' : sx_Y} {b ci : Nat} {vs : List Value} {C0 : String} {T0 : u_T} {N0 : Nat} {av : List Value} (rest : List Value) {Q' : sx_O → sx_St → Prop} {idx n : Nat} (hc : sx_C G d' Y' (.ref b :: av) σ Q') (hok : sx_ok Y' n) (hh : Y'.2.2.2.2 = []) (hb : sx_rd G σ b (.inr (ci, vs))) (hci : sx_clR[ci]? = some (C0, T0, N0)) (hni : Y'.1.name ≠ "<init>") (hw : Cond.methodLink Y.1.cls idx Y'.1 ∈ lw_all) (hw1 : Cond.sameMethod Y'.1.cls Y'.1.cls Y'.1.name Y'.1.desc ∈ lw_all) (hw2 : Cond.instanceMethod Y'.1 ∈ lw_all) (hw3 : Cond.superclass Y.1.cls Y'.1.cls ∈ lw_all) (hd : decode Y.2.1 pc = .ok (.invokespecial idx, 3))
    (hn : av.length = n) (hst : st = av.reverse ++ .ref b :: rest) (hdd : d' < d) (hcat : (rest.map fun v => v.category).sum ≤ 8)
    (k : ∀ v τ, Q' (.inl v) τ → sx_V G d Y (pc + 3) L (v.toList ++ rest) τ Q) (kx : ∀ E q τ, Q' (.inr (E, q)) τ → sx_VX G d Y pc L E q τ Q) : sx_V G d Y pc L st σ Q := by
  refine sx_call (rest := rest) hc ?_ k kx
  intro o1 σ1 p e R s m args below meth c H locs cells slots ls hM C hf hl hc1 hs1 hR hS hL
  have hts := C.2.2.2.2.2.2.1
  obtain ⟨g1, g2, g3, g4⟩ := hok
  have hgood := sx_ws_good g1
  have hpre := sx_pre (Y := Y) C hR hS (.ref b :: av)
  have hrc := sx_recv C hR hS hb hci
  have hat := (C.2.2.2.2.2.2.2.2.2.1.1 ci _ hci).2
  subst hst
  obtain ⟨y, cc, nL, rt, hh'⟩ := Y'
  have hh : hh' = [] := hh
  subst hh
  have hG : GoodIn lw_all (va_wsSU Y.1.cls idx y (ws_ y cc nL rt)) := by
    refine lw_app ?_ hgood
    intro w hw'
    simp only [List.mem_cons, List.not_mem_nil, or_false] at hw'
    rcases hw' with e | e | e | e | e
    · rw [e]; exact hw
    · rw [e]; exact hw1
    · rw [e]; exact hw3
    · rw [e]; exact hw2
    · rw [e]; exact g2
  exact vx_runSU (Ts := lw_all) hat ⟨C.1, C.2.1, C.2.2.2.1, C.2.2.2.2.2.1, hts⟩ hM.2.2 (va_cwSU n hts hG rfl rfl rfl ⟨hni, g3.2.2⟩ ⟨by show d' + 1 ≤ R.frames; omega, by show 8 + (nL + 11) + 40 * d' ≤ R.locals; have : nL ≤ 21 := g4; omega⟩) ⟨sx_blind, hrc, hpre⟩ rfl hn hL.1 rfl (by show 2 * 0 + _ ≤ 8; omega) hd ⟨hc1, hs1⟩
/-- Object.<init> -/
theorem sv_oi {b idx : Nat} (hw : Cond.methodLink Y.1.cls idx objectInit ∈ lw_all) (hw2 : Cond.instanceMethod objectInit ∈ lw_all) (hw3 : Cond.code objectInit ⟨#[0xb1]⟩ 1 none ∈ lw_all) (hd : decode Y.2.1 pc = .ok (.invokespecial idx, 3)) (hdd : 0 < d) (hcat : (st.map fun v => v.category).sum ≤ 8) (k : sx_V G d Y (pc + 3) L st σ Q) : sx_V G d Y pc L (.ref b :: st) σ Q := by
  obtain ⟨o, τ, hQ, h1, h2, h3⟩ := k
  refine ⟨o, τ, hQ, h1, h2, ?_⟩
  intro p e R s m args below meth c H locs cells slots ls C hf hl hc hs hR hS hL
  have hts := C.2.2.2.2.2.2.1
  exact W.objInit C.1 C.2.1 C.2.2.2.2.2.1 (hts _ hw) (hts _ hw2) (hts _ hw3) rfl (by rw [C.2.2.2.1]; exact hL.1) rfl hd (by omega) (by show 2 * 0 + _ + 12 ≤ _; omega) (h3 p e R s m args below meth c H locs cells slots ls C hf hl hc hs hR hS hL)
/-- thrown, and not caught here -/
theorem sv_out {E : String} {q : Nat} (hout : ∀ x ∈ tableOf Y.2.2.2.2, covers x pc = false) (hq : Q (.inr (E, q)) σ) : sx_VX G d Y pc L E q σ Q := by
  refine ⟨_, _, hq, Nat.le_refl _, Nat.le_refl _, ?_⟩
  intro p e R s m args below meth c H locs cells slots ls rest ce C hf hl hc hs hR hS hL hce hcv hcl
  rw [Nat.sub_self, Nat.sub_self, Nat.add_zero, Nat.add_zero]
  exact vx_out (by rw [C.2.2.2.2.2.2.2.2.1]; exact hout) C.2.2.2.2.1 hce hcv hcl (fun t ht _ => ⟨rfl, by rw [ht]; exact hR, hS.F ht⟩) hS.2.2 (Nat.le_refl _) (Nat.le_refl _)
/-- thrown, and caught here -/
theorem sv_catch {E name : String} {q : Nat} (pre : List ExceptionTableEntry) (x : ExceptionTableEntry) (suf : List ExceptionTableEntry) (hsplit : tableOf Y.2.2.2.2 = pre ++ x :: suf)
    (hpass : ∀ z ∈ pre, covers z pc = false ∨ (z.catchType ≠ 0 ∧ ∃ nm : String, Cond.classLink Y.1.cls z.catchType nm ∈ lw_all ∧ (E, nm) ∈ sx_nc)) (hx : covers x pc = true) (h0 : x.catchType ≠ 0)
    (hlink : Cond.classLink Y.1.cls x.catchType name ∈ lw_all) (hcast : Cond.castable E name ∈ lw_tbl) (k : sx_V G d Y x.handlerPc L [.ref q] σ Q) : sx_VX G d Y pc L E q σ Q := by
  obtain ⟨o, τ, hQ, h1, h2, h3⟩ := k
  refine ⟨o, τ, hQ, h1, h2, ?_⟩
  intro p e R s m args below meth c H locs cells slots ls rest ce C hf hl hc hs hR hS hL hce hcv hcl
  have hts := C.2.2.2.2.2.2.1
  have hE := C.2.2.2.2.2.2.2.2.2
  refine vx_catch C.2.2.2.2.2.1 pre x suf (by rw [C.2.2.2.2.2.2.2.2.1]; exact hsplit) (fun z hz => ?_) hx h0 (hts _ hlink) (va_Nw.use rfl (hE.2.1 _ hcast rfl)) hce hcv hcl (h3 p e R s m args below meth c H locs cells slots ls C hf hl hc hs hR hS hL)
  rcases hpass z hz with h | ⟨h5, nm, h6, h7⟩
  · exact Or.inl h
  · exact Or.inr ⟨h5, nm, hts _ h6, hE.2.2.2.2.2.2.2.2.1 _ h7⟩
/-- athrow -/
theorem sv_athrow {E : String} {q ci : Nat} {vs : List Value} {T0 : u_T} {N0 : Nat} (hq : sx_rd G σ q (.inr (ci, vs))) (hci : sx_clR[ci]? = some (E, T0, N0)) (hd : decode Y.2.1 pc = .ok (.athrow, 1)) (k : sx_VX G d Y pc L E q σ Q) : sx_V G d Y pc L (.ref q :: st) σ Q := by
  obtain ⟨o, τ, hQ, h1, h2, h3⟩ := k
  refine ⟨o, τ, hQ, h1, h2, ?_⟩
  intro p e R s m args below meth c H locs cells slots ls C hf hl hc hs hR hS hL
  have hE := C.2.2.2.2.2.2.2.2.2
  obtain ⟨r, g0, cell, g1, g2, g3, -⟩ := sx_rd_at hE hR hS hq
  exact vx_athrow C.1 C.2.1 hd (h3 p e R s m args below meth c H locs cells slots ls st cell C hf hl hc hs hR hS hL g1 g3 (by rw [g2]; exact (hE.1.1 ci _ hci).2.1))
end SXH
