set_option maxRecDepth 100000
section SXG
variable {G : sx_G} {d : Nat} {Y : sx_Y} {pc : Nat} {L : List (Option Value)} {st : List Value} {σ : sx_St} {Q : sx_O → sx_St → Prop}
/-- behind a call -/
theorem sx_ran {p : Program} {e : Env} {R : Room} {s : State} {m : MethodId} {args : Array Value} {below : List Frame} {meth : Method} {c : Code} {H : Heap} {locs : List Loc} {cells slots mc ms : Nat} {ls : Array Slot} {st0 rest : List Value} {Qf : State → Prop} {o1 : sx_O} {σ1 : sx_St} {av : Array Value}
    (hr : vx_Run p (sg_l G) e R s m args below meth c H locs cells slots mc ms (F0 m pc ls st0) rest (sx_Qc G o1 σ1 av) (sx_XC G o1 σ1) (sg_A G)) (hS : va_S (sg_A G) s.heap H locs)
    (kr : ∀ (v : Option Value) (H1 : Heap) (locs1 : List Loc), o1 = .inl v → sx_R G σ1 H1 → va_S (sg_A G) s.heap H1 locs1 → W p (sg_l G) e R s m args below meth c H1 locs1 (cells + mc) (slots + ms) Qf (F0 m (pc + 3) ls (v.toList ++ rest)))
    (kx : ∀ (E : String) (q : Nat) (ce : Cell) (H1 : Heap) (locs1 : List Loc), o1 = .inr (E, q) → sx_R G σ1 H1 → va_S (sg_A G) s.heap H1 locs1 → H1[q]? = some ce → ce.vm = .none → s.vm.findClass E = some ce.cls → vx_W p (sg_l G) e R s m args below meth c H1 locs1 (cells + mc) (slots + ms) Qf (F0 m pc ls rest) q) :
    W p (sg_l G) e R s m args below meth c H locs cells slots Qf (F0 m pc ls st0) := by
  intro T hT X
  rcases hr T hT X with ⟨v, st₀, t, T', L, h0, X', hL, e1, e2, ⟨v', ho, hv, hR1, hF⟩, go⟩ | ⟨q, st₀, t, T', L, E, ce, h0, X', hL, e1, e2, ⟨ho, hR1, hF⟩, hce, hcv, hcl, go⟩
  · cases hv
    obtain ⟨k1, k2, k3⟩ := vx_keep h0 e1 hS (fun _ _ h => h) (fun _ h => h) hL hF
    obtain ⟨t2, a1, b1⟩ := kr v T'.heap (locs ++ L) ho (by rw [e1]; exact hR1) k3 T' rfl X'
    exact ⟨t2, go t2 a1, b1⟩
  · obtain ⟨k1, k2, k3⟩ := vx_keep h0 e1 hS (fun _ _ h => h) (fun _ h => h) hL hF
    obtain ⟨t2, a1, b1⟩ := kx E q ce T'.heap (locs ++ L) ho (by rw [e1]; exact hR1) k3 (by rw [e1]; exact hce) hcv hcl T' rfl X'
    exact ⟨t2, go.trans a1, b1⟩
/-- any call whose machine side is known -/
theorem sx_call {d' : Nat} {Y' : sx_Y} {av st0 rest : List Value} {Q' : sx_O → sx_St → Prop} (hc : sx_C G d' Y' av σ Q')
    (hrun : ∀ (o1 : sx_O) (σ1 : sx_St) (p : Program) (e : Env) (R : Room) (s : State) (m : MethodId) (args : Array Value) (below : List Frame) (meth : Method) (c : Code) (H : Heap) (locs : List Loc) (cells slots : Nat) (ls : Array Slot),
      sx_M G d' Y' av σ o1 σ1 → sx_X G Y p s m args meth c → d ≤ R.frames → 40 * d ≤ R.locals → cells + (sx_n σ1 - sx_n σ) ≤ R.cells → slots + (sx_s σ1 - sx_s σ) ≤ R.slots → sx_R G σ H → va_S (sg_A G) s.heap H locs → sx_L ls Y.2.2.1 L →
      vx_Run p (sg_l G) e R s m args below meth c H locs cells slots (sx_n σ1 - sx_n σ) (sx_s σ1 - sx_s σ) (F0 m pc ls st0) rest (sx_Qc G o1 σ1 av.toArray) (sx_XC G o1 σ1) (sg_A G))
    (k : ∀ v τ, Q' (.inl v) τ → sx_V G d Y (pc + 3) L (v.toList ++ rest) τ Q) (kx : ∀ E q τ, Q' (.inr (E, q)) τ → sx_VX G d Y pc L E q τ Q) : sx_V G d Y pc L st0 σ Q := by
  obtain ⟨o1, σ1, hQ1, hM⟩ := hc
  obtain ⟨hn1, hs1, -⟩ := id hM
  cases o1 with
  | inl v =>
    obtain ⟨o, τ, hQ, h1, h2, h3⟩ := k v σ1 hQ1
    refine ⟨o, τ, hQ, Nat.le_trans hn1 h1, Nat.le_trans hs1 h2, ?_⟩
    intro p e R s m args below meth c H locs cells slots ls C hf hl hc hs hR hS hL
    refine sx_ran (hrun _ _ p e R s m args below meth c H locs cells slots ls hM C hf hl (by omega) (by omega) hR hS hL) hS ?_ ?_
    · intro v' H1 locs1 hv hR1 hS1
      cases hv
      have h4 := h3 p e R s m args below meth c H1 locs1 (cells + (sx_n σ1 - sx_n σ)) (slots + (sx_s σ1 - sx_s σ)) ls C hf hl (by omega) (by omega) hR1 hS1 hL
      rw [show cells + (sx_n σ1 - sx_n σ) + (sx_n τ - sx_n σ1) = cells + (sx_n τ - sx_n σ) by omega, show slots + (sx_s σ1 - sx_s σ) + (sx_s τ - sx_s σ1) = slots + (sx_s τ - sx_s σ) by omega] at h4
      exact h4
    · intro E q ce H1 locs1 hv
      cases hv
  | inr Eq =>
    obtain ⟨E, q⟩ := Eq
    obtain ⟨o, τ, hQ, h1, h2, h3⟩ := kx E q σ1 hQ1
    refine ⟨o, τ, hQ, Nat.le_trans hn1 h1, Nat.le_trans hs1 h2, ?_⟩
    intro p e R s m args below meth c H locs cells slots ls C hf hl hc hs hR hS hL
    refine sx_ran (hrun _ _ p e R s m args below meth c H locs cells slots ls hM C hf hl (by omega) (by omega) hR hS hL) hS ?_ ?_
    · intro v' H1 locs1 hv
      cases hv
    · intro E' q' ce H1 locs1 hv hR1 hS1 hce hcv hcl
      cases hv
      have h4 := h3 p e R s m args below meth c H1 locs1 (cells + (sx_n σ1 - sx_n σ)) (slots + (sx_s σ1 - sx_s σ)) ls rest ce C hf hl (by omega) (by omega) hR1 hS1 hL hce hcv hcl
      rw [show cells + (sx_n σ1 - sx_n σ) + (sx_n τ - sx_n σ1) = cells + (sx_n τ - sx_n σ) by omega, show slots + (sx_s σ1 - sx_s σ) + (sx_s τ - sx_s σ1) = slots + (sx_s τ - sx_s σ) by omega] at h4
      exact h4
/-- a method's own word in the tables -/
def sx_cw (Y : sx_Y) : Cond := match Y.2.2.2.2 with
  | [] => Cond.code Y.1 Y.2.1 Y.2.2.1 Y.2.2.2.1
  | hh => Cond.codeWith Y.1 Y.2.1 Y.2.2.1 Y.2.2.2.1 hh
theorem sx_ws_eq (Y : sx_Y) : sx_ws Y = sx_cw Y :: lw_all := by
  obtain ⟨y, cc, nL, rt, hh⟩ := Y
  cases hh <;> rfl
theorem sx_ws_good {Y : sx_Y} (h : sx_cw Y ∈ lw_all) : GoodIn lw_all (sx_ws Y) := by
  rw [sx_ws_eq]
  intro w hw
  rcases List.mem_cons.mp hw with e | e
  · rw [e]
    exact lw_self _ h
  · exact lw_self _ e
theorem sx_blind {av : List Value} : FrameBlind (va_Pc av (fun U => sx_E G U U.heap ∧ sx_R G σ U.heap)) := by
  intro a U g mk h
  obtain ⟨h0, h1, h2⟩ := h
  exact ⟨h0, sx_E_moved (U := U) (V := U.calling g mk a) (State.WarmedH.refl U) (fun _ _ => rfl) h1.2.2.2.2.2.2.2.2.2.1 h1, h2⟩
theorem sx_pre {p : Program} {s : State} {m : MethodId} {args : Array Value} {meth : Method} {c : Code} {H : Heap} {locs : List Loc} (C : sx_X G Y p s m args meth c) (hR : sx_R G σ H) (hS : va_S (sg_A G) s.heap H locs) (av : List Value) : ∀ U : State, U.heap = H → s.WarmedH U.vm → va_Pc av (fun U => sx_E G U U.heap ∧ sx_R G σ U.heap) av.toArray U := by
  intro U hU hW
  have hE := C.2.2.2.2.2.2.2.2.2
  refine ⟨rfl, sx_E_moved hW (fun a ha => ?_) ?_ hE, by rw [hU]; exact hR⟩
  · rw [hU]
    have hb := hE.2.2.2.2.2.2.2.2.2.1
    exact hS.2.1 a (Nat.lt_of_lt_of_le (Nat.not_le.mp ha) hb) ha
  · rw [hU]
    exact Nat.le_trans hE.2.2.2.2.2.2.2.2.2.1 hS.1
/-- a method that stands in the tables and is called with n arguments -/
def sx_ok (Y : sx_Y) (n : Nat) : Prop := sx_cw Y ∈ lw_all ∧ Cond.initialized Y.1.cls ∈ lw_all ∧ (Y.1.cls ≠ "java/lang/invoke/MethodHandle" ∧ Y.1.cls ≠ "java/lang/invoke/VarHandle" ∧ (parseMethodDescriptor Y.1.desc).map (fun d => d.parameters.length) = some n) ∧ Y.2.2.1 ≤ 21
theorem sx_hws {s : State} {args : Array Value} {ws : List Cond} (hts : ∀ w ∈ lw_all, w.before args s = true) (hg : GoodIn lw_all ws) : ∀ w ∈ ws, ∀ (a' : Array Value) (U : State), s.WarmedH U.vm → w.before a' U = true := fun w hw a' U hW => word_at hW (hg w hw).2 (hts _ (hg w hw).1)
theorem sx_len {y : MethodName} {n : Nat} (h : (parseMethodDescriptor y.desc).map (fun d => d.parameters.length) = some n) : ∀ sig, parseMethodDescriptor y.desc = some sig → n = sig.parameters.length := by
  intro sig hs
  rw [hs] at h
  exact (Option.some.inj h).symm
/-- static call -/
theorem sv_cs {d' : Nat} {Y' : sx_Y} {av : List Value} (rest : List Value) {Q' : sx_O → sx_St → Prop} {idx n : Nat} (hc : sx_C G d' Y' av σ Q') (hok : sx_ok Y' n) (hw : Cond.methodLink Y.1.cls idx Y'.1 ∈ lw_all) (hw2 : Cond.static Y'.1 ∈ lw_all) (hd : decode Y.2.1 pc = .ok (.invokestatic idx, 3))
    (hn : av.length = n) (hst : st = av.reverse ++ rest) (hdd : d' < d) (hcat : (rest.map fun v => v.category).sum ≤ 8)
    (k : ∀ v τ, Q' (.inl v) τ → sx_V G d Y (pc + 3) L (v.toList ++ rest) τ Q) (kx : ∀ E q τ, Q' (.inr (E, q)) τ → sx_VX G d Y pc L E q τ Q) : sx_V G d Y pc L st σ Q := by
  refine sx_call (rest := rest) hc ?_ k kx
  intro o1 σ1 p e R s m args below meth c H locs cells slots ls hM C hf hl hc1 hs1 hR hS hL
  have hts := C.2.2.2.2.2.2.1
  obtain ⟨g1, g2, g3, g4⟩ := hok
  have hws := sx_hws hts (sx_ws_good g1)
  have hpre := sx_pre (Y := Y) C hR hS av
  subst hst
  obtain ⟨y, cc, nL, rt, hh⟩ := Y'
  cases hh with
  | nil => exact vx_runS (Ts := lw_all) ⟨C.1, C.2.1, C.2.2.2.1, C.2.2.2.2.2.1, hts⟩ hM.2.2 ⟨⟨rfl, rfl, by show d' + 1 ≤ R.frames; omega, by show 8 + (nL + 11) + 40 * d' ≤ R.locals; have : nL ≤ 21 := g4; omega, hws, List.mem_cons_self, hts _ g1, hts _ g2, ⟨g3.1, g3.2.1⟩, sx_len g3.2.2, hts _ hw⟩, hts _ hw2⟩ ⟨sx_blind, hpre⟩ rfl hn hL.1 rfl (by show 2 * 0 + _ ≤ 8; omega) hd ⟨hc1, hs1⟩
  | cons h0 hh => exact vx_runSX (Ts := lw_all) ⟨C.1, C.2.1, C.2.2.2.1, C.2.2.2.2.2.1, hts⟩ hM.2.2 (vx_cwSW n hts (lw_SW hw hw2 g2 g1) rfl rfl rfl g3 ⟨by show d' + 1 ≤ R.frames; omega, by show 8 + (nL + 11) + 40 * d' ≤ R.locals; have : nL ≤ 21 := g4; omega⟩) ⟨sx_blind, hpre⟩ rfl hn hL.1 rfl (by show 2 * 0 + _ ≤ 8; omega) hd ⟨hc1, hs1⟩
end SXG
