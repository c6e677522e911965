set_option maxRecDepth 100000
section SXM
variable {G : sx_G} {d : Nat} {Y : sx_Y} {pc : Nat} {L : List (Option Value)} {st : List Value} {σ : sx_St} {Q : sx_O → sx_St → Prop}
/-- a private method of a class above, called through an object of the class C0 -/
theorem sv_cvp {d' : Nat} {Y' : sx_Y} {b ci : Nat} {vs : List Value} {C0 : String} {x0 y0 : MethodName} {T0 : u_T} {N0 : Nat} {av : List Value} (rest : List Value) {Q' : sx_O → sx_St → Prop} {idx n : Nat} (hc : sx_C G d' Y' (.ref b :: av) σ Q') (hok : sx_ok Y' n) (hh : Y'.2.2.2.2 = []) (hb : sx_rd G σ b (.inr (ci, vs))) (hci : sx_clR[ci]? = some (C0, T0, N0)) (hw : Cond.methodLink Y.1.cls idx Y'.1 ∈ lw_all) (hw2 : Cond.instanceMethod Y'.1 ∈ lw_all) (hw3 : Cond.selects C0 x0 y0 ∈ lw_all) (hy0 : y0.cls = Y'.1.cls) (hpv : Cond.privateMethod Y'.1 ∈ lw_tbl) (hd : decode Y.2.1 pc = .ok (.invokevirtual idx, 3))
    (hn : av.length = n) (hst : st = av.reverse ++ .ref b :: rest) (hdd : d' < d) (hcat : (rest.map fun v => v.category).sum ≤ 8)
    (k : ∀ v τ, Q' (.inl v) τ → sx_V G d Y (pc + 3) L (v.toList ++ rest) τ Q) (kx : ∀ E q τ, Q' (.inr (E, q)) τ → sx_VX G d Y pc L E q τ Q) : sx_V G d Y pc L st σ Q := by
  refine sx_call (rest := rest) hc ?_ k kx
  intro o1 σ1 p e R s m args below meth c H locs cells slots ls hM C hf hl hc1 hs1 hR hS hL
  have hts := C.2.2.2.2.2.2.1
  have hE := C.2.2.2.2.2.2.2.2.2
  obtain ⟨g1, g2, g3, g4⟩ := hok
  have hws := sx_hws hts (sx_ws_good g1)
  have hpre := sx_pre (Y := Y) C hR hS (.ref b :: av)
  have hrc := sx_recv C hR hS hb hci
  subst hst
  obtain ⟨y, cc, nL, rt, hh'⟩ := Y'
  have hh : hh' = [] := hh
  subst hh
  have hsel : (Cond.selects C0 y y).before args s = true := by
    obtain ⟨c1, r1, m1, q1, -, q3, -, mk1, hk1, hi1⟩ := Cond.selects_spec (hts _ hw3)
    obtain ⟨mk2, methM, hnamed, hmethM, -, -⟩ := Cond.instanceMethod_spec (hts _ hw2)
    have hfound : s.methodFound? y.cls y.name y.desc = some mk2 := State.methodFound?_of_named hnamed ⟨g3.1, g3.2.1⟩
    have hcls : m1.cls = mk2.cls := by
      have h1 := findClass_of_methodNamed q3
      have h2 := findClass_of_methodNamed hnamed
      rw [hy0] at h1
      exact Option.some.inj (h1.symm.trans h2)
    have hp : (Cond.privateMethod y).before args s = true := va_Nw.use rfl (hE.2.1 _ hpv rfl)
    have hsel : selectMethod {} s.vm c1 mk2 = .method mk2 := selectMethod_private hmethM (Cond.privateMethod_at hp mk2 methM hnamed hmethM)
    rw [hcls] at hk1
    simp only [Cond.before, Cond.holds, Cond.value, q1, hfound, hnamed, hsel, hk1]
    simp
    exact hi1
  exact vx_runV (Ts := lw_all) ⟨C.1, C.2.1, C.2.2.2.1, C.2.2.2.2.2.1, hts⟩ hM.2.2 ⟨⟨rfl, rfl, by show d' + 1 ≤ R.frames; omega, by show 8 + (nL + 11) + 40 * d' ≤ R.locals; have : nL ≤ 21 := g4; omega, hws, List.mem_cons_self, hts _ g1, hts _ g2, ⟨g3.1, g3.2.1⟩, sx_len g3.2.2, hts _ hw⟩, hts _ hw2, hsel⟩ ⟨sx_blind, hrc, hpre⟩ rfl hn hL.1 rfl (by show 2 * 0 + _ ≤ 8; omega) hd ⟨hc1, hs1⟩
/-- new X() of an exception: made, and its constructor run -/
theorem sv_make0 {ik ic ci : Nat} {cls : String} {names : List String} {T0 : u_T} (hci : sx_clR[ci]? = some (cls, T0, 0)) (hcls : Bundle.fit cls = true) (hnames : ∀ n ∈ names, Bundle.fit n = true)
    (hk : Cond.classLink Y.1.cls ik cls ∈ lw_all) (hini : Cond.initialized cls ∈ lw_all) (hat : ∀ (s : State) (args : Array Value), (∀ w ∈ lw_all, w.before args s = true) → (∀ w ∈ lw_tbl, sx_nw w = true → va_Nw w s) → ∀ w ∈ vx_at0 Y.1.cls ic cls names, w.before args s = true)
    (hgood : ∀ w ∈ Cond.classLink Y.1.cls ik cls :: Cond.initialized cls :: vx_at0 Y.1.cls ic cls names, vx_ot w = true)
    (d0 : decode Y.2.1 pc = .ok (.new ik, 3)) (d3 : decode Y.2.1 (pc + 3) = .ok (.dup, 1)) (d4 : decode Y.2.1 (pc + 4) = .ok (.invokespecial ic, 3)) (hdd : names.length + 3 < d) (hcat : (st.map fun v => v.category).sum ≤ 8)
    (k : sx_V G d Y (pc + 7) L (.ref (sx_n σ) :: st) (sx_al σ (.inr (ci, [])) 6) Q) : sx_V G d Y pc L st σ Q := by
  refine sx_nw1' k (fun p e R s m args below meth c H locs cells slots ls Qf C hR hL hS hl hf2 hcells hslots hsz kk2 => ?_)
  have hE := C.2.2.2.2.2.2.2.2.2
  have hts := C.2.2.2.2.2.2.1
  have hexec := C.1
  have hb := C.2.1
  have hown := C.2.2.2.2.2.1
  intro T hT X
  subst hT
  have htr : e.platform.stackTraces = false := (show e.platform.stackTraces = (sg_l G).stackTraces by rw [X.admits.platform]).trans (by unfold Launch.stackTraces; rw [hE.2.2.2.2.2.2.2.2.2.2.1]; decide)
  have Y9 := vx_rebase X (R' := { frames := R.frames, locals := R.locals, cells := 1, slots := 6 }) (Nat.le_refl _) (Nat.le_refl _) hcells hslots
  obtain ⟨s', hA'⟩ : ∃ z, z = (T.setVm s.vm).setFrames (.invoking m args :: below) := ⟨_, rfl⟩
  rw [← hA'] at Y9
  have hvm : s'.vm = s.vm := by rw [hA']; rfl
  have hhp : s'.heap = T.heap := by rw [hA']; rfl
  have hW0 : s.WarmedH s'.vm := by rw [hvm]; exact State.WarmedH.refl s
  have hat' : ∀ w ∈ vx_at0 Y.1.cls ic cls names, w.before args s' = true := fun w hw => vx_ot_at hW0 hvm.symm (hgood w (List.mem_cons_of_mem _ (List.mem_cons_of_mem _ hw))) (hat s args hts hE.2.1 w hw)
  have hk' : (Cond.classLink Y.1.cls ik cls).before args s' = true := vx_ot_at hW0 hvm.symm (hgood _ List.mem_cons_self) (hts _ hk)
  have hini' : (Cond.initialized cls).before args s' = true := vx_ot_at hW0 hvm.symm (hgood _ (List.mem_cons_of_mem _ List.mem_cons_self)) (hts _ hini)
  have hU' : vx_Zq Bundle.tN "UNASSIGNED_STACK" Bundle.steD (sg_A G) s' s'.heap := by rw [hhp]; exact vx_Zq.moved hW0.alike (hE.2.2.2.2.2.2.2.2.2.2.2.2.2.1.kept hS.2.1)
  have hN' : vx_Zq Bundle.tN "SUPPRESSED_SENTINEL" Bundle.listD (sg_A G) s' s'.heap := by rw [hhp]; exact vx_Zq.moved hW0.alike (hE.2.2.2.2.2.2.2.2.2.2.2.2.2.2.kept hS.2.1)
  have h : ∀ w ∈ Bundle.ownAtoms0 Y.1.cls ic cls names, w.before args s' = true := vx_own hat' (vx_isRefq hU'.1) (vx_isRefq hN'.1) hU'.2.word hN'.2.word
  have hown' : s'.vm.findClass Y.1.cls = some m.cls := by rw [hvm]; exact hown
  have hins : (Cond.instantiable cls 6).before args s' = true := h _ (by simp [Bundle.ownAtoms0])
  obtain ⟨vm₁, cX, kX, hfX, hkX, -, -, X₁, st1⟩ := Y9.newCold hexec (own := Y.1.cls) (C := cls) (index := ik) (n := 6) hown' hk' hins hini'
    (g := F0 m pc ls st) rfl (by rw [hb]; exact d0) (Nat.le_refl _) (Nat.le_refl _)
  generalize hT1 : (T.setVm vm₁).pushCell { cls := cX, slots := kX.instanceTypes.map defaultValue, vm := .none } = T1 at X₁ st1
  have hcat1 : (Value.ref T.heap.size).category = 1 := rfl
  have hcellA : T1.heap[T.heap.size]? = some (freshCell cX kX) := by rw [← hT1]; exact State.heap_pushCell_size _ _
  have d3' : decode c.code (pc + 3) = .ok (.dup, 1) := by rw [hb]; exact d3
  obtain ⟨V, ce, L9, Z, hL9, hlt, hcl9, hvm9, st9⟩ := vx_ctorMade0 X₁ hexec htr (own := Y.1.cls) (cls := cls) (names := names) (ic := ic) hown' hcls hnames h (fun x hx => nomatch hx) hfX hkX hcellA (by rw [hhp]; exact Nat.le_refl _)
    (g := { method := m, pc := pc + 4, locals := ls, stack := .ref T.heap.size :: .ref T.heap.size :: st, locked := none }) rfl (by rw [C.2.2.2.1]; exact hL.1) (rest := st) rfl
    (by rw [hb]; exact d4) (by show names.length + 3 < R.frames; omega) (by simp only [List.map_cons, List.sum_cons, hcat1]; show 2 * 0 + (1 + _) + _ ≤ R.locals; omega)
  have Z0 := Stand.forget (locs := []) Z (fun y hy => by rw [hL9 y hy, hhp]; exact Nat.le_refl _)
  obtain ⟨f1, f2⟩ := vx_frame Z0.same
  rw [hhp] at f1 f2
  have f3 : (V.setCell T.heap.size ce).heap.size ≤ T.heap.size + 1 := by
    have h9 := Z0.same.2.2.1
    have h10 : (V.setCell T.heap.size ce).heap.size ≤ s'.heap.size + 1 := h9
    rw [hhp] at h10
    exact h10
  have hh : (V.setCell T.heap.size ce).heap[T.heap.size]? = some ce := heapAt_setCell_self (s := V) ce hlt
  have f4 : T.heap.size < (V.setCell T.heap.size ce).heap.size := (Array.getElem?_eq_some_iff.mp hh).1
  have hcid : ce.cls = (sg_D G).1 ci := by
    rw [hcl9]
    have h1 := (hE.1.1 ci _ hci).2.1
    rw [hvm] at hfX
    exact Option.some.inj (hfX.symm.trans h1)
  subst hA'
  have X5 := vx_back9 X Y9 Z0
  have X6 : Stand p (sg_l G) e R s m args below meth c (V.setCell T.heap.size ce) locs (cells + 1) (slots + 6) := { X5 with same := X5.same.mono (by omega) (by omega) }
  obtain ⟨t, a1, b1⟩ := kk2 (V.setCell T.heap.size ce).heap ⟨_, sx_cl_R hci, ce, hh, hcid, hvm9, fun k hk => absurd hk (Nat.not_lt_zero k)⟩ (by omega) (fun q hq => f2 q hq (fun z hz => nomatch hz)) _ rfl X6
  rw [← hsz] at a1
  refine ⟨t, st1 _ ?_, b1⟩
  show Steps p.tables e below (T1.setTop { method := m, pc := pc + 3, locals := ls, stack := .ref T.heap.size :: st, locked := none }) _
  jvm_step X₁.here [X₁.here.top, hexec, d3', Value.category]
  exact st9 _ a1
end SXM
