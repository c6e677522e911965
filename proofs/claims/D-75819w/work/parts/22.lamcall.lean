set_option maxRecDepth 100000
section SXL2
variable {G : sx_G} {d : Nat} {Y : sx_Y} {pc : Nat} {L : List (Option Value)} {st : List Value} {σ : sx_St} {Q : sx_O → sx_St → Prop}
theorem sl_O {s : State} {args : Array Value} (hts : ∀ w ∈ lw_all, w.before args s = true) {vm : Vm} (hA : s.vm.Alike vm) : ∀ o ok, vm.findClass "java/lang/Object" = some o → vm.classes[o]? = some ok → ok.instanceTypes.size = 0 := by
  intro o ok h1 h2
  obtain ⟨c, k, g1, g2, -, -, -, g3⟩ := Cond.instantiable_spec (hts _ q2846)
  rw [hA.findClass, g1] at h1
  cases h1
  obtain ⟨k', hk', he⟩ := hA.2.2 _ _ g2
  cases hk'.symm.trans h2
  rw [he]
  exact g3
/-- a call through an interface, of a lambda's object -/
theorem sv_il {d' n : Nat} {Y' : sx_Y} {a i idx cnt im pc0 ix0 : Nat} {x0 : MethodName} {f : Lambda.Shape} {caps rest : List Value} {v : Value} {P : Option Value → sx_St → Prop} {code : ByteArray} {ix : List Nat} {rt : FieldType}
    (hG : ∀ i k, (sg_D G).2 (17 + i) k = k) (hc : sx_Cp G d' Y' (caps ++ [v]) σ P) (hrt : ∀ w τ, P w τ → ∃ r : Int32, w = some (.int r) ∧ narrow rt (.int r) = .int r)
    (hok : sx_ok Y' n) (hh : Y'.2.2.2.2 = []) (hstT : Cond.static Y'.1 ∈ lw_all) (hi : sx_ls[i]? = some (.lambdaSite x0 pc0 ix0 f)) (hchk : sl_chk f x0.cls code ix im = true) (hpn : plainName (x0.cls ++ "$$Lambda") = true)
    (hy : Y'.1 = ⟨f.implClass, f.implName, f.implDesc.toString⟩) (hrf : f.sam.returnType = some rt) (hcn : caps.length + 1 = n)
    (hw : Cond.methodLink Y.1.cls idx ⟨f.iface, f.name, f.sam.toString⟩ ∈ lw_all) (hw1 : Cond.declares ⟨f.iface, f.name, f.sam.toString⟩ ∈ lw_tbl) (hw2 : Cond.interfaceMethod f.iface f.iface f.name f.sam.toString ∈ lw_tbl)
    (hnw : sx_nw (.interfaceMethod f.iface f.iface f.name f.sam.toString) = true) (hnx : f.iface ≠ "java/lang/invoke/MethodHandle" ∧ f.iface ≠ "java/lang/invoke/VarHandle") (hsam : (parseMethodDescriptor f.sam.toString).map (fun d => d.parameters.length) = some 1)
    (hcl : sx_cl[17 + i]? = some ("", sx_pt, caps.length)) (ha : sx_rd G σ a (.inr (17 + i, caps)))
    (hv : (∃ q, v = .ref q ∧ decode code (4 * ix.length) = .ok (.aload_n 1, 1)) ∨ (∃ q, v = .int q ∧ decode code (4 * ix.length) = .ok (.iload_n 1, 1)))
    (hdec : ∀ (j i : Nat), ix[j]? = some i → decode code (4 * j) = .ok (.aload_n 0, 1) ∧ decode code (4 * j + 1) = .ok (.getfield i, 3))
    (hd2 : decode code (4 * ix.length + 1) = .ok (.invokestatic im, 3)) (hd3 : decode code (4 * ix.length + 4) = .ok (.ireturn, 1)) (hlen : caps.length = ix.length)
    (hd : decode Y.2.1 pc = .ok (.invokeinterface idx cnt, 5)) (hdd : d' + 1 < d) (hcat : (rest.map fun v => v.category).sum ≤ 8)
    (k : ∀ r τ, P (some (.int r)) τ → sx_V G d Y (pc + 5) L (.int r :: rest) τ Q) : sx_V G d Y pc L (v :: .ref a :: rest) σ Q := by
  obtain ⟨o1, σ1, ⟨w, rfl, hP⟩, hM⟩ := hc
  obtain ⟨r, rfl, hnar⟩ := hrt w σ1 hP
  obtain ⟨o, τ, hQ, h1, h2, h3⟩ := k r σ1 hP
  obtain ⟨hn1, hs1, -⟩ := id hM
  refine ⟨o, τ, hQ, Nat.le_trans hn1 h1, Nat.le_trans hs1 h2, ?_⟩
  intro p e R s m args below meth c H locs cells slots ls C hf hl hc1 hs2 hR hS hL
  have hts := C.2.2.2.2.2.2.1
  have hE := C.2.2.2.2.2.2.2.2.2
  have hown := C.2.2.2.2.2.1
  obtain ⟨rr, hr0, cell, g1, g2, g3, g4⟩ := sx_rd_at hE hR hS ha
  have hr1 : rr = ("", sx_pt, caps.length) := Option.some.inj (hr0.symm.trans hcl)
  subst hr1
  have hat : s.lambdaAt? x0 pc0 ix0 f = some ((sg_D G).1 (17 + i), if sx_lc i then some (sg_m G i) else none) := hE.2.2.2.2.2.2.2.1 i _ hi
  have g2 : cell.cls = (sg_D G).1 (17 + i) := g2
  rw [← g2] at hat
  obtain ⟨mD, kD, cfD, i0, p0, lk, hmD, hkD, -, -, -, -, hmade, hcan, -⟩ := State.lambdaAt?_spec hat
  obtain ⟨kD', hkD', hnameD⟩ := className_of_methodNamed hmD
  cases hkD.symm.trans hkD'
  obtain ⟨r0, rm, hn, hrm, hstR, hsigR⟩ := Cond.declares_spec (va_Nw.use (A := args) rfl (hE.2.1 _ hw1 rfl))
  obtain ⟨cL, kL, r1, hcL, hkL, hiL, hfoundL, hn2⟩ := Cond.interfaceMethod_spec (va_Nw.use (A := args) rfl (hE.2.1 _ hw2 hnw))
  cases hn.symm.trans hn2
  have hr0cls : r0.cls = cL := Option.some.inj ((findClass_of_methodNamed hn).symm.trans hcL)
  obtain ⟨hnameR, hdescR⟩ := name_of_methodNamed hn hrm
  obtain ⟨-, kK0, -, -, -, -, -, iface', -, -, -, -, found, -, hkK0, -, -, -, hi', -, -, -, -, -, -, hfound', -, -, -, -, -, -, -, -, -, -, hsel⟩ := Lambda.isMade_spec hmade
  cases hcL.symm.trans hi'
  have hfr : found = r0 := by
    have h9 : s.methodFound? f.iface f.name f.sam.toString = some r0 := hfoundL
    simp only [State.methodFound?, hcL, hkL, hiL, Option.bind_eq_bind, Option.bind_some] at h9
    rw [hfound'] at h9
    exact Option.some.inj h9
  subst hfr
  obtain ⟨i2, hi2, hasg, hway⟩ := State.lambdaCallable_spec hcan
  cases hcL.symm.trans hi2
  obtain ⟨kK, tk, file, methk, ckK, t, target, ci, nt, hkK, hkn, hfile, hmk, hckK, hbytes, hml, hlk, hfl, hretk, ht, htk, hlook, hmi, hnt, hready, hclsR, hfrd, hit, hixl, -⟩ := sl_made hkD hnameD hmade (sl_O hts ⟨rfl, rfl, fun _ k h => ⟨k, h, rfl⟩⟩) hchk
  obtain ⟨gk1, gk2, gk3, gk4⟩ := hok
  have hws := sx_hws hts (sx_ws_good gk1)
  have hpre := sx_pre (Y := Y) C hR hS (caps ++ [v])
  obtain ⟨y, cc, nL, rt', hh'⟩ := Y'
  have hh : hh' = [] := hh
  subst hh
  have hy : y = ⟨f.implClass, f.implName, f.implDesc.toString⟩ := hy
  subst hy
  have hcodeT : (Cond.code ⟨f.implClass, f.implName, f.implDesc.toString⟩ cc nL rt').before args s = true := hts _ gk1
  obtain ⟨mT, hmT⟩ := Cond.code_named hcodeT
  obtain ⟨methT, cT, hmethT, hcT, hbytesT, hlocT, hretT, hlocksT, -, hsigT⟩ := Cond.code_spec hmT hcodeT
  have hstaticT : methT.isStatic = true := Cond.static_spec hmT hmethT (hts _ hstT)
  obtain ⟨kT, hkT, hnameT⟩ := className_of_methodNamed hmT
  have hfT := findClass_of_methodNamed hmT
  have hinitK : kT.init = .initialized := Cond.initialized_spec hfT hkT (hts _ gk2)
  intro T hT X
  have hlen1 : [v].length = rm.sig.parameters.length := by
    have h9 : parseMethodDescriptor f.sam.toString = some rm.sig := hsigR
    rw [h9] at hsam
    exact (Option.some.inj hsam).symm
  have hdg : decode c.code pc = .ok (.invokeinterface idx cnt, 5) := by rw [C.2.1]; exact hd
  obtain ⟨vm₁, X₁, hstep₁⟩ := X.invokeinterface C.1 hown (hts _ hw) hn hrm hstR (by rw [hr0cls]; exact hkL) hiL hnx (a := a) (cell := cell) (kcell := kK) (by rw [hT]; exact g1) (fun z h => by rw [g3] at h; cases h) hkK (by rw [hr0cls]; exact hasg)
    (m' := ⟨cell.cls, 1⟩) (meth' := methk) (by rw [Launch.admits_selectMethod X.admits]; exact hsel) hmk (by rw [hnameR, hdescR]; exact hway) (by rw [hfl]; decide) (by simp [Method.isAbstract, hfl, hasFlag, Acc.abstract])
    (g := F0 m pc ls (v :: .ref a :: rest)) rfl (argsL := [v]) (rest := rest) hlen1 rfl hdg
  have hW₁ : s.WarmedH vm₁ := X₁.warmed
  obtain ⟨kD₁, hkD₁, heD₁⟩ := hW₁.alike.2.2 _ _ hkD
  have hnameD₁ : kD₁.name = x0.cls := by rw [heD₁]; exact hnameD
  obtain ⟨kK₁, tk₁, file₁, methk₁, ckK₁, t₁, target₁, ci₁, nt₁, hkK₁, hkn₁, hfile₁, hmk₁, hckK₁, hbytes₁, hml₁, hlk₁, hfl₁, hretk₁, ht₁, htk₁, hlook₁, hmi₁, hnt₁, hready₁, hclsR₁, hfrd₁, -, -, -⟩ := sl_made hkD₁ hnameD₁ (Lambda.isMade_warmer hW₁ hmade) (sl_O hts hW₁.alike) hchk
  have hfT₁ : vm₁.findClass f.implClass = some mT.cls := by rw [hW₁.alike.findClass]; exact hfT
  cases ht₁.symm.trans hfT₁
  have ht2 : target₁ = mT := by
    have h9 : (s.setVm vm₁).methodFound? f.implClass f.implName f.implDesc.toString = some mT := by rw [State.methodFound?_setVm hW₁.alike]; exact State.methodFound?_of_named hmT ⟨gk3.1, gk3.2.1⟩
    simp only [State.methodFound?, State.vm_setVm, hfT₁, htk₁, Option.bind_eq_bind, Option.bind_some] at h9
    rw [hlook₁] at h9
    exact Option.some.inj h9
  subst ht2
  have hmethT₁ : vm₁.method? target₁ = some methT := by rw [hW₁.alike.method?]; exact hmethT
  obtain ⟨kT₁, hkT₁, heT₁⟩ := hW₁.alike.2.2 _ _ hkT
  cases htk₁.symm.trans hkT₁
  have hnm : tk₁.name ≠ "java/lang/invoke/MethodHandle" ∧ tk₁.name ≠ "java/lang/invoke/VarHandle" := by
    have h9 : tk₁.name = f.implClass := by rw [heT₁]; exact hnameT
    rw [h9]
    exact ⟨gk3.1, gk3.2.1⟩
  have hsp : ∀ y : Method, signaturePolymorphic tk₁ y = false := fun y => by simp [signaturePolymorphic, hnm.1, hnm.2]
  obtain ⟨bb, hmem⟩ := memberRef_ask' (e := e) (vm := vm₁) (d := cell.cls) (index := im) hkK₁ hfile₁ (Or.inl hmi₁) hnt₁
  have hpk : (T.setVm vm₁).plainMethod ⟨cell.cls, 1⟩ := State.plainMethod.of_name (fun k' hk' => by cases hkK₁.symm.trans hk'; rw [hkn₁]; exact hpn)
  have hszg : (F0 m pc ls rest).locals.size = c.maxLocals := by rw [C.2.2.2.1]; exact hL.1
  obtain ⟨Y₀, hin⟩ := X₁.into (g := F0 m pc ls rest) rfl hszg hdg #[.ref a, v] (R' := { frames := d' + 1, cells := sx_n σ1 - sx_n σ, slots := sx_s σ1 - sx_s σ, locals := 40 * (d' + 1) }) hmk₁ hckK₁ hlk₁ hpk
    (by show d' + 1 + 1 ≤ R.frames; omega) (by rw [hml₁]; show 2 * 0 + (rest.map fun v => v.category).sum + (2 + 11) + 40 * (d' + 1) ≤ R.locals; omega) (by show cells + (sx_n σ1 - sx_n σ) ≤ R.cells; omega) (by show slots + (sx_s σ1 - sx_s σ) ≤ R.slots; omega)
  generalize hU : ((T.setVm vm₁).setTop (F0 m pc ls rest)).pushFrame (.java (entryFrame ⟨cell.cls, 1⟩ #[.ref a, v] ckK₁.maxLocals)) = U at Y₀ hin
  have hvmU : U.vm = vm₁ := by rw [← hU]; rfl
  have hheapU : U.heap = H := by rw [← hU, ← hT]; rfl
  have hWU : s.WarmedH ((T.setVm vm₁).calling (F0 m pc ls rest) ⟨cell.cls, 1⟩ #[.ref a, v]).vm := hW₁
  have hback := vx_back (p := p) (e := e) (l := sg_l G) (R := { frames := d' + 1, cells := sx_n σ1 - sx_n σ, slots := sx_s σ1 - sx_s σ, locals := 40 * (d' + 1) }) (below := .java (F0 m pc ls rest) :: below) (s := (T.setVm vm₁).calling (F0 m pc ls rest) ⟨cell.cls, 1⟩ #[.ref a, v]) (sargs := #[.ref a, v]) (len := 3) (W9 := 0) (bytes := cc) (maxL := nL) (ret := rt') hM.2.2 sx_blind rfl rfl
    (by show d' + 1 ≤ d' + 1; omega) (by show 0 + (nL + 11) + 40 * d' ≤ 40 * (d' + 1); have : nL ≤ 21 := gk4; omega)
    (fun w hw' a' U' hW' => hws w hw' a' U' (hWU.trans hW')) List.mem_cons_self (fun a' U' hW' => word_at (hWU.trans hW') (lw_self _ gk2).2 (hts _ gk2))
  have hd2' : decode ckK₁.code (4 * caps.length + 1) = .ok (.invokestatic im, 3) := by rw [hbytes₁, hlen]; exact hd2
  have hnamU : U.methodNamed? ⟨f.implClass, f.implName, f.implDesc.toString⟩ = some target₁ := by
    have h9 := State.methodNamed?_setVm (s := s) hW₁.alike ⟨f.implClass, f.implName, f.implDesc.toString⟩
    rw [hmT] at h9
    have h10 : U.methodNamed? ⟨f.implClass, f.implName, f.implDesc.toString⟩ = (s.setVm vm₁).methodNamed? ⟨f.implClass, f.implName, f.implDesc.toString⟩ := by rw [← hU]; rfl
    rw [h10]
    exact h9
  rcases hback ⟨cell.cls, 1⟩ methk₁ ckK₁ ⟨U, [], 0, 0⟩ (F0 ⟨cell.cls, 1⟩ (4 * caps.length + 1) #[.val (.ref a), .val v] []) (.invokestatic im) target₁ (caps ++ [v]).toArray Y₀ rfl (by rw [hml₁]; rfl) hd2' (Nat.le_refl 0) hnamU
      ⟨by show 0 + _ ≤ sx_n σ1 - sx_n σ; omega, by show 0 + _ ≤ sx_s σ1 - sx_s σ; omega, hpre U hheapU (by rw [hvmU]; exact hW₁)⟩ with ⟨w, B, Y₁, hpost, hsteps⟩ | ⟨q, B, -, hx, -⟩
  · obtain ⟨g', mk', t', L', e1, e2, ⟨w', ho, hw', hR1, hF⟩, l1, hL1, k1, k2⟩ := hpost
    cases ho
    cases hw'
    obtain ⟨BU, Bl, Bc, Bs⟩ := B
    dsimp only [Pt.U, Pt.locs, Pt.cells, Pt.slots] at Y₁ e1 e2 l1 k1 k2 hsteps
    rw [List.nil_append] at l1
    rw [Nat.zero_add] at k1 k2
    subst l1
    subst k1
    subst k2
    obtain ⟨fs, hleave, -, hended, hWe, hsame⟩ := Y₁.leave (v := some (.int r)) (fun h => by rw [hretk₁, hrf] at h; cases h) hlk₁
    obtain ⟨T', X', hW', hsm, htt⟩ := X₁.outOf (g := F0 m pc ls rest) rfl hdg hended hWe hsame
    have hhT : T'.heap = t'.heap := by
      rw [← e1]
      have h9 : (BU.setFrames fs).heap = (T'.setTop { F0 m pc ls rest with pc := (F0 m pc ls rest).pc + 5, stack := (some (Value.int r)).toList ++ (F0 m pc ls rest).stack }).heap := by rw [htt]
      exact h9.symm
    obtain ⟨-, -, k3⟩ := vx_keep (T' := T') (t := t') (st₀ := U.calling g' mk' (caps ++ [v]).toArray) (L := Bl) hheapU hhT hS (fun _ _ h => h) (fun _ h => h) hL1 hF
    have h4 := h3 p e R s m args below meth c T'.heap (locs ++ Bl) (cells + (sx_n σ1 - sx_n σ)) (slots + (sx_s σ1 - sx_s σ)) ls C hf hl (by omega) (by omega) (by rw [hhT]; exact hR1) k3 hL
    rw [show cells + (sx_n σ1 - sx_n σ) + (sx_n τ - sx_n σ1) = cells + (sx_n τ - sx_n σ) by omega, show slots + (sx_s σ1 - sx_s σ) + (sx_s τ - sx_s σ1) = slots + (sx_s τ - sx_s σ) by omega] at h4
    obtain ⟨t2, a1, b1⟩ := h4 T' rfl X'
    refine ⟨t2, hstep₁ _ fun acts => ?_, b1⟩
    refine Eq.mp (congrArg (fun z => Steps p.tables e below z t2) (hin acts).symm) ?_
    have hrun : Steps p.tables e (.java (F0 m pc ls rest) :: below) (U.setTop (entryFrame ⟨cell.cls, 1⟩ #[.ref a, v] ckK₁.maxLocals)) (BU.setFrames fs) := by
      have hs : U.topJava?.isSome := Y₀.here.top
      have hloc : entryFrame ⟨cell.cls, 1⟩ #[.ref a, v] ckK₁.maxLocals = { method := ⟨cell.cls, 1⟩, pc := 4 * 0, locals := #[.val (.ref a), .val v], stack := (caps.take 0).reverse, locked := none } := by
        rw [hml₁]
        rcases hv with ⟨q, rfl, -⟩ | ⟨q, rfl, -⟩ <;> rfl
      rw [hloc]
      refine sl_load Y₀ C.1 (v := v) hbytes₁ (by rw [hheapU]; exact g1) (by rw [g3]; exact fun h => by cases h) (fun j i hj => by rw [hvmU]; exact hfrd₁ j i hj) (fun j w hj => ?_) hlen hdec caps.length 0 (Nat.zero_add _) ?_
      · have hjl : j < caps.length := (List.getElem?_eq_some_iff.mp hj).1
        have h9 := g4 j hjl
        rw [hG i j] at h9
        rw [h9]
        show some (caps.getD j .null) = some w
        rw [List.getD_eq_getElem?_getD, hj]
        rfl
      · have hld : Steps p.tables e (.java (F0 m pc ls rest) :: below) (U.setTop { method := ⟨cell.cls, 1⟩, pc := 4 * caps.length + 1, locals := #[.val (.ref a), .val v], stack := v :: caps.reverse, locked := none }) (BU.setFrames fs) := by
          jvm_step Y₀.here [C.1, hd2', invokestatic.wp_ready (e := e) (s := U) (m := target₁) (k := tk₁) (meth := methT) (args := caps ++ [v]) (rest := [])
            (f := { method := ⟨cell.cls, 1⟩, pc := 4 * caps.length + 1, locals := #[.val (.ref a), .val v], stack := v :: caps.reverse, locked := none }) hs ⟨ci₁, _, _, bb, target₁.cls, tk₁, by rw [hvmU]; exact hmem, by rw [hvmU]; exact hclsR₁, by rw [hvmU]; exact htk₁, by simp [hsp]⟩ (by rw [hvmU]; exact hready₁) (by rw [hvmU]; exact htk₁) (by rw [hvmU]; exact hmethT₁) (hsp _) hstaticT (by rw [heT₁]; exact hinitK)
            (by rw [List.length_append]; show caps.length + 1 = _; rw [hcn]; exact sx_len gk3.2.2 _ hsigT) (by simp)]
          intro acts'
          rw [doInvoke_state]
          refine hsteps.trans ?_
          show Steps p.tables e (.java (F0 m pc ls rest) :: below) (BU.setTop { method := ⟨cell.cls, 1⟩, pc := 4 * caps.length + 4, locals := #[.val (.ref a), .val v], stack := [.int r], locked := none }) _
          jvm_step Y₁.here [Y₁.here.top, C.1, hbytes₁, (by rw [hlen]; exact hd3 : decode code (4 * caps.length + 4) = .ok (.ireturn, 1)), Y₁.method', hretk₁, hrf, hnar]
          intro acts''
          rw [hleave { method := ⟨cell.cls, 1⟩, pc := 4 * caps.length + 4, locals := #[.val (.ref a), .val v], stack := [], locked := none } acts'' rfl rfl rfl]
          exact Steps.refl _
        rcases hv with ⟨q, rfl, hd1⟩ | ⟨q, rfl, hd1⟩
        · rw [← hlen] at hd1
          jvm_step Y₀.here [C.1, hbytes₁, hd1, Value.isRef]
          exact hld
        · rw [← hlen] at hd1
          jvm_step Y₀.here [C.1, hbytes₁, hd1]
          exact hld
    refine (sl_weaken (mid := [.java (F0 m pc ls rest)]) hrun).trans ?_
    rw [htt]
    exact a1
  · obtain ⟨g', mk', t', L', E, ce, -, -, ⟨ho, -⟩, -⟩ := hx
    cases ho
end SXL2
