set_option maxRecDepth 100000
section SXL
/-- the file of a lambda's own class, looked at once -/
def sl_chk (f : Lambda.Shape) (nm : String) (code : ByteArray) (ix : List Nat) (im : Nat) : Bool :=
  match f.file nm with
  | none => false
  | some D => match layoutFields D 0, layoutMethods D with
    | some lay, some ms => (match ms[1]? with
      | none => false
      | some fw => (match fw.code with
        | none => false
        | some cd => decide (fw.accessFlags = 1) && decide (fw.sig.returnType = f.sam.returnType) && decide (cd.maxLocals = 2) && decide (cd.code.data = code.data) && decide (lay.2.1.toList = f.captured) && decide (ix.length = f.captured.length) &&
          (match D.constantPool[im]? with
            | some (.methodref ci nt) => decide (D.constantPool.className? ci = some f.implClass) && decide (D.constantPool.nameAndType? nt = some (f.implName, f.implDesc.toString)) &&
              (match D.constantPool[ci]? with
                | some (.class_ u) => decide (D.constantPool.string? u = some f.implClass) && decide (ci ≠ D.thisClass)
                | _ => false)
            | _ => false) &&
          ix.zipIdx.all (fun q => match D.constantPool[q.1]? with
            | some (.fieldref _ nt) => (match D.constantPool.nameAndType? nt with
              | some nd => decide (lay.1.findIdx? (fun y => y.name == nd.1) = some q.2) && decide ((lay.1[q.2]?).map (fun y => (y.isStatic, y.slot)) = some (false, q.2))
              | none => false)
            | _ => false)))
    | _, _ => false
theorem sl_made {e : Setting} {vm : Vm} {d c : ClassId} {dk : Class} {f : Lambda.Shape} {nm : String} {code : ByteArray} {ix : List Nat} {im : Nat} (hd : vm.classes[d]? = some dk) (hname : dk.name = nm) (h : Lambda.isMade e vm d f c = true)
    (hO : ∀ o ok, vm.findClass "java/lang/Object" = some o → vm.classes[o]? = some ok → ok.instanceTypes.size = 0) (hchk : sl_chk f nm code ix im = true) :
    ∃ (k tk : Class) (file : ClassFile) (b : Method) (y : Code) (t : ClassId) (target : MethodId) (ci nt : Nat),
      vm.classes[c]? = some k ∧ k.name = nm ++ "$$Lambda" ∧ k.cf = some file ∧ vm.method? ⟨c, 1⟩ = some b ∧ b.code = some y ∧ y.code = code ∧ y.maxLocals = 2 ∧ b.locks = false ∧ b.accessFlags = 1 ∧ b.sig.returnType = f.sam.returnType ∧
      vm.findClass f.implClass = some t ∧ vm.classes[t]? = some tk ∧ ((methodIn t f.implName f.implDesc.toString tk.isInterface none).ask e vm).1 = .ok target ∧
      file.constantPool[im]? = some (.methodref ci nt) ∧ file.constantPool.nameAndType? nt = some (f.implName, f.implDesc.toString) ∧
      vm.methodReady c im target ∧ vm.classReady c ci t ∧ (∀ (j i : Nat), ix[j]? = some i → ∃ fd : Field, vm.fieldReady c i c fd ∧ fd.isStatic = false ∧ fd.slot = j) ∧ k.instanceTypes.toList = f.captured ∧ ix.length = f.captured.length ∧ k.kind = .ordinary := by
  obtain ⟨dk', k, ok, tk, file, cf, object, iface, t, lay, methods, target, found, hd', hk, hfile, hcf, hobj, -, hok, hlay, hms, ht, htk, hg, -, hrec, -, -, -, hitf, hpool, hmeth, hfields, hinst, hres, -⟩ := Lambda.isMade_spec h
  cases hd.symm.trans hd'
  rw [hname] at hcf
  have hsz := hO object ok hobj hok
  rw [hsz] at hlay
  unfold sl_chk at hchk
  rw [hcf] at hchk
  dsimp only at hchk
  rw [hlay, hms] at hchk
  dsimp only at hchk
  cases hfw : methods[1]? with
  | none => rw [hfw] at hchk; exact absurd hchk Bool.false_ne_true
  | some fw =>
    rw [hfw] at hchk
    dsimp only at hchk
    cases hcd : fw.code with
    | none => rw [hcd] at hchk; exact absurd hchk Bool.false_ne_true
    | some cd =>
      rw [hcd] at hchk
      dsimp only at hchk
      simp only [Bool.and_eq_true, decide_eq_true_eq] at hchk
      obtain ⟨⟨⟨⟨⟨⟨⟨c1, c2⟩, c3⟩, c4⟩, c5⟩, c6⟩, c7⟩, c8⟩ := hchk
      obtain ⟨b, hb, hsame⟩ := hmeth 1 fw hfw
      obtain ⟨s1, s2, s3, s4, x, y, hx, hy, m1, m2, m3, m4⟩ := Lambda.sameMethod_spec hsame
      cases hcd.symm.trans hx
      have hmi : ∃ ci nt, cf.constantPool[im]? = some (.methodref ci nt) := by
        cases hmi : cf.constantPool[im]? with
        | none => rw [hmi] at c7; exact absurd c7 Bool.false_ne_true
        | some ent =>
          rw [hmi] at c7
          cases ent with
          | methodref ci nt => exact ⟨ci, nt, rfl⟩
          | _ => exact absurd c7 Bool.false_ne_true
      obtain ⟨ci, nt, hmi⟩ := hmi
      rw [hmi] at c7
      dsimp only at c7
      simp only [Bool.and_eq_true, decide_eq_true_eq] at c7
      obtain ⟨⟨p1, p2⟩, p3⟩ := c7
      have hce : ∃ u, cf.constantPool[ci]? = some (.class_ u) := by
        cases hce : cf.constantPool[ci]? with
        | none => rw [hce] at p3; exact absurd p3 Bool.false_ne_true
        | some ent =>
          rw [hce] at p3
          cases ent with
          | class_ u => exact ⟨u, rfl⟩
          | _ => exact absurd p3 Bool.false_ne_true
      obtain ⟨u, hce⟩ := hce
      rw [hce] at p3
      dsimp only at p3
      simp only [Bool.and_eq_true, decide_eq_true_eq] at p3
      refine ⟨k, tk, file, b, y, t, target, ci, nt, hk, by rw [hrec.1, hname], hfile, by simp [Vm.method?, hk, hb], hy, ?_, by rw [m2]; exact c3, ?_, by rw [s4]; exact c1, by rw [s3]; exact c2, ht, htk, hg, by rw [hpool.2.1]; exact hmi, by rw [hpool.2.1]; exact p2,
        ⟨k, hk, hres im _ (Lambda.resolvedOf_method hmi p1 ht htk p2 hg)⟩, ⟨k, hk, hres ci _ (Lambda.resolvedOf_class hce p3.2 p3.1 ht)⟩, ?_, ?_, c6, hrec.2.1⟩
      · rw [m3]
        exact ByteArray.ext c4
      · simp [Method.locks, Method.isSynchronized, s4, c1, hasFlag, Acc.synchronized]
      · intro j i hj
        have h9 := List.all_eq_true.mp c8 (i, j) (List.mk_mem_zipIdx_iff_getElem?.mpr hj)
        dsimp only at h9
        cases hfi : cf.constantPool[i]? with
        | none => rw [hfi] at h9; exact absurd h9 Bool.false_ne_true
        | some ent =>
          rw [hfi] at h9
          cases ent with
          | fieldref c9 nt9 =>
            dsimp only at h9
            cases hnd : cf.constantPool.nameAndType? nt9 with
            | none => rw [hnd] at h9; exact absurd h9 Bool.false_ne_true
            | some nd =>
              rw [hnd] at h9
              dsimp only at h9
              simp only [Bool.and_eq_true, decide_eq_true_eq] at h9
              obtain ⟨g0, hg0, hp0⟩ := Option.map_eq_some_iff.mp h9.2
              simp only [Prod.mk.injEq] at hp0
              obtain ⟨n1, d1⟩ := nd
              exact ⟨g0, ⟨k, j, k, hk, hres i _ (Lambda.resolvedOf_field hfi hnd h9.1), hk, hfields j _ hg0⟩, hp0.1, hp0.2⟩
          | _ => exact absurd h9 Bool.false_ne_true
      · rw [hinst.1, Array.eq_empty_of_size_eq_zero hsz]
        simpa using c5
theorem sl_weaken {tb : Tables} {e : Env} {mid below : List Frame} {a b : State} (h : Steps tb e (mid ++ below) a b) : Steps tb e below a b := by
  obtain ⟨n, hn, w⟩ := h
  exact ⟨n, hn, fun k hk => (w k hk).weaken⟩
/-- a lambda's own method takes its values out of the object -/
theorem sl_load {p : Program} {l : Launch} {e : Env} {R : Room} {s : State} {mk : MethodId} {args : Array Value} {below : List Frame} {methk : Method} {ck : Code} {U : State} {locs : List Loc} {cells slots : Nat} (X : Stand p l e R s mk args below methk ck U locs cells slots) (hexec : p.tables.exec = Jvm.exec)
    {code : ByteArray} {ix : List Nat} {caps : List Value} {a : Nat} {cell : Cell} {v : Value} (hb : ck.code = code) (hcell : U.heap[a]? = some cell) (hknown : cell.vm ≠ .unknown)
    (hfr : ∀ (j i : Nat), ix[j]? = some i → ∃ fd : Field, U.vm.fieldReady mk.cls i mk.cls fd ∧ fd.isStatic = false ∧ fd.slot = j)
    (hsl : ∀ (j : Nat) (w : Value), caps[j]? = some w → cell.slots[j]? = some w) (hlen : caps.length = ix.length)
    (hdec : ∀ (j i : Nat), ix[j]? = some i → decode code (4 * j) = .ok (.aload_n 0, 1) ∧ decode code (4 * j + 1) = .ok (.getfield i, 3)) {target : State} :
    ∀ (q j : Nat), j + q = caps.length → Steps p.tables e below (U.setTop { method := mk, pc := 4 * caps.length, locals := #[.val (.ref a), .val v], stack := caps.reverse, locked := none }) target →
      Steps p.tables e below (U.setTop { method := mk, pc := 4 * j, locals := #[.val (.ref a), .val v], stack := (caps.take j).reverse, locked := none }) target := by
  intro q
  induction q with
  | zero =>
    intro j hj hrest
    have : j = caps.length := by omega
    subst this
    rw [List.take_length]
    exact hrest
  | succ q ih =>
    intro j hj hrest
    have hjl : j < caps.length := by omega
    obtain ⟨w, hw⟩ : ∃ w, caps[j]? = some w := ⟨caps[j], List.getElem?_eq_getElem hjl⟩
    obtain ⟨i, hi⟩ : ∃ i, ix[j]? = some i := ⟨ix[j]'(by omega), List.getElem?_eq_getElem (by omega)⟩
    obtain ⟨fd, f1, f2, f3⟩ := hfr j i hi
    obtain ⟨d1, d2⟩ := hdec j i hi
    have hs : U.topJava?.isSome := X.here.top
    have h5 := ih (j + 1) (by omega) hrest
    rw [show (caps.take (j + 1)).reverse = w :: (caps.take j).reverse from by rw [List.take_add_one, hw]; simp] at h5
    jvm_step X.here [hexec, hb, d1, Value.isRef]
    jvm_step X.here [hexec, hb, d2, getfield.wp_ready (e := e) (s := U) (c := mk.cls) (field := fd) (a := a) (rest := (caps.take j).reverse) (cell := cell) (v := w)
      (f := { method := mk, pc := 4 * j + 1, locals := #[.val (.ref a), .val v], stack := .ref a :: (caps.take j).reverse, locked := none }) hs f1 f2 rfl hcell hknown (by rw [f3]; exact hsl j w hw)]
    exact h5
end SXL
