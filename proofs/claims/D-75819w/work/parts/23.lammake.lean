set_option maxRecDepth 100000
section SXL3
variable {G : sx_G} {d : Nat} {Y : sx_Y} {pc : Nat} {L : List (Option Value)} {st : List Value} {σ : sx_St} {Q : sx_O → sx_St → Prop}
theorem sl_inv15 {α : Type} {x : Array Nat} {f : Nat → Nat → Nat → Option α} {r : α} (h : Lambda.shapeOf?.match_15 (fun _ => Option α) x f (fun _ => none) = some r) : ∃ a0 a1 a2, f a0 a1 a2 = some r := by
  rcases x with ⟨z⟩
  match z, h with
  | [], h => cases h
  | [_], h => cases h
  | [_, _], h => cases h
  | [a, b, c], h => exact ⟨a, b, c, h⟩
  | _ :: _ :: _ :: _ :: _, h => cases h
theorem sl_site {cf : ClassFile} {index : Nat} {f : Lambda.Shape} (h : Lambda.shapeOf? cf index = some f) :
    ∃ (b nt : Nat) (name desc : String) (site : MethodDescriptor), cf.constantPool[index]? = some (.invokeDynamic b nt) ∧ cf.constantPool.nameAndType? nt = some (name, desc) ∧ parseMethodDescriptor desc = some site ∧ site.parameters = f.captured := by
  unfold Lambda.shapeOf? at h
  split at h
  · rename_i b nt hc
    obtain ⟨entries, -, h⟩ := Option.bind_eq_some_iff.mp h
    obtain ⟨bm, -, h⟩ := Option.bind_eq_some_iff.mp h
    split at h
    · obtain ⟨_, -, h⟩ := Option.bind_eq_some_iff.mp h
      obtain ⟨a0, a1, a2, h⟩ := sl_inv15 h
      split at h
      · split at h
        · split at h
          · obtain ⟨⟨name, desc⟩, hnt, h⟩ := Option.bind_eq_some_iff.mp h
            obtain ⟨site, hsite, h⟩ := Option.bind_eq_some_iff.mp h
            split at h
            · obtain ⟨⟨implClass, implName, implDesc, implItf⟩, -, h⟩ := Option.bind_eq_some_iff.mp h
              obtain ⟨x1, -, h⟩ := Option.bind_eq_some_iff.mp h
              obtain ⟨x2, -, h⟩ := Option.bind_eq_some_iff.mp h
              obtain ⟨x3, -, h⟩ := Option.bind_eq_some_iff.mp h
              obtain ⟨x4, -, h⟩ := Option.bind_eq_some_iff.mp h
              obtain ⟨x5, -, h⟩ := Option.bind_eq_some_iff.mp h
              cases h
              exact ⟨b, nt, name, desc, site, hc, hnt, hsite, rfl⟩
            · cases h
          · cases h
        · cases h
      · cases h
    · cases h
  · cases h
/-- a lambda that holds nothing: its one object -/
theorem sv_lamC {i ix0 : Nat} {f : Lambda.Shape} (hi : sx_ls[i]? = some (.lambdaSite Y.1 pc ix0 f)) (hlc : sx_lc i = true) (hd : decode Y.2.1 pc = .ok (.invokedynamic ix0, 5)) (hdd : 78 ≤ d) (hcat : (st.map fun v => v.category).sum ≤ 40)
    (k : sx_V G d Y (pc + 5) L (.ref (sg_m G i) :: st) σ Q) : sx_V G d Y pc L st σ Q := by
  obtain ⟨o, τ, hQ, h1, h2, h3⟩ := k
  refine ⟨o, τ, hQ, h1, h2, ?_⟩
  intro p e R s m args below meth c H locs cells slots ls C hf hl hc hs hR hS hL
  have hE := C.2.2.2.2.2.2.2.2.2
  have hat : s.lambdaAt? Y.1 pc ix0 f = some ((sg_D G).1 (17 + i), if sx_lc i then some (sg_m G i) else none) := hE.2.2.2.2.2.2.2.1 i _ hi
  rw [if_pos hlc] at hat
  obtain ⟨mD, kD, cfD, i0, p0, lk, hmD, hkD, -, -, -, hsite, -, -, hl9⟩ := State.lambdaAt?_spec hat
  have hm : s.methodNamed? Y.1 = some m := C.2.2.2.2.2.2.2.1.2
  cases hmD.symm.trans hm
  rcases hl9 with ⟨a, cell, rfl, ha, -⟩ | ⟨-, hno, -⟩
  · cases ha
    intro T hT X
    obtain ⟨t, a1, b1⟩ := h3 p e R s m args below meth c H locs cells slots ls C hf hl hc hs hR hS hL T hT X
    refine ⟨t, X.lambdaConstant C.1 (g := F0 m pc ls st) rfl (by rw [C.2.2.2.1]; exact hL.1) (by rw [C.2.1]; exact hd) hkD hsite ?_ a1, b1⟩
    rw [X.admits.platform]
    show 2 * 0 + (st.map fun v => v.category).sum + 3072 ≤ R.locals
    omega
  · cases hno
/-- a lambda that holds values: a new object of its class -/
theorem sv_lamM {i ix0 im : Nat} {f : Lambda.Shape} {code : ByteArray} {ix : List Nat} (caps rest : List Value) (hG : ∀ i k, (sg_D G).2 (17 + i) k = k) (hi : sx_ls[i]? = some (.lambdaSite Y.1 pc ix0 f)) (hchk : sl_chk f Y.1.cls code ix im = true) (hlc : sx_lc i = false)
    (hcl : sx_cl[17 + i]? = some ("", sx_pt, caps.length)) (hlen : caps.length = f.captured.length) (hfit : ∀ (j : Nat) (ty : FieldType) (v : Value), f.captured[j]? = some ty → caps[j]? = some v → narrow ty v = v ∧ fits ty v = true)
    (hd : decode Y.2.1 pc = .ok (.invokedynamic ix0, 5)) (hst : st = caps.reverse ++ rest) (hdd : 78 ≤ d) (hcat : (st.map fun v => v.category).sum ≤ 40)
    (k : sx_V G d Y (pc + 5) L (.ref (sx_n σ) :: rest) (sx_al σ (.inr (17 + i, caps)) caps.length) Q) : sx_V G d Y pc L st σ Q := by
  subst hst
  refine sx_nw1 k (fun p e R s m args below meth c H locs cells slots ls Qf C hR hL hl hf2 hcells hslots hsz kk2 => ?_)
  have hE := C.2.2.2.2.2.2.2.2.2
  have hts := C.2.2.2.2.2.2.1
  have hat : s.lambdaAt? Y.1 pc ix0 f = some ((sg_D G).1 (17 + i), if sx_lc i then some (sg_m G i) else none) := hE.2.2.2.2.2.2.2.1 i _ hi
  rw [if_neg (by rw [hlc]; exact Bool.false_ne_true)] at hat
  obtain ⟨mD, kD, cfD, i0, p0, lk, hmD, hkD, hcfD, hshp, -, hsite, hmade, -, hl9⟩ := State.lambdaAt?_spec hat
  have hm : s.methodNamed? Y.1 = some m := C.2.2.2.2.2.2.2.1.2
  cases hmD.symm.trans hm
  rcases hl9 with ⟨a, cell, rfl, ha, -⟩ | ⟨rfl, -, -⟩
  · cases ha
  obtain ⟨kD', hkD', hnameD⟩ := className_of_methodNamed hm
  cases hkD.symm.trans hkD'
  obtain ⟨kK, tk, file, methk, ckK, t, target, ci, nt, hkK, hkn, hfile, hmk, hckK, hbytes, hml, hlk, hfl, hretk, ht, htk, hlook, hmi, hnt, hready, hclsR, hfrd, hit, hixl, hkind⟩ := sl_made hkD hnameD hmade (sl_O hts ⟨rfl, rfl, fun _ k h => ⟨k, h, rfl⟩⟩) hchk
  obtain ⟨bs, nt9, name, desc, site, hcp, hntd, hsite9, hpar⟩ := sl_site hshp
  have hz : ((kK.instanceTypes.toList.zip caps).map fun (t, v) => narrow t v) = caps := by
    rw [hit]
    apply List.ext_getElem?
    intro j
    rw [List.getElem?_map]
    cases hj : caps[j]? with
    | none =>
      have h9 : caps.length ≤ j := List.getElem?_eq_none_iff.mp hj
      rw [List.getElem?_eq_none (by rw [List.length_zip]; omega)]
      rfl
    | some v =>
      have h9 : j < caps.length := (List.getElem?_eq_some_iff.mp hj).1
      have h10 : f.captured[j]? = some (f.captured[j]'(by omega)) := List.getElem?_eq_getElem (by omega)
      rw [(List.getElem?_zip_eq_some (z := (f.captured[j]'(by omega), v))).mpr ⟨h10, hj⟩]
      show some (narrow _ v) = some v
      rw [(hfit j _ v h10 hj).1]
  intro T hT X
  obtain ⟨X', step⟩ := X.lambdaMakes C.1 (g := F0 m pc ls (caps.reverse ++ rest)) rfl (by rw [C.2.2.2.1]; exact hL.1) (by rw [C.2.1]; exact hd) hkD hsite hcfD hcp hntd (parseLong_of_parse hsite9) (vals := caps) (rest := rest) (by rw [hpar]; exact hlen) rfl hkK
    (by rw [X.admits.platform]; show 2 * 0 + ((caps.reverse ++ rest).map fun v => v.category).sum + 3072 ≤ R.locals; omega) hcells (by rw [hz]; exact hslots) (fun j v hj => by
      rw [hz] at hj
      rw [List.getElem?_toArray] at hj
      have h9 : j < caps.length := (List.getElem?_eq_some_iff.mp hj).1
      have h10 : f.captured[j]? = some (f.captured[j]'(by omega)) := List.getElem?_eq_getElem (by omega)
      have h11 : kK.instanceTypes[j]? = some (f.captured[j]'(by omega)) := by rw [← Array.getElem?_toList, hit]; exact h10
      simp [State.fitsSlot, State.slotType?, hkK, hkind, h11, (hfit j _ v h10 hj).2])
  rw [hz] at X' step
  have hsz2 : T.heap.size = sx_n σ := by rw [hT]; exact hsz
  generalize hcell : ({ cls := (sg_D G).1 (17 + i), slots := caps.toArray, vm := .none } : Cell) = cell at X' step
  have e1 : (H.push cell)[H.size]? = some cell := Array.getElem?_push_size
  have o1 : ∀ q : Nat, q < H.size → (H.push cell)[q]? = H[q]? := fun q hq => by rw [Array.getElem?_push, if_neg (Nat.ne_of_lt hq)]
  rw [← hsz] at kk2
  obtain ⟨t2, a1, b1⟩ := kk2 (H.push cell) ⟨_, hcl, cell, e1, by rw [← hcell], by rw [← hcell], fun j hj => by
      rw [hG i j, ← hcell]
      show caps.toArray[j]? = some (caps.getD j .null)
      have hj : j < caps.length := hj
      rw [List.getElem?_toArray, List.getD_eq_getElem?_getD, List.getElem?_eq_getElem hj]
      rfl⟩ (by rw [Array.size_push]) o1 (T.pushCell cell) (by rw [← hT]; rfl) (by simpa using X')
  refine ⟨t2, step t2 ?_, b1⟩
  rw [hT]
  exact a1
/-- System.arraycopy of ints or bytes -/
theorem sv_copyI {idx : Nat} (t : Nat) {cA : ClassId} {ty : FieldType} {a0 a n0 n1 : Nat} {f g : Nat → Int32} {sp dp n : Int32} (hw : Cond.methodLink Y.1.cls idx arraycopyName ∈ lw_all) (ht : (sx_tys G)[t]? = some (cA, ty)) (hprim : refKind ty = false) (ha0 : sx_rd G σ a0 (.inl (cA, n0, .inl f))) (ha : sx_c σ a = some (.inl (cA, n1, .inl g)))
    (h1 : ¬ sp < 0) (h2 : ¬ dp < 0) (h3 : ¬ n < 0) (h4 : sp.toNatClampNeg + n.toNatClampNeg ≤ n0) (h5 : dp.toNatClampNeg + n.toNatClampNeg ≤ n1) (hfit : ∀ i, i < n.toNatClampNeg → fits ty (.int (f (sp.toNatClampNeg + i))) = true)
    (hd : decode Y.2.1 pc = .ok (.invokestatic idx, 3)) (hdd : 1 ≤ d) (hcat : (st.map fun v => v.category).sum ≤ 8)
    (k : sx_V G d Y (pc + 3) L st (sx_up σ a (.inl (cA, n1, .inl (va_cpy f g sp.toNatClampNeg dp.toNatClampNeg n.toNatClampNeg)))) Q) : sx_V G d Y pc L (.int n :: .int dp :: .ref a :: .int sp :: .ref a0 :: st) σ Q := by
  obtain ⟨o, τ, hQ, k1, k2, k3⟩ := k
  refine ⟨o, τ, hQ, k1, k2, ?_⟩
  intro p e R s m args below meth c H locs cells slots ls C hf hl hc hs hR hS hL
  have hts := C.2.2.2.2.2.2.1
  have hE := C.2.2.2.2.2.2.2.2.2
  obtain ⟨g1, g2⟩ := hR.2 a _ ha
  have hc0 : H[a0]? = some (vp_cell cA (n0, .inl f)) := sx_rd_at hE hR hS ha0
  have hc1 : H[a]? = some (vp_cell cA (n1, .inl g)) := g2
  have nn : ∀ z : Int32, ¬ z < 0 → z.toInt = (z.toNatClampNeg : Int) := by
    intro z hz
    have hz0 : (0 : Int) ≤ z.toInt := by simpa using Int32.le_iff_toInt_le.mp (Int32.not_lt.mp hz)
    show z.toInt = ((z.toInt.toNat : Nat) : Int)
    omega
  obtain ⟨-, kx0, hk0, cm0, hkk0⟩ := (hE.1.2 t _ ht).1 n0 (fun j => .int (f j))
  obtain ⟨-, kx1, hk1, cm1, hkk1⟩ := (hE.1.2 t _ ht).1 n1 (fun j => .int (g j))
  intro T hT X
  obtain ⟨vm', X', step⟩ := X.arraycopy C.1 C.2.2.2.2.2.1 (hts _ hw) (hts _ q342) (hts _ q341) (hts _ q167) (src := a0) (dst := a) (cs := vp_cell cA (n0, .inl f)) (cd := vp_cell cA (n1, .inl g)) (srcPos := sp) (destPos := dp) (n := n) (by rw [hT]; exact hc0) (by rw [hT]; exact hc1)
    (fun _ h => by cases h) (fun _ h => by cases h) (fun h => by cases h) (fun h => by cases h) hk0 hk1 hkk0 hkk1 (by simp [hprim]) h1 h2 h3
    (by rw [nn sp h1, nn n h3]; show ¬ _ > ((arrV cA n0 (fun j => .int (f j))).slots.size : Int); rw [arrV_size]; omega)
    (by rw [nn dp h2, nn n h3]; show ¬ _ > ((arrV cA n1 (fun j => .int (g j))).slots.size : Int); rw [arrV_size]; omega)
    (fun vm₁ _ i hi => by
      have e : (vp_cell cA (n0, .inl f)).slots.getD (sp.toNatClampNeg + i) .null = .int (f (sp.toNatClampNeg + i)) := by
        show (arrV cA n0 (fun j => .int (f j))).slots.getD _ _ = _
        rw [Array.getD_eq_getD_getElem?, arrV_read _ _ (by omega)]
        rfl
      rw [e]
      exact ⟨hfit i hi, trivial⟩)
    (g := F0 m pc ls (.int n :: .int dp :: .ref a :: .int sp :: .ref a0 :: st)) rfl (by rw [C.2.2.2.1]; exact hL.1) (rest := st) rfl (by rw [C.2.1]; exact hd) (by omega) (by show 2 * 0 + _ + (_ + 11) ≤ _; rw [show nativeFrameWords "java/lang/System" "arraycopy" 5 = 7 from by decide]; omega)
  rw [show copied (vp_cell cA (n0, .inl f)) (vp_cell cA (n1, .inl g)) sp dp n = vp_cell cA (n1, .inl (va_cpy f g sp.toNatClampNeg dp.toNatClampNeg n.toNatClampNeg)) from va_copied (fun z => .int z) cA cA f g h4] at X' step
  have hlt : a < H.size := (Array.getElem?_eq_some_iff.mp hc1).1
  generalize hN : vp_cell cA (n1, .inl (va_cpy f g sp.toNatClampNeg dp.toNatClampNeg n.toNatClampNeg)) = cN at X' step
  have oq : ∀ q : Nat, q ≠ a → (H.setIfInBounds a cN)[q]? = H[q]? := fun q hq => by simp [Array.getElem?_setIfInBounds, Ne.symm hq]
  have eq : (H.setIfInBounds a cN)[a]? = some cN := by simp [Array.getElem?_setIfInBounds, hlt]
  obtain ⟨t2, a1, b1⟩ := k3 p e R s m args below meth c (H.setIfInBounds a cN) _ cells slots ls C hf hl hc hs (sx_R_put hR g1 (by rw [← hN] at eq ⊢; exact eq) (by simp) oq) ⟨by simp; exact hS.1, fun q q1 q2 => by
      rw [oq q (fun e => q2 (by rw [e]; exact g1))]
      exact hS.2.1 q q1 q2, fun q hq => by
      rcases List.mem_append.mp hq with h | h
      · exact hS.2.2 q h
      · obtain ⟨z, -, hz⟩ := List.mem_map.mp h
        rw [← hz]
        exact g1⟩ hL _ (by rw [← hT]; rfl) X'
  exact ⟨t2, step t2 a1, b1⟩
end SXL3
