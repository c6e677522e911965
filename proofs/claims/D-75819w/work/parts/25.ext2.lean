set_option maxRecDepth 100000
section SXN
variable {G : sx_G} {d : Nat} {Y : sx_Y} {pc : Nat} {L : List (Option Value)} {st : List Value} {σ τ : sx_St} {Q : sx_O → sx_St → Prop}
/-- System.arraycopy of references: objects of the class ci, or null -/
theorem sv_copyQ {idx : Nat} (ci : Nat) {C0 : String} {T0 : u_T} {N0 : Nat} {a0 a n0 n1 : Nat} {f g : Nat → Option Nat} {sp dp n : Int32} (hw : Cond.methodLink Y.1.cls idx arraycopyName ∈ lw_all) (ha0 : sx_rd G σ a0 (.inl (sg_a G 5, n0, .inr (.inr (.inr (.inr f)))))) (ha : sx_c σ a = some (.inl (sg_a G 5, n1, .inr (.inr (.inr (.inr g))))))
    (h1 : ¬ sp < 0) (h2 : ¬ dp < 0) (h3 : ¬ n < 0) (h4 : sp.toNatClampNeg + n.toNatClampNeg ≤ n0) (h5 : dp.toNatClampNeg + n.toNatClampNeg ≤ n1) (hci : sx_clR[ci]? = some (C0, T0, N0)) (hca : Cond.castable C0 "java/lang/Object" ∈ lw_tbl) (hel : ∀ i, i < n.toNatClampNeg → ∀ y, f (sp.toNatClampNeg + i) = some y → ∃ vs, sx_rd G σ y (.inr (ci, vs)))
    (hd : decode Y.2.1 pc = .ok (.invokestatic idx, 3)) (hdd : 1 ≤ d) (hcat : (st.map fun v => v.category).sum ≤ 8)
    (k : sx_V G d Y (pc + 3) L st (sx_up σ a (.inl (sg_a G 5, n1, .inr (.inr (.inr (.inr (va_cpy f g sp.toNatClampNeg dp.toNatClampNeg n.toNatClampNeg))))))) Q) : sx_V G d Y pc L (.int n :: .int dp :: .ref a :: .int sp :: .ref a0 :: st) σ Q := by
  obtain ⟨o, τ, hQ, k1, k2, k3⟩ := k
  refine ⟨o, τ, hQ, k1, k2, ?_⟩
  intro p e R s m args below meth c H locs cells slots ls C hf hl hc hs hR hS hL
  have hts := C.2.2.2.2.2.2.1
  have hE := C.2.2.2.2.2.2.2.2.2
  have ht : (sx_tys G)[5]? = some (sg_a G 5, .object "java/lang/Object") := rfl
  obtain ⟨g1, g2⟩ := hR.2 a _ ha
  have hc0 : H[a0]? = some (vp_cell (sg_a G 5) (n0, .inr (.inr (.inr (.inr f))))) := sx_rd_at hE hR hS ha0
  have hc1 : H[a]? = some (vp_cell (sg_a G 5) (n1, .inr (.inr (.inr (.inr g))))) := g2
  have nn : ∀ z : Int32, ¬ z < 0 → z.toInt = (z.toNatClampNeg : Int) := by
    intro z hz
    have hz0 : (0 : Int) ≤ z.toInt := by simpa using Int32.le_iff_toInt_le.mp (Int32.not_lt.mp hz)
    show z.toInt = ((z.toInt.toNat : Nat) : Int)
    omega
  obtain ⟨-, kx0, hk0, cm0, hkk0⟩ := (hE.1.2 5 _ ht).1 n0 (fun j => va_rf (f j))
  obtain ⟨-, kx1, hk1, cm1, hkk1⟩ := (hE.1.2 5 _ ht).1 n1 (fun j => va_rf (g j))
  obtain ⟨cA0, tO, w1, w2, w3⟩ := Cond.castable_spec (va_Nw.use (A := args) rfl (hE.2.1 _ hca rfl))
  intro T hT X
  obtain ⟨vm', X', step⟩ := X.arraycopy C.1 C.2.2.2.2.2.1 (hts _ hw) (hts _ q342) (hts _ q341) (hts _ q167) (src := a0) (dst := a) (cs := vp_cell (sg_a G 5) (n0, .inr (.inr (.inr (.inr f))))) (cd := vp_cell (sg_a G 5) (n1, .inr (.inr (.inr (.inr g))))) (srcPos := sp) (destPos := dp) (n := n) (by rw [hT]; exact hc0) (by rw [hT]; exact hc1)
    (fun _ h => by cases h) (fun _ h => by cases h) (fun h => by cases h) (fun h => by cases h) hk0 hk1 hkk0 hkk1 rfl h1 h2 h3
    (by rw [nn sp h1, nn n h3]; show ¬ _ > ((arrV (sg_a G 5) n0 (fun j => va_rf (f j))).slots.size : Int); rw [arrV_size]; omega)
    (by rw [nn dp h2, nn n h3]; show ¬ _ > ((arrV (sg_a G 5) n1 (fun j => va_rf (g j))).slots.size : Int); rw [arrV_size]; omega)
    (fun vm₁ hal i hi => by
      have e : (vp_cell (sg_a G 5) (n0, .inr (.inr (.inr (.inr f))))).slots.getD (sp.toNatClampNeg + i) .null = va_rf (f (sp.toNatClampNeg + i)) := by
        show (arrV (sg_a G 5) n0 (fun j => va_rf (f j))).slots.getD _ _ = _
        rw [Array.getD_eq_getD_getElem?, arrV_read _ _ (by omega)]
        rfl
      rw [e]
      cases hy : f (sp.toNatClampNeg + i) with
      | none => exact ⟨rfl, trivial⟩
      | some y =>
        obtain ⟨vs, hvs⟩ := hel i hi y hy
        obtain ⟨r, hr1, cellV, v1, v2, v3, -⟩ := sx_rd_at hE hR hS hvs
        have g3 := (hE.1.1 ci _ hci).2.1
        obtain ⟨kA, comp, r1, r2, r3, -⟩ := (hE.1.2 5 _ ht).2
        cases hk1.symm.trans r1
        cases hkk1.symm.trans r2
        obtain ⟨kC, hkC, -⟩ := Vm.findClass_spec g3
        obtain ⟨kE, hkE, -⟩ := Vm.findClass_spec r3
        obtain ⟨kC', hkC', -⟩ := hal.2.2 _ _ hkC
        obtain ⟨kE', hkE', -⟩ := hal.2.2 _ _ hkE
        refine ⟨rfl, cellV, (show T.heap[y]? = some cellV by rw [hT]; exact v1), (fun q h => by rw [h] at v3; cases v3), ⟨kC', by rw [v2]; exact hkC'⟩, ⟨kE', hkE'⟩, ?_⟩
        show vm₁.assignable _ _ = true
        rw [hal.assignable, v2]
        have e1 : cA0 = (sg_D G).1 ci := Option.some.inj (w1.symm.trans g3)
        have e2 : tO = cm1 := Option.some.inj (w2.symm.trans r3)
        show s.vm.assignable ((sg_D G).1 ci) cm1 = true
        rw [← e1, ← e2]
        exact w3)
    (g := F0 m pc ls (.int n :: .int dp :: .ref a :: .int sp :: .ref a0 :: st)) rfl (by rw [C.2.2.2.1]; exact hL.1) (rest := st) rfl (by rw [C.2.1]; exact hd) (by omega) (by show 2 * 0 + _ + (_ + 11) ≤ _; rw [show nativeFrameWords "java/lang/System" "arraycopy" 5 = 7 from by decide]; omega)
  have e1 : copied (vp_cell (sg_a G 5) (n0, .inr (.inr (.inr (.inr f))))) (vp_cell (sg_a G 5) (n1, .inr (.inr (.inr (.inr g))))) sp dp n = vp_cell (sg_a G 5) (n1, .inr (.inr (.inr (.inr (va_cpy f g sp.toNatClampNeg dp.toNatClampNeg n.toNatClampNeg))))) := by
    rw [vp_cell_q, vp_cell_q, vp_cell_q]
    exact va_copied (fun z => va_rf z) (sg_a G 5) (sg_a G 5) f g h4
  rw [e1] at X' step
  have hlt : a < H.size := (Array.getElem?_eq_some_iff.mp hc1).1
  generalize hN : vp_cell (sg_a G 5) (n1, .inr (.inr (.inr (.inr (va_cpy f g sp.toNatClampNeg dp.toNatClampNeg n.toNatClampNeg))))) = cN at X' step
  have oq : ∀ q : Nat, q ≠ a → (H.setIfInBounds a cN)[q]? = H[q]? := fun q hq => by simp [Array.getElem?_setIfInBounds, Ne.symm hq]
  have eq : (H.setIfInBounds a cN)[a]? = some cN := by simp [Array.getElem?_setIfInBounds, hlt]
  obtain ⟨t2, a1, b1⟩ := k3 p e R s m args below meth c (H.setIfInBounds a cN) _ cells slots ls C hf hl hc hs (sx_R_put hR g1 (by rw [← hN] at eq ⊢; exact eq) (by simp) oq) ⟨by simp; exact hS.1, fun q q1 q2 => by
      rw [oq q (fun e => q2 (by rw [e]; exact g1))]
      exact hS.2.1 q q1 q2, fun q hq => by
      rcases List.mem_append.mp hq with h | h
      · exact hS.2.2 q h
      · obtain ⟨z, -, hz⟩ := List.mem_map.mp h
        rw [← hz]
        exact g1⟩ hL _ (by rw [← hT]; rfl) X'
  exact ⟨t2, step t2 a1, b1⟩
/-- clone() of an array of ints (t = 0) or bytes (t = 2) -/
theorem sv_clone {idx a n : Nat} {f : Nat → Int32} (t : Nat) {cA : ClassId} {ty : FieldType} {ad : String} (ht : (sx_tys G)[t]? = some (cA, ty)) (ha : sx_rd G σ a (.inl (cA, n, .inl f))) (hprim : refKind ty = false) (had : ad = "[" ++ ty.toString) (hfit : ∀ i, i < n → fits ty (.int (f i)) = true)
    (hw : Cond.methodLink Y.1.cls idx ⟨ad, "clone", "()Ljava/lang/Object;"⟩ ∈ lw_all) (hw1 : Cond.sameMethod ad "java/lang/Object" "clone" "()Ljava/lang/Object;" ∈ lw_all) (hw2 : Cond.native ⟨"java/lang/Object", "clone", "()Ljava/lang/Object;"⟩ ∈ lw_all) (hw3 : Cond.instanceMethod ⟨"java/lang/Object", "clone", "()Ljava/lang/Object;"⟩ ∈ lw_all) (hw4 : Cond.selects ad ⟨ad, "clone", "()Ljava/lang/Object;"⟩ ⟨"java/lang/Object", "clone", "()Ljava/lang/Object;"⟩ ∈ lw_all) (hw5 : Cond.castable ad "java/lang/Cloneable" ∈ lw_tbl)
    (hd : decode Y.2.1 pc = .ok (.invokevirtual idx, 3)) (hdd : 1 ≤ d) (hcat : (st.map fun v => v.category).sum ≤ 8)
    (k : sx_V G d Y (pc + 3) L (.ref (sx_n σ) :: st) (sx_al σ (.inl (cA, n, .inl f)) n) Q) : sx_V G d Y pc L (.ref a :: st) σ Q := by
  refine sx_nw1' k (fun p e R s m args below meth c H locs cells slots ls Qf C hR hL hS hl hf2 hcells hslots hsz kk2 => ?_)
  have hE := C.2.2.2.2.2.2.2.2.2
  have hts := C.2.2.2.2.2.2.1
  have hcl : va_Nw (.castable ad "java/lang/Cloneable") s := hE.2.1 _ hw5 rfl
  have hnm : s.vm.findClass ad = some cA := by
    have hra := (hE.1.2 t _ ht).2
    rw [had]
    cases ty with
    | object n => exact hra.choose_spec.choose_spec.2.2.2
    | _ => exact hra
  have hcell : H[a]? = some (vp_cell cA (n, .inl f)) := sx_rd_at hE hR hS ha
  have hsz9 : (vp_cell cA (n, .inl f)).slots.size = n := arrV_size _ _ _
  obtain ⟨c0, t0', f1, f2, f3⟩ := Cond.castable_spec (va_Nw.use (A := args) rfl hcl)
  cases hnm.symm.trans f1
  intro T hT X
  have hcellT : T.heap[a]? = some (vp_cell cA (n, .inl f)) := by rw [hT]; exact hcell
  obtain ⟨-, kA, hkA, comp, hkind⟩ := State.isArrayOf_alike X.warmed.alike ((hE.1.2 t _ ht).1 0 (fun _ => .null))
  obtain ⟨-, kS, hkS, compS, hkindS⟩ := (hE.1.2 t _ ht).1 0 (fun _ => .null)
  obtain ⟨vm', X', st9⟩ := X.cloneArray C.1 C.2.2.2.2.2.1 (hts _ hw) (hts _ hw1) (hts _ hw2) (hts _ hw3) (hts _ hw4) (a := a) (cell := vp_cell cA (n, .inl f)) hcellT (fun k h => by cases h) (fun h => by cases h) hnm f2 f3
    (fun i v hv => by
      have hk' : T.vm.classes[cA]? = some kA := hkA
      have hv2 : fits ty v = true := by
        by_cases hi : i < n
        · have h9 : (arrV cA n (fun j => .int (f j))).slots[i]? = some v := hv
          rw [arrV_read _ _ hi] at h9
          cases h9
          exact hfit i hi
        · have h9 : (arrV cA n (fun j => .int (f j))).slots[i]? = some v := hv
          rw [Array.getElem?_eq_none (by rw [arrV_size]; omega)] at h9
          cases h9
      show T.fitsSlot cA .none i v = true
      simpa [State.fitsSlot, State.slotType?, hk', hkind] using hv2)
    (g := F0 m pc ls (.ref a :: st)) rfl (by rw [C.2.2.2.1]; exact hL.1) rfl (by rw [C.2.1]; exact hd) (by omega) (by show 2 * 0 + _ + 14 ≤ _; omega) hcells (by rw [hsz9]; exact hslots) (hloader := Vm.clonesLoader_of_array hkS hkindS)
  have hcellE : ({ cls := (vp_cell cA (n, .inl f)).cls, slots := (vp_cell cA (n, .inl f)).slots } : Cell) = vp_cell cA (n, .inl f) := rfl
  rw [hcellE, hsz9] at X'
  generalize hH1 : H.push (vp_cell cA (n, .inl f)) = H1
  have z1 : H1.size = H.size + 1 := by rw [← hH1, Array.size_push]
  have e1 : H1[H.size]? = some (vp_cell cA (n, .inl f)) := by rw [← hH1, Array.getElem?_push_size]
  have o1 : ∀ q : Nat, q < H.size → H1[q]? = H[q]? := fun q hq => by rw [← hH1, Array.getElem?_push, if_neg (Nat.ne_of_lt hq)]
  obtain ⟨t2, b1, b2⟩ := kk2 H1 e1 z1 o1 _ (by rw [← hH1, ← hT]; rfl) X'
  refine ⟨t2, st9 _ ?_, b2⟩
  rw [hcellE]
  rw [← hsz] at b1
  rw [hT]
  exact b1
/-- getClass() of an Object[] ; the constant Object[].class -/
theorem sv_getC {idx a : Nat} {x : vp_A} (ha : sx_rd G σ a (.inl (sg_a G 5, x))) (hw : Cond.methodLink Y.1.cls idx ⟨"java/lang/Object", "getClass", "()Ljava/lang/Class;"⟩ ∈ lw_all) (hw1 : Cond.declares ⟨"java/lang/Object", "getClass", "()Ljava/lang/Class;"⟩ ∈ lw_tbl) (hw2 : Cond.selects "[Ljava/lang/Object;" ⟨"java/lang/Object", "getClass", "()Ljava/lang/Class;"⟩ ⟨"java/lang/Object", "getClass", "()Ljava/lang/Class;"⟩ ∈ lw_all) (hw3 : Cond.instanceMethod ⟨"java/lang/Object", "getClass", "()Ljava/lang/Class;"⟩ ∈ lw_all) (hw4 : Cond.native ⟨"java/lang/Object", "getClass", "()Ljava/lang/Class;"⟩ ∈ lw_all)
    (hd : decode Y.2.1 pc = .ok (.invokevirtual idx, 3)) (hdd : 1 ≤ d) (hcat : (st.map fun v => v.category).sum ≤ 8) (k : sx_V G d Y (pc + 3) L (.ref (sg_m G 99) :: st) σ Q) : sx_V G d Y pc L (.ref a :: st) σ Q := by
  obtain ⟨o, τ, hQ, k1, k2, k3⟩ := k
  refine ⟨o, τ, hQ, k1, k2, ?_⟩
  intro p e R s m args below meth c H locs cells slots ls C hf hl hc hs hR hS hL
  have hts := C.2.2.2.2.2.2.1
  have hE := C.2.2.2.2.2.2.2.2.2
  obtain ⟨c9, k9, a9, m1, m2, m3, m4⟩ := Term.mirror_spec hE.2.2.2.2.2.2.2.2.2.2.2.2.1
  cases m4
  have hcell : H[a]? = some (vp_cell (sg_a G 5) x) := sx_rd_at hE hR hS ha
  obtain ⟨kA, comp, r1, r2, r3, r4⟩ := (hE.1.2 5 _ rfl).2
  exact va_getC C.1 C.2.1 (by rw [C.2.2.2.1]; exact hL.1.symm) C.2.2.2.2.2.1 (hts _ hw) (va_Nw.use rfl (hE.2.1 _ hw1 rfl)) (hts _ hw2) (hts _ hw3) (hts _ hw4) ⟨c9, k9, m1, m2, m3⟩
    ⟨vp_cell (sg_a G 5) x, hcell, by obtain ⟨n, f | f | f | f | f⟩ := x <;> rfl, by rw [show (vp_cell (sg_a G 5) x).cls = sg_a G 5 from by obtain ⟨n, f | f | f | f | f⟩ := x <;> rfl]; exact r4⟩ (by omega) (by omega) hd (k3 p e R s m args below meth c H locs cells slots ls C hf hl hc hs hR hS hL)
theorem sv_ldcM {idx : Nat} (hw : Cond.classLink Y.1.cls idx "[Ljava/lang/Object;" ∈ lw_all) (hd : decode Y.2.1 pc = .ok (.ldc idx, 2)) (k : sx_V G d Y (pc + 2) L (.ref (sg_m G 99) :: st) σ Q) : sx_V G d Y pc L st σ Q :=
  sx_go k (fun p e R s m args below meth c H locs cells slots ls Qf C hR hL hS kk => by
    obtain ⟨c9, k9, a9, m1, m2, m3, m4⟩ := Term.mirror_spec C.2.2.2.2.2.2.2.2.2.2.2.2.2.2.2.2.2.2.2.2.2.1
    cases m4
    exact va_ldcM C.1 C.2.1 C.2.2.2.2.2.1 (C.2.2.2.2.2.2.1 _ hw) ⟨c9, k9, m1, m2, m3⟩ hd (kk ls hL))
/-- what changes from σ to τ: only what W names, and at most c cells of s slots are new -/
def h_F (W : Nat → Prop) (c s : Nat) (σ τ : sx_St) : Prop := (sx_n σ ≤ sx_n τ ∧ sx_n τ ≤ sx_n σ + c) ∧ sx_s τ ≤ sx_s σ + s ∧ ∀ q, q < sx_n σ → ¬ W q → sx_c τ q = sx_c σ q
theorem h_F_r {W : Nat → Prop} {c s : Nat} : h_F W c s σ σ := ⟨⟨Nat.le_refl _, by omega⟩, by omega, fun _ _ _ => rfl⟩
theorem h_F_t {W W' : Nat → Prop} {c c' s s' : Nat} {ρ : sx_St} (h : h_F W c s σ τ) (h' : h_F W' c' s' τ ρ) (hw : ∀ q, q < sx_n σ → W' q → W q) : h_F W (c + c') (s + s') σ ρ := by
  obtain ⟨⟨a1, a2⟩, a3, a4⟩ := h
  obtain ⟨⟨b1, b2⟩, b3, b4⟩ := h'
  refine ⟨⟨by omega, by omega⟩, by omega, fun q hq hn => ?_⟩
  rw [b4 q (by omega) (fun z => hn (hw q hq z)), a4 q hq hn]
theorem h_F_w {W W' : Nat → Prop} {c c' s s' : Nat} (h : h_F W c s σ τ) (hw : ∀ q, q < sx_n σ → W q → W' q) (hc : c ≤ c') (hs : s ≤ s') : h_F W' c' s' σ τ := by
  obtain ⟨⟨a1, a2⟩, a3, a4⟩ := h
  exact ⟨⟨a1, by omega⟩, by omega, fun q hq hn => a4 q hq (fun z => hn (hw q hq z))⟩
theorem h_F_c {W : Nat → Prop} {c s q : Nat} {e : va_E} (h : h_F W c s σ τ) (hc : sx_c σ q = some e) (hn : ¬ W q) : sx_c τ q = some e := (h.2.2 q (sx_lt hc) hn).trans hc
theorem h_F_rd {W : Nat → Prop} {c s q : Nat} {e : va_E} (h : h_F W c s σ τ) (hc : sx_rd G σ q e) (hn : sx_c σ q = some e → ¬ W q) : sx_rd G τ q e := by
  rcases hc with hc | hc
  · exact Or.inl (h_F_c h hc (hn hc))
  · exact Or.inr hc
theorem sx_ne {a b : Nat} {e e' : va_E} (ha : sx_c σ a = some e) (hb : sx_c σ b = some e') (hn : e ≠ e') : a ≠ b := by
  intro z
  subst z
  exact hn (Option.some.inj (ha.symm.trans hb))
/-- the heap behind a write, a making, by a name -/
theorem hs_up {a : Nat} {e e0 : va_E} (h0 : sx_c σ a = some e0) (k : ∀ τ, h_F (fun q => q = a) 0 0 σ τ → sx_c τ a = some e → sx_n τ = sx_n σ → sx_s τ = sx_s σ → sx_V G d Y pc L st τ Q) : sx_V G d Y pc L st (sx_up σ a e) Q :=
  k _ ⟨⟨Nat.le_refl _, Nat.le_refl _⟩, Nat.le_refl _, fun _ _ hq => sx_c_up_ne e hq⟩ (sx_c_up_self e h0) rfl rfl
theorem hs_al {e : va_E} {n : Nat} (k : ∀ a τ, a = sx_n σ → h_F (fun _ => False) 1 n σ τ → sx_c τ a = some e → sx_n τ = sx_n σ + 1 → sx_s τ = sx_s σ + n → sx_V G d Y pc L (.ref a :: st) τ Q) : sx_V G d Y pc L (.ref (sx_n σ) :: st) (sx_al σ e n) Q :=
  k _ _ rfl ⟨⟨Nat.le_succ _, Nat.le_refl _⟩, Nat.le_refl _, fun _ hq _ => sx_c_al_lt e n hq⟩ (sx_c_al_self σ e n) rfl rfl
end SXN
