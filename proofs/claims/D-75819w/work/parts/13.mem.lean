set_option maxRecDepth 100000
section SXE
theorem sx_ldcW {p : Program} {l : Launch} {e : Env} {R : Room} {s : State} {m : MethodId} {args : Array Value} {below : List Frame} {meth : Method} {c : Code} {T : State} {locs : List Loc} {cells slots : Nat}
    (X : Stand p l e R s m args below meth c T locs cells slots) (hexec : p.tables.exec = Jvm.exec) {own text : String} {index : Nat} {a : Addr} (hown : s.vm.findClass own = some m.cls)
    (hconst : (Cond.stringRef own index text).before #[] s = true) (hev : (Term.string own index).eval #[] s none [] s = some (.ref a)) {g : JFrame} (hg : g.method = m) (hdg : decode c.code g.pc = .ok (.ldc_w index, 3)) :
    ∀ target, Steps p.tables e below (T.setTop { g with pc := g.pc + 3, stack := .ref a :: g.stack }) target → Steps p.tables e below (T.setTop g) target := by
  obtain ⟨k, cf, i, a', hk, hcf, hcp, -, hr, hev'⟩ := Cond.stringRef_spec hown hconst
  cases hev.symm.trans hev'
  obtain ⟨k', hk', he⟩ := X.warmed.alike.2.2 _ _ hk
  have hr' : k'.resolved[index]? = some (some (.string a)) := by
    rcases X.warmed.entry hk hk' index with h | ⟨h, -⟩
    · rw [h]; exact hr
    · rw [hr] at h; cases h
  intro target hrest
  subst hg
  jvm_step X.here [hexec, hdg, ldc_w.wp_string (e := e) (s := T) (f := g) X.here.top hk' (by rw [he]; exact hcf) hcp hr']
  exact hrest
variable {G : sx_G} {d : Nat} {Y : sx_Y} {pc : Nat} {L : List (Option Value)} {st : List Value} {σ : sx_St} {Q : sx_O → sx_St → Prop}
theorem sv_ldcSw {i : Nat} {tx : String} (j : Nat) (hj : sx_ts[j]? = some (Y.1.cls, i, tx)) (hd : decode Y.2.1 pc = .ok (.ldc_w i, 3)) (k : sx_V G d Y (pc + 3) L (.ref (sg_t G j) :: st) σ Q) : sx_V G d Y pc L st σ Q :=
  sx_go k (fun p e R s m args below meth c H locs cells slots ls Qf C hR hL hS kk => by
    intro T hT X
    have hZ := C.2.2.2.2.2.2.2.2.2.2.2.2.2.1 j _ hj
    obtain ⟨t, a1, b1⟩ := kk ls hL T hT X
    exact ⟨t, sx_ldcW X C.1 C.2.2.2.2.2.1 hZ.1 hZ.2 (g := F0 m pc ls st) rfl (by rw [C.2.1]; exact hd) t a1, b1⟩)
/-- reading: what stands at an address -/
theorem sx_rd_at {s : State} {H : Heap} {locs : List Loc} {a : Nat} {e : va_E} (hE : sx_E G s s.heap) (hR : sx_R G σ H) (hS : va_S (sg_A G) s.heap H locs) (h : sx_rd G σ a e) : va_at (sg_D G) sx_cl (a, e) H := by
  rcases h with h | h
  · exact (hR.2 a e h).2
  · obtain ⟨q1, q2⟩ := hE.2.2.2.2.2.1 a e h
    exact va_at.kept q2 (hS.2.1 a (va_at.lt q2) q1)
/-- own's entry idx is the field k of the class ci -/
def sx_lk1 (own : String) (idx : Nat) (T : u_T) (k : Nat) : Prop := (∃ ref, Cond.fieldLink own idx ref (T k).2.1 (T k).2.2.1 ∈ lw_all ∧ (ref = (T k).1 ∨ Cond.sameField ref (T k).1 (T k).2.1 (T k).2.2.1 ∈ lw_all)) ∨ ∃ host, Cond.fieldLinkNest own idx (T k).1 (T k).2.1 (T k).2.2.1 host ∈ lw_tbl
def sx_fg (own : String) (idx ci k : Nat) : Prop := ∃ (C : String) (T : u_T) (N : Nat), sx_clR[ci]? = some (C, T, N) ∧ (∀ w ∈ u_ws C T N, w ∈ lw_all) ∧ k < N ∧ sx_lk1 own idx T k
theorem sx_get {p : Program} {e : Env} {R : Room} {s : State} {m : MethodId} {args : Array Value} {below : List Frame} {meth : Method} {c : Code} {H : Heap} {locs : List Loc} {cells slots : Nat} {ls : Array Slot} {Qf : State → Prop} (X : sx_X G Y p s m args meth c) {idx ci k a : Nat} {vs : List Value} {v : Value}
    (hf : sx_fg Y.1.cls idx ci k) (ha : va_at (sg_D G) sx_cl (a, .inr (ci, vs)) H) (hv : vs[k]? = some v) (hd : decode Y.2.1 pc = .ok (.getfield idx, 3)) (kk : W p (sg_l G) e R s m args below meth c H locs cells slots Qf (F0 m (pc + 3) ls (v :: st))) : W p (sg_l G) e R s m args below meth c H locs cells slots Qf (F0 m pc ls (.ref a :: st)) := by
  obtain ⟨hexec, hb, -, -, -, hown, hts, -, -, hE⟩ := X
  obtain ⟨C, T, N, hc, hin, hk, hl⟩ := hf
  obtain ⟨r, h1, cell, q1, q2, q3, q4⟩ := ha
  have hr : r = (C, T, N) := Option.some.inj (h1.symm.trans (sx_cl_R hc))
  subst hr
  obtain ⟨hS, hfc, kC, hkC, hkind⟩ := hE.1.1 ci _ hc
  obtain ⟨cf, kf, fi, f, hi, hsl⟩ := hS k hk
  have hst := (u_facts hfc hkC (u_lays hts hin hk) hi).1
  have hval : cell.slots[f.slot]? = some v := by
    rw [hsl, q4 k hk]
    show some (vs.getD k .null) = some v
    rw [List.getD_eq_getElem?_getD, hv]
    rfl
  rcases hl with ⟨ref, w1, w2⟩ | ⟨host, w1⟩
  · have hi' : s.fieldFound? ref (T k).2.1 (T k).2.2.1 = some (cf, kf, fi, f) := by
      rcases w2 with rfl | w2
      · exact hi
      · exact u_same (hts _ w2) _ hi
    exact W.getf hexec hb hown (hts _ w1) hi' hst q1 (by rw [q3]; exact fun h => by cases h) (v := v) hval rfl rfl hd kk
  · exact va_Wgetf hexec hb hown (va_Nw.use rfl (hE.2.1 _ w1 rfl)) hi hst q1 (by rw [q3]; exact fun h => by cases h) (v := v) hval rfl rfl hd kk
theorem sv_get {idx ci k a : Nat} {vs : List Value} {v : Value} (hf : sx_fg Y.1.cls idx ci k) (hd : decode Y.2.1 pc = .ok (.getfield idx, 3)) (ha : sx_rd G σ a (.inr (ci, vs))) (hv : vs[k]? = some v) (kk : sx_V G d Y (pc + 3) L (v :: st) σ Q) : sx_V G d Y pc L (.ref a :: st) σ Q :=
  sx_go kk (fun p e R s m args below meth c H locs cells slots ls Qf C hR hL hS kk => sx_get C hf (sx_rd_at C.2.2.2.2.2.2.2.2.2 hR hS ha) hv hd (kk ls hL))
/-- own's entry idx is the field k (of the type ty) of the class ci, and the method nm may write it -/
def sx_fp (own : String) (nm : String) (idx ci k : Nat) (ty : FieldType) : Prop := ∃ (C : String) (T : u_T) (N : Nat) (ty0 : Nat → FieldType), sx_clR[ci]? = some (C, T, N) ∧ (∀ w ∈ u_ws C T N, w ∈ lw_all) ∧ (∀ k, k < N → parseFieldDescriptor (T k).2.2.1 = some (ty0 k)) ∧ (∀ a, a < N → ∀ b, b < N → a ≠ b → (T a).2.1 ≠ (T b).2.1) ∧ k < N ∧ ty0 k = ty ∧
  (((T k).2.2.2 = false ∧ sx_lk1 own idx T k) ∨ ((T k).2.2.2 = true ∧ (T k).1 = own ∧ nm = "<init>" ∧ Cond.fieldLink own idx (T k).1 (T k).2.1 (T k).2.2.1 ∈ lw_all))
theorem sx_put {p : Program} {e : Env} {R : Room} {s : State} {m : MethodId} {args : Array Value} {below : List Frame} {meth : Method} {c : Code} {H : Heap} {locs : List Loc} {cells slots : Nat} {ls : Array Slot} {Qf : State → Prop} (X : sx_X G Y p s m args meth c) {idx ci k a : Nat} {vs : List Value} {v : Value} {ty : FieldType}
    (hf : sx_fp Y.1.cls Y.1.name idx ci k ty) (ha : va_at (sg_D G) sx_cl (a, .inr (ci, vs)) H) (hn : narrow ty v = v) (hfit : fits ty v = true) (hlen : k < vs.length) (hd : decode Y.2.1 pc = .ok (.putfield idx, 3))
    (kk : ∀ (H1 : Heap) (ls1 : List Loc), va_at (sg_D G) sx_cl (a, .inr (ci, vs.set k v)) H1 → H1.size = H.size → (∀ q : Nat, q ≠ a → H1[q]? = H[q]?) → (∀ l ∈ ls1, l.base = a) → W p (sg_l G) e R s m args below meth c H1 (locs ++ ls1) cells slots Qf (F0 m (pc + 3) ls st)) : W p (sg_l G) e R s m args below meth c H locs cells slots Qf (F0 m pc ls (v :: .ref a :: st)) := by
  obtain ⟨hexec, hb, -, -, -, hown, hts, ⟨hmn, -⟩, -, hE⟩ := X
  obtain ⟨C, T, N, ty0, hc, hin, hty, hnm, hk, hty1, hl⟩ := hf
  have hap := va_apart (own := Y.1.cls) (cl := sx_clR) hts hin ty0 hty hnm hE.1 hc
  obtain ⟨r, h1, cell, q1, q2, q3, q4⟩ := ha
  have hcl := sx_cl_R hc
  have hr : r = (C, T, N) := Option.some.inj (h1.symm.trans hcl)
  subst hr
  obtain ⟨hS, hfc, kC, hkC, hkind⟩ := hE.1.1 ci _ hc
  obtain ⟨cf, kf, fi, f, hi, hsl⟩ := hS k hk
  have hlay := hts _ (hin _ (u_in_lay hk))
  unfold u_lay at hlay
  have hst := (u_facts hfc hkC (u_lays hts hin hk) hi).1
  have hpd : parseFieldDescriptor (T k).2.2.1 = some ty := by rw [hty k hk, hty1]
  have hfin : ∀ (H1 : Heap), H1[a]? = some (cell.setSlot f.slot v) → va_at (sg_D G) sx_cl (a, .inr (ci, vs.set k v)) H1 := by
    intro H1 e1
    rw [hsl] at e1
    exact ⟨_, hcl, t_OB.to (V := updV (vp_V vs) k v) ⟨_, e1, q2, q3, t_set q4 hap hk v⟩ (fun j _ => vp_updV_set hlen v j)⟩
  rcases hl with ⟨hff, hl⟩ | ⟨hff, hdecl, hinit, w1⟩
  · rw [if_neg (by rw [hff]; decide)] at hlay
    have h6 := u_store hfc hkC hkind hlay hi hpd hn hfit
    rcases hl with ⟨ref, w1, w2⟩ | ⟨host, w1⟩
    · have hi' : s.fieldFound? ref (T k).2.1 (T k).2.2.1 = some (cf, kf, fi, f) := by
        rcases w2 with rfl | w2
        · exact hi
        · exact u_same (hts _ w2) _ hi
      refine W.putK hexec hb (f := f) ⟨hown, hts _ w1, ⟨_, _, _, hi'⟩, hst⟩ (by rw [q2]; exact h6) q1 q3 (by rw [hsl]; exact k2_hasslot (q4 k hk)) rfl rfl hd fun H' e1 e2 e3 => ?_
      exact kk H' _ (hfin H' e1) e2 e3 (fun l hl => by rw [List.mem_singleton.mp hl])
    · refine va_WputK hexec hb (f := f) hown (va_Nw.use rfl (hE.2.1 _ w1 rfl)) hi hst (by rw [q2]; exact h6) q1 q3 (by rw [hsl]; exact k2_hasslot (q4 k hk)) rfl rfl hd fun H' e1 e2 e3 => ?_
      exact kk H' _ (hfin H' e1) e2 e3 (fun l hl => by rw [List.mem_singleton.mp hl])
  · rw [if_pos hff] at hlay
    have hcf : m.cls = cf := by
      obtain ⟨_, _, c', _, _, _, -, -, hf', -, -, -, hown2, -⟩ := Cond.laysFinal_spec hlay
      have e1 : c' = cf := by have := hi.symm.trans hf'; simp at this; exact this.1.symm
      rw [hdecl] at hown2
      rw [← e1]; exact Option.some.inj (hown.symm.trans hown2)
    have h6 := u_fits hfc hkC hkind (Or.inr hlay) hi hpd hn hfit
    refine W.putFinK hexec hb hown (hts _ w1) hi hst hcf (hmn.trans hinit) (by rw [q2]; exact h6) q1 q3 (by rw [hsl]; exact k2_hasslot (q4 k hk)) rfl rfl hd fun H' e1 e2 e3 => ?_
    exact kk H' _ (hfin H' e1) e2 e3 (fun l hl => by rw [List.mem_singleton.mp hl])
theorem sv_put {idx ci k a : Nat} {vs : List Value} {v : Value} {ty : FieldType} (hf : sx_fp Y.1.cls Y.1.name idx ci k ty) (hd : decode Y.2.1 pc = .ok (.putfield idx, 3)) (ha : sx_c σ a = some (.inr (ci, vs))) (hn : narrow ty v = v) (hfit : fits ty v = true) (hlen : k < vs.length) (kk : sx_V G d Y (pc + 3) L st (sx_up σ a (.inr (ci, vs.set k v))) Q) : sx_V G d Y pc L (v :: .ref a :: st) σ Q :=
  sx_wr ha kk (fun p e R s m args below meth c H locs cells slots ls Qf C hat hR hL hl hf2 kk2 => sx_put C hf hat hn hfit hlen hd kk2)
/-- own's entry idx names the class ci of N fields, that are fs when it is made -/
def sx_fn (own : String) (idx ci N : Nat) (fs : List Value) : Prop := ∃ (C : String) (T : u_T) (ty : Nat → FieldType), sx_clR[ci]? = some (C, T, N) ∧ (∀ w ∈ u_ws C T N, w ∈ lw_all) ∧ (∀ k, k < N → parseFieldDescriptor (T k).2.2.1 = some (ty k)) ∧ Cond.classLink own idx C ∈ lw_all ∧ Cond.instantiable C N ∈ lw_all ∧ Cond.initialized C ∈ lw_all ∧ ∀ j, j < N → defaultValue (ty j) = vp_V fs j
theorem sv_new {idx ci N : Nat} {fs : List Value} (hf : sx_fn Y.1.cls idx ci N fs) (hd : decode Y.2.1 pc = .ok (.new idx, 3)) (kk : sx_V G d Y (pc + 3) L (.ref (sx_n σ) :: st) (sx_al σ (.inr (ci, fs)) N) Q) : sx_V G d Y pc L st σ Q :=
  sx_nw1 kk (fun p e R s m args below meth c H locs cells slots ls Qf X hR hL hl hf2 hcells hslots hsz kk2 => by
    obtain ⟨hexec, hb, -, -, -, hown, hts, hmn, -, hE⟩ := X
    obtain ⟨C, T, ty, hc, hin, hty, w1, w2, w3, hfs⟩ := hf
    have hKn := hE.1.1 ci _ hc
    refine W.newcK hexec hb hown (hts _ w1) (hts _ w2) (hts _ w3) rfl hd hcells hslots hKn.2.1 rfl fun H1 kC hkC e1 z1 o1 => ?_
    rw [← hsz] at kk2
    exact kk2 H1 ⟨_, sx_cl_R hc, (u_born ty hts hin hKn hkC e1 hty).to hfs⟩ z1 o1)
end SXE
