set_option maxRecDepth 100000
section SXF
variable {G : sx_G} {d : Nat} {Y : sx_Y} {pc : Nat} {L : List (Option Value)} {st : List Value} {σ : sx_St} {Q : sx_O → sx_St → Prop}
theorem sx_P1 {D : va_G} {H : Heap} {a : Nat} {x : ClassId × vp_A} (h : va_at D sx_cl (a, .inl x) H) : va_P D sx_clR [(a, .inl x)] H := by
  intro k q hk
  match k with
  | 0 => simp at hk; subst hk; exact h
  | k + 1 => simp at hk
theorem sv_iald {a n : Nat} {f : Nat → Int32} {i : Int32} (hd : decode Y.2.1 pc = .ok (.iaload, 1)) (ha : sx_rd G σ a (.inl (sg_a G 0, n, .inl f))) (hin : vp_in i n) (k : sx_V G d Y (pc + 1) L (.int (f i.toNatClampNeg) :: st) σ Q) : sx_V G d Y pc L (.int i :: .ref a :: st) σ Q := sx_go k (fun p e R s m args below meth c H locs cells slots ls Qf C hR hL hS kk => va_iald C.1 C.2.1 C.2.2.2.2.2.2.2.2.2.1 (sx_P1 (sx_rd_at C.2.2.2.2.2.2.2.2.2 hR hS ha)) 0 0 rfl rfl hin hd (kk ls hL))
theorem sv_lald {a n : Nat} {f : Nat → Int64} {i : Int32} (hd : decode Y.2.1 pc = .ok (.laload, 1)) (ha : sx_rd G σ a (.inl (sg_a G 1, n, .inr (.inl f)))) (hin : vp_in i n) (k : sx_V G d Y (pc + 1) L (.long (f i.toNatClampNeg) :: st) σ Q) : sx_V G d Y pc L (.int i :: .ref a :: st) σ Q := sx_go k (fun p e R s m args below meth c H locs cells slots ls Qf C hR hL hS kk => va_lald C.1 C.2.1 C.2.2.2.2.2.2.2.2.2.1 (sx_P1 (sx_rd_at C.2.2.2.2.2.2.2.2.2 hR hS ha)) 0 1 rfl rfl hin hd (kk ls hL))
theorem sv_bald {a n : Nat} {f : Nat → Int32} {i : Int32} (hd : decode Y.2.1 pc = .ok (.baload, 1)) (ha : sx_rd G σ a (.inl (sg_a G 2, n, .inl f))) (hin : vp_in i n) (k : sx_V G d Y (pc + 1) L (.int (f i.toNatClampNeg) :: st) σ Q) : sx_V G d Y pc L (.int i :: .ref a :: st) σ Q := sx_go k (fun p e R s m args below meth c H locs cells slots ls Qf C hR hL hS kk => va_bald C.1 C.2.1 C.2.2.2.2.2.2.2.2.2.1 (sx_P1 (sx_rd_at C.2.2.2.2.2.2.2.2.2 hR hS ha)) 0 2 rfl rfl hin hd (kk ls hL))
theorem sv_zald {a n : Nat} {f : Nat → Int32} {i : Int32} (hd : decode Y.2.1 pc = .ok (.baload, 1)) (ha : sx_rd G σ a (.inl (sg_a G 3, n, .inl f))) (hin : vp_in i n) (k : sx_V G d Y (pc + 1) L (.int (f i.toNatClampNeg) :: st) σ Q) : sx_V G d Y pc L (.int i :: .ref a :: st) σ Q := sx_go k (fun p e R s m args below meth c H locs cells slots ls Qf C hR hL hS kk => va_zald C.1 C.2.1 C.2.2.2.2.2.2.2.2.2.1 (sx_P1 (sx_rd_at C.2.2.2.2.2.2.2.2.2 hR hS ha)) 0 3 rfl rfl hin hd (kk ls hL))
theorem sv_dald {a n : Nat} {f : Nat → UInt64} {i : Int32} (hd : decode Y.2.1 pc = .ok (.daload, 1)) (ha : sx_rd G σ a (.inl (sg_a G 4, n, .inr (.inr (.inr (.inl f)))))) (hin : vp_in i n) (k : sx_V G d Y (pc + 1) L (.double (f i.toNatClampNeg) :: st) σ Q) : sx_V G d Y pc L (.int i :: .ref a :: st) σ Q := sx_go k (fun p e R s m args below meth c H locs cells slots ls Qf C hR hL hS kk => va_dald C.1 C.2.1 C.2.2.2.2.2.2.2.2.2.1 (sx_P1 (sx_rd_at C.2.2.2.2.2.2.2.2.2 hR hS ha)) 0 4 rfl rfl hin hd (kk ls hL))
theorem sv_aald {a n : Nat} {f : Nat → Option Nat} {i : Int32} (t : Nat) {E : String} {cA : ClassId} (ht : (sx_tys G)[t]? = some (cA, .object E)) (hd : decode Y.2.1 pc = .ok (.aaload, 1)) (ha : sx_rd G σ a (.inl (cA, n, .inr (.inr (.inr (.inr f)))))) (hin : vp_in i n) (k : sx_V G d Y (pc + 1) L (va_rf (f i.toNatClampNeg) :: st) σ Q) : sx_V G d Y pc L (.int i :: .ref a :: st) σ Q := sx_go k (fun p e R s m args below meth c H locs cells slots ls Qf C hR hL hS kk => va_aldq C.1 C.2.1 C.2.2.2.2.2.2.2.2.2.1 (sx_P1 (sx_rd_at C.2.2.2.2.2.2.2.2.2 hR hS ha)) 0 t rfl ht hin hd (kk ls hL))
theorem sv_alen {a : Nat} {x : vp_A} (t : Nat) {ty : FieldType} {cA : ClassId} (ht : (sx_tys G)[t]? = some (cA, ty)) (v : Int32) (hd : decode Y.2.1 pc = .ok (.arraylength, 1)) (ha : sx_rd G σ a (.inl (cA, x))) (hv : Int32.ofNat x.1 = v) (k : sx_V G d Y (pc + 1) L (.int v :: st) σ Q) : sx_V G d Y pc L (.ref a :: st) σ Q := sx_go k (fun p e R s m args below meth c H locs cells slots ls Qf C hR hL hS kk => va_alen C.1 C.2.1 C.2.2.2.2.2.2.2.2.2.1 (sx_P1 (sx_rd_at C.2.2.2.2.2.2.2.2.2 hR hS ha)) 0 t rfl ht hv hd (kk ls hL))
theorem sv_iast {a n : Nat} {f : Nat → Int32} {i : Int32} {x : Int32} (hd : decode Y.2.1 pc = .ok (.iastore, 1)) (ha : sx_c σ a = some (.inl (sg_a G 0, n, .inl f))) (hin : vp_in i n) (k : sx_V G d Y (pc + 1) L st (sx_up σ a (.inl (sg_a G 0, n, .inl (upd f i.toNatClampNeg x)))) Q) : sx_V G d Y pc L (.int x :: .int i :: .ref a :: st) σ Q :=
  sx_wr ha k (fun p e R s m args below meth c H locs cells slots ls Qf C hat hR hL hl hf2 kk2 => by
    refine W.iast C.1 C.2.1 hat ((C.2.2.2.2.2.2.2.2.2.1.2 0 _ rfl).1 n (fun j => .int (f j))) (fun q => by cases q) (by show ¬ (i < 0 ∨ (arrV _ _ _).slots.size ≤ _); rw [arrV_size]; exact hin) rfl rfl hd fun H1 e1 z oq => ?_
    refine kk2 H1 _ ?_ z oq (fun l hl => by rw [List.mem_singleton.mp hl])
    show H1[a]? = some (vp_cell _ _)
    rw [e1]
    rw [vp_cell_i, vp_cell_i, arrV_store]
    congr 2
    funext q
    by_cases hq : q = i.toNatClampNeg
    · subst hq
      simp [updV, upd]
      try rfl
    · simp [updV, upd, hq])
theorem sv_bast {a n : Nat} {f : Nat → Int32} {i : Int32} {x : Int32} (hd : decode Y.2.1 pc = .ok (.bastore, 1)) (ha : sx_c σ a = some (.inl (sg_a G 2, n, .inl f))) (hin : vp_in i n) (k : sx_V G d Y (pc + 1) L st (sx_up σ a (.inl (sg_a G 2, n, .inl (upd f i.toNatClampNeg (vp_nar .byte x))))) Q) : sx_V G d Y pc L (.int x :: .int i :: .ref a :: st) σ Q :=
  sx_wr ha k (fun p e R s m args below meth c H locs cells slots ls Qf C hat hR hL hl hf2 kk2 => by
    refine W.bast C.1 C.2.1 hat ((C.2.2.2.2.2.2.2.2.2.1.2 2 _ rfl).1 n (fun j => .int (f j))) (fun q => by cases q) (by show ¬ (i < 0 ∨ (arrV _ _ _).slots.size ≤ _); rw [arrV_size]; exact hin) rfl rfl hd fun H1 e1 z oq => ?_
    refine kk2 H1 _ ?_ z oq (fun l hl => by rw [List.mem_singleton.mp hl])
    show H1[a]? = some (vp_cell _ _)
    rw [e1]
    rw [vp_cell_i, vp_cell_i, arrV_store]
    congr 2
    funext q
    by_cases hq : q = i.toNatClampNeg
    · subst hq
      simp [updV, upd, vp_nar]
      try rfl
    · simp [updV, upd, vp_nar, hq])
theorem sv_zast {a n : Nat} {f : Nat → Int32} {i : Int32} {x : Int32} (hd : decode Y.2.1 pc = .ok (.bastore, 1)) (ha : sx_c σ a = some (.inl (sg_a G 3, n, .inl f))) (hin : vp_in i n) (k : sx_V G d Y (pc + 1) L st (sx_up σ a (.inl (sg_a G 3, n, .inl (upd f i.toNatClampNeg (vp_nar .boolean x))))) Q) : sx_V G d Y pc L (.int x :: .int i :: .ref a :: st) σ Q :=
  sx_wr ha k (fun p e R s m args below meth c H locs cells slots ls Qf C hat hR hL hl hf2 kk2 => by
    refine W.zast C.1 C.2.1 hat ((C.2.2.2.2.2.2.2.2.2.1.2 3 _ rfl).1 n (fun j => .int (f j))) (fun q => by cases q) (by show ¬ (i < 0 ∨ (arrV _ _ _).slots.size ≤ _); rw [arrV_size]; exact hin) rfl rfl hd fun H1 e1 z oq => ?_
    refine kk2 H1 _ ?_ z oq (fun l hl => by rw [List.mem_singleton.mp hl])
    show H1[a]? = some (vp_cell _ _)
    rw [e1]
    rw [vp_cell_i, vp_cell_i, arrV_store]
    congr 2
    funext q
    by_cases hq : q = i.toNatClampNeg
    · subst hq
      simp [updV, upd, vp_nar]
      try rfl
    · simp [updV, upd, vp_nar, hq])
theorem sv_last {a n : Nat} {f : Nat → Int64} {i : Int32} {x : Int64} (hd : decode Y.2.1 pc = .ok (.lastore, 1)) (ha : sx_c σ a = some (.inl (sg_a G 1, n, .inr (.inl f)))) (hin : vp_in i n) (k : sx_V G d Y (pc + 1) L st (sx_up σ a (.inl (sg_a G 1, n, .inr (.inl (vp_updL f i.toNatClampNeg x))))) Q) : sx_V G d Y pc L (.long x :: .int i :: .ref a :: st) σ Q :=
  sx_wr ha k (fun p e R s m args below meth c H locs cells slots ls Qf C hat hR hL hl hf2 kk2 => by
    refine W.last C.1 C.2.1 hat ((C.2.2.2.2.2.2.2.2.2.1.2 1 _ rfl).1 n (fun j => .long (f j))) (fun q => by cases q) (by show ¬ (i < 0 ∨ (arrV _ _ _).slots.size ≤ _); rw [arrV_size]; exact hin) rfl rfl hd fun H1 e1 z oq => ?_
    refine kk2 H1 _ ?_ z oq (fun l hl => by rw [List.mem_singleton.mp hl])
    show H1[a]? = some (vp_cell _ _)
    rw [e1]
    rw [vp_cell_l, vp_cell_l, arrV_store]
    congr 2
    funext q
    by_cases hq : q = i.toNatClampNeg
    · subst hq
      simp [updV, vp_updL]
      try rfl
    · simp [updV, vp_updL, hq])
theorem sv_dast {a n : Nat} {f : Nat → UInt64} {i : Int32} {x : UInt64} (hd : decode Y.2.1 pc = .ok (.dastore, 1)) (ha : sx_c σ a = some (.inl (sg_a G 4, n, .inr (.inr (.inr (.inl f)))))) (hin : vp_in i n) (k : sx_V G d Y (pc + 1) L st (sx_up σ a (.inl (sg_a G 4, n, .inr (.inr (.inr (.inl (vf_upd f i.toNatClampNeg x))))))) Q) : sx_V G d Y pc L (.double x :: .int i :: .ref a :: st) σ Q :=
  sx_wr ha k (fun p e R s m args below meth c H locs cells slots ls Qf C hat hR hL hl hf2 kk2 => by
    refine W.dast C.1 C.2.1 hat ((C.2.2.2.2.2.2.2.2.2.1.2 4 _ rfl).1 n (fun j => .double (f j))) (fun q => by cases q) (by show ¬ (i < 0 ∨ (arrV _ _ _).slots.size ≤ _); rw [arrV_size]; exact hin) rfl rfl hd fun H1 e1 z oq => ?_
    refine kk2 H1 _ ?_ z oq (fun l hl => by rw [List.mem_singleton.mp hl])
    show H1[a]? = some (vp_cell _ _)
    rw [e1]
    rw [vp_cell_d, vp_cell_d, arrV_store]
    congr 2
    funext q
    by_cases hq : q = i.toNatClampNeg
    · subst hq
      simp [updV, vf_upd]
      try rfl
    · simp [updV, vf_upd, hq])
theorem sv_aast {a n v ci : Nat} {f : Nat → Option Nat} {i : Int32} (t : Nat) {E C0 : String} {cA : ClassId} {T0 : u_T} {N0 : Nat} {vs : List Value} (ht : (sx_tys G)[t]? = some (cA, .object E)) (hv : sx_rd G σ v (.inr (ci, vs))) (hci : sx_clR[ci]? = some (C0, T0, N0)) (hca : C0 = E ∨ Cond.castable C0 E ∈ lw_tbl) (hd : decode Y.2.1 pc = .ok (.aastore, 1)) (ha : sx_c σ a = some (.inl (cA, n, .inr (.inr (.inr (.inr f)))))) (hin : vp_in i n) (k : sx_V G d Y (pc + 1) L st (sx_up σ a (.inl (cA, n, .inr (.inr (.inr (.inr (va_up f i.toNatClampNeg (some v)))))))) Q) : sx_V G d Y pc L (.ref v :: .int i :: .ref a :: st) σ Q :=
  sx_wrS ha k (fun p e R s m args below meth c H locs cells slots ls Qf C hat hR hL hS kk2 => by
    have hlt : i.toNatClampNeg < n := Nat.not_le.mp fun q => hin (Or.inr q)
    have h0 : ¬ i < 0 := fun q => hin (Or.inl q)
    have hE := C.2.2.2.2.2.2.2.2.2
    obtain ⟨r, h1, cellV, g1, g2, g3, -⟩ := sx_rd_at hE hR hS hv
    obtain ⟨-, hfc, kC, hkC, -⟩ := hE.1.1 ci _ hci
    obtain ⟨kA, comp, k1, k2, k3, -⟩ := (hE.1.2 t _ ht).2
    obtain ⟨kE, hkE, -⟩ := Vm.findClass_spec k3
    have hasg : s.vm.assignable cellV.cls comp = true := by
      rw [g2]
      rcases hca with rfl | hca
      · have : comp = (sg_D G).1 ci := Option.some.inj (k3.symm.trans hfc)
        rw [this]
        exact va_asg _ _
      · obtain ⟨c0, t0, f1, f2, f3⟩ := Cond.castable_spec (va_Nw.use (A := args) rfl (hE.2.1 _ hca rfl))
        have e1 : c0 = (sg_D G).1 ci := Option.some.inj (f1.symm.trans hfc)
        have e2 : t0 = comp := Option.some.inj (f2.symm.trans k3)
        rw [← e1, ← e2]
        exact f3
    refine W.aast C.1 C.2.1 hat (fun q h => by cases h) (fun h => by cases h) k1 k2 rfl hkE ⟨h0, by show _ < (arrV _ _ _).slots.size; rw [arrV_size]; exact hlt⟩ g1 (fun q h => by rw [h] at g3; cases g3) (by rw [g2]; exact hkC) hasg rfl rfl hd fun H1 e1 z oq => ?_
    refine kk2 H1 _ ?_ z oq (fun l hl => by rw [List.mem_singleton.mp hl])
    show H1[a]? = some (vp_cell _ _)
    rw [e1]
    rw [vp_cell_q, vp_cell_q, arrV_store]
    congr 2
    funext q
    by_cases hq : q = i.toNatClampNeg
    · subst hq
      simp [updV, va_up, va_rf]
    · simp [updV, va_up, hq])
theorem sv_aastN {a n : Nat} {f : Nat → Option Nat} {i : Int32} (t : Nat) {E : String} {cA : ClassId} (ht : (sx_tys G)[t]? = some (cA, .object E)) (hd : decode Y.2.1 pc = .ok (.aastore, 1)) (ha : sx_c σ a = some (.inl (cA, n, .inr (.inr (.inr (.inr f)))))) (hin : vp_in i n) (k : sx_V G d Y (pc + 1) L st (sx_up σ a (.inl (cA, n, .inr (.inr (.inr (.inr (va_up f i.toNatClampNeg none))))))) Q) : sx_V G d Y pc L (.null :: .int i :: .ref a :: st) σ Q :=
  sx_wr ha k (fun p e R s m args below meth c H locs cells slots ls Qf C hat hR hL hl hf2 kk2 => by
    refine va_WaastN C.1 C.2.1 hat ((C.2.2.2.2.2.2.2.2.2.1.2 t _ ht).1 n (fun j => va_rf (f j))) (fun q => by cases q) (by show ¬ (i < 0 ∨ (arrV _ _ _).slots.size ≤ _); rw [arrV_size]; exact hin) rfl rfl hd fun H1 e1 z oq => ?_
    refine kk2 H1 _ ?_ z oq (fun l hl => by rw [List.mem_singleton.mp hl])
    show H1[a]? = some (vp_cell _ _)
    rw [e1]
    rw [vp_cell_q, vp_cell_q, arrV_store]
    congr 2
    funext q
    by_cases hq : q = i.toNatClampNeg
    · subst hq
      simp [updV, va_up, va_rf]
    · simp [updV, va_up, hq])
theorem sv_newa_int {n : Int32} (N : Nat) (hw : Cond.arrayClass .int ∈ lw_all) (hd : decode Y.2.1 pc = .ok (.newarray .int, 2)) (hn : ¬ n < 0) (hN : n.toNatClampNeg = N) (hb : N ≤ 60000000) (kk : sx_V G d Y (pc + 2) L (.ref (sx_n σ) :: st) (sx_al σ (.inl (sg_a G 0, N, .inl (fun _ => 0))) N) Q) : sx_V G d Y pc L (.int n :: st) σ Q :=
  sx_nw1 kk (fun p e R s m args below meth c H locs cells slots ls Qf C hR hL hl hf2 hcells hslots hsz kk2 => by
    have hE := C.2.2.2.2.2.2.2.2.2
    refine va_newaK (atype := .int) C.1 C.2.1 (C.2.2.2.2.2.2.1 _ hw) rfl hd rfl hn hN (by show N * _ ≤ _; simp only [newarray.typeOf, componentBytes]; omega) hcells hslots rfl fun H1 cA e1 z1 o1 hAr hNm => ?_
    have hcA : cA = sg_a G 0 := Option.some.inj (hNm.symm.trans (hE.1.2 0 _ rfl).2)
    subst hcA
    rw [← hsz] at kk2
    refine kk2 H1 ?_ z1 o1
    show H1[H.size]? = some (vp_cell _ _)
    rw [e1]
    rfl)
theorem sv_newa_long {n : Int32} (N : Nat) (hw : Cond.arrayClass .long ∈ lw_all) (hd : decode Y.2.1 pc = .ok (.newarray .long, 2)) (hn : ¬ n < 0) (hN : n.toNatClampNeg = N) (hb : N ≤ 60000000) (kk : sx_V G d Y (pc + 2) L (.ref (sx_n σ) :: st) (sx_al σ (.inl (sg_a G 1, N, .inr (.inl (fun _ => 0)))) N) Q) : sx_V G d Y pc L (.int n :: st) σ Q :=
  sx_nw1 kk (fun p e R s m args below meth c H locs cells slots ls Qf C hR hL hl hf2 hcells hslots hsz kk2 => by
    have hE := C.2.2.2.2.2.2.2.2.2
    refine va_newaK (atype := .long) C.1 C.2.1 (C.2.2.2.2.2.2.1 _ hw) rfl hd rfl hn hN (by show N * _ ≤ _; simp only [newarray.typeOf, componentBytes]; omega) hcells hslots rfl fun H1 cA e1 z1 o1 hAr hNm => ?_
    have hcA : cA = sg_a G 1 := Option.some.inj (hNm.symm.trans (hE.1.2 1 _ rfl).2)
    subst hcA
    rw [← hsz] at kk2
    refine kk2 H1 ?_ z1 o1
    show H1[H.size]? = some (vp_cell _ _)
    rw [e1]
    rfl)
theorem sv_newa_byte {n : Int32} (N : Nat) (hw : Cond.arrayClass .byte ∈ lw_all) (hd : decode Y.2.1 pc = .ok (.newarray .byte, 2)) (hn : ¬ n < 0) (hN : n.toNatClampNeg = N) (hb : N ≤ 60000000) (kk : sx_V G d Y (pc + 2) L (.ref (sx_n σ) :: st) (sx_al σ (.inl (sg_a G 2, N, .inl (fun _ => 0))) N) Q) : sx_V G d Y pc L (.int n :: st) σ Q :=
  sx_nw1 kk (fun p e R s m args below meth c H locs cells slots ls Qf C hR hL hl hf2 hcells hslots hsz kk2 => by
    have hE := C.2.2.2.2.2.2.2.2.2
    refine va_newaK (atype := .byte) C.1 C.2.1 (C.2.2.2.2.2.2.1 _ hw) rfl hd rfl hn hN (by show N * _ ≤ _; simp only [newarray.typeOf, componentBytes]; omega) hcells hslots rfl fun H1 cA e1 z1 o1 hAr hNm => ?_
    have hcA : cA = sg_a G 2 := Option.some.inj (hNm.symm.trans (hE.1.2 2 _ rfl).2)
    subst hcA
    rw [← hsz] at kk2
    refine kk2 H1 ?_ z1 o1
    show H1[H.size]? = some (vp_cell _ _)
    rw [e1]
    rfl)
theorem sv_newa_boolean {n : Int32} (N : Nat) (hw : Cond.arrayClass .boolean ∈ lw_all) (hd : decode Y.2.1 pc = .ok (.newarray .boolean, 2)) (hn : ¬ n < 0) (hN : n.toNatClampNeg = N) (hb : N ≤ 60000000) (kk : sx_V G d Y (pc + 2) L (.ref (sx_n σ) :: st) (sx_al σ (.inl (sg_a G 3, N, .inl (fun _ => 0))) N) Q) : sx_V G d Y pc L (.int n :: st) σ Q :=
  sx_nw1 kk (fun p e R s m args below meth c H locs cells slots ls Qf C hR hL hl hf2 hcells hslots hsz kk2 => by
    have hE := C.2.2.2.2.2.2.2.2.2
    refine va_newaK (atype := .boolean) C.1 C.2.1 (C.2.2.2.2.2.2.1 _ hw) rfl hd rfl hn hN (by show N * _ ≤ _; simp only [newarray.typeOf, componentBytes]; omega) hcells hslots rfl fun H1 cA e1 z1 o1 hAr hNm => ?_
    have hcA : cA = sg_a G 3 := Option.some.inj (hNm.symm.trans (hE.1.2 3 _ rfl).2)
    subst hcA
    rw [← hsz] at kk2
    refine kk2 H1 ?_ z1 o1
    show H1[H.size]? = some (vp_cell _ _)
    rw [e1]
    rfl)
theorem sv_newa_double {n : Int32} (N : Nat) (hw : Cond.arrayClass .double ∈ lw_all) (hd : decode Y.2.1 pc = .ok (.newarray .double, 2)) (hn : ¬ n < 0) (hN : n.toNatClampNeg = N) (hb : N ≤ 60000000) (kk : sx_V G d Y (pc + 2) L (.ref (sx_n σ) :: st) (sx_al σ (.inl (sg_a G 4, N, .inr (.inr (.inr (.inl (fun _ => 0)))))) N) Q) : sx_V G d Y pc L (.int n :: st) σ Q :=
  sx_nw1 kk (fun p e R s m args below meth c H locs cells slots ls Qf C hR hL hl hf2 hcells hslots hsz kk2 => by
    have hE := C.2.2.2.2.2.2.2.2.2
    refine va_newaK (atype := .double) C.1 C.2.1 (C.2.2.2.2.2.2.1 _ hw) rfl hd rfl hn hN (by show N * _ ≤ _; simp only [newarray.typeOf, componentBytes]; omega) hcells hslots rfl fun H1 cA e1 z1 o1 hAr hNm => ?_
    have hcA : cA = sg_a G 4 := Option.some.inj (hNm.symm.trans (hE.1.2 4 _ rfl).2)
    subst hcA
    rw [← hsz] at kk2
    refine kk2 H1 ?_ z1 o1
    show H1[H.size]? = some (vp_cell _ _)
    rw [e1]
    rfl)
theorem sv_anew {n : Int32} {idx : Nat} (t : Nat) {E : String} {cA : ClassId} (N : Nat) (ht : (sx_tys G)[t]? = some (cA, .object E)) (hw : Cond.classLink Y.1.cls idx E ∈ lw_all) (hw2 : Cond.arrayOver (.object E) ∈ lw_tbl) (hd : decode Y.2.1 pc = .ok (.anewarray idx, 3)) (hn : ¬ n < 0) (hN : n.toNatClampNeg = N) (hb : N ≤ 60000000) (kk : sx_V G d Y (pc + 3) L (.ref (sx_n σ) :: st) (sx_al σ (.inl (cA, N, .inr (.inr (.inr (.inr (fun _ => none)))))) N) Q) : sx_V G d Y pc L (.int n :: st) σ Q :=
  sx_nw1 kk (fun p e R s m args below meth c H locs cells slots ls Qf C hR hL hl hf2 hcells hslots hsz kk2 => by
    have hE := C.2.2.2.2.2.2.2.2.2
    subst hN
    refine W.anew C.1 C.2.1 C.2.2.2.2.2.1 (C.2.2.2.2.2.2.1 _ hw) (va_AO.use (hE.2.2.1 _ hw2)) rfl hd rfl hn (by omega) hcells hslots fun cA2 kA comp f1 f2 f3 f4 => ?_
    obtain ⟨kA', comp', g1, g2, g3, g4⟩ := (hE.1.2 t _ ht).2
    have hcA : cA2 = cA := Option.some.inj (f1.symm.trans g4)
    subst hcA
    generalize hH1 : H.push ({ cls := cA2, slots := Array.replicate n.toNatClampNeg .null, vm := .none } : Cell) = H1
    have z1 : H1.size = H.size + 1 := by rw [← hH1, Array.size_push]
    have e1 : H1[H.size]? = some (arrV cA2 n.toNatClampNeg (fun _ => .null)) := by rw [← hH1, Array.getElem?_push_size, ← arrV_new]
    have o1 : ∀ q : Nat, q < H.size → H1[q]? = H[q]? := fun q hq => by rw [← hH1, Array.getElem?_push, if_neg (Nat.ne_of_lt hq)]
    rw [← hsz] at kk2
    refine kk2 H1 ?_ z1 o1
    show H1[H.size]? = some (vp_cell _ _)
    rw [vp_cell_q]
    exact e1)
theorem sv_gets {idx : Nat} (i : Nat) {C n dd : String} (hi : sx_zs[i]? = some (C, n, dd)) (hw : Cond.fieldLink Y.1.cls idx C n dd ∈ lw_all) (hd : decode Y.2.1 pc = .ok (.getstatic idx, 3)) (k : sx_V G d Y (pc + 3) L (sg_z G i :: st) σ Q) : sx_V G d Y pc L st σ Q := sx_go k (fun p e R s m args below meth c H locs cells slots ls Qf C hR hL hS kk => va_gets C.1 C.2.1 (C.2.2.2.2.2.2.2.2.2.2.2.2.1 i _ hi) hS C.2.2.2.2.2.1 (C.2.2.2.2.2.2.1 _ hw) (fun _ h => h) hd (kk ls hL))
theorem sv_cast {idx a ci : Nat} {nm C0 : String} {T0 : u_T} {N0 : Nat} {vs : List Value} (ha : sx_rd G σ a (.inr (ci, vs))) (hci : sx_clR[ci]? = some (nm, T0, N0)) (hw : Cond.classLink Y.1.cls idx nm ∈ lw_all) (hd : decode Y.2.1 pc = .ok (.checkcast idx, 3)) (k : sx_V G d Y (pc + 3) L (.ref a :: st) σ Q) : sx_V G d Y pc L (.ref a :: st) σ Q := sx_go k (fun p e R s m args below meth c H locs cells slots ls Qf C hR hL hS kk => by
    have hE := C.2.2.2.2.2.2.2.2.2
    obtain ⟨r, h1, cell, g1, g2, g3, -⟩ := sx_rd_at hE hR hS ha
    exact va_castS C.1 C.2.1 C.2.2.2.2.2.1 (C.2.2.2.2.2.2.1 _ hw) (hE.1.1 ci _ hci).2 ⟨cell, g1, by rw [g3]; rfl, by rw [g2]; exact (hE.1.1 ci _ hci).2.1⟩ hd (kk ls hL))
theorem sv_castN {idx : Nat} (hd : decode Y.2.1 pc = .ok (.checkcast idx, 3)) (k : sx_V G d Y (pc + 3) L (.null :: st) σ Q) : sx_V G d Y pc L (.null :: st) σ Q := sx_go k (fun p e R s m args below meth c H locs cells slots ls Qf C hR hL hS kk => lv_castN C.1 C.2.1 hd (kk ls hL))
theorem sv_castA {idx a : Nat} {nm : String} {x : vp_A} (t : Nat) {ty : FieldType} {cA : ClassId} (ht : (sx_tys G)[t]? = some (cA, ty)) (hnm : nm = "[" ++ ty.toString) (ha : sx_rd G σ a (.inl (cA, x))) (hw : Cond.classLink Y.1.cls idx nm ∈ lw_all) (hd : decode Y.2.1 pc = .ok (.checkcast idx, 3)) (k : sx_V G d Y (pc + 3) L (.ref a :: st) σ Q) : sx_V G d Y pc L (.ref a :: st) σ Q := sx_go k (fun p e R s m args below meth c H locs cells slots ls Qf C hR hL hS kk => by
    have hE := C.2.2.2.2.2.2.2.2.2
    have hra := (hE.1.2 t _ ht).2
    have hf : s.vm.findClass nm = some cA := by
      rw [hnm]
      cases ty with
      | object n => exact hra.choose_spec.choose_spec.2.2.2
      | _ => exact hra
    exact va_castA C.1 C.2.1 C.2.2.2.2.2.1 (C.2.2.2.2.2.2.1 _ hw) (sx_P1 (sx_rd_at hE hR hS ha)) 0 rfl hf hd (kk ls hL))
theorem sv_instS {idx a ci : Nat} {nm : String} {T0 : u_T} {N0 : Nat} {vs : List Value} (ha : sx_rd G σ a (.inr (ci, vs))) (hci : sx_clR[ci]? = some (nm, T0, N0)) (hw : Cond.classLink Y.1.cls idx nm ∈ lw_all) (hd : decode Y.2.1 pc = .ok (.instanceof idx, 3)) (k : sx_V G d Y (pc + 3) L (.int 1 :: st) σ Q) : sx_V G d Y pc L (.ref a :: st) σ Q := sx_go k (fun p e R s m args below meth c H locs cells slots ls Qf C hR hL hS kk => by
    have hE := C.2.2.2.2.2.2.2.2.2
    obtain ⟨r, h1, cell, g1, g2, g3, -⟩ := sx_rd_at hE hR hS ha
    exact va_instS C.1 C.2.1 C.2.2.2.2.2.1 (C.2.2.2.2.2.2.1 _ hw) (hE.1.1 ci _ hci).2 ⟨cell, g1, by rw [g3]; rfl, by rw [g2]; exact (hE.1.1 ci _ hci).2.1⟩ hd (kk ls hL))
theorem sv_sld {i : Int32} {b n : Nat} {xs : Nat → Int32} (hx : sg_x G = (b, n, xs)) (hd : decode Y.2.1 pc = .ok (.iaload, 1)) (hin : vp_in i n) (k : sx_V G d Y (pc + 1) L (.int (xs i.toNatClampNeg) :: st) σ Q) : sx_V G d Y pc L (.int i :: .ref b :: st) σ Q := sx_go k (fun p e R s m args below meth c H locs cells slots ls Qf C hR hL hS kk => by
    have hX := C.2.2.2.2.2.2.2.2.2.2.2.2.2.2.2.1
    rw [hx] at hX
    exact va_sld C.1 C.2.1 hX.1 (by obtain ⟨scr, h1, -⟩ := hX.1; exact (Array.getElem?_eq_some_iff.mp h1).1) hX.2 hS hin hd (kk ls hL))
theorem sv_slen {b n : Nat} {xs : Nat → Int32} (hx : sg_x G = (b, n, xs)) (v : Int32) (hv : Int32.ofNat n = v) (hd : decode Y.2.1 pc = .ok (.arraylength, 1)) (k : sx_V G d Y (pc + 1) L (.int v :: st) σ Q) : sx_V G d Y pc L (.ref b :: st) σ Q := sx_go k (fun p e R s m args below meth c H locs cells slots ls Qf C hR hL hS kk => by
    have hX := C.2.2.2.2.2.2.2.2.2.2.2.2.2.2.2.1
    rw [hx] at hX
    subst hv
    exact va_slen C.1 C.2.1 hX.1 (by obtain ⟨scr, h1, -⟩ := hX.1; exact (Array.getElem?_eq_some_iff.mp h1).1) hX.2 hS hd (kk ls hL))
end SXF
