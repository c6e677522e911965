set_option maxRecDepth 100000
section SXC
/-- a frame of the method Y at its work -/
def sx_X (G : sx_G) (Y : sx_Y) (p : Program) (s : State) (m : MethodId) (args : Array Value) (meth : Method) (c : Code) : Prop :=
  p.tables.exec = Jvm.exec ∧ c.code = Y.2.1 ∧ meth.sig.returnType = Y.2.2.2.1 ∧ c.maxLocals = Y.2.2.1 ∧ meth.locks = false ∧ s.vm.findClass Y.1.cls = some m.cls ∧
  (∀ w ∈ lw_all, w.before args s = true) ∧ (meth.name = Y.1.name ∧ s.methodNamed? Y.1 = some m) ∧ c.exceptionTable.toList = tableOf Y.2.2.2.2 ∧ sx_E G s s.heap
/-- a method's end: returned or thrown, the heap behind it -/
def sx_Qc (G : sx_G) (o : sx_O) (τ : sx_St) : Array Value → State → Outcome → State → Prop := fun _ st o' t => ∃ v, o = .inl v ∧ o' = .returned v ∧ sx_R G τ t.heap ∧ va_F (sg_A G) st t
def sx_XC (G : sx_G) (o : sx_O) (τ : sx_St) : String → Addr → State → State → Prop := fun E q st t => o = .inr (E, q) ∧ sx_R G τ t.heap ∧ va_F (sg_A G) st t
/-- from pc on, the method comes to its end (o, τ); 'd': how many calls deep -/
def sx_T (G : sx_G) (d : Nat) (Y : sx_Y) (pc : Nat) (L : List (Option Value)) (st : List Value) (σ : sx_St) (o : sx_O) (τ : sx_St) : Prop :=
  sx_n σ ≤ sx_n τ ∧ sx_s σ ≤ sx_s τ ∧ ∀ (p : Program) (e : Env) (R : Room) (s : State) (m : MethodId) (args : Array Value) (below : List Frame) (meth : Method) (c : Code) (H : Heap) (locs : List Loc) (cells slots : Nat) (ls : Array Slot),
    sx_X G Y p s m args meth c → d ≤ R.frames → 40 * d ≤ R.locals → cells + (sx_n τ - sx_n σ) ≤ R.cells → slots + (sx_s τ - sx_s σ) ≤ R.slots → sx_R G σ H → va_S (sg_A G) s.heap H locs → sx_L ls Y.2.2.1 L →
    W p (sg_l G) e R s m args below meth c H locs cells slots (vx_MQ below (sx_Qc G o τ) (sx_XC G o τ) args s (cells + (sx_n τ - sx_n σ)) (slots + (sx_s τ - sx_s σ)) (sg_A G)) (F0 m pc ls st)
def sx_V (G : sx_G) (d : Nat) (Y : sx_Y) (pc : Nat) (L : List (Option Value)) (st : List Value) (σ : sx_St) (Q : sx_O → sx_St → Prop) : Prop := ∃ o τ, Q o τ ∧ sx_T G d Y pc L st σ o τ
/-- the same where q (of the class E) is being thrown at pc -/
def sx_TX (G : sx_G) (d : Nat) (Y : sx_Y) (pc : Nat) (L : List (Option Value)) (E : String) (q : Nat) (σ : sx_St) (o : sx_O) (τ : sx_St) : Prop :=
  sx_n σ ≤ sx_n τ ∧ sx_s σ ≤ sx_s τ ∧ ∀ (p : Program) (e : Env) (R : Room) (s : State) (m : MethodId) (args : Array Value) (below : List Frame) (meth : Method) (c : Code) (H : Heap) (locs : List Loc) (cells slots : Nat) (ls : Array Slot) (rest : List Value) (ce : Cell),
    sx_X G Y p s m args meth c → d ≤ R.frames → 40 * d ≤ R.locals → cells + (sx_n τ - sx_n σ) ≤ R.cells → slots + (sx_s τ - sx_s σ) ≤ R.slots → sx_R G σ H → va_S (sg_A G) s.heap H locs → sx_L ls Y.2.2.1 L →
    H[q]? = some ce → ce.vm = .none → s.vm.findClass E = some ce.cls →
    vx_W p (sg_l G) e R s m args below meth c H locs cells slots (vx_MQ below (sx_Qc G o τ) (sx_XC G o τ) args s (cells + (sx_n τ - sx_n σ)) (slots + (sx_s τ - sx_s σ)) (sg_A G)) (F0 m pc ls rest) q
def sx_VX (G : sx_G) (d : Nat) (Y : sx_Y) (pc : Nat) (L : List (Option Value)) (E : String) (q : Nat) (σ : sx_St) (Q : sx_O → sx_St → Prop) : Prop := ∃ o τ, Q o τ ∧ sx_TX G d Y pc L E q σ o τ
/-- the words of a contract -/
def sx_ws (Y : sx_Y) : List Cond := match Y.2.2.2.2 with
  | [] => ws_ Y.1 Y.2.1 Y.2.2.1 Y.2.2.2.1
  | hh => wsW_ Y.1 Y.2.1 Y.2.2.1 Y.2.2.2.1 hh
def sx_rm (d c s : Nat) : Room := { frames := d, cells := c, slots := s, locals := 40 * d }
/-- a method's contract: called with args over σ it ends with o, τ -/
def sx_M (G : sx_G) (d : Nat) (Y : sx_Y) (av : List Value) (σ : sx_St) (o : sx_O) (τ : sx_St) : Prop :=
  sx_n σ ≤ sx_n τ ∧ sx_s σ ≤ sx_s τ ∧ vx_Met (sg_l G) Y.1 (sx_ws Y) (sx_rm d (sx_n τ - sx_n σ) (sx_s τ - sx_s σ)) (va_Pc av (fun U => sx_E G U U.heap ∧ sx_R G σ U.heap)) (sx_Qc G o τ) (sx_XC G o τ) (sx_n τ - sx_n σ) (sx_s τ - sx_s σ) (sg_A G)
def sx_C (G : sx_G) (d : Nat) (Y : sx_Y) (av : List Value) (σ : sx_St) (Q : sx_O → sx_St → Prop) : Prop := ∃ o τ, Q o τ ∧ sx_M G d Y av σ o τ
theorem sx_V_Q {G : sx_G} {d : Nat} {Y : sx_Y} {pc : Nat} {L : List (Option Value)} {st : List Value} {σ : sx_St} {Q Q' : sx_O → sx_St → Prop} (h : sx_V G d Y pc L st σ Q) (hq : ∀ o τ, Q o τ → Q' o τ) : sx_V G d Y pc L st σ Q' := by
  obtain ⟨o, τ, h1, h2⟩ := h
  exact ⟨o, τ, hq o τ h1, h2⟩
theorem sx_C_Q {G : sx_G} {d : Nat} {Y : sx_Y} {av : List Value} {σ : sx_St} {Q Q' : sx_O → sx_St → Prop} (h : sx_C G d Y av σ Q) (hq : ∀ o τ, Q o τ → Q' o τ) : sx_C G d Y av σ Q' := by
  obtain ⟨o, τ, h1, h2⟩ := h
  exact ⟨o, τ, hq o τ h1, h2⟩
/-- a step that leaves the heap alone -/
theorem sx_go {G : sx_G} {d : Nat} {Y : sx_Y} {pc pc' : Nat} {L L' : List (Option Value)} {st st' : List Value} {σ : sx_St} {Q : sx_O → sx_St → Prop} (k : sx_V G d Y pc' L' st' σ Q)
    (h : ∀ (p : Program) (e : Env) (R : Room) (s : State) (m : MethodId) (args : Array Value) (below : List Frame) (meth : Method) (c : Code) (H : Heap) (locs : List Loc) (cells slots : Nat) (ls : Array Slot) (Qf : State → Prop),
      sx_X G Y p s m args meth c → sx_R G σ H → sx_L ls Y.2.2.1 L → va_S (sg_A G) s.heap H locs → (∀ ls', sx_L ls' Y.2.2.1 L' → W p (sg_l G) e R s m args below meth c H locs cells slots Qf (F0 m pc' ls' st')) → W p (sg_l G) e R s m args below meth c H locs cells slots Qf (F0 m pc ls st)) : sx_V G d Y pc L st σ Q := by
  obtain ⟨o, τ, hQ, h1, h2, h3⟩ := k
  refine ⟨o, τ, hQ, h1, h2, ?_⟩
  intro p e R s m args below meth c H locs cells slots ls C hf hl hc hs hR hS hL
  exact h p e R s m args below meth c H locs cells slots ls _ C hR hL hS (fun ls' hL' => h3 p e R s m args below meth c H locs cells slots ls' C hf hl hc hs hR hS hL')
theorem sx_A_hi {G : sx_G} {s : State} (h : sx_E G s s.heap) : ∀ q : Nat, s.heap.size ≤ q → sg_A G q := fun q hq => Nat.le_trans h.2.2.2.2.2.2.2.2.2.1 hq
/-- a step that writes one cell -/
theorem sx_wr {G : sx_G} {d : Nat} {Y : sx_Y} {pc pc' : Nat} {L : List (Option Value)} {st st' : List Value} {σ : sx_St} {Q : sx_O → sx_St → Prop} {a : Nat} {e0 e1 : va_E} (ha : sx_c σ a = some e0) (k : sx_V G d Y pc' L st' (sx_up σ a e1) Q)
    (h : ∀ (p : Program) (e : Env) (R : Room) (s : State) (m : MethodId) (args : Array Value) (below : List Frame) (meth : Method) (c : Code) (H : Heap) (locs : List Loc) (cells slots : Nat) (ls : Array Slot) (Qf : State → Prop),
      sx_X G Y p s m args meth c → va_at (sg_D G) sx_cl (a, e0) H → sx_R G σ H → sx_L ls Y.2.2.1 L → 40 * d ≤ R.locals → d ≤ R.frames →
      (∀ (H1 : Heap) (ls1 : List Loc), va_at (sg_D G) sx_cl (a, e1) H1 → H1.size = H.size → (∀ q : Nat, q ≠ a → H1[q]? = H[q]?) → (∀ l ∈ ls1, l.base = a) → W p (sg_l G) e R s m args below meth c H1 (locs ++ ls1) cells slots Qf (F0 m pc' ls st')) →
      W p (sg_l G) e R s m args below meth c H locs cells slots Qf (F0 m pc ls st)) : sx_V G d Y pc L st σ Q := by
  obtain ⟨o, τ, hQ, h1, h2, h3⟩ := k
  refine ⟨o, τ, hQ, h1, h2, ?_⟩
  intro p e R s m args below meth c H locs cells slots ls C hf hl hc hs hR hS hL
  obtain ⟨g1, g2⟩ := hR.2 a e0 ha
  refine h p e R s m args below meth c H locs cells slots ls _ C g2 hR hL hl hf (fun H1 ls1 a1 z1 o1 b1 => ?_)
  refine h3 p e R s m args below meth c H1 (locs ++ ls1) cells slots ls C hf hl hc hs (sx_R_put hR g1 a1 z1 o1) ⟨by rw [z1]; exact hS.1, fun q q1 q2 => ?_, fun l hl => ?_⟩ hL
  · rw [o1 q (fun e => q2 (by rw [e]; exact g1))]
    exact hS.2.1 q q1 q2
  · rcases List.mem_append.mp hl with h5 | h5
    · exact hS.2.2 l h5
    · rw [b1 l h5]; exact g1
/-- a step that makes one cell of n slots -/
theorem sx_nw1 {G : sx_G} {d : Nat} {Y : sx_Y} {pc pc' n : Nat} {L : List (Option Value)} {st st' : List Value} {σ : sx_St} {Q : sx_O → sx_St → Prop} {e1 : va_E} (k : sx_V G d Y pc' L st' (sx_al σ e1 n) Q)
    (h : ∀ (p : Program) (e : Env) (R : Room) (s : State) (m : MethodId) (args : Array Value) (below : List Frame) (meth : Method) (c : Code) (H : Heap) (locs : List Loc) (cells slots : Nat) (ls : Array Slot) (Qf : State → Prop),
      sx_X G Y p s m args meth c → sx_R G σ H → sx_L ls Y.2.2.1 L → 40 * d ≤ R.locals → d ≤ R.frames → cells + 1 ≤ R.cells → slots + n ≤ R.slots → H.size = sx_n σ →
      (∀ (H1 : Heap), va_at (sg_D G) sx_cl (H.size, e1) H1 → H1.size = H.size + 1 → (∀ q : Nat, q < H.size → H1[q]? = H[q]?) → W p (sg_l G) e R s m args below meth c H1 locs (cells + 1) (slots + n) Qf (F0 m pc' ls st')) →
      W p (sg_l G) e R s m args below meth c H locs cells slots Qf (F0 m pc ls st)) : sx_V G d Y pc L st σ Q := by
  obtain ⟨o, τ, hQ, h1, h2, h3⟩ := k
  rw [sx_n_al] at h1
  rw [sx_s_al] at h2
  refine ⟨o, τ, hQ, by omega, by omega, ?_⟩
  intro p e R s m args below meth c H locs cells slots ls C hf hl hc hs hR hS hL
  have hb : sg_b G ≤ H.size := Nat.le_trans C.2.2.2.2.2.2.2.2.2.2.2.2.2.2.2.2.2.2.1 hS.1
  refine h p e R s m args below meth c H locs cells slots ls _ C hR hL hl hf (by omega) (by omega) hR.1 (fun H1 a1 z1 o1 => ?_)
  have h4 := h3 p e R s m args below meth c H1 locs (cells + 1) (slots + n) ls C hf hl (by rw [sx_n_al]; omega) (by rw [sx_s_al]; omega) (sx_R_al hR hb a1 z1 o1) ⟨by have := hS.1; omega, fun q q1 q2 => ?_, hS.2.2⟩ hL
  · rw [sx_n_al, sx_s_al, show cells + 1 + (sx_n τ - (sx_n σ + 1)) = cells + (sx_n τ - sx_n σ) by omega, show slots + n + (sx_s τ - (sx_s σ + n)) = slots + (sx_s τ - sx_s σ) by omega] at h4
    exact h4
  · rw [o1 q (Nat.lt_of_lt_of_le q1 hS.1)]
    exact hS.2.1 q q1 q2
/-- the same, where what was not written is wanted -/
theorem sx_nw1' {G : sx_G} {d : Nat} {Y : sx_Y} {pc pc' n : Nat} {L : List (Option Value)} {st st' : List Value} {σ : sx_St} {Q : sx_O → sx_St → Prop} {e1 : va_E} (k : sx_V G d Y pc' L st' (sx_al σ e1 n) Q)
    (h : ∀ (p : Program) (e : Env) (R : Room) (s : State) (m : MethodId) (args : Array Value) (below : List Frame) (meth : Method) (c : Code) (H : Heap) (locs : List Loc) (cells slots : Nat) (ls : Array Slot) (Qf : State → Prop),
      sx_X G Y p s m args meth c → sx_R G σ H → sx_L ls Y.2.2.1 L → va_S (sg_A G) s.heap H locs → 40 * d ≤ R.locals → d ≤ R.frames → cells + 1 ≤ R.cells → slots + n ≤ R.slots → H.size = sx_n σ →
      (∀ (H1 : Heap), va_at (sg_D G) sx_cl (H.size, e1) H1 → H1.size = H.size + 1 → (∀ q : Nat, q < H.size → H1[q]? = H[q]?) → W p (sg_l G) e R s m args below meth c H1 locs (cells + 1) (slots + n) Qf (F0 m pc' ls st')) →
      W p (sg_l G) e R s m args below meth c H locs cells slots Qf (F0 m pc ls st)) : sx_V G d Y pc L st σ Q := by
  obtain ⟨o, τ, hQ, h1, h2, h3⟩ := k
  rw [sx_n_al] at h1
  rw [sx_s_al] at h2
  refine ⟨o, τ, hQ, by omega, by omega, ?_⟩
  intro p e R s m args below meth c H locs cells slots ls C hf hl hc hs hR hS hL
  have hb : sg_b G ≤ H.size := Nat.le_trans C.2.2.2.2.2.2.2.2.2.2.2.2.2.2.2.2.2.2.1 hS.1
  refine h p e R s m args below meth c H locs cells slots ls _ C hR hL hS hl hf (by omega) (by omega) hR.1 (fun H1 a1 z1 o1 => ?_)
  have h4 := h3 p e R s m args below meth c H1 locs (cells + 1) (slots + n) ls C hf hl (by rw [sx_n_al]; omega) (by rw [sx_s_al]; omega) (sx_R_al hR hb a1 z1 o1) ⟨by have := hS.1; omega, fun q q1 q2 => ?_, hS.2.2⟩ hL
  · rw [sx_n_al, sx_s_al, show cells + 1 + (sx_n τ - (sx_n σ + 1)) = cells + (sx_n τ - sx_n σ) by omega, show slots + n + (sx_s τ - (sx_s σ + n)) = slots + (sx_s τ - sx_s σ) by omega] at h4
    exact h4
  · rw [o1 q (Nat.lt_of_lt_of_le q1 hS.1)]
    exact hS.2.1 q q1 q2
/-- the body gives the contract -/
theorem sx_body {G : sx_G} {d : Nat} {Y : sx_Y} {av : List Value} {σ : sx_St} {Q : sx_O → sx_St → Prop} (hy : plainName Y.1.cls = true) (ha : (lg_sl av).length ≤ Y.2.2.1) (k : sx_V G d Y 0 (sx_L0 av Y.2.2.1) [] σ Q) : sx_C G d Y av σ Q := by
  obtain ⟨o, τ, hQ, h1, h2, h3⟩ := k
  refine ⟨o, τ, hQ, h1, h2, ?_⟩
  obtain ⟨y, cc, nL, rt, hh⟩ := Y
  have hbody : ∀ (ws : List Cond) (p : Program) (e : Env) (s : State) (m : MethodId) (args : Array Value) (below : List Frame) (meth : Method) (c : Code) (s₁ : State), BodyLoose p (sg_l G) y (headSpec ws (sx_rm d (sx_n τ - sx_n σ) (sx_s τ - sx_s σ))) cc nL rt e s m args below meth c s₁ → (∀ w ∈ lw_all, w.before args s = true) → c.maxLocals = nL → c.exceptionTable.toList = tableOf hh → va_Pc av (fun U => sx_E G U U.heap ∧ sx_R G σ U.heap) args s →
      W p (sg_l G) e (sx_rm d (sx_n τ - sx_n σ) (sx_s τ - sx_s σ)) s m args below meth c s.heap [] 0 0 (vx_MQ below (sx_Qc G o τ) (sx_XC G o τ) args s (sx_n τ - sx_n σ) (sx_s τ - sx_s σ) (sg_A G)) (entryFrame m args nL) := by
    intro ws p e s m args below meth c s₁ B hts hml htb hP
    obtain ⟨rfl, hE, hR⟩ := hP
    have hl := lv_entry av (n := nL) ha
    rw [lg_entry_eq]
    have h5 := h3 p e (sx_rm d (sx_n τ - sx_n σ) (sx_s τ - sx_s σ)) s m av.toArray below meth c s.heap [] 0 0 _ ⟨B.exec, B.bytes, B.returns, hml, B.notSynchronized, findClass_of_methodNamed B.named, hts, ⟨(name_of_methodNamed B.named B.method).1, B.named⟩, htb, hE⟩ (Nat.le_refl _) (Nat.le_refl _) (by show 0 + _ ≤ sx_n τ - sx_n σ; omega) (by show 0 + _ ≤ sx_s τ - sx_s σ; omega) hR va_S.rf (sx_L0_ok av hl)
    rw [Nat.zero_add, Nat.zero_add] at h5
    exact h5
  cases hh with
  | nil =>
    refine vx_ofW (cc := cc) (maxL := nL) (ret := rt) hy rfl ?_
    intro p e s m args below meth c s₁ B hml htb hP
    have hts := atoms_spec (ws := ws_ y cc nL rt) B.pre
    refine hbody _ p e s m args below meth c s₁ B (fun w h => hts w (List.mem_cons_of_mem _ h)) hml ?_ hP
    rw [List.eq_nil_iff_forall_not_mem.mpr (fun x hx => htb x hx)]
    rfl
  | cons h0 hh =>
    refine vx_ofWH (cc := cc) (maxL := nL) (ret := rt) (hh := h0 :: hh) hy rfl ?_
    intro p e s m args below meth c s₁ B hml hP
    have hts := atoms_spec (ws := wsW_ y cc nL rt (h0 :: hh)) B.pre
    exact hbody _ p e s m args below meth c s₁ B (fun w h => hts w (List.mem_cons_of_mem _ h)) hml (vx_table (x := y) B (hts _ List.mem_cons_self)) hP
/-- fewer locals known -/
def sx_le : List (Option Value) → List (Option Value) → Prop
  | [], _ => True
  | none :: t, [] => sx_le t []
  | some _ :: _, [] => False
  | none :: t, _ :: u => sx_le t u
  | some v :: t, w :: u => w = some v ∧ sx_le t u
theorem sx_le_at : ∀ (L' L : List (Option Value)) (i : Nat) (v : Value), sx_le L' L → L'[i]? = some (some v) → L[i]? = some (some v)
  | [], _, _, _, _, h => by simp at h
  | none :: t, [], i, v, hl, h => by
    cases i with
    | zero => simp at h
    | succ i =>
      have := sx_le_at t [] i v hl (by simpa using h)
      simp at this
  | some _ :: _, [], _, _, hl, _ => hl.elim
  | none :: t, _ :: u, i, v, hl, h => by
    cases i with
    | zero => simp at h
    | succ i => simpa using sx_le_at t u i v hl (by simpa using h)
  | some w :: t, x :: u, i, v, hl, h => by
    cases i with
    | zero => simp at h; subst h; simp [hl.1]
    | succ i => simpa using sx_le_at t u i v hl.2 (by simpa using h)
theorem sx_loc {G : sx_G} {d : Nat} {Y : sx_Y} {pc : Nat} {L : List (Option Value)} (L' : List (Option Value)) {st : List Value} {σ : sx_St} {Q : sx_O → sx_St → Prop} (hl : sx_le L' L) (k : sx_V G d Y pc L' st σ Q) : sx_V G d Y pc L st σ Q :=
  sx_go k (fun p e R s m args below meth c H locs cells slots ls Qf C hR hL hS kk => kk ls ⟨hL.1, hL.2.1, fun i v h => hL.2.2 i v (sx_le_at _ _ i v hl h)⟩)
end SXC
section SXC2
/-- a step that writes one cell, where other cells are read -/
theorem sx_wrS {G : sx_G} {d : Nat} {Y : sx_Y} {pc pc' : Nat} {L : List (Option Value)} {st st' : List Value} {σ : sx_St} {Q : sx_O → sx_St → Prop} {a : Nat} {e0 e1 : va_E} (ha : sx_c σ a = some e0) (k : sx_V G d Y pc' L st' (sx_up σ a e1) Q)
    (h : ∀ (p : Program) (e : Env) (R : Room) (s : State) (m : MethodId) (args : Array Value) (below : List Frame) (meth : Method) (c : Code) (H : Heap) (locs : List Loc) (cells slots : Nat) (ls : Array Slot) (Qf : State → Prop),
      sx_X G Y p s m args meth c → va_at (sg_D G) sx_cl (a, e0) H → sx_R G σ H → sx_L ls Y.2.2.1 L → va_S (sg_A G) s.heap H locs →
      (∀ (H1 : Heap) (ls1 : List Loc), va_at (sg_D G) sx_cl (a, e1) H1 → H1.size = H.size → (∀ q : Nat, q ≠ a → H1[q]? = H[q]?) → (∀ l ∈ ls1, l.base = a) → W p (sg_l G) e R s m args below meth c H1 (locs ++ ls1) cells slots Qf (F0 m pc' ls st')) →
      W p (sg_l G) e R s m args below meth c H locs cells slots Qf (F0 m pc ls st)) : sx_V G d Y pc L st σ Q := by
  obtain ⟨o, τ, hQ, h1, h2, h3⟩ := k
  refine ⟨o, τ, hQ, h1, h2, ?_⟩
  intro p e R s m args below meth c H locs cells slots ls C hf hl hc hs hR hS hL
  obtain ⟨g1, g2⟩ := hR.2 a e0 ha
  refine h p e R s m args below meth c H locs cells slots ls _ C g2 hR hL hS (fun H1 ls1 a1 z1 o1 b1 => ?_)
  refine h3 p e R s m args below meth c H1 (locs ++ ls1) cells slots ls C hf hl hc hs (sx_R_put hR g1 a1 z1 o1) ⟨by rw [z1]; exact hS.1, fun q q1 q2 => ?_, fun l hl => ?_⟩ hL
  · rw [o1 q (fun e => q2 (by rw [e]; exact g1))]
    exact hS.2.1 q q1 q2
  · rcases List.mem_append.mp hl with h5 | h5
    · exact hS.2.2 l h5
    · rw [b1 l h5]; exact g1
end SXC2
