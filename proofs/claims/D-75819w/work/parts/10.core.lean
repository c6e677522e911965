/-! THE PURE STATE AND THE JUDGEMENT: sx_V (a method's body from a pc on, over a pure heap), sx_C (a method's contract) -/
set_option maxRecDepth 100000
section SXA
/-- a pure heap: its cells by address, the next address, the slots used -/
abbrev sx_St : Type := { x : (Nat → Option va_E) × Nat × Nat // ∀ a, x.2.1 ≤ a → x.1 a = none }
def sx_c (σ : sx_St) (a : Nat) : Option va_E := σ.1.1 a
def sx_n (σ : sx_St) : Nat := σ.1.2.1
def sx_s (σ : sx_St) : Nat := σ.1.2.2
theorem sx_lt {σ : sx_St} {a : Nat} {e : va_E} (h : sx_c σ a = some e) : a < sx_n σ := by
  rcases Nat.lt_or_ge a (sx_n σ) with q | q
  · exact q
  · have h1 : sx_c σ a = none := σ.2 a q
    rw [h1] at h
    cases h
def sx_up (σ : sx_St) (a : Nat) (e : va_E) : sx_St := ⟨(fun q => if q = a ∧ a < σ.1.2.1 then some e else σ.1.1 q, σ.1.2.1, σ.1.2.2), fun q hq => by
  show (if q = a ∧ a < σ.1.2.1 then some e else σ.1.1 q) = none
  rw [if_neg (fun h => absurd hq (by rw [h.1]; exact Nat.not_le.mpr h.2))]
  exact σ.2 q hq⟩
def sx_al (σ : sx_St) (e : va_E) (n : Nat) : sx_St := ⟨(fun q => if q = σ.1.2.1 then some e else σ.1.1 q, σ.1.2.1 + 1, σ.1.2.2 + n), fun q hq => by
  show (if q = σ.1.2.1 then some e else σ.1.1 q) = none
  have h1 : σ.1.2.1 + 1 ≤ q := hq
  rw [if_neg (by omega)]
  exact σ.2 q (by omega)⟩
theorem sx_n_up (σ : sx_St) (a : Nat) (e : va_E) : sx_n (sx_up σ a e) = sx_n σ := rfl
theorem sx_s_up (σ : sx_St) (a : Nat) (e : va_E) : sx_s (sx_up σ a e) = sx_s σ := rfl
theorem sx_n_al (σ : sx_St) (e : va_E) (n : Nat) : sx_n (sx_al σ e n) = sx_n σ + 1 := rfl
theorem sx_s_al (σ : sx_St) (e : va_E) (n : Nat) : sx_s (sx_al σ e n) = sx_s σ + n := rfl
theorem sx_c_up_self {σ : sx_St} {a : Nat} {e0 : va_E} (e : va_E) (h : sx_c σ a = some e0) : sx_c (sx_up σ a e) a = some e := by
  show (if a = a ∧ a < σ.1.2.1 then some e else σ.1.1 a) = some e
  rw [if_pos ⟨rfl, sx_lt h⟩]
theorem sx_c_up_lt {σ : sx_St} {a : Nat} (e : va_E) (h : a < sx_n σ) : sx_c (sx_up σ a e) a = some e := by
  show (if a = a ∧ a < σ.1.2.1 then some e else σ.1.1 a) = some e
  rw [if_pos ⟨rfl, h⟩]
theorem sx_c_up_ne {σ : sx_St} {a q : Nat} (e : va_E) (h : q ≠ a) : sx_c (sx_up σ a e) q = sx_c σ q := by
  show (if q = a ∧ a < σ.1.2.1 then some e else σ.1.1 q) = σ.1.1 q
  rw [if_neg (fun hh => h hh.1)]
theorem sx_c_al_self (σ : sx_St) (e : va_E) (n : Nat) : sx_c (sx_al σ e n) (sx_n σ) = some e := by
  show (if σ.1.2.1 = σ.1.2.1 then some e else _) = some e
  rw [if_pos rfl]
theorem sx_c_al_ne {σ : sx_St} {q : Nat} (e : va_E) (n : Nat) (h : q ≠ sx_n σ) : sx_c (sx_al σ e n) q = sx_c σ q := by
  show (if q = σ.1.2.1 then some e else σ.1.1 q) = σ.1.1 q
  exact if_neg h
theorem sx_c_al_lt {σ : sx_St} {q : Nat} (e : va_E) (n : Nat) (h : q < sx_n σ) : sx_c (sx_al σ e n) q = sx_c σ q := sx_c_al_ne e n (Nat.ne_of_lt h)
theorem sx_c_al_old {σ : sx_St} {q : Nat} {e0 : va_E} (e : va_E) (n : Nat) (h : sx_c σ q = some e0) : sx_c (sx_al σ e n) q = some e0 := by rw [sx_c_al_lt e n (sx_lt h)]; exact h
/-- what a method hands back: returned, or thrown (class, address) -/
abbrev sx_O : Type := Option Value ⊕ (String × Nat)
/-- a method: name, code, locals, answer, handlers -/
abbrev sx_Y : Type := MethodName × ByteArray × Nat × Option FieldType × List (Nat × Nat × Nat × Nat)
/-- what stays all through the run: launch, classes, array classes, base, constants' cells, strings, statics, script, lambda constants -/
abbrev sx_G : Type := Launch × va_G × (Nat → ClassId) × Nat × (Nat → Option va_E) × (Nat → Nat) × (Nat → Value) × (Nat × Nat × (Nat → Int32)) × (Nat → Nat) × (Nat → Option va_E)
def sg_l (G : sx_G) : Launch := G.1
def sg_D (G : sx_G) : va_G := G.2.1
def sg_a (G : sx_G) : Nat → ClassId := G.2.2.1
def sg_b (G : sx_G) : Nat := G.2.2.2.1
def sg_k (G : sx_G) : Nat → Option va_E := G.2.2.2.2.1
def sg_t (G : sx_G) : Nat → Nat := G.2.2.2.2.2.1
def sg_z (G : sx_G) : Nat → Value := G.2.2.2.2.2.2.1
def sg_x (G : sx_G) : Nat × Nat × (Nat → Int32) := G.2.2.2.2.2.2.2.1
def sg_m (G : sx_G) : Nat → Nat := G.2.2.2.2.2.2.2.2.1
/-- cells that a caller wants kept -/
def sg_w (G : sx_G) : Nat → Option va_E := G.2.2.2.2.2.2.2.2.2
/-- what may change: cells of the run -/
def sg_A (G : sx_G) : Nat → Prop := fun q => sg_b G ≤ q
/-- reading: the run's own cells, and the constants -/
def sx_rd (G : sx_G) (σ : sx_St) (a : Nat) (e : va_E) : Prop := sx_c σ a = some e ∨ sg_k G a = some e
theorem sx_rd_c {G : sx_G} {σ : sx_St} {a : Nat} {e : va_E} (h : sx_c σ a = some e) : sx_rd G σ a e := Or.inl h
/-- array types by number -/
def sx_tyL : List FieldType := [.int, .long, .byte, .boolean, .double, .object "java/lang/Object", .object "MailSessions$Server", .object "MailSessions$Change"]
def sx_clR : List vw_C := [(RX1, TX1, 9), (RX2, TX2, 3), (RX3, TX3, 28), (RX4, TX4, 11), (RX5, TX5, 8), (RX6, TX6, 3), (RX7, TX7, 3), (RX8, TX8, 9), (RX9, TX9, 4), (RJ2, TJ2, 3), (RJ17, TJ17, 3), (RJ8, TJ8, 4), (RJ9, TJ9, 4), (RJ6, TJ6, 0), (RJ18, TJ18, 0), (RJ21, TJ21, 0), (RJ20, TJ20, 0)]
def sx_pt : u_T := fun _ => ("", "", "", false)
/-- the lambdas' own classes: how many values each holds -/
def sx_clL : List vw_C := [("", sx_pt, 2), ("", sx_pt, 1), ("", sx_pt, 1), ("", sx_pt, 0), ("", sx_pt, 1), ("", sx_pt, 1), ("", sx_pt, 1), ("", sx_pt, 1), ("", sx_pt, 2), ("", sx_pt, 2), ("", sx_pt, 3), ("", sx_pt, 0), ("", sx_pt, 1), ("", sx_pt, 1), ("", sx_pt, 1)]
def sx_cl : List vw_C := sx_clR ++ sx_clL
theorem sx_cl_R {ci : Nat} {q : vw_C} (h : sx_clR[ci]? = some q) : sx_cl[ci]? = some q := by
  unfold sx_cl
  rw [List.getElem?_append_left (List.getElem?_eq_some_iff.mp h).1]
  exact h
/-- statics by number -/
def sx_zs : List (String × String × String) := [("MailSessions$Token", "END", "LMailSessions$Token;"), ("MailSessions$Token", "WORD", "LMailSessions$Token;"), ("MailSessions$Token", "NUMBER", "LMailSessions$Token;"), ("MailSessions$Token", "SYMBOL", "LMailSessions$Token;"), ("java/util/ArrayList", "EMPTY_ELEMENTDATA", "[Ljava/lang/Object;"), ("java/util/ArrayList", "DEFAULTCAPACITY_EMPTY_ELEMENTDATA", "[Ljava/lang/Object;"), ("java/lang/String", "COMPACT_STRINGS", "Z"), ("java/lang/Integer", "DigitOnes", "[B"), ("java/lang/Integer", "DigitTens", "[B"), ("java/lang/Throwable", "UNASSIGNED_STACK", "[Ljava/lang/StackTraceElement;"), ("java/lang/Throwable", "SUPPRESSED_SENTINEL", "Ljava/util/List;"), ("jdk/internal/util/ArraysSupport", "JLA", "Ljdk/internal/access/JavaLangAccess;"), ("jdk/internal/util/Preconditions", "SIOOBE_FORMATTER", "Ljava/util/function/BiFunction;")]
/-- words of the tables that don't ride in lw_all but move with the tables -/
def sx_nw (w : Cond) : Bool := match w with
  | .fieldLinkNest .. => true
  | .methodLinkNest .. => true
  | .castable .. => true
  | .declares .. => true
  | .privateMethod .. => true
  | .interfaceMethod a b _ _ => a == b && a != "java/lang/invoke/MethodHandle" && a != "java/lang/invoke/VarHandle"
  | _ => false
end SXA
set_option maxRecDepth 100000
section SXB
/-- string constants by number: class, entry, text -/
def sx_ts : List (String × Nat × String) := [("MailSessions$Parser", 30, ""), ("MailSessions$Parser", 133, "limit"), ("MailSessions$Parser", 135, "box"), ("MailSessions$Parser", 137, "message"), ("MailSessions$Parser", 141, "session"), ("MailSessions$Parser", 139, "size"), ("MailSessions$Parser", 143, "reads"), ("MailSessions$Parser", 145, "all"), ("MailSessions$Parser", 147, "uid"), ("MailSessions$Parser", 149, "not"), ("MailSessions$Parser", 151, "or"), ("MailSessions$Parser", 123, "seen"), ("MailSessions$Parser", 125, "answered"), ("MailSessions$Parser", 127, "flagged"), ("MailSessions$Parser", 129, "deleted"), ("MailSessions$Parser", 131, "draft"), ("MailSessions", 429, "safdr"), ("MailSessionsModel", 352, "limit"), ("MailSessionsModel", 354, "box"), ("MailSessionsModel", 356, "message"), ("MailSessionsModel", 358, "size"), ("MailSessionsModel", 360, "session"), ("MailSessionsModel", 362, "reads"), ("MailSessionsModel", 364, "all"), ("MailSessionsModel", 366, "uid"), ("MailSessionsModel", 368, "not"), ("MailSessionsModel", 370, "or"), ("MailSessionsModel", 343, "seen"), ("MailSessionsModel", 345, "answered"), ("MailSessionsModel", 347, "flagged"), ("MailSessionsModel", 349, "deleted"), ("MailSessionsModel", 351, "draft")]
/-- pairs of classes that the handlers must tell apart -/
def sx_nc : List (String × String) := [("java/lang/IllegalArgumentException", "java/lang/IndexOutOfBoundsException"), ("java/lang/IllegalStateException", "java/lang/IndexOutOfBoundsException"), ("java/lang/IllegalStateException", "java/lang/IllegalArgumentException"), ("java/util/NoSuchElementException", "java/lang/IllegalArgumentException")]
def sx_tys (G : sx_G) : List (ClassId × FieldType) := [(sg_a G 0, .int), (sg_a G 1, .long), (sg_a G 2, .byte), (sg_a G 3, .boolean), (sg_a G 4, .double), (sg_a G 5, .object "java/lang/Object"), (sg_a G 6, .object "MailSessions$Server"), (sg_a G 7, .object "MailSessions$Change")]
/-- the lambdas' sites, by number -/
def sx_ls : List Cond := [siteWord_1_1, siteWord_1_2, siteWord_1_3, siteWord_1_4, siteWord_1_5, siteWord_1_6, siteWord_1_7, siteWord_1_8, siteWord_1_9, siteWord_1_10, siteWord_1_11, siteWord_1_12, siteWord_1_13, siteWord_1_14, siteWord_1_15]
/-- a lambda's site is linked: its class, and its one object where it holds nothing -/
def sx_la (w : Cond) (c : ClassId) (one : Option Nat) (U : State) : Prop := match w with
  | .lambdaSite x pc k f => U.lambdaAt? x pc k f = some (c, one)
  | _ => False
def sx_lc (i : Nat) : Bool := i == 3 || i == 11
/-- what stays true all through the run, of a state and a heap -/
def sx_E (G : sx_G) (U : State) (H : Heap) : Prop :=
  va_K (sg_D G) sx_clR (sx_tys G) U ∧ (∀ w ∈ lw_tbl, sx_nw w = true → va_Nw w U) ∧ (∀ C, Cond.arrayOver (.object C) ∈ lw_tbl → va_AO C U) ∧
  (∀ (i : Nat) (r : String × String × String), sx_zs[i]? = some r → va_Z r.1 r.2.1 r.2.2 (sg_z G i) (sg_A G) U H) ∧
  (∀ (i : Nat) (r : String × Nat × String), sx_ts[i]? = some r → vk_R r.1 r.2.1 r.2.2 (sg_t G i) U) ∧
  (∀ (a : Nat) (e : va_E), sg_k G a = some e → ¬ sg_A G a ∧ va_at (sg_D G) sx_cl (a, e) H) ∧
  (va_X (sg_x G).1 (sg_x G).2.1 (sg_x G).2.2 U H ∧ ¬ sg_A G (sg_x G).1) ∧
  (∀ (i : Nat) (w : Cond), sx_ls[i]? = some w → sx_la w ((sg_D G).1 (17 + i)) (if sx_lc i then some (sg_m G i) else none) U) ∧
  (∀ q ∈ sx_nc, va_Nc q.1 q.2 U) ∧ sg_b G ≤ H.size ∧ (sg_l G).flags = flags0 ∧ (∀ (i : Nat), sx_lc i = true → ¬ sg_A G (sg_m G i)) ∧ (Term.mirror "[Ljava/lang/Object;").eval #[] U none [] U = some (.ref (sg_m G 99)) ∧ vx_Zq Bundle.tN "UNASSIGNED_STACK" Bundle.steD (sg_A G) U H ∧ vx_Zq Bundle.tN "SUPPRESSED_SENTINEL" Bundle.listD (sg_A G) U H
theorem sx_la_moved {G : sx_G} {U V : State} {H : Heap} {w : Cond} {c : ClassId} {one : Option Nat} (hW : U.WarmedH V.vm) (hU : U.heap = H) (hV : ∀ a : Nat, one = some a → V.heap[a]? = H[a]?) (h : sx_la w c one U) : sx_la w c one V := by
  cases w with
  | lambdaSite x pc index f =>
    have h : U.lambdaAt? x pc index f = some (c, one) := h
    show V.lambdaAt? x pc index f = some (c, one)
    obtain ⟨m, kc, cf, i0, p0, l, hm, hk, hcf, hsh, hin, hfind, hmade, hcall, hl⟩ := State.lambdaAt?_spec h
    have hcall' : V.lambdaCallable f c = true := by
      have hA := hW.alike
      simp only [State.lambdaCallable, hA.findClass, hA.assignable, hA.superclasses, hA.declaredIn] at hcall ⊢
      exact hcall
    obtain ⟨kc', hk', he⟩ := hW.alike.2.2 _ _ hk
    have hm' : V.methodNamed? x = some m := by
      have := State.methodNamed?_setVm (s := U) hW.alike x
      rw [hm] at this
      exact this
    have hcf' : kc'.cf = some cf := by rw [he]; exact hcf
    have hin' : (m.idx, pc, index, f) ∈ Lambda.sitesOf kc' := by rw [he]; exact hin
    have hfind' : (kc'.callSites.find? fun y => y.1 == m.idx && y.2.1 == pc) = some (i0, p0, l) := by rw [he]; exact hfind
    have hmade' := Lambda.isMade_warmer hW hmade
    obtain ⟨m2, k2, hm2, hk2, hjdk, howes⟩ := State.lambdaAt?_road h
    cases hm.symm.trans hm2
    cases hk.symm.trans hk2
    have hjdk' : jdkName kc'.name = false := by rw [he]; exact hjdk
    have howes' : (V.vm.findClass f.iface).bind (Lambda.owesInit V.vm) = none := by
      rw [hW.alike.findClass]
      cases hfi : U.vm.findClass f.iface with
      | none => rfl
      | some i => rw [hfi] at howes; simpa [Lambda.owesInit_alike hW.alike] using howes
    have hany : ((Lambda.sitesOf kc').any fun y => decide (y = (m.idx, pc, index, f))) = true := by simpa using hin'
    rcases hl with ⟨a, cell, rfl, rfl, hcap, hcell, rfl, hvm, hslots⟩ | ⟨rfl, rfl, hcap⟩
    · have hc' : V.heap[a]? = some cell := by rw [hV a rfl, ← hU]; exact hcell
      simp [State.lambdaAt?, guard, hjdk', howes', hm', hk', hcf', hsh, hany, hfind', hc', hcap, hmade', hcall', hvm, hslots]
    · simp [State.lambdaAt?, guard, hjdk', howes', hm', hk', hcf', hsh, hany, hfind', hcap, hmade', hcall']
  | _ => exact h.elim
theorem sx_warmI {a b n d : String} {s U : State} (hW : s.WarmedH U.vm) (hn : sx_nw (.interfaceMethod a b n d) = true) (hZ : va_Nw (.interfaceMethod a b n d) s) : va_Nw (.interfaceMethod a b n d) U := by
  have hn : (a == b && a != "java/lang/invoke/MethodHandle" && a != "java/lang/invoke/VarHandle") = true := hn
  simp only [Bool.and_eq_true, beq_iff_eq, bne_iff_ne] at hn
  obtain ⟨⟨rfl, h1⟩, h2⟩ := hn
  obtain ⟨c, k, m, -, -, -, -, hm⟩ := Cond.interfaceMethod_spec hZ
  exact va_tabs rfl (rfl : (s.setVm U.vm).vm = U.vm) (by rw [Cond.interfaceMethod_setVm hW.alike hm ⟨h1, h2⟩]; exact hZ)
theorem sx_mir {s U : State} {C : String} {a : Nat} (hW : s.WarmedH U.vm) (h : (Term.mirror C).eval #[] s none [] s = some (.ref a)) : (Term.mirror C).eval #[] U none [] U = some (.ref a) := by
  obtain ⟨c, k, a', hc, hk, hm, ha⟩ := Term.mirror_spec h
  obtain ⟨k', hk', hm', -⟩ := hW.mirror hk
  cases ha
  simp only [Term.eval, Option.bind_eq_bind, hW.alike.findClass, hc, Option.bind_some, hk', hm'.trans hm, Option.pure_def]
theorem sx_E_moved {G : sx_G} {U V : State} (hW : U.WarmedH V.vm) (hH : ∀ a : Nat, ¬ sg_A G a → V.heap[a]? = U.heap[a]?) (hb : sg_b G ≤ V.heap.size) (h : sx_E G U U.heap) : sx_E G V V.heap := by
  obtain ⟨h1, h2, h3, h4, h5, h6, h7, h8, h9, h10, h11, h12, h13, h14, h15⟩ := h
  have hA := hW.alike
  refine ⟨va_K.moved hA h1, ?_, fun C hC => va_AO.moved hA (h3 C hC), ?_, fun i r hr => vk_R.warm hW (h5 i r hr), ?_, ⟨va_X.moved hA (va_X.kept h7.1 (hH _ h7.2)), h7.2⟩, ?_, fun q hq => va_Nc.moved hA (h9 q hq), hb, h11, h12, sx_mir hW h13, vx_Zq.moved hA (h14.kept (fun a _ h => hH a h)), vx_Zq.moved hA (h15.kept (fun a _ h => hH a h))⟩
  · intro w hw hn
    have hq := h2 w hw hn
    cases w with
    | fieldLinkNest => exact va_Nw.warmF hW hq
    | methodLinkNest => exact va_Nw.warmM hW hq
    | castable => exact va_Nw.warmC hW hq
    | declares => exact va_Nw.warmD hW hq
    | interfaceMethod a b n d => exact sx_warmI hW hn hq
    | privateMethod y => exact Cond.privateMethod_warm hW hq
    | _ => exact absurd hn Bool.false_ne_true
  · intro i r hr
    exact va_Z.moved hA (va_Z.kept (h4 i r hr) (fun a _ h => hH a h))
  · intro a e he
    obtain ⟨q1, q2⟩ := h6 a e he
    exact ⟨q1, va_at.kept q2 (hH a q1)⟩
  · intro i w hw
    refine sx_la_moved (G := G) hW rfl (fun a ha => hH a ?_) (h8 i w hw)
    by_cases hc : sx_lc i = true
    · rw [if_pos hc] at ha
      rw [← Option.some.inj ha]
      exact h12 i hc
    · rw [if_neg hc] at ha
      cases ha
/-- the pure heap stands in the machine's -/
def sx_R (G : sx_G) (σ : sx_St) (H : Heap) : Prop := H.size = sx_n σ ∧ ∀ (a : Nat) (e : va_E), sx_c σ a = some e → sg_A G a ∧ va_at (sg_D G) sx_cl (a, e) H
theorem sx_R_put {G : sx_G} {σ : sx_St} {H H1 : Heap} {a : Nat} {e : va_E} (h : sx_R G σ H) (ha : sg_A G a) (he : va_at (sg_D G) sx_cl (a, e) H1) (hz : H1.size = H.size) (ho : ∀ q : Nat, q ≠ a → H1[q]? = H[q]?) : sx_R G (sx_up σ a e) H1 := by
  refine ⟨hz.trans h.1, fun q x hq => ?_⟩
  by_cases hqa : q = a
  · subst hqa
    have h2 : (if q = q ∧ q < σ.1.2.1 then some e else σ.1.1 q) = some x := hq
    by_cases hl : q < σ.1.2.1
    · rw [if_pos ⟨rfl, hl⟩] at h2
      cases h2
      exact ⟨ha, he⟩
    · rw [if_neg (fun z => hl z.2)] at h2
      have h3 := sx_lt (σ := σ) (a := q) (e := x) h2
      exact absurd h3 hl
  · rw [sx_c_up_ne e hqa] at hq
    obtain ⟨g1, g2⟩ := h.2 q x hq
    exact ⟨g1, va_at.kept g2 (ho q hqa)⟩
theorem sx_R_al {G : sx_G} {σ : sx_St} {H H1 : Heap} {e : va_E} {n : Nat} (h : sx_R G σ H) (hb : sg_b G ≤ H.size) (he : va_at (sg_D G) sx_cl (H.size, e) H1) (hz : H1.size = H.size + 1) (ho : ∀ q : Nat, q < H.size → H1[q]? = H[q]?) : sx_R G (sx_al σ e n) H1 := by
  refine ⟨by rw [hz, h.1]; rfl, fun q x hq => ?_⟩
  by_cases hqa : q = sx_n σ
  · subst hqa
    rw [sx_c_al_self] at hq
    cases hq
    rw [← h.1]
    exact ⟨hb, he⟩
  · rw [sx_c_al_ne e n hqa] at hq
    obtain ⟨g1, g2⟩ := h.2 q x hq
    exact ⟨g1, va_at.kept g2 (ho q (va_at.lt g2))⟩
/-- locals: by place; none: nothing known -/
def sx_L (ls : Array Slot) (nL : Nat) (L : List (Option Value)) : Prop := ls.size = nL ∧ lv_wf ls ∧ ∀ (i : Nat) (v : Value), L[i]? = some (some v) → ls[i]? = some (.val v)
def sx_lk (L : List (Option Value)) : List (Nat × Value) := L.zipIdx.filterMap (fun q => q.1.map (fun v => (q.2, v)))
theorem sx_lk_mem {L : List (Option Value)} {i : Nat} {v : Value} : (i, v) ∈ sx_lk L ↔ L[i]? = some (some v) := by
  unfold sx_lk
  rw [List.mem_filterMap]
  constructor
  · rintro ⟨⟨o, j⟩, h1, h2⟩
    cases o with
    | none => simp at h2
    | some w =>
      simp at h2
      obtain ⟨rfl, rfl⟩ := h2
      exact List.mk_mem_zipIdx_iff_getElem?.mp h1
  · intro h
    exact ⟨(some v, i), List.mk_mem_zipIdx_iff_getElem?.mpr h, by simp⟩
theorem sx_L_has {ls : Array Slot} {nL : Nat} {L : List (Option Value)} (h : sx_L ls nL L) : lv_has ls nL (sx_lk L) := ⟨h.1, h.2.1, fun q hq => h.2.2 q.1 q.2 (sx_lk_mem.mp hq)⟩
/-- a value of one word is stored -/
def sx_s1 : List (Option Value) → Nat → Value → List (Option Value)
  | [], _, _ => []
  | _ :: t, 0, v => some v :: t
  | a :: t, 1, v => (match a with
      | some w => if w.category = 2 then none else some w
      | none => none) :: sx_s1 t 0 v
  | a :: t, i + 2, v => a :: sx_s1 t (i + 1) v
/-- a value of two words is stored -/
def sx_s2 : List (Option Value) → Nat → Value → List (Option Value)
  | [], _, _ => []
  | _ :: t, 0, v => some v :: (match t with
      | [] => []
      | _ :: t' => none :: t')
  | a :: t, 1, v => (match a with
      | some w => if w.category = 2 then none else some w
      | none => none) :: sx_s2 t 0 v
  | a :: t, i + 2, v => a :: sx_s2 t (i + 1) v
theorem sx_s1_at (L : List (Option Value)) (i : Nat) (v : Value) (j : Nat) (w : Value) (h : (sx_s1 L i v)[j]? = some (some w)) : (j = i ∧ w = v) ∨ (j ≠ i ∧ L[j]? = some (some w) ∧ (j + 1 = i → w.category ≠ 2)) := by
  induction L generalizing i j with
  | nil => simp [sx_s1] at h
  | cons a t ih =>
    match i, j with
    | 0, 0 => simp [sx_s1] at h; exact Or.inl ⟨rfl, h.symm⟩
    | 0, j + 1 => simp [sx_s1] at h; exact Or.inr ⟨by omega, by simpa using h, by omega⟩
    | 1, 0 =>
      refine Or.inr ⟨by omega, ?_⟩
      cases a with
      | none => simp [sx_s1] at h
      | some b =>
        by_cases hb : b.category = 2
        · simp [sx_s1, hb] at h
        · simp [sx_s1, hb] at h
          subst h
          exact ⟨by simp, fun _ => hb⟩
    | 1, j + 1 =>
      have h2 : (sx_s1 t 0 v)[j]? = some (some w) := by simpa [sx_s1] using h
      rcases ih 0 j h2 with ⟨q1, q2⟩ | ⟨q1, q2, q3⟩
      · exact Or.inl ⟨by omega, q2⟩
      · exact Or.inr ⟨by omega, by simpa using q2, by omega⟩
    | i + 2, 0 => simp [sx_s1] at h; exact Or.inr ⟨by omega, by simp [h], by omega⟩
    | i + 2, j + 1 =>
      have h2 : (sx_s1 t (i + 1) v)[j]? = some (some w) := by simpa [sx_s1] using h
      rcases ih (i + 1) j h2 with ⟨q1, q2⟩ | ⟨q1, q2, q3⟩
      · exact Or.inl ⟨by omega, q2⟩
      · exact Or.inr ⟨by omega, by simpa using q2, fun q => q3 (by omega)⟩
theorem sx_s2_at (L : List (Option Value)) (i : Nat) (v : Value) (j : Nat) (w : Value) (h : (sx_s2 L i v)[j]? = some (some w)) : (j = i ∧ w = v) ∨ (j ≠ i ∧ j ≠ i + 1 ∧ L[j]? = some (some w) ∧ (j + 1 = i → w.category ≠ 2)) := by
  induction L generalizing i j with
  | nil => simp [sx_s2] at h
  | cons a t ih =>
    match i, j with
    | 0, 0 => simp [sx_s2] at h; exact Or.inl ⟨rfl, h.symm⟩
    | 0, j + 1 =>
      cases t with
      | nil => simp [sx_s2] at h
      | cons b t' =>
        cases j with
        | zero => simp [sx_s2] at h
        | succ j => simp [sx_s2] at h; exact Or.inr ⟨by omega, by omega, by simpa using h, by omega⟩
    | 1, 0 =>
      refine Or.inr ⟨by omega, by omega, ?_⟩
      cases a with
      | none => simp [sx_s2] at h
      | some b =>
        by_cases hb : b.category = 2
        · simp [sx_s2, hb] at h
        · simp [sx_s2, hb] at h
          subst h
          exact ⟨by simp, fun _ => hb⟩
    | 1, j + 1 =>
      have h2 : (sx_s2 t 0 v)[j]? = some (some w) := by simpa [sx_s2] using h
      rcases ih 0 j h2 with ⟨q1, q2⟩ | ⟨q1, q4, q2, q3⟩
      · exact Or.inl ⟨by omega, q2⟩
      · exact Or.inr ⟨by omega, by omega, by simpa using q2, by omega⟩
    | i + 2, 0 => simp [sx_s2] at h; exact Or.inr ⟨by omega, by omega, by simp [h], by omega⟩
    | i + 2, j + 1 =>
      have h2 : (sx_s2 t (i + 1) v)[j]? = some (some w) := by simpa [sx_s2] using h
      rcases ih (i + 1) j h2 with ⟨q1, q2⟩ | ⟨q1, q4, q2, q3⟩
      · exact Or.inl ⟨by omega, q2⟩
      · exact Or.inr ⟨by omega, by omega, by simpa using q2, fun q => q3 (by omega)⟩
theorem sx_L_s1 {ls ls' : Array Slot} {nL i : Nat} {v : Value} {L : List (Option Value)} (h : lv_has ls' nL ((i, v) :: (sx_lk L).filter (fun q => !(q.1 == i) && !(q.1 + 1 == i && q.2.category == 2)))) : sx_L ls' nL (sx_s1 L i v) := by
  refine ⟨h.1, h.2.1, fun j w hj => ?_⟩
  rcases sx_s1_at L i v j w hj with ⟨q1, q2⟩ | ⟨q1, q2, q3⟩
  · subst q1; subst q2
    exact h.2.2 (j, w) List.mem_cons_self
  · refine h.2.2 (j, w) (List.mem_cons_of_mem _ (List.mem_filter.mpr ⟨sx_lk_mem.mpr q2, ?_⟩))
    by_cases hji : j + 1 = i
    · simp [q1, q3 hji]
    · simp [q1, hji]
theorem sx_L_s2 {ls ls' : Array Slot} {nL i : Nat} {v : Value} {L : List (Option Value)} (h : lv_has ls' nL ((i, v) :: (sx_lk L).filter (fun q => !(q.1 == i) && (!(q.1 == i + 1) && !(q.1 + 1 == i && q.2.category == 2))))) : sx_L ls' nL (sx_s2 L i v) := by
  refine ⟨h.1, h.2.1, fun j w hj => ?_⟩
  rcases sx_s2_at L i v j w hj with ⟨q1, q2⟩ | ⟨q1, q4, q2, q3⟩
  · subst q1; subst q2
    exact h.2.2 (j, w) List.mem_cons_self
  · refine h.2.2 (j, w) (List.mem_cons_of_mem _ (List.mem_filter.mpr ⟨sx_lk_mem.mpr q2, ?_⟩))
    by_cases hji : j + 1 = i
    · simp [q1, q4, q3 hji]
    · simp [q1, q4, hji]
/-- the locals at a method's entry -/
def sx_L0 : List Value → Nat → List (Option Value)
  | [], n => List.replicate n none
  | v :: vs, n => if v.category = 2 then some v :: none :: sx_L0 vs (n - 2) else some v :: sx_L0 vs (n - 1)
theorem sx_L0_at (vs : List Value) (n i j : Nat) (w : Value) (h : (sx_L0 vs n)[j]? = some (some w)) : (i + j, w) ∈ lv_args i vs := by
  induction vs generalizing n i j with
  | nil => simp [sx_L0, List.getElem?_replicate] at h
  | cons v vs ih =>
    unfold lv_args
    by_cases hc : v.category = 2
    · rw [if_pos hc]
      simp only [sx_L0, if_pos hc] at h
      match j with
      | 0 => simp at h; subst h; exact List.mem_cons_self
      | 1 => simp at h
      | j + 2 =>
        have h2 : (sx_L0 vs (n - 2))[j]? = some (some w) := by simpa using h
        have := ih (n - 2) (i + 2) j h2
        rw [show i + (j + 2) = i + 2 + j by omega]
        exact List.mem_cons_of_mem _ this
    · rw [if_neg hc]
      simp only [sx_L0, if_neg hc] at h
      match j with
      | 0 => simp at h; subst h; exact List.mem_cons_self
      | j + 1 =>
        have h2 : (sx_L0 vs (n - 1))[j]? = some (some w) := by simpa using h
        have := ih (n - 1) (i + 1) j h2
        rw [show i + (j + 1) = i + 1 + j by omega]
        exact List.mem_cons_of_mem _ this
theorem sx_L0_ok {ls : Array Slot} {nL : Nat} (vs : List Value) (h : lv_has ls nL (lv_args 0 vs)) : sx_L ls nL (sx_L0 vs nL) := ⟨h.1, h.2.1, fun i v hi => h.2.2 (i, v) (by have := sx_L0_at vs nL 0 i v hi; rwa [Nat.zero_add] at this)⟩
end SXB
