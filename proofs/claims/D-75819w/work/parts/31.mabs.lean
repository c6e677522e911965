set_option maxRecDepth 100000
section MAB
/-! the mathematical server: messages (uid, size, flags), boxes (name, next uid, messages), entries (uid, told flags), sessions (name, box, reads, idle, last, accounts, entries), servers (limit, boxes, sessions) -/
abbrev a_M : Type := Int32 × Int32 × Int32
abbrev a_B : Type := List Nat × Int32 × List a_M
abbrev a_E : Type := Int32 × Int32
abbrev a_S : Type := List Nat × Option Nat × Bool × Bool × Int32 × (Nat → Int32) × List a_E
abbrev a_V : Type := Int32 × List a_B × List a_S
def a_b (V : a_V) (b : Nat) : a_B := V.2.1.getD b ([], 0, [])
def a_s (V : a_V) (s : Nat) : a_S := V.2.2.getD s ([], none, false, false, 0, fun _ => 0, [])
def a_ms (V : a_V) (b : Nat) : List a_M := (a_b V b).2.2
def a_es (V : a_V) (s : Nat) : List a_E := (a_s V s).2.2.2.2.2.2
def a_m (V : a_V) (b m : Nat) : a_M := (a_ms V b).getD m (0, 0, 0)
def a_e (V : a_V) (s k : Nat) : a_E := (a_es V s).getD k (0, 0)
def a_bx (V : a_V) (s : Nat) : Option Nat := (a_s V s).2.1
def a_rd (V : a_V) (s : Nat) : Bool := (a_s V s).2.2.1
def a_id (V : a_V) (s : Nat) : Bool := (a_s V s).2.2.2.1
def a_ls (V : a_V) (s : Nat) : Int32 := (a_s V s).2.2.2.2.1
def a_ac (V : a_V) (s : Nat) : Nat → Int32 := (a_s V s).2.2.2.2.2.1
/-- -1 for none -/
def o_I (o : Option Nat) : Int32 := match o with
  | none => -1
  | some k => nI k
def n_code (l : List Nat) : Int64 := l.foldl (fun n c => 27 * n + lN c - 96) 0
/-- the row r holds the server V -/
def e_M (r : Nat → Int64) (o : Nat) (m : a_M) : Prop := (r o).toInt32 = m.1 ∧ (r (o + 1)).toInt32 = m.2.1 ∧ (r (o + 2)).toInt32 = m.2.2
def e_B (r : Nat → Int64) (o : Nat) (B : a_B) : Prop := r o = n_code B.1 ∧ (r (o + 1)).toInt32 = nI B.2.2.length ∧ (r (o + 2)).toInt32 = B.2.1 ∧ ∀ j, j < B.2.2.length → e_M r (o + 3 + 3 * j) (B.2.2.getD j (0, 0, 0))
def e_S (r : Nat → Int64) (o : Nat) (S : a_S) : Prop := r o = n_code S.1 ∧ (r (o + 1)).toInt32 = o_I S.2.1 ∧ (r (o + 2)).toInt32 = b_I (S.2.1.isSome && S.2.2.1) ∧ (r (o + 3)).toInt32 = b_I S.2.2.2.1 ∧ (r (o + 4)).toInt32 = nI S.2.2.2.2.2.2.length ∧
  (∀ k, k < 5 → (r (o + 6 + k)).toInt32 = S.2.2.2.2.2.1 k) ∧ ∀ j, j < S.2.2.2.2.2.2.length → (r (o + 11 + 2 * j)).toInt32 = (S.2.2.2.2.2.2.getD j (0, 0)).1 ∧ (r (o + 12 + 2 * j)).toInt32 = (S.2.2.2.2.2.2.getD j (0, 0)).2
/-- limit, boxes, how many sessions -/
def e_Vb (r : Nat → Int64) (V : a_V) : Prop := (r 0).toInt32 = V.1 ∧ (r 1).toInt32 = nI V.2.1.length ∧ (r 2).toInt32 = nI V.2.2.length ∧ ∀ b, b < V.2.1.length → e_B r (3 + 93 * b) (a_b V b)
/-- the last uid that a session saw, of the reference's own kind: it parts the messages of its box as the session's does -/
def a_uB (B : a_B) (u : Int32) : Prop := (∃ m ∈ B.2.2, m.1 = u) ∨ B.2.1 ≤ u
def e_L (r : Nat → Int64) (V : a_V) (s : Nat) : Prop := ∀ b, a_bx V s = some b → ∀ u, a_uB (a_b V b) u → ((r (282 + 131 * s + 5)).toInt32 < u ↔ a_ls V s < u)
def e_V (r : Nat → Int64) (V : a_V) : Prop := e_Vb r V ∧ (∀ s, s < V.2.2.length → e_S r (282 + 131 * s) (a_s V s)) ∧ ∀ s, s < V.2.2.length → e_L r V s
/-- its sizes -/
def w_Vb (V : a_V) : Prop := V.2.1.length ≤ 3 ∧ V.2.2.length ≤ 4 ∧ ∀ b, b < V.2.1.length → (a_ms V b).length ≤ 30
def w_V (V : a_V) : Prop := w_Vb V ∧ (∀ s, s < V.2.2.length → (a_es V s).length ≤ 60) ∧ (∀ s b, s < V.2.2.length → a_bx V s = some b → b < V.2.1.length) ∧ ∀ s, s < V.2.2.length → a_bx V s = none → a_es V s = []
def a_find (ms : List a_M) (u : Int32) : Option Nat := ms.findIdx? (fun m => m.1 == u)
/-- the message of an entry -/
def a_mo (V : a_V) (s k : Nat) : Option Nat := match a_bx V s with
  | some b => a_find (a_ms V b) (a_e V s k).1
  | none => none
def a_go (V : a_V) (s k : Nat) : Bool := (a_mo V s k).isNone
def a_fl (V : a_V) (s k : Nat) : Int32 := match a_bx V s, a_mo V s k with
  | some b, some m => (a_m V b m).2.2
  | _, _ => 0
def a_ot (V : a_V) (s k : Nat) : Bool := !(a_go V s k) && (a_fl V s k != (a_e V s k).2)
def a_gm (V : a_V) (s n : Nat) : Nat := (List.range n).countP (a_go V s)
def a_om (V : a_V) (s : Nat) : Nat := (List.range (a_es V s).length).countP (a_ot V s)
def a_nm (V : a_V) (s : Nat) : Nat := match a_bx V s with
  | some b => (a_ms V b).countP (fun m => decide (a_ls V s < m.1))
  | none => 0
def a_pe (V : a_V) (s : Nat) : Nat := a_gm V s (a_es V s).length + a_om V s + (if 0 < a_nm V s ∧ (a_es V s).length - a_gm V s (a_es V s).length < 60 then 1 else 0)
theorem a_find_lt {ms : List a_M} {u : Int32} {k : Nat} (h : a_find ms u = some k) : k < ms.length := by
  unfold a_find at h
  rw [List.findIdx?_eq_some_iff_findIdx_eq] at h
  exact h.1
theorem countP_rs (p : Nat → Bool) (n : Nat) : (List.range (n + 1)).countP p = (List.range n).countP p + (if p n then 1 else 0) := by
  rw [List.range_succ, List.countP_append]
  simp [List.countP_cons]
theorem countP_rl (p : Nat → Bool) (n : Nat) : (List.range n).countP p ≤ n := by
  have := List.countP_le_length (p := p) (l := List.range n)
  simpa using this
theorem i64_le (x y : Int32) : x.toInt64 ≤ y.toInt64 ↔ x ≤ y := by
  rw [Int64.le_iff_toInt_le, Int32.le_iff_toInt_le, Int32.toInt_toInt64, Int32.toInt_toInt64]
theorem i64_back (x : Int32) : x.toInt64.toInt32 = x := Int32.toInt32_toInt64 x
variable {G : sx_G} {d : Nat} {Y : sx_Y} {pc : Nat} {L : List (Option Value)} {st : List Value} {σ : sx_St} {Q : sx_O → sx_St → Prop}
theorem sv_if_eqB {x : Bool} {off : Int} {tgt : Nat} (hd : decode Y.2.1 pc = .ok (.ifCond .eq off, 3)) (ht : (pc : Int) + off = (tgt : Int)) (kt : x = false → sx_V G d Y tgt L st σ Q) (kf : x = true → sx_V G d Y (pc + 3) L st σ Q) : sx_V G d Y pc L (.int (b_I x) :: st) σ Q :=
  sv_if_eq hd ht (fun h => kt ((b_I_0 x).mp h)) (fun h => kf (by cases x with | true => rfl | false => exact absurd rfl h))
theorem sv_if_neB {x : Bool} {off : Int} {tgt : Nat} (hd : decode Y.2.1 pc = .ok (.ifCond .ne off, 3)) (ht : (pc : Int) + off = (tgt : Int)) (kt : x = true → sx_V G d Y tgt L st σ Q) (kf : x = false → sx_V G d Y (pc + 3) L st σ Q) : sx_V G d Y pc L (.int (b_I x) :: st) σ Q :=
  sv_if_ne hd ht (fun h => kt (by cases x with | true => rfl | false => exact absurd rfl h)) (fun h => kf ((b_I_0 x).mp h))
theorem sv_iaddN {x y : Nat} (hd : decode Y.2.1 pc = .ok (.iadd, 1)) (k : sx_V G d Y (pc + 1) L (.int (nI (x + y)) :: st) σ Q) : sx_V G d Y pc L (.int (nI y) :: .int (nI x) :: st) σ Q := sv_iadd hd (by rw [nI_add]; exact k)
theorem sv_isubN {x y : Nat} (hd : decode Y.2.1 pc = .ok (.isub, 1)) (hxy : y ≤ x) (k : sx_V G d Y (pc + 1) L (.int (nI (x - y)) :: st) σ Q) : sx_V G d Y pc L (.int (nI y) :: .int (nI x) :: st) σ Q := sv_isub hd (by rw [pk_sub hxy]; exact k)
theorem sv_imulN {x y : Nat} (hd : decode Y.2.1 pc = .ok (.imul, 1)) (k : sx_V G d Y (pc + 1) L (.int (nI (x * y)) :: st) σ Q) : sx_V G d Y pc L (.int (nI y) :: .int (nI x) :: st) σ Q := sv_imul hd (by rw [pk_mul]; exact k)
theorem sv_iincN {i : Nat} {x : Nat} (hd : decode Y.2.1 pc = .ok (.iinc i 1, 3)) (hl : L[i]? = some (some (.int (nI x)))) (hn : i < Y.2.2.1) (k : sx_V G d Y (pc + 3) (sx_s1 L i (.int (nI (x + 1)))) st σ Q) : sx_V G d Y pc L st σ Q := sv_iinc _ hd hl (by show nI x + Int32.ofInt 1 = nI (x + 1); rw [nI_succ]; rfl) hn k
theorem sv_icmp_eqN {x y : Nat} {off : Int} {tgt : Nat} (hd : decode Y.2.1 pc = .ok (.if_icmp .eq off, 3)) (ht : (pc : Int) + off = (tgt : Int)) (hx : x < 2 ^ 31) (hy : y < 2 ^ 31) (kt : x = y → sx_V G d Y tgt L st σ Q) (kf : ¬ x = y → sx_V G d Y (pc + 3) L st σ Q) : sx_V G d Y pc L (.int (nI y) :: .int (nI x) :: st) σ Q := sv_icmp_eq hd ht (fun h => kt ((nI_eq hx hy).mp h)) (fun h => kf (fun z => h ((nI_eq hx hy).mpr z)))
theorem sv_icmp_ltN {x y : Nat} {off : Int} {tgt : Nat} (hd : decode Y.2.1 pc = .ok (.if_icmp .lt off, 3)) (ht : (pc : Int) + off = (tgt : Int)) (hx : x < 2 ^ 31) (hy : y < 2 ^ 31) (kt : x < y → sx_V G d Y tgt L st σ Q) (kf : ¬ x < y → sx_V G d Y (pc + 3) L st σ Q) : sx_V G d Y pc L (.int (nI y) :: .int (nI x) :: st) σ Q := sv_icmp_lt hd ht (fun h => kt ((nI_ltI hx hy).mp h)) (fun h => kf (fun z => h ((nI_ltI hx hy).mpr z)))
theorem sv_icmp_geN {x y : Nat} {off : Int} {tgt : Nat} (hd : decode Y.2.1 pc = .ok (.if_icmp .ge off, 3)) (ht : (pc : Int) + off = (tgt : Int)) (hx : x < 2 ^ 31) (hy : y < 2 ^ 31) (kt : y ≤ x → sx_V G d Y tgt L st σ Q) (kf : ¬ y ≤ x → sx_V G d Y (pc + 3) L st σ Q) : sx_V G d Y pc L (.int (nI y) :: .int (nI x) :: st) σ Q := sv_icmp_ge hd ht (fun h => kt ((nI_leI hy hx).mp h)) (fun h => kf (fun z => h ((nI_leI hy hx).mpr z)))
theorem sv_icmp_gtN {x y : Nat} {off : Int} {tgt : Nat} (hd : decode Y.2.1 pc = .ok (.if_icmp .gt off, 3)) (ht : (pc : Int) + off = (tgt : Int)) (hx : x < 2 ^ 31) (hy : y < 2 ^ 31) (kt : y < x → sx_V G d Y tgt L st σ Q) (kf : ¬ y < x → sx_V G d Y (pc + 3) L st σ Q) : sx_V G d Y pc L (.int (nI y) :: .int (nI x) :: st) σ Q := sv_icmp_gt hd ht (fun h => kt ((nI_ltI hy hx).mp h)) (fun h => kf (fun z => h ((nI_ltI hy hx).mpr z)))
theorem sv_icmp_leN {x y : Nat} {off : Int} {tgt : Nat} (hd : decode Y.2.1 pc = .ok (.if_icmp .le off, 3)) (ht : (pc : Int) + off = (tgt : Int)) (hx : x < 2 ^ 31) (hy : y < 2 ^ 31) (kt : x ≤ y → sx_V G d Y tgt L st σ Q) (kf : ¬ x ≤ y → sx_V G d Y (pc + 3) L st σ Q) : sx_V G d Y pc L (.int (nI y) :: .int (nI x) :: st) σ Q := sv_icmp_le hd ht (fun h => kt ((nI_leI hx hy).mp h)) (fun h => kf (fun z => h ((nI_leI hx hy).mpr z)))
theorem sv_icmp_neN {x y : Nat} {off : Int} {tgt : Nat} (hd : decode Y.2.1 pc = .ok (.if_icmp .ne off, 3)) (ht : (pc : Int) + off = (tgt : Int)) (hx : x < 2 ^ 31) (hy : y < 2 ^ 31) (kt : ¬ x = y → sx_V G d Y tgt L st σ Q) (kf : x = y → sx_V G d Y (pc + 3) L st σ Q) : sx_V G d Y pc L (.int (nI y) :: .int (nI x) :: st) σ Q := sv_icmp_ne hd ht (fun h => kt (fun z => h ((nI_eq hx hy).mpr z))) (fun h => kf ((nI_eq hx hy).mp h))
theorem nI_e0 {x : Nat} (hx : x < 2 ^ 31) : nI x = 0 ↔ x = 0 := by
  have := nI_eq hx (show 0 < 2 ^ 31 by decide)
  rwa [nI_0] at this
theorem nI_l0 {x : Nat} (hx : x < 2 ^ 31) : nI x ≤ 0 ↔ x = 0 := by
  have := nI_leI hx (show 0 < 2 ^ 31 by decide)
  rw [nI_0] at this
  rw [this]; omega
theorem nI_g0 {x : Nat} (hx : x < 2 ^ 31) : 0 < nI x ↔ 0 < x := by
  have := nI_ltI (show 0 < 2 ^ 31 by decide) hx
  rwa [nI_0] at this
theorem sv_if_eqN {x : Nat} {off : Int} {tgt : Nat} (hd : decode Y.2.1 pc = .ok (.ifCond .eq off, 3)) (ht : (pc : Int) + off = (tgt : Int)) (hx : x < 2 ^ 31) (kt : x = 0 → sx_V G d Y tgt L st σ Q) (kf : 0 < x → sx_V G d Y (pc + 3) L st σ Q) : sx_V G d Y pc L (.int (nI x) :: st) σ Q := sv_if_eq hd ht (fun h => kt ((nI_e0 hx).mp h)) (fun h => kf (Nat.pos_of_ne_zero (fun z => h ((nI_e0 hx).mpr z))))
theorem sv_if_neN {x : Nat} {off : Int} {tgt : Nat} (hd : decode Y.2.1 pc = .ok (.ifCond .ne off, 3)) (ht : (pc : Int) + off = (tgt : Int)) (hx : x < 2 ^ 31) (kt : 0 < x → sx_V G d Y tgt L st σ Q) (kf : x = 0 → sx_V G d Y (pc + 3) L st σ Q) : sx_V G d Y pc L (.int (nI x) :: st) σ Q := sv_if_ne hd ht (fun h => kt (Nat.pos_of_ne_zero (fun z => h ((nI_e0 hx).mpr z)))) (fun h => kf ((nI_e0 hx).mp h))
theorem sv_if_leN {x : Nat} {off : Int} {tgt : Nat} (hd : decode Y.2.1 pc = .ok (.ifCond .le off, 3)) (ht : (pc : Int) + off = (tgt : Int)) (hx : x < 2 ^ 31) (kt : x = 0 → sx_V G d Y tgt L st σ Q) (kf : 0 < x → sx_V G d Y (pc + 3) L st σ Q) : sx_V G d Y pc L (.int (nI x) :: st) σ Q := sv_if_le hd ht (fun h => kt ((nI_l0 hx).mp h)) (fun h => kf (Nat.pos_of_ne_zero (fun z => h ((nI_l0 hx).mpr z))))
theorem sv_if_gtN {x : Nat} {off : Int} {tgt : Nat} (hd : decode Y.2.1 pc = .ok (.ifCond .gt off, 3)) (ht : (pc : Int) + off = (tgt : Int)) (hx : x < 2 ^ 31) (kt : 0 < x → sx_V G d Y tgt L st σ Q) (kf : x = 0 → sx_V G d Y (pc + 3) L st σ Q) : sx_V G d Y pc L (.int (nI x) :: st) σ Q := sv_if_gt hd ht (fun h => kt ((nI_g0 hx).mp h)) (fun h => kf (Nat.eq_zero_of_not_pos (fun z => h ((nI_g0 hx).mpr z))))
theorem r_I {x y : Int32} (h : x = y) : some (Value.int x) = some (Value.int y) := by rw [h]
theorem b_I_pos {p : Prop} [Decidable p] (h : p) : nI 1 = b_I (decide p) := by rw [decide_eq_true h]; rfl
theorem b_I_neg {p : Prop} [Decidable p] (h : ¬ p) : nI 0 = b_I (decide p) := by rw [decide_eq_false h]; rfl
theorem in_I {x : Int32} {n : Nat} (hn : n < 2 ^ 31) : (0 ≤ x.toInt64 ∧ x.toInt64 ≤ (nI n - 1).toInt64) ↔ (0 ≤ x.toInt ∧ x.toInt < n) := by
  have h0 : (0 : Int64) = (0 : Int32).toInt64 := rfl
  rw [h0, i64_le, i64_le, Int32.le_iff_toInt_le, Int32.le_iff_toInt_le]
  have h1 : (nI n - 1).toInt = (n : Int) - 1 := by
    rcases Nat.eq_zero_or_pos n with h | h
    · subst h; decide
    · have e : nI n - 1 = nI (n - 1) := by
        have := nI_pred (n - 1)
        rwa [Nat.sub_add_cancel h] at this
      rw [e, nI_toInt (by omega)]
      omega
  rw [h1]
  have h2 : (0 : Int32).toInt = 0 := rfl
  rw [h2]
  omega
/-- x names one of n -/
def i_in (x : Int32) (n : Nat) : Bool := decide (0 ≤ x.toInt ∧ x.toInt < n)
theorem i_in_of {x : Int32} {n : Nat} (hn : n < 2 ^ 31) (h : i_in x n = true) : ∃ j, j < n ∧ x = nI j := vp_in_of (vp_in_iff.mpr (of_decide_eq_true h)) hn
theorem i_in_nI {j n : Nat} (h : j < n) (hn : n < 2 ^ 31) : i_in (nI j) n = true := by
  unfold i_in
  rw [nI_toInt (by omega)]
  exact decide_eq_true ⟨by omega, by omega⟩
/-- x is one of 1 .. n -/
def i_en (x : Int32) (n : Nat) : Bool := decide (1 ≤ x.toInt ∧ x.toInt ≤ n)
theorem i_en_of {x : Int32} {n : Nat} (hn : n < 2 ^ 31) (h : i_en x n = true) : ∃ j, j < n ∧ x = nI (j + 1) := by
  obtain ⟨h1, h2⟩ := of_decide_eq_true h
  refine ⟨x.toInt.toNat - 1, by omega, ?_⟩
  apply Int32.toInt_inj.mp
  rw [nI_toInt (by omega)]
  omega
theorem i_en_I {x : Int32} {n : Nat} (hn : n < 2 ^ 31) : (1 ≤ x.toInt64 ∧ x.toInt64 ≤ (nI n).toInt64) ↔ (1 ≤ x.toInt ∧ x.toInt ≤ n) := by
  have h0 : (1 : Int64) = (1 : Int32).toInt64 := rfl
  rw [h0, i64_le, i64_le, Int32.le_iff_toInt_le, Int32.le_iff_toInt_le, nI_toInt hn]
  exact Iff.rfl
theorem i_en_b {x : Int32} {n : Nat} (hn : n < 2 ^ 31) : i_en x n = decide (1 ≤ x.toInt64 ∧ x.toInt64 ≤ (nI n).toInt64) := decide_eq_decide.mpr (i_en_I hn).symm
theorem o_I_m1 (o : Option Nat) (h : ∀ k, o = some k → k < 2 ^ 31) : o_I o = -1 ↔ o = none := by
  cases o with
  | none => simp [o_I]
  | some k =>
    have hk := h k rfl
    simp only [o_I, reduceCtorEq, iff_false]
    intro h2
    have := congrArg Int32.toInt h2
    rw [nI_toInt hk] at this
    have h3 : (-1 : Int32).toInt = -1 := rfl
    rw [h3] at this
    omega
end MAB
