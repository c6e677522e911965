set_option maxRecDepth 100000
section MWA
/-- a boolean as an int -/
def b_I (c : Bool) : Int32 := if c then 1 else 0
theorem b_I_t : b_I true = 1 := rfl
theorem b_I_f : b_I false = 0 := rfl
theorem b_I_0 (c : Bool) : b_I c = 0 ↔ c = false := by cases c <;> decide
theorem b_I_1 (c : Bool) : b_I c = 1 ↔ c = true := by cases c <;> decide
theorem b_I_nar (c : Bool) : narrow .boolean (.int (b_I c)) = .int (b_I c) := by cases c <;> rfl
theorem b_I_fit (c : Bool) : fits .boolean (.int (b_I c)) = true := by cases c <;> rfl
theorem b_I_vn (c : Bool) : vp_nar .boolean (b_I c) = b_I c := by cases c <;> rfl
/-- the reference's state: ints by field, which row, long arrays (net, draft, slots, past), int arrays (notices, copied, input, selects, selectsToRead, isKept, output) -/
abbrev m_M : Type := (Nat → Int32) × Bool × (Nat → Nat → Int64) × (Nat → Nat → Int32)
def m_O (h : Nat) (M : m_M) : List Value := [.int (M.1 0), .ref (h + 1), .ref (h + 2), .ref (if M.2.1 then h + 2 else h + 1), .ref (h + 3), .int (M.1 5), .ref (h + 4), .ref (h + 5), .int (M.1 8), .int (M.1 9), .int (M.1 10), .int (M.1 11), .int (M.1 12), .int (M.1 13), .int (M.1 14), .int (M.1 15), .int (M.1 16), .int (M.1 17), .ref (h + 6), .ref (h + 7), .int (M.1 20), .int (M.1 21), .ref (h + 8), .ref (h + 9), .ref (h + 10), .int (M.1 25), .ref (h + 11), .int (M.1 27)]
def m_K (G : sx_G) (M : m_M) (k : Nat) : va_E := match k with
  | 1 => .inl (sg_a G 1, 806, .inr (.inl (M.2.2.1 0)))
  | 2 => .inl (sg_a G 1, 806, .inr (.inl (M.2.2.1 1)))
  | 3 => .inl (sg_a G 0, 4000, .inl (M.2.2.2 0))
  | 4 => .inl (sg_a G 0, 60, .inl (M.2.2.2 1))
  | 5 => .inl (sg_a G 2, 700, .inl (M.2.2.2 2))
  | 6 => .inl (sg_a G 0, 4, .inl (M.2.2.2 3))
  | 7 => .inl (sg_a G 3, 4, .inl (M.2.2.2 4))
  | 8 => .inl (sg_a G 1, 1612, .inr (.inl (M.2.2.1 2)))
  | 9 => .inl (sg_a G 3, 2, .inl (M.2.2.2 5))
  | 10 => .inl (sg_a G 1, 4836, .inr (.inl (M.2.2.1 3)))
  | _ => .inl (sg_a G 2, 12000, .inl (M.2.2.2 6))
/-- σ with the reference's cells written over it at h -/
def m_S (G : sx_G) (h : Nat) (M : m_M) (σ : sx_St) : sx_St := ⟨(fun q => if h ≤ q ∧ q ≤ h + 11 ∧ q < σ.1.2.1 then some (if q = h then .inr (2, m_O h M) else m_K G M (q - h)) else σ.1.1 q, σ.1.2.1, σ.1.2.2), fun q hq => by
  show (if h ≤ q ∧ q ≤ h + 11 ∧ q < σ.1.2.1 then _ else σ.1.1 q) = none
  rw [if_neg (fun z => absurd hq (Nat.not_le.mpr z.2.2))]
  exact σ.2 q hq⟩
variable {G : sx_G} {h : Nat} {M M' : m_M} {σ : sx_St}
theorem m_S_n : sx_n (m_S G h M σ) = sx_n σ := rfl
theorem m_S_s : sx_s (m_S G h M σ) = sx_s σ := rfl
theorem m_S_0 (hn : h + 11 < sx_n σ) : sx_c (m_S G h M σ) h = some (.inr (2, m_O h M)) := by
  show (if h ≤ h ∧ h ≤ h + 11 ∧ h < σ.1.2.1 then _ else σ.1.1 h) = _
  have hn : h + 11 < σ.1.2.1 := hn
  rw [if_pos ⟨Nat.le_refl _, by omega, by omega⟩, if_pos rfl]
theorem m_S_k (hn : h + 11 < sx_n σ) (k : Nat) (h1 : 1 ≤ k) (h2 : k ≤ 11) : sx_c (m_S G h M σ) (h + k) = some (m_K G M k) := by
  show (if h ≤ h + k ∧ h + k ≤ h + 11 ∧ h + k < σ.1.2.1 then _ else σ.1.1 (h + k)) = _
  have hn : h + 11 < σ.1.2.1 := hn
  rw [if_pos ⟨by omega, by omega, by omega⟩, if_neg (by omega), show h + k - h = k by omega]
theorem m_S_o {q : Nat} (hq : q < h ∨ h + 11 < q) : sx_c (m_S G h M σ) q = sx_c σ q := by
  show (if h ≤ q ∧ q ≤ h + 11 ∧ q < σ.1.2.1 then _ else σ.1.1 q) = σ.1.1 q
  rw [if_neg (by omega)]
theorem m_S_up0 (hn : h + 11 < sx_n σ) (hk : ∀ k, m_K G M' k = m_K G M k) : sx_up (m_S G h M σ) h (.inr (2, m_O h M')) = m_S G h M' σ := by
  have hn : h + 11 < σ.1.2.1 := hn
  refine Subtype.ext (Prod.ext (funext fun q => ?_) rfl)
  show (if q = h ∧ h < σ.1.2.1 then some (.inr (2, m_O h M')) else (if h ≤ q ∧ q ≤ h + 11 ∧ q < σ.1.2.1 then some (if q = h then .inr (2, m_O h M) else m_K G M (q - h)) else σ.1.1 q)) = (if h ≤ q ∧ q ≤ h + 11 ∧ q < σ.1.2.1 then some (if q = h then .inr (2, m_O h M') else m_K G M' (q - h)) else σ.1.1 q)
  by_cases hq : q = h
  · subst hq
    rw [if_pos ⟨rfl, by omega⟩, if_pos ⟨Nat.le_refl _, by omega, by omega⟩, if_pos rfl]
  · rw [if_neg (fun z => hq z.1), if_neg hq, if_neg hq, hk]
theorem m_S_upk (hn : h + 11 < sx_n σ) (k : Nat) (h1 : 1 ≤ k) (h2 : k ≤ 11) {e : va_E} (he : e = m_K G M' k) (ho : m_O h M' = m_O h M) (hk : ∀ j, 1 ≤ j → j ≤ 11 → j ≠ k → m_K G M' j = m_K G M j) : sx_up (m_S G h M σ) (h + k) e = m_S G h M' σ := by
  have hn : h + 11 < σ.1.2.1 := hn
  subst he
  refine Subtype.ext (Prod.ext (funext fun q => ?_) rfl)
  show (if q = h + k ∧ h + k < σ.1.2.1 then some (m_K G M' k) else (if h ≤ q ∧ q ≤ h + 11 ∧ q < σ.1.2.1 then some (if q = h then .inr (2, m_O h M) else m_K G M (q - h)) else σ.1.1 q)) = (if h ≤ q ∧ q ≤ h + 11 ∧ q < σ.1.2.1 then some (if q = h then .inr (2, m_O h M') else m_K G M' (q - h)) else σ.1.1 q)
  by_cases hq : q = h + k
  · subst hq
    rw [if_pos ⟨rfl, by omega⟩, if_pos ⟨by omega, by omega, by omega⟩, if_neg (by omega), show h + k - h = k by omega]
  · rw [if_neg (fun z => hq z.1)]
    by_cases hr : h ≤ q ∧ q ≤ h + 11 ∧ q < σ.1.2.1
    · rw [if_pos hr, if_pos hr, ho]
      by_cases hz : q = h
      · rw [if_pos hz, if_pos hz]
      · rw [if_neg hz, if_neg hz, hk (q - h) (by omega) (by omega) (by omega)]
    · rw [if_neg hr, if_neg hr]
/-- an int field is written -/
def m_i (M : m_M) (k : Nat) (v : Int32) : m_M := (upd M.1 k v, M.2.1, M.2.2.1, M.2.2.2)
/-- which row -/
def m_r (M : m_M) (b : Bool) : m_M := (M.1, b, M.2.2.1, M.2.2.2)
/-- a long array is written -/
def m_a (M : m_M) (t : Nat) (f : Nat → Int64) : m_M := (M.1, M.2.1, (fun j => if j = t then f else M.2.2.1 j), M.2.2.2)
/-- an int array is written -/
def m_b (M : m_M) (t : Nat) (f : Nat → Int32) : m_M := (M.1, M.2.1, M.2.2.1, (fun j => if j = t then f else M.2.2.2 j))
/-- the row at work -/
def m_w (M : m_M) : Nat → Int64 := M.2.2.1 (if M.2.1 then 1 else 0)
def m_wt (M : m_M) : Nat := if M.2.1 then 1 else 0
variable {d : Nat} {Y : sx_Y} {pc : Nat} {L : List (Option Value)} {st : List Value} {Q : sx_O → sx_St → Prop}
theorem sm_get {idx k : Nat} {v : Value} (hn : h + 11 < sx_n σ) (hf : sx_fg Y.1.cls idx 2 k) (hd : decode Y.2.1 pc = .ok (.getfield idx, 3)) (hv : (m_O h M)[k]? = some v) (kk : sx_V G d Y (pc + 3) L (v :: st) (m_S G h M σ) Q) : sx_V G d Y pc L (.ref h :: st) (m_S G h M σ) Q := sv_get hf hd (sx_rd_c (m_S_0 hn)) hv kk
theorem sm_put {idx k : Nat} {v : Int32} (hn : h + 11 < sx_n σ) (hf : sx_fp Y.1.cls Y.1.name idx 2 k .int) (hd : decode Y.2.1 pc = .ok (.putfield idx, 3)) (hs : (m_O h M).set k (.int v) = m_O h (m_i M k v)) (hk : k < 28) (kk : sx_V G d Y (pc + 3) L st (m_S G h (m_i M k v) σ) Q) : sx_V G d Y pc L (.int v :: .ref h :: st) (m_S G h M σ) Q :=
  sv_put hf hd (m_S_0 hn) rfl rfl hk (by rw [hs, m_S_up0 (M := M) (M' := m_i M k v) hn (fun _ => rfl)]; exact kk)
theorem sm_putz {idx k : Nat} {c : Bool} (hn : h + 11 < sx_n σ) (hf : sx_fp Y.1.cls Y.1.name idx 2 k .boolean) (hd : decode Y.2.1 pc = .ok (.putfield idx, 3)) (hs : (m_O h M).set k (.int (b_I c)) = m_O h (m_i M k (b_I c))) (hk : k < 28) (kk : sx_V G d Y (pc + 3) L st (m_S G h (m_i M k (b_I c)) σ) Q) : sx_V G d Y pc L (.int (b_I c) :: .ref h :: st) (m_S G h M σ) Q :=
  sv_put hf hd (m_S_0 hn) (b_I_nar c) (b_I_fit c) hk (by rw [hs, m_S_up0 (M := M) (M' := m_i M k (b_I c)) hn (fun _ => rfl)]; exact kk)
/-- by its number: a long array's place, a small array's place -/
def m_ka (t : Nat) : Nat := match t with
  | 0 => 1
  | 1 => 2
  | 2 => 8
  | _ => 10
def m_na (t : Nat) : Nat := match t with
  | 0 => 806
  | 1 => 806
  | 2 => 1612
  | _ => 4836
theorem m_K_a (t : Nat) (ht : t < 4) : m_K G M (m_ka t) = .inl (sg_a G 1, m_na t, .inr (.inl (M.2.2.1 t))) := by
  match t, ht with
  | 0, _ => rfl
  | 1, _ => rfl
  | 2, _ => rfl
  | 3, _ => rfl
theorem m_na_lt (t : Nat) : m_na t < 2 ^ 31 := by unfold m_na; split <;> decide
theorem m_ka_1 (t : Nat) : 1 ≤ m_ka t ∧ m_ka t ≤ 11 := by unfold m_ka; split <;> decide
theorem m_K_a_up (t : Nat) (ht : t < 4) (f : Nat → Int64) : ∀ j, 1 ≤ j → j ≤ 11 → j ≠ m_ka t → m_K G (m_a M t f) j = m_K G M j := by
  intro j h1 h2 h3
  match t, ht, j, h1, h2, h3 with
  | 0, _, 1, _, _, h3 => exact absurd rfl h3
  | 0, _, 2, _, _, _ => rfl
  | 0, _, 3, _, _, _ => rfl
  | 0, _, 4, _, _, _ => rfl
  | 0, _, 5, _, _, _ => rfl
  | 0, _, 6, _, _, _ => rfl
  | 0, _, 7, _, _, _ => rfl
  | 0, _, 8, _, _, _ => rfl
  | 0, _, 9, _, _, _ => rfl
  | 0, _, 10, _, _, _ => rfl
  | 0, _, 11, _, _, _ => rfl
  | 1, _, 1, _, _, _ => rfl
  | 1, _, 2, _, _, h3 => exact absurd rfl h3
  | 1, _, 3, _, _, _ => rfl
  | 1, _, 4, _, _, _ => rfl
  | 1, _, 5, _, _, _ => rfl
  | 1, _, 6, _, _, _ => rfl
  | 1, _, 7, _, _, _ => rfl
  | 1, _, 8, _, _, _ => rfl
  | 1, _, 9, _, _, _ => rfl
  | 1, _, 10, _, _, _ => rfl
  | 1, _, 11, _, _, _ => rfl
  | 2, _, 1, _, _, _ => rfl
  | 2, _, 2, _, _, _ => rfl
  | 2, _, 3, _, _, _ => rfl
  | 2, _, 4, _, _, _ => rfl
  | 2, _, 5, _, _, _ => rfl
  | 2, _, 6, _, _, _ => rfl
  | 2, _, 7, _, _, _ => rfl
  | 2, _, 8, _, _, h3 => exact absurd rfl h3
  | 2, _, 9, _, _, _ => rfl
  | 2, _, 10, _, _, _ => rfl
  | 2, _, 11, _, _, _ => rfl
  | 3, _, 1, _, _, _ => rfl
  | 3, _, 2, _, _, _ => rfl
  | 3, _, 3, _, _, _ => rfl
  | 3, _, 4, _, _, _ => rfl
  | 3, _, 5, _, _, _ => rfl
  | 3, _, 6, _, _, _ => rfl
  | 3, _, 7, _, _, _ => rfl
  | 3, _, 8, _, _, _ => rfl
  | 3, _, 9, _, _, _ => rfl
  | 3, _, 10, _, _, h3 => exact absurd rfl h3
  | 3, _, 11, _, _, _ => rfl
theorem sm_ld {i : Nat} (t : Nat) (ht : t < 4) (hn : h + 11 < sx_n σ) (hd : decode Y.2.1 pc = .ok (.laload, 1)) (hi : i < m_na t) (kk : sx_V G d Y (pc + 1) L (.long (M.2.2.1 t i) :: st) (m_S G h M σ) Q) : sx_V G d Y pc L (.int (nI i) :: .ref (h + m_ka t) :: st) (m_S G h M σ) Q := by
  refine sv_lald (n := m_na t) (f := M.2.2.1 t) hd (sx_rd_c ((m_S_k hn (m_ka t) (m_ka_1 t).1 (m_ka_1 t).2).trans (by rw [m_K_a t ht]))) (vp_in_nI hi (m_na_lt t)) ?_
  rw [nI_clamp (Nat.lt_trans hi (m_na_lt t))]
  exact kk
theorem sm_st {i : Nat} {x : Int64} (t : Nat) (ht : t < 4) (hn : h + 11 < sx_n σ) (hd : decode Y.2.1 pc = .ok (.lastore, 1)) (hi : i < m_na t) (kk : sx_V G d Y (pc + 1) L st (m_S G h (m_a M t (vp_updL (M.2.2.1 t) i x)) σ) Q) : sx_V G d Y pc L (.long x :: .int (nI i) :: .ref (h + m_ka t) :: st) (m_S G h M σ) Q := by
  refine sv_last (n := m_na t) (f := M.2.2.1 t) hd ((m_S_k hn (m_ka t) (m_ka_1 t).1 (m_ka_1 t).2).trans (by rw [m_K_a t ht])) (vp_in_nI hi (m_na_lt t)) ?_
  rw [nI_clamp (Nat.lt_trans hi (m_na_lt t)), m_S_upk (M := M) (M' := m_a M t (vp_updL (M.2.2.1 t) i x)) hn (m_ka t) (m_ka_1 t).1 (m_ka_1 t).2 (by rw [m_K_a t ht]; simp [m_a]) rfl (m_K_a_up t ht _)]
  exact kk
/-- the row at work is read, is written -/
theorem sm_wld {i : Nat} (hn : h + 11 < sx_n σ) (hd : decode Y.2.1 pc = .ok (.laload, 1)) (hi : i < 806) (kk : sx_V G d Y (pc + 1) L (.long (m_w M i) :: st) (m_S G h M σ) Q) : sx_V G d Y pc L (.int (nI i) :: .ref (if M.2.1 then h + 2 else h + 1) :: st) (m_S G h M σ) Q := by
  unfold m_w at kk
  cases hb : M.2.1 with
  | true => rw [hb] at kk; exact sm_ld 1 (by decide) hn hd hi kk
  | false => rw [hb] at kk; exact sm_ld 0 (by decide) hn hd hi kk
def m_u (M : m_M) (i : Nat) (x : Int64) : m_M := m_a M (m_wt M) (vp_updL (m_w M) i x)
/-- net is written -/
def m_n (M : m_M) (i : Nat) (x : Int64) : m_M := m_a M 0 (vp_updL (M.2.2.1 0) i x)
theorem sm_wst {i : Nat} {x : Int64} (hn : h + 11 < sx_n σ) (hd : decode Y.2.1 pc = .ok (.lastore, 1)) (hi : i < 806) (kk : sx_V G d Y (pc + 1) L st (m_S G h (m_u M i x) σ) Q) : sx_V G d Y pc L (.long x :: .int (nI i) :: .ref (if M.2.1 then h + 2 else h + 1) :: st) (m_S G h M σ) Q := by
  unfold m_u m_w m_wt at kk
  cases hb : M.2.1 with
  | true => rw [hb] at kk; exact sm_st 1 (by decide) hn hd hi kk
  | false => rw [hb] at kk; exact sm_st 0 (by decide) hn hd hi kk
theorem sm_nld {i : Nat} (hn : h + 11 < sx_n σ) (hd : decode Y.2.1 pc = .ok (.laload, 1)) (hi : i < 806) (kk : sx_V G d Y (pc + 1) L (.long (M.2.2.1 0 i) :: st) (m_S G h M σ) Q) : sx_V G d Y pc L (.int (nI i) :: .ref (h + 1) :: st) (m_S G h M σ) Q := sm_ld 0 (by decide) hn hd hi kk
theorem sm_nst {i : Nat} {x : Int64} (hn : h + 11 < sx_n σ) (hd : decode Y.2.1 pc = .ok (.lastore, 1)) (hi : i < 806) (kk : sx_V G d Y (pc + 1) L st (m_S G h (m_n M i x) σ) Q) : sx_V G d Y pc L (.long x :: .int (nI i) :: .ref (h + 1) :: st) (m_S G h M σ) Q := sm_st 0 (by decide) hn hd hi kk
theorem m_w_i (k : Nat) (v : Int32) : m_w (m_i M k v) = m_w M := rfl
theorem m_w_b (t : Nat) (f : Nat → Int32) : m_w (m_b M t f) = m_w M := rfl
theorem m_w_u (i : Nat) (x : Int64) : m_w (m_u M i x) = vp_updL (m_w M) i x := by
  unfold m_u m_a m_w m_wt
  simp
theorem m_w_n (hb : M.2.1 = false) (i : Nat) (x : Int64) : m_w (m_n M i x) = vp_updL (m_w M) i x := by
  unfold m_n m_a m_w
  simp [hb]
theorem m_un (hb : M.2.1 = false) (i : Nat) (x : Int64) : m_u M i x = m_n M i x := by
  unfold m_u m_n m_w m_wt
  simp [hb]
theorem sm_b0ld {i : Nat} (hn : h + 11 < sx_n σ) (hd : decode Y.2.1 pc = .ok (.iaload, 1)) (hi : i < 4000) (kk : sx_V G d Y (pc + 1) L (.int (M.2.2.2 0 i) :: st) (m_S G h M σ) Q) : sx_V G d Y pc L (.int (nI i) :: .ref (h + 3) :: st) (m_S G h M σ) Q := by
  refine sv_iald (n := 4000) (f := M.2.2.2 0) hd (sx_rd_c (m_S_k hn 3 (by decide) (by decide))) (vp_in_nI hi (by decide)) ?_
  rw [nI_clamp (Nat.lt_trans hi (by decide))]
  exact kk
theorem sm_b0st {i : Nat} {x : Int32} (hn : h + 11 < sx_n σ) (hd : decode Y.2.1 pc = .ok (.iastore, 1)) (hi : i < 4000) (kk : sx_V G d Y (pc + 1) L st (m_S G h (m_b M 0 (upd (M.2.2.2 0) i (x))) σ) Q) : sx_V G d Y pc L (.int x :: .int (nI i) :: .ref (h + 3) :: st) (m_S G h M σ) Q := by
  refine sv_iast (n := 4000) (f := M.2.2.2 0) hd (m_S_k hn 3 (by decide) (by decide)) (vp_in_nI hi (by decide)) ?_
  rw [nI_clamp (Nat.lt_trans hi (by decide)), m_S_upk (M := M) (M' := m_b M 0 (upd (M.2.2.2 0) i (x))) (e := .inl (sg_a G 0, 4000, .inl (upd (M.2.2.2 0) i (x)))) hn 3 (by decide) (by decide) rfl rfl ?_]
  · exact kk
  · intro j h1 h2 h3
    match j, h1, h2, h3 with
    | 1, _, _, _ => rfl
    | 2, _, _, _ => rfl
    | 3, _, _, h3 => exact absurd rfl h3
    | 4, _, _, _ => rfl
    | 5, _, _, _ => rfl
    | 6, _, _, _ => rfl
    | 7, _, _, _ => rfl
    | 8, _, _, _ => rfl
    | 9, _, _, _ => rfl
    | 10, _, _, _ => rfl
    | 11, _, _, _ => rfl
theorem sm_b1ld {i : Nat} (hn : h + 11 < sx_n σ) (hd : decode Y.2.1 pc = .ok (.iaload, 1)) (hi : i < 60) (kk : sx_V G d Y (pc + 1) L (.int (M.2.2.2 1 i) :: st) (m_S G h M σ) Q) : sx_V G d Y pc L (.int (nI i) :: .ref (h + 4) :: st) (m_S G h M σ) Q := by
  refine sv_iald (n := 60) (f := M.2.2.2 1) hd (sx_rd_c (m_S_k hn 4 (by decide) (by decide))) (vp_in_nI hi (by decide)) ?_
  rw [nI_clamp (Nat.lt_trans hi (by decide))]
  exact kk
theorem sm_b1st {i : Nat} {x : Int32} (hn : h + 11 < sx_n σ) (hd : decode Y.2.1 pc = .ok (.iastore, 1)) (hi : i < 60) (kk : sx_V G d Y (pc + 1) L st (m_S G h (m_b M 1 (upd (M.2.2.2 1) i (x))) σ) Q) : sx_V G d Y pc L (.int x :: .int (nI i) :: .ref (h + 4) :: st) (m_S G h M σ) Q := by
  refine sv_iast (n := 60) (f := M.2.2.2 1) hd (m_S_k hn 4 (by decide) (by decide)) (vp_in_nI hi (by decide)) ?_
  rw [nI_clamp (Nat.lt_trans hi (by decide)), m_S_upk (M := M) (M' := m_b M 1 (upd (M.2.2.2 1) i (x))) (e := .inl (sg_a G 0, 60, .inl (upd (M.2.2.2 1) i (x)))) hn 4 (by decide) (by decide) rfl rfl ?_]
  · exact kk
  · intro j h1 h2 h3
    match j, h1, h2, h3 with
    | 1, _, _, _ => rfl
    | 2, _, _, _ => rfl
    | 3, _, _, _ => rfl
    | 4, _, _, h3 => exact absurd rfl h3
    | 5, _, _, _ => rfl
    | 6, _, _, _ => rfl
    | 7, _, _, _ => rfl
    | 8, _, _, _ => rfl
    | 9, _, _, _ => rfl
    | 10, _, _, _ => rfl
    | 11, _, _, _ => rfl
theorem sm_b2ld {i : Nat} (hn : h + 11 < sx_n σ) (hd : decode Y.2.1 pc = .ok (.baload, 1)) (hi : i < 700) (kk : sx_V G d Y (pc + 1) L (.int (M.2.2.2 2 i) :: st) (m_S G h M σ) Q) : sx_V G d Y pc L (.int (nI i) :: .ref (h + 5) :: st) (m_S G h M σ) Q := by
  refine sv_bald (n := 700) (f := M.2.2.2 2) hd (sx_rd_c (m_S_k hn 5 (by decide) (by decide))) (vp_in_nI hi (by decide)) ?_
  rw [nI_clamp (Nat.lt_trans hi (by decide))]
  exact kk
theorem sm_b2st {i : Nat} {x : Int32} (hn : h + 11 < sx_n σ) (hd : decode Y.2.1 pc = .ok (.bastore, 1)) (hi : i < 700) (kk : sx_V G d Y (pc + 1) L st (m_S G h (m_b M 2 (upd (M.2.2.2 2) i (vp_nar .byte x))) σ) Q) : sx_V G d Y pc L (.int x :: .int (nI i) :: .ref (h + 5) :: st) (m_S G h M σ) Q := by
  refine sv_bast (n := 700) (f := M.2.2.2 2) hd (m_S_k hn 5 (by decide) (by decide)) (vp_in_nI hi (by decide)) ?_
  rw [nI_clamp (Nat.lt_trans hi (by decide)), m_S_upk (M := M) (M' := m_b M 2 (upd (M.2.2.2 2) i (vp_nar .byte x))) (e := .inl (sg_a G 2, 700, .inl (upd (M.2.2.2 2) i (vp_nar .byte x)))) hn 5 (by decide) (by decide) rfl rfl ?_]
  · exact kk
  · intro j h1 h2 h3
    match j, h1, h2, h3 with
    | 1, _, _, _ => rfl
    | 2, _, _, _ => rfl
    | 3, _, _, _ => rfl
    | 4, _, _, _ => rfl
    | 5, _, _, h3 => exact absurd rfl h3
    | 6, _, _, _ => rfl
    | 7, _, _, _ => rfl
    | 8, _, _, _ => rfl
    | 9, _, _, _ => rfl
    | 10, _, _, _ => rfl
    | 11, _, _, _ => rfl
theorem sm_b3ld {i : Nat} (hn : h + 11 < sx_n σ) (hd : decode Y.2.1 pc = .ok (.iaload, 1)) (hi : i < 4) (kk : sx_V G d Y (pc + 1) L (.int (M.2.2.2 3 i) :: st) (m_S G h M σ) Q) : sx_V G d Y pc L (.int (nI i) :: .ref (h + 6) :: st) (m_S G h M σ) Q := by
  refine sv_iald (n := 4) (f := M.2.2.2 3) hd (sx_rd_c (m_S_k hn 6 (by decide) (by decide))) (vp_in_nI hi (by decide)) ?_
  rw [nI_clamp (Nat.lt_trans hi (by decide))]
  exact kk
theorem sm_b3st {i : Nat} {x : Int32} (hn : h + 11 < sx_n σ) (hd : decode Y.2.1 pc = .ok (.iastore, 1)) (hi : i < 4) (kk : sx_V G d Y (pc + 1) L st (m_S G h (m_b M 3 (upd (M.2.2.2 3) i (x))) σ) Q) : sx_V G d Y pc L (.int x :: .int (nI i) :: .ref (h + 6) :: st) (m_S G h M σ) Q := by
  refine sv_iast (n := 4) (f := M.2.2.2 3) hd (m_S_k hn 6 (by decide) (by decide)) (vp_in_nI hi (by decide)) ?_
  rw [nI_clamp (Nat.lt_trans hi (by decide)), m_S_upk (M := M) (M' := m_b M 3 (upd (M.2.2.2 3) i (x))) (e := .inl (sg_a G 0, 4, .inl (upd (M.2.2.2 3) i (x)))) hn 6 (by decide) (by decide) rfl rfl ?_]
  · exact kk
  · intro j h1 h2 h3
    match j, h1, h2, h3 with
    | 1, _, _, _ => rfl
    | 2, _, _, _ => rfl
    | 3, _, _, _ => rfl
    | 4, _, _, _ => rfl
    | 5, _, _, _ => rfl
    | 6, _, _, h3 => exact absurd rfl h3
    | 7, _, _, _ => rfl
    | 8, _, _, _ => rfl
    | 9, _, _, _ => rfl
    | 10, _, _, _ => rfl
    | 11, _, _, _ => rfl
theorem sm_b4ld {i : Nat} (hn : h + 11 < sx_n σ) (hd : decode Y.2.1 pc = .ok (.baload, 1)) (hi : i < 4) (kk : sx_V G d Y (pc + 1) L (.int (M.2.2.2 4 i) :: st) (m_S G h M σ) Q) : sx_V G d Y pc L (.int (nI i) :: .ref (h + 7) :: st) (m_S G h M σ) Q := by
  refine sv_zald (n := 4) (f := M.2.2.2 4) hd (sx_rd_c (m_S_k hn 7 (by decide) (by decide))) (vp_in_nI hi (by decide)) ?_
  rw [nI_clamp (Nat.lt_trans hi (by decide))]
  exact kk
theorem sm_b4st {i : Nat} {x : Int32} (hn : h + 11 < sx_n σ) (hd : decode Y.2.1 pc = .ok (.bastore, 1)) (hi : i < 4) (kk : sx_V G d Y (pc + 1) L st (m_S G h (m_b M 4 (upd (M.2.2.2 4) i (vp_nar .boolean x))) σ) Q) : sx_V G d Y pc L (.int x :: .int (nI i) :: .ref (h + 7) :: st) (m_S G h M σ) Q := by
  refine sv_zast (n := 4) (f := M.2.2.2 4) hd (m_S_k hn 7 (by decide) (by decide)) (vp_in_nI hi (by decide)) ?_
  rw [nI_clamp (Nat.lt_trans hi (by decide)), m_S_upk (M := M) (M' := m_b M 4 (upd (M.2.2.2 4) i (vp_nar .boolean x))) (e := .inl (sg_a G 3, 4, .inl (upd (M.2.2.2 4) i (vp_nar .boolean x)))) hn 7 (by decide) (by decide) rfl rfl ?_]
  · exact kk
  · intro j h1 h2 h3
    match j, h1, h2, h3 with
    | 1, _, _, _ => rfl
    | 2, _, _, _ => rfl
    | 3, _, _, _ => rfl
    | 4, _, _, _ => rfl
    | 5, _, _, _ => rfl
    | 6, _, _, _ => rfl
    | 7, _, _, h3 => exact absurd rfl h3
    | 8, _, _, _ => rfl
    | 9, _, _, _ => rfl
    | 10, _, _, _ => rfl
    | 11, _, _, _ => rfl
theorem sm_b5ld {i : Nat} (hn : h + 11 < sx_n σ) (hd : decode Y.2.1 pc = .ok (.baload, 1)) (hi : i < 2) (kk : sx_V G d Y (pc + 1) L (.int (M.2.2.2 5 i) :: st) (m_S G h M σ) Q) : sx_V G d Y pc L (.int (nI i) :: .ref (h + 9) :: st) (m_S G h M σ) Q := by
  refine sv_zald (n := 2) (f := M.2.2.2 5) hd (sx_rd_c (m_S_k hn 9 (by decide) (by decide))) (vp_in_nI hi (by decide)) ?_
  rw [nI_clamp (Nat.lt_trans hi (by decide))]
  exact kk
theorem sm_b5st {i : Nat} {x : Int32} (hn : h + 11 < sx_n σ) (hd : decode Y.2.1 pc = .ok (.bastore, 1)) (hi : i < 2) (kk : sx_V G d Y (pc + 1) L st (m_S G h (m_b M 5 (upd (M.2.2.2 5) i (vp_nar .boolean x))) σ) Q) : sx_V G d Y pc L (.int x :: .int (nI i) :: .ref (h + 9) :: st) (m_S G h M σ) Q := by
  refine sv_zast (n := 2) (f := M.2.2.2 5) hd (m_S_k hn 9 (by decide) (by decide)) (vp_in_nI hi (by decide)) ?_
  rw [nI_clamp (Nat.lt_trans hi (by decide)), m_S_upk (M := M) (M' := m_b M 5 (upd (M.2.2.2 5) i (vp_nar .boolean x))) (e := .inl (sg_a G 3, 2, .inl (upd (M.2.2.2 5) i (vp_nar .boolean x)))) hn 9 (by decide) (by decide) rfl rfl ?_]
  · exact kk
  · intro j h1 h2 h3
    match j, h1, h2, h3 with
    | 1, _, _, _ => rfl
    | 2, _, _, _ => rfl
    | 3, _, _, _ => rfl
    | 4, _, _, _ => rfl
    | 5, _, _, _ => rfl
    | 6, _, _, _ => rfl
    | 7, _, _, _ => rfl
    | 8, _, _, _ => rfl
    | 9, _, _, h3 => exact absurd rfl h3
    | 10, _, _, _ => rfl
    | 11, _, _, _ => rfl
theorem sm_b6ld {i : Nat} (hn : h + 11 < sx_n σ) (hd : decode Y.2.1 pc = .ok (.baload, 1)) (hi : i < 12000) (kk : sx_V G d Y (pc + 1) L (.int (M.2.2.2 6 i) :: st) (m_S G h M σ) Q) : sx_V G d Y pc L (.int (nI i) :: .ref (h + 11) :: st) (m_S G h M σ) Q := by
  refine sv_bald (n := 12000) (f := M.2.2.2 6) hd (sx_rd_c (m_S_k hn 11 (by decide) (by decide))) (vp_in_nI hi (by decide)) ?_
  rw [nI_clamp (Nat.lt_trans hi (by decide))]
  exact kk
theorem sm_b6st {i : Nat} {x : Int32} (hn : h + 11 < sx_n σ) (hd : decode Y.2.1 pc = .ok (.bastore, 1)) (hi : i < 12000) (kk : sx_V G d Y (pc + 1) L st (m_S G h (m_b M 6 (upd (M.2.2.2 6) i (vp_nar .byte x))) σ) Q) : sx_V G d Y pc L (.int x :: .int (nI i) :: .ref (h + 11) :: st) (m_S G h M σ) Q := by
  refine sv_bast (n := 12000) (f := M.2.2.2 6) hd (m_S_k hn 11 (by decide) (by decide)) (vp_in_nI hi (by decide)) ?_
  rw [nI_clamp (Nat.lt_trans hi (by decide)), m_S_upk (M := M) (M' := m_b M 6 (upd (M.2.2.2 6) i (vp_nar .byte x))) (e := .inl (sg_a G 2, 12000, .inl (upd (M.2.2.2 6) i (vp_nar .byte x)))) hn 11 (by decide) (by decide) rfl rfl ?_]
  · exact kk
  · intro j h1 h2 h3
    match j, h1, h2, h3 with
    | 1, _, _, _ => rfl
    | 2, _, _, _ => rfl
    | 3, _, _, _ => rfl
    | 4, _, _, _ => rfl
    | 5, _, _, _ => rfl
    | 6, _, _, _ => rfl
    | 7, _, _, _ => rfl
    | 8, _, _, _ => rfl
    | 9, _, _, _ => rfl
    | 10, _, _, _ => rfl
    | 11, _, _, h3 => exact absurd rfl h3
end MWA
