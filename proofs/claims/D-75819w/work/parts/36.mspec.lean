set_option maxRecDepth 100000
section MSP
/-! how sessions change -/
def S_ac (S : a_S) (k : Nat) (x : Int32) : a_S := (S.1, S.2.1, S.2.2.1, S.2.2.2.1, S.2.2.2.2.1, upd S.2.2.2.2.2.1 k (S.2.2.2.2.2.1 k + x), S.2.2.2.2.2.2)
def S_es (S : a_S) (es : List a_E) : a_S := (S.1, S.2.1, S.2.2.1, S.2.2.2.1, S.2.2.2.2.1, S.2.2.2.2.2.1, es)
def S_ls (S : a_S) (u : Int32) : a_S := (S.1, S.2.1, S.2.2.1, S.2.2.2.1, u, S.2.2.2.2.2.1, S.2.2.2.2.2.2)
def S_id (S : a_S) (c : Bool) : a_S := (S.1, S.2.1, S.2.2.1, c, S.2.2.2.2.1, S.2.2.2.2.2.1, S.2.2.2.2.2.2)
def S_bx (S : a_S) (b : Option Nat) : a_S := (S.1, b, S.2.2.1, S.2.2.2.1, S.2.2.2.2.1, S.2.2.2.2.2.1, S.2.2.2.2.2.2)
def S_rd (S : a_S) (c : Bool) : a_S := (S.1, S.2.1, c, S.2.2.2.1, S.2.2.2.2.1, S.2.2.2.2.2.1, S.2.2.2.2.2.2)
/-- steps of a server -/
def v_ac (V : a_V) (s k : Nat) (x : Int32) : a_V := a_us V s (S_ac (a_s V s) k x)
def v_dr (V : a_V) (s k : Nat) : a_V := a_us V s (S_es (a_s V s) ((a_es V s).eraseIdx k))
def v_to (V : a_V) (s k : Nat) (f : Int32) : a_V := a_us V s (S_es (a_s V s) ((a_es V s).set k ((a_e V s k).1, f)))
def v_pu (V : a_V) (s : Nat) (m : a_M) : a_V := a_us V s (S_ls (S_es (a_s V s) (a_es V s ++ [(m.1, m.2.2)])) m.1)
/-- a notice -/
def s_no (A : a_A) (s k : Nat) (n f : Int32) : a_A := A_sn (A_sv A (v_ac (A_v A) s (k + 1) 1)) (A_n A ++ [(nI s, nI k, n, f)])
/-- telling what is gone, what is other, what is new -/
def s_tg : Nat → a_A → Nat → Nat → a_A
  | 0, A, _, _ => A
  | n + 1, A, s, k => if k < (a_es (A_v A) s).length then (if a_go (A_v A) s k then s_tg n (A_sv (s_no A s 0 (nI (k + 1)) 0) (v_dr (A_v (s_no A s 0 (nI (k + 1)) 0)) s k)) s k else s_tg n A s (k + 1)) else A
def s_tf : Nat → a_A → Nat → Nat → a_A
  | 0, A, _, _ => A
  | n + 1, A, s, k => if k < (a_es (A_v A) s).length then (if a_ot (A_v A) s k then s_tf n (s_no (A_sv A (v_to (A_v A) s k (a_fl (A_v A) s k))) s 1 (nI (k + 1)) (a_fl (A_v A) s k)) s (k + 1) else s_tf n A s (k + 1)) else A
def s_tn : Nat → a_A → Nat → Nat → Nat → a_A
  | 0, A, _, _, _ => A
  | n + 1, A, s, b, m => if m < (a_ms (A_v A) b).length ∧ (a_es (A_v A) s).length < 60 then (if a_ls (A_v A) s < (a_m (A_v A) b m).1 then s_tn n (A_sv A (v_pu (A_v A) s (a_m (A_v A) b m))) s b (m + 1) else s_tn n A s b (m + 1)) else A
def s_tw (A : a_A) (s b : Nat) : a_A := if (a_es (A_v A) s).length < (a_es (A_v (s_tn 31 A s b 0)) s).length then s_no (s_tn 31 A s b 0) s 2 (nI (a_es (A_v (s_tn 31 A s b 0)) s).length) 0 else s_tn 31 A s b 0
def s_te (A : a_A) (s : Nat) (all : Bool) : a_A := match a_bx (A_v A) s with
  | none => A
  | some b => s_tw (s_tf 61 (if all then s_tg 61 A s 0 else A) s 0) s b
def s_ti : Nat → a_A → Nat → a_A
  | 0, A, _ => A
  | n + 1, A, s => if s < (A_v A).2.2.length then s_ti n (if a_id (A_v A) s then s_te A s true else A) (s + 1) else A
variable {M : m_M} {A : a_A} {V : a_V} {r r' : Nat → Int64}
theorem i64_add (x y : Int64) : (x + y).toInt32 = x.toInt32 + y.toInt32 := Int64.toInt32_add x y
theorem i64_sub (x y : Int64) : (x - y).toInt32 = x.toInt32 - y.toInt32 := Int64.toInt32_sub x y
theorem uL_s {k : Nat} {x : Int64} : vp_updL r k x k = x := pk_uLs
theorem uL_n {k j : Nat} {x : Int64} (h : j ≠ k) : vp_updL r k x j = r j := pk_uLn h
theorem w_V_s {s : Nat} {S : a_S} (hw : w_V V) (hl : S.2.2.2.2.2.2.length ≤ 60) (hb : ∀ b, S.2.1 = some b → b < V.2.1.length) (hn : S.2.1 = none → S.2.2.2.2.2.2 = []) : w_V (a_us V s S) := by
  obtain ⟨⟨h1, h2, h3⟩, h4, h5, h6⟩ := hw
  refine ⟨⟨h1, by rw [a_us_n]; exact h2, h3⟩, fun t ht => ?_, fun t b ht hb2 => ?_, fun t ht hb2 => ?_⟩ <;> rw [a_us_n] at ht <;> unfold a_es a_bx at * <;> by_cases hts : t = s
  · subst hts; rw [a_us_s S ht]; exact hl
  · rw [a_us_t S hts]; exact h4 t ht
  · subst hts; rw [a_us_s S ht] at hb2; exact hb b hb2
  · rw [a_us_t S hts] at hb2; exact h5 t b ht hb2
  · subst hts; rw [a_us_s S ht] at hb2 ⊢; exact hn hb2
  · rw [a_us_t S hts] at hb2 ⊢; exact h6 t ht hb2
theorem a_us_bx {s : Nat} {S : a_S} (hs : s < V.2.2.length) : a_bx (a_us V s S) s = S.2.1 := by unfold a_bx; rw [a_us_s S hs]
theorem a_us_ls {s : Nat} {S : a_S} (hs : s < V.2.2.length) : a_ls (a_us V s S) s = S.2.2.2.2.1 := by unfold a_ls; rw [a_us_s S hs]
theorem a_us_es {s : Nat} {S : a_S} (hs : s < V.2.2.length) : a_es (a_us V s S) s = S.2.2.2.2.2.2 := by unfold a_es; rw [a_us_s S hs]
/-- an account grows -/
theorem e_V_ac {s k : Nat} {x : Int64} (hw : w_V V) (hs : s < V.2.2.length) (hk : k < 5) (h : e_V r V) : e_V (vp_updL r (282 + 131 * s + 6 + k) (r (282 + 131 * s + 6 + k) + x)) (v_ac V s k x.toInt32) := by
  obtain ⟨h1, h2, h3, h4, h5, h6, h7⟩ := h.2.1 s hs
  refine e_V_s hw hs h (fun i hi => uL_n (by omega)) ⟨by rw [uL_n (by omega)]; exact h1, by rw [uL_n (by omega)]; exact h2, by rw [uL_n (by omega)]; exact h3, by rw [uL_n (by omega)]; exact h4, by rw [uL_n (by omega)]; exact h5, fun j hj => ?_, fun j hj => ?_⟩ ?_
  · show _ = upd _ k _ j
    by_cases hjk : j = k
    · subst hjk
      rw [uL_s, i64_add, h6 j hj, pk_us]
    · rw [uL_n (by omega), h6 j hj, pk_un hjk]
  · rw [uL_n (by omega), uL_n (by omega)]
    exact h7 j hj
  · intro b hb m hm
    rw [a_us_bx hs] at hb
    rw [uL_n (by omega), a_us_ls hs]
    exact h.2.2 s hs b hb m hm
theorem w_V_ac {s k : Nat} {x : Int32} (hw : w_V V) (hs : s < V.2.2.length) : w_V (v_ac V s k x) := w_V_s hw (hw.2.1 s hs) (fun b hb => hw.2.2.1 s b hs hb) (fun hb => hw.2.2.2 s hs hb)
/-- an entry goes -/
theorem gd_er (l : List a_E) (k j : Nat) : (l.eraseIdx k).getD j (0, 0) = if j < k then l.getD j (0, 0) else l.getD (j + 1) (0, 0) := by
  simp only [List.getD_eq_getElem?_getD, List.getElem?_eraseIdx]
  split <;> rfl
end MSP
