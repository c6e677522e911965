set_option maxRecDepth 100000
section MSA
variable {G : sx_G} {h : Nat} {M : m_M} {σ : sx_St} {V : a_V} {A : a_A} {t : List Int32}
/-! scanning: kinds 0 end, 1 word, 2 number, 3 symbol -/
def k_b (t : List Int32) (k : Nat) : Int32 := if k < t.length then t.getD k 0 &&& 255 else -1
def k_s (c : Int32) : Bool := decide (c = 32) || decide (c = 10)
def k_w (p : Int32 → Bool) (t : List Int32) : Nat → Nat → Nat
  | 0, i => i
  | f + 1, i => if p (k_b t i) then k_w p t f (i + 1) else i
def k_a (c : Int32) : Bool := a_in c 97 122
def k_d (c : Int32) : Bool := a_in c 48 57
/-- the number that stands at s, of k digits -/
def k_u (t : List Int32) (s : Nat) : Nat → Nat
  | 0 => 0
  | k + 1 => 10 * k_u t s k + ((k_b t (s + k)).toNatClampNeg - 48)
abbrev k_T : Type := Nat × Nat × Nat × Nat
def k_c (t : List Int32) (s : Nat) : k_T := if s < t.length then (if k_a (k_b t s) then (1, s, k_w k_a t 701 s, 0) else if k_d (k_b t s) then (2, s, k_w k_d t 701 s, k_u t s (k_w k_d t 701 s - s)) else (3, s, s + 1, 0)) else (0, s, s, 0)
def k_n (t : List Int32) (i : Nat) : k_T := k_c t (k_w k_s t 701 i)
/-- the reference scans the text t and stands at the token k -/
def m_T (t : List Int32) (M : m_M) : Prop := t.length ≤ 700 ∧ M.1 9 = nI t.length ∧ ∀ i, i < t.length → M.2.2.2 2 i = t.getD i 0
def m_Kt (t : List Int32) (k : k_T) (M : m_M) : Prop := k.2.2.1 ≤ t.length ∧ k.2.1 ≤ k.2.2.1 ∧ M.1 10 = nI k.2.2.1 ∧ M.1 11 = nI k.2.1 ∧ M.1 12 = nI k.1 ∧ (k.1 = 2 → M.1 13 = nI (min 99999 k.2.2.2)) ∧ (k.1 = 3 → M.1 13 = k_b t k.2.1)
/-- only the scanner's fields change -/
def m_X (M M' : m_M) : Prop := M'.2 = M.2 ∧ ∀ k, k ≠ 10 → k ≠ 11 → k ≠ 12 → k ≠ 13 → M'.1 k = M.1 k
theorem m_X_r : m_X M M := ⟨rfl, fun _ _ _ _ _ => rfl⟩
theorem m_X_t {M M' M'' : m_M} (h1 : m_X M M') (h2 : m_X M' M'') : m_X M M'' := ⟨h2.1.trans h1.1, fun k a b c d => (h2.2 k a b c d).trans (h1.2 k a b c d)⟩
theorem m_X_i {M' : m_M} {k : Nat} {x : Int32} (hk : k = 10 ∨ k = 11 ∨ k = 12 ∨ k = 13) (h : m_X M M') : m_X M (m_i M' k x) := by
  refine ⟨h.1, fun j a b c d => ?_⟩
  show upd M'.1 k x j = _
  rw [pk_un (by omega)]
  exact h.2 j a b c d
theorem m_T_X {M M' : m_M} (h : m_T t M) (hx : m_X M M') : m_T t M' := by
  refine ⟨h.1, (hx.2 9 (by decide) (by decide) (by decide) (by decide)).trans h.2.1, fun i hi => ?_⟩
  rw [hx.1]
  exact h.2.2 i hi
theorem ct_good (hn : h + 11 < sx_n σ) : sx_Cr G 0 YX3_good [.ref h] (m_S G h M σ) (some (.int (b_I (decide (M.1 14 = 0))))) (m_S G h M σ) := by
  refine sx_body (by decide) (Nat.le_of_ble_eq_true rfl) ?_
  refine sv_aload_n dX3_good_0 rfl ?_
  refine sm_get hn fg_X3_276 dX3_good_1 rfl ?_
  refine sv_if_ne (tgt := 11) dX3_good_4 (by decide) (fun c4 => ?_) (fun c4 => ?_)
  · refine sv_iconst (nI 0) dX3_good_11 (by decide +kernel) ?_
    refine sv_iret (by first | exact b_I_nar _ | rfl) rfl dX3_good_12 ?_
    first | exact ⟨_, rfl, r_I (b_I_neg c4), rfl⟩ | exact ⟨_, rfl, r_I (b_I_pos c4), rfl⟩
  · refine sv_iconst (nI 1) dX3_good_7 (by decide +kernel) ?_
    refine sv_goto (tgt := 12) dX3_good_8 (by decide) ?_
    refine sv_iret (by first | exact b_I_nar _ | rfl) rfl dX3_good_12 ?_
    first | exact ⟨_, rfl, r_I (b_I_neg c4), rfl⟩ | exact ⟨_, rfl, r_I (b_I_pos c4), rfl⟩
theorem ct_errs_n (hn : h + 11 < sx_n σ) {c : Int32} (he : ¬ M.1 14 = 0) : sx_Cr G 1 YX3_errs [.ref h, .int c] (m_S G h M σ) none (m_S G h M σ) := by
  refine sx_body (by decide) (Nat.le_of_ble_eq_true rfl) ?_
  refine sv_aload_n dX3_errs_0 rfl ?_
  refine sv_cvR _ (ct_good hn) okX3_good kv_X3_279 (sx_rd_c (m_S_0 hn)) rfl dX3_errs_1 rfl rfl (by decide) (Nat.le_of_ble_eq_true rfl) ?_
  rw [decide_eq_false he]
  refine sv_if_neB (tgt := 8) dX3_errs_4 (by decide) (fun c4 => ?_) (fun c4 => ?_)
  · exact absurd c4 (by decide)
  · refine sv_vret rfl dX3_errs_7 ?_
    exact ⟨_, rfl, rfl, rfl⟩
theorem ct_errs (hn : h + 11 < sx_n σ) {c : Int32} (he : M.1 14 = 0) : sx_Cr G 1 YX3_errs [.ref h, .int c] (m_S G h M σ) none (m_S G h (m_i (m_i M 14 c) 15 (M.1 11)) σ) := by
  refine sx_body (by decide) (Nat.le_of_ble_eq_true rfl) ?_
  refine sv_aload_n dX3_errs_0 rfl ?_
  refine sv_cvR _ (ct_good hn) okX3_good kv_X3_279 (sx_rd_c (m_S_0 hn)) rfl dX3_errs_1 rfl rfl (by decide) (Nat.le_of_ble_eq_true rfl) ?_
  rw [decide_eq_true he]
  refine sv_if_neB (tgt := 8) dX3_errs_4 (by decide) (fun c4 => ?_) (fun c4 => ?_)
  · refine sv_aload_n dX3_errs_8 rfl ?_
    refine sv_iload_n dX3_errs_9 rfl ?_
    refine sm_put hn fp_X3_276 dX3_errs_10 rfl (by decide) ?_
    refine sv_aload_n dX3_errs_13 rfl ?_
    refine sv_aload_n dX3_errs_14 rfl ?_
    refine sm_get hn fg_X3_283 dX3_errs_15 rfl ?_
    refine sm_put hn fp_X3_38 dX3_errs_18 rfl (by decide) ?_
    refine sv_vret rfl dX3_errs_21 ?_
    exact ⟨_, rfl, rfl, rfl⟩
  · exact absurd c4 (by decide)
theorem ct_byteAt (hn : h + 11 < sx_n σ) (hT : m_T t M) {k : Nat} (hk : k ≤ 700) : sx_Cr G 0 YX3_byteAt [.ref h, .int (nI k)] (m_S G h M σ) (some (.int (k_b t k))) (m_S G h M σ) := by
  refine sx_body (by decide) (Nat.le_of_ble_eq_true rfl) ?_
  have ht := hT.1
  refine sv_iload_n dX3_byteAt_0 rfl ?_
  refine sv_aload_n dX3_byteAt_1 rfl ?_
  refine sm_get hn fg_X3_286 dX3_byteAt_2 rfl ?_
  refine sv_topI hT.2.1 ?_
  refine sv_icmp_geN (tgt := 21) dX3_byteAt_5 (by decide) (by omega) (by omega) (fun c5 => ?_) (fun c5 => ?_)
  · have hv : k_b t k = -1 := if_neg (by omega)
    refine sv_iconst (-1) dX3_byteAt_21 (by decide +kernel) ?_
    refine sv_iret rfl rfl dX3_byteAt_22 ?_
    exact ⟨_, rfl, r_I hv.symm, rfl⟩
  · have hv : k_b t k = t.getD k 0 &&& 255 := if_pos (by omega)
    refine sv_aload_n dX3_byteAt_8 rfl ?_
    refine sm_get hn fg_X3_34 dX3_byteAt_9 rfl ?_
    refine sv_iload_n dX3_byteAt_12 rfl ?_
    refine sm_b2ld hn dX3_byteAt_13 (by omega) ?_
    refine sv_topI (y := t.getD k 0) (hT.2.2 k (by omega)) ?_
    refine sv_sipush (nI 255) dX3_byteAt_14 (by decide +kernel) ?_
    refine sv_topI (y := 255) (by decide +kernel) ?_
    refine sv_iand dX3_byteAt_17 ?_
    refine sv_goto (tgt := 22) dX3_byteAt_18 (by decide) ?_
    refine sv_iret rfl rfl dX3_byteAt_22 ?_
    exact ⟨_, rfl, r_I hv.symm, rfl⟩
section
variable {d : Nat} {Y : sx_Y} {pc : Nat} {L : List (Option Value)} {st : List Value} {Q : sx_O → sx_St → Prop}
/-- Math.min -/
theorem sv_mmin {x y : Int32} {idx : Nat} (hw : Cond.methodLink Y.1.cls idx Lib.Math.min.name ∈ lw_all) (hw2 : Cond.static Lib.Math.min.name ∈ lw_all) (hw3 : Cond.initialized "java/lang/Math" ∈ lw_all) (hw4 : Cond.code Lib.Math.min.name Lib.Math.min.code 2 (some .int) ∈ lw_all) (hd : decode Y.2.1 pc = .ok (.invokestatic idx, 3)) (hdd : 0 < d) (hcat : (st.map fun v => v.category).sum ≤ 8) (k : sx_V G d Y (pc + 3) L (.int (if y < x then y else x) :: st) σ Q) : sx_V G d Y pc L (.int y :: .int x :: st) σ Q := by
  obtain ⟨o, τ, hQ, h1, h2, h3⟩ := k
  refine ⟨o, τ, hQ, h1, h2, ?_⟩
  intro p e R s m args below meth c H locs cells slots ls C hf hl hc hs hR hS hL
  have hts := C.2.2.2.2.2.2.1
  exact va_mmin C.1 C.2.1 (by rw [C.2.2.2.1]; exact hL.1.symm) C.2.2.2.2.2.1 (hts _ hw) (hts _ hw2) (hts _ hw3) (hts _ hw4) (by omega) (by omega) (by omega) (by omega) hd (h3 p e R s m args below meth c H locs cells slots ls C hf hl hc hs hR hS hL)
end
end MSA
