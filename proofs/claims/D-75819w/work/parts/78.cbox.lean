set_option maxRecDepth 100000
section CBX
variable {G : sx_G} {σ τ : sx_St}
/-- a box: its cell, list, array, capacity, the name's address, the messages' -/
def k_B (G : sx_G) (σ : sx_St) (b l ar cap nm : Nat) (g : Nat → Nat) (B : a_B) : Prop := sx_c σ b = some (.inr (5, [.ref nm, .ref l, .int B.2.1])) ∧ k_L G σ l ar cap B.2.2.length g ∧ ∀ i, i < B.2.2.length → k_M σ (g i) (B.2.2.getD i (0, 0, 0))
theorem k_M_fr {W : Nat → Prop} {c s a : Nat} {m : a_M} (F : h_F W c s σ τ) (h : k_M σ a m) (h1 : ¬ W a) : k_M τ a m := h_F_c F h h1
theorem k_B_fr {W : Nat → Prop} {c s b l ar cap nm : Nat} {g : Nat → Nat} {B : a_B} (F : h_F W c s σ τ) (h : k_B G σ b l ar cap nm g B) (h1 : ¬ W b) (h2 : ¬ W l) (h3 : ¬ W ar) (h4 : ∀ i, i < B.2.2.length → ¬ W (g i)) : k_B G τ b l ar cap nm g B := ⟨h_F_c F h.1 h1, k_L_fr F h.2.1 h2 h3, fun i hi => k_M_fr F (h.2.2 i hi) (h4 i hi)⟩
theorem k_M_l {a l : Nat} {m : a_M} {vs : List Value} (h : k_M σ a m) (hl : sx_c σ l = some (.inr (9, vs))) : a ≠ l := e_kn h hl rfl
theorem k_M_a {a ar n : Nat} {m : a_M} {c : ClassId} {f : Nat → Option Nat} (h : k_M σ a m) (hl : sx_c σ ar = some (.inl (c, n, .inr (.inr (.inr (.inr f)))))) : a ≠ ar := e_kn h hl rfl
theorem tk_s {α : Type} {l : List α} (x : α) {k : Nat} (h : k < l.length) : l.take (k + 1) = l.take k ++ [l.getD k x] := by
  rw [List.take_succ, List.getElem?_eq_getElem h, List.getD_eq_getElem?_getD, List.getElem?_eq_getElem h]
  rfl
theorem cp_s {α : Type} {l : List α} (p : α → Bool) (x : α) {k : Nat} (h : k < l.length) : (l.take (k + 1)).countP p = (l.take k).countP p + (if p (l.getD k x) then 1 else 0) := by
  rw [tk_s x h, List.countP_append]
  simp [List.countP_cons]
theorem k_O_6 : k_O 6 := ⟨_, _, _, rfl, q2825⟩
theorem k_O_5 : k_O 5 := ⟨_, _, _, rfl, q2824⟩
theorem k_O_7 : k_O 7 := ⟨_, _, _, rfl, q2826⟩
theorem k_O_8 : k_O 8 := ⟨_, _, _, rfl, q2830⟩
theorem k_O_1 : k_O 1 := ⟨_, _, _, rfl, q2810⟩
theorem o_I_s (k : Nat) : o_I (some k) = nI k := rfl
theorem m1_s (j : Nat) : nI (j + 1) - 1 = nI j := nI_pred j
theorem m1_i (x : Int32) : x + Int32.ofInt (-1) = x - 1 := by rw [Int32.sub_eq_add_neg]; rfl
theorem m1_0 {k : Nat} (hk : k < 2 ^ 31) : (nI k - 1 < 0) ↔ k = 0 := by
  cases k with
  | zero => exact ⟨fun _ => rfl, fun _ => by decide⟩
  | succ j => rw [m1_s]; exact ⟨fun h => absurd h (nI_pos (by omega)), fun h => by omega⟩
theorem cc_bfind {b l ar cap nm : Nat} {g : Nat → Nat} {B : a_B} (hB : k_B G σ b l ar cap nm g B) {x : Int32} : sx_Cr G 3 YX6_find [.ref b, .int x] σ (some (.int (o_I (a_find B.2.2 x)))) σ := by
  have loop : ∀ r k, k ≤ B.2.2.length → B.2.2.length + 1 ≤ k + r → (∀ j, j < k → (B.2.2.getD j (0, 0, 0)).1 ≠ x) → sx_V G 3 YX6_find 2 [some (.ref b), some (.int x), some (.int (nI k))] [] σ (fun o τ => ∃ v, o = .inl v ∧ v = some (.int (o_I (a_find B.2.2 x))) ∧ τ = σ) := by
    obtain ⟨hb, hL, hm⟩ := hB
    obtain ⟨mc, f, hl, ha, l1, l2, l3, hg⟩ := id hL
    intro r
    induction r with
    | zero => intro k h1 h2; omega
    | succ r ih =>
    intro k hk1 hk2 hno
    refine sv_iload_n dX6_find_2 rfl ?_
    refine sv_aload_n dX6_find_3 rfl ?_
    refine sv_get fg_X6_14 dX6_find_4 (sx_rd_c hb) rfl ?_
    refine sv_cvR _ (cj_size hL) okJ2_size kv_X6_31 (sx_rd_c hl) rfl dX6_find_7 rfl rfl (by omega) (Nat.le_of_ble_eq_true rfl) ?_
    refine sv_icmp_geN (tgt := 39) dX6_find_10 (by decide) (by omega) (by omega) (fun c10 => ?_) (fun c10 => ?_)
    · refine sv_iconst (-1) dX6_find_39 (by decide +kernel) ?_
      refine sv_iret rfl rfl dX6_find_40 ?_
      exact ⟨_, rfl, r_I (by unfold a_find; rw [fi_n (p := fun m => m.1 == x) (0, 0, 0) (fun j hj => beq_false_of_ne (hno j (by omega)))]; rfl), rfl⟩
    · refine sv_aload_n dX6_find_13 rfl ?_
      refine sv_get fg_X6_14 dX6_find_14 (sx_rd_c hb) rfl ?_
      refine sv_iload_n dX6_find_17 rfl ?_
      refine sv_cvR _ (cj_get hL (i := k) (by omega)) okJ2_get kv_X6_35 (sx_rd_c hl) rfl dX6_find_18 rfl rfl (by omega) (Nat.le_of_ble_eq_true rfl) ?_
      refine sv_cast (C0 := "") (sx_rd_c (hm k (by omega))) rfl q999 dX6_find_21 ?_
      refine sv_get fg_X6_48 dX6_find_24 (sx_rd_c (hm k (by omega))) rfl ?_
      refine sv_iload_n dX6_find_27 rfl ?_
      refine sv_icmp_ne (tgt := 33) dX6_find_28 (by decide) (fun c28 => ?_) (fun c28 => ?_)
      · refine sv_iincN dX6_find_33 rfl (by decide) ?_
        refine sv_goto (tgt := 2) dX6_find_36 (by decide) ?_
        exact ih (k + 1) (by omega) (by omega) (fun j hj => by
          by_cases hjk : j = k
          · rw [hjk]; exact c28
          · exact hno j (by omega))
      · refine sv_iload_n dX6_find_31 rfl ?_
        refine sv_iret rfl rfl dX6_find_32 ?_
        exact ⟨_, rfl, r_I (by unfold a_find; rw [fi_s (p := fun m => m.1 == x) (0, 0, 0) (k := k) (by omega) (fun j hj => beq_false_of_ne (hno j hj)) (beq_iff_eq.mpr c28)]; rfl), rfl⟩
  refine sx_body (by decide) (Nat.le_of_ble_eq_true rfl) ?_
  have hl9 : B.2.2.length ≤ 100000 := by obtain ⟨_, ⟨_, _, _, _, h, _, h2, _⟩, _⟩ := hB; omega
  refine sv_iconst (nI 0) dX6_find_0 (by decide +kernel) ?_
  refine sv_istore_n dX6_find_1 (by decide) ?_
  exact loop (B.2.2.length + 1) 0 (by omega) (by omega) (fun j hj => absurd hj (Nat.not_lt_zero j))
theorem cc_named {b l ar cap nm : Nat} {g : Nat → Nat} {B : a_B} (hB : k_B G σ b l ar cap nm g B) {x : Int32} : sx_Cr G 4 YX6_named [.ref b, .int x] σ (some (va_rf ((a_find B.2.2 x).map g))) σ := by
  refine sx_body (by decide) (Nat.le_of_ble_eq_true rfl) ?_
  have hB0 := hB
  obtain ⟨hb, hL, hm⟩ := hB
  obtain ⟨mc, f, hl, ha, l1, l2, l3, hg⟩ := id hL
  refine sv_aload_n dX6_named_0 rfl ?_
  refine sv_iload_n dX6_named_1 rfl ?_
  refine sv_cvR _ (cc_bfind hB0) okX6_find kv_X6_51 (sx_rd_c hb) rfl dX6_named_2 rfl rfl (by omega) (Nat.le_of_ble_eq_true rfl) ?_
  refine sv_istore_n dX6_named_5 (by decide) ?_
  refine sv_iload_n dX6_named_6 rfl ?_
  refine sv_iconst (-1) dX6_named_7 (by decide +kernel) ?_
  refine sv_icmp_ne (tgt := 15) dX6_named_8 (by decide) (fun c8 => ?_) (fun c8 => ?_)
  · cases hf : a_find B.2.2 x with
    | none => rw [hf] at c8; exact absurd rfl c8
    | some k =>
    rw [o_I_s]
    have hk := a_find_lt hf
    refine sv_aload_n dX6_named_15 rfl ?_
    refine sv_get fg_X6_14 dX6_named_16 (sx_rd_c hb) rfl ?_
    refine sv_iload_n dX6_named_19 rfl ?_
    refine sv_cvR _ (cj_get hL (i := k) (by omega)) okJ2_get kv_X6_35 (sx_rd_c hl) rfl dX6_named_20 rfl rfl (by omega) (Nat.le_of_ble_eq_true rfl) ?_
    refine sv_cast (C0 := "") (sx_rd_c (hm k (by omega))) rfl q999 dX6_named_23 ?_
    refine sv_aret (Or.inr ⟨_, rfl⟩) (Or.inl ⟨_, rfl⟩) rfl dX6_named_26 ?_
    exact ⟨_, rfl, rfl, rfl⟩
  · have hf : a_find B.2.2 x = none := (o_I_m1 _ (fun k h => by have := a_find_lt h; omega)).mp c8
    rw [hf]
    refine sv_null dX6_named_11 ?_
    refine sv_goto (tgt := 26) dX6_named_12 (by decide) ?_
    refine sv_aret (Or.inl rfl) (Or.inl ⟨_, rfl⟩) rfl dX6_named_26 ?_
    exact ⟨_, rfl, rfl, rfl⟩
theorem cc_many {b l ar cap nm : Nat} {g : Nat → Nat} {B : a_B} (hB : k_B G σ b l ar cap nm g B) {te n : Nat} {p : a_M → Bool} (hG : g_L G) (hP : k_P G n σ te p) : sx_Cr G (9 + 3 * n) YX6_many [.ref b, .ref te] σ (some (.int (nI (B.2.2.countP p)))) σ := by
  have loop : ∀ r k, k ≤ B.2.2.length → B.2.2.length + 1 ≤ k + r → sx_V G (9 + 3 * n) YX6_many 4 [some (.ref b), some (.ref te), some (.int (nI ((B.2.2.take k).countP p))), some (.int (nI k))] [] σ (fun o τ => ∃ v, o = .inl v ∧ v = (some (.int (nI (B.2.2.countP p)))) ∧ τ = σ) := by
    obtain ⟨hb, hL, hm⟩ := hB
    obtain ⟨mc, f, hl, ha, l1, l2, l3, hg⟩ := id hL
    intro r
    induction r with
    | zero => intro k h1 h2; omega
    | succ r ih =>
    intro k hk1 hk2
    refine sv_iload_n dX6_many_4 rfl ?_
    refine sv_aload_n dX6_many_5 rfl ?_
    refine sv_get fg_X6_14 dX6_many_6 (sx_rd_c hb) rfl ?_
    refine sv_cvR _ (cj_size hL) okJ2_size kv_X6_31 (sx_rd_c hl) rfl dX6_many_9 rfl rfl (by omega) (Nat.le_of_ble_eq_true rfl) ?_
    refine sv_icmp_geN (tgt := 44) dX6_many_12 (by decide) (by omega) (by omega) (fun c12 => ?_) (fun c12 => ?_)
    · refine sv_iload_n dX6_many_44 rfl ?_
      refine sv_iret rfl rfl dX6_many_45 ?_
      exact ⟨_, rfl, r_I (by rw [List.take_of_length_le (by omega)]), rfl⟩
    · refine sv_iload_n dX6_many_15 rfl ?_
      refine sv_aload_n dX6_many_16 rfl ?_
      refine sv_aload_n dX6_many_17 rfl ?_
      refine sv_get fg_X6_14 dX6_many_18 (sx_rd_c hb) rfl ?_
      refine sv_iload_n dX6_many_21 rfl ?_
      refine sv_cvR _ (cj_get hL (i := k) (by omega)) okJ2_get kv_X6_35 (sx_rd_c hl) rfl dX6_many_22 rfl rfl (by omega) (Nat.le_of_ble_eq_true rfl) ?_
      refine sv_cast (C0 := "") (sx_rd_c (hm k (by omega))) rfl q999 dX6_many_25 ?_
      refine sv_hol hG n _ _ _ _ _ _ _ _ _ _ _ _ _ hP (hm k (by omega)) q1272 dX6_many_28 (by omega) (Nat.le_of_ble_eq_true rfl) ?_
      refine sv_cnR _ cc_count okX1_count ks_X6_61 dX6_many_33 rfl rfl (by omega) (Nat.le_of_ble_eq_true rfl) ?_
      refine sv_iaddN dX6_many_36 ?_
      refine sv_istore_n dX6_many_37 (by decide) ?_
      refine sv_iincN dX6_many_38 rfl (by decide) ?_
      refine sv_goto (tgt := 4) dX6_many_41 (by decide) ?_
      rw [← cp_s p (0, 0, 0) (show k < B.2.2.length by omega)]
      exact ih (k + 1) (by omega) (by omega)
  refine sx_body (by decide) (Nat.le_of_ble_eq_true rfl) ?_
  have hl9 : B.2.2.length ≤ 100000 := by obtain ⟨_, ⟨_, _, _, _, h, _, h2, _⟩, _⟩ := hB; omega
  refine sv_iconst (nI 0) dX6_many_0 (by decide +kernel) ?_
  refine sv_istore_n dX6_many_1 (by decide) ?_
  refine sv_iconst (nI 0) dX6_many_2 (by decide +kernel) ?_
  refine sv_istore_n dX6_many_3 (by decide) ?_
  exact loop (B.2.2.length + 1) 0 (by omega) (by omega)
theorem cc_sizes {b l ar cap nm : Nat} {g : Nat → Nat} {B : a_B} (hB : k_B G σ b l ar cap nm g B) : sx_Cr G 3 YX6_sizes [.ref b] σ (some (.int (z_f (fun x i => x + (B.2.2.getD i (0, 0, 0)).2.1) B.2.2.length))) σ := by
  have loop : ∀ r k, k ≤ B.2.2.length → B.2.2.length + 1 ≤ k + r → sx_V G 3 YX6_sizes 4 [some (.ref b), some (.int (z_f (fun x i => x + (B.2.2.getD i (0, 0, 0)).2.1) k)), some (.int (nI k))] [] σ (fun o τ => ∃ v, o = .inl v ∧ v = (some (.int (z_f (fun x i => x + (B.2.2.getD i (0, 0, 0)).2.1) B.2.2.length))) ∧ τ = σ) := by
    obtain ⟨hb, hL, hm⟩ := hB
    obtain ⟨mc, f, hl, ha, l1, l2, l3, hg⟩ := id hL
    intro r
    induction r with
    | zero => intro k h1 h2; omega
    | succ r ih =>
    intro k hk1 hk2
    refine sv_iload_n dX6_sizes_4 rfl ?_
    refine sv_aload_n dX6_sizes_5 rfl ?_
    refine sv_get fg_X6_14 dX6_sizes_6 (sx_rd_c hb) rfl ?_
    refine sv_cvR _ (cj_size hL) okJ2_size kv_X6_31 (sx_rd_c hl) rfl dX6_sizes_9 rfl rfl (by omega) (Nat.le_of_ble_eq_true rfl) ?_
    refine sv_icmp_geN (tgt := 38) dX6_sizes_12 (by decide) (by omega) (by omega) (fun c12 => ?_) (fun c12 => ?_)
    · refine sv_iload_n dX6_sizes_38 rfl ?_
      refine sv_iret rfl rfl dX6_sizes_39 ?_
      exact ⟨_, rfl, r_I (by rw [show k = B.2.2.length by omega]), rfl⟩
    · refine sv_iload_n dX6_sizes_15 rfl ?_
      refine sv_aload_n dX6_sizes_16 rfl ?_
      refine sv_get fg_X6_14 dX6_sizes_17 (sx_rd_c hb) rfl ?_
      refine sv_iload_n dX6_sizes_20 rfl ?_
      refine sv_cvR _ (cj_get hL (i := k) (by omega)) okJ2_get kv_X6_35 (sx_rd_c hl) rfl dX6_sizes_21 rfl rfl (by omega) (Nat.le_of_ble_eq_true rfl) ?_
      refine sv_cast (C0 := "") (sx_rd_c (hm k (by omega))) rfl q999 dX6_sizes_24 ?_
      refine sv_get fg_X6_65 dX6_sizes_27 (sx_rd_c (hm k (by omega))) rfl ?_
      refine sv_iadd dX6_sizes_30 ?_
      refine sv_istore_n dX6_sizes_31 (by decide) ?_
      refine sv_iincN dX6_sizes_32 rfl (by decide) ?_
      refine sv_goto (tgt := 4) dX6_sizes_35 (by decide) ?_
      exact ih (k + 1) (by omega) (by omega)
  refine sx_body (by decide) (Nat.le_of_ble_eq_true rfl) ?_
  have hl9 : B.2.2.length ≤ 100000 := by obtain ⟨_, ⟨_, _, _, _, h, _, h2, _⟩, _⟩ := hB; omega
  refine sv_iconst (nI 0) dX6_sizes_0 (by decide +kernel) ?_
  refine sv_istore_n dX6_sizes_1 (by decide) ?_
  refine sv_iconst (nI 0) dX6_sizes_2 (by decide +kernel) ?_
  refine sv_istore_n dX6_sizes_3 (by decide) ?_
  exact loop (B.2.2.length + 1) 0 (by omega) (by omega)
end CBX
