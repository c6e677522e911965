set_option maxRecDepth 100000
section CTF
variable {G : sx_G} {σ τ : sx_St}
/-- at a stands a test that asks p, of at most n levels -/
def k_P (G : sx_G) : Nat → sx_St → Nat → (a_M → Bool) → Prop
  | 0, _, _, _ => False
  | n + 1, σ, a, p => (∃ f l, sx_rd G σ a (.inr (17, [.int f, .int l])) ∧ ∀ m, p m = a_in m.1 f l) ∨
    (∃ f, sx_rd G σ a (.inr (18, [.int f])) ∧ ∀ m, p m = decide (m.2.2 >>> (f &&& 31) &&& 1 = 1)) ∨
    (∃ b q, sx_rd G σ a (.inr (19, [.ref b])) ∧ k_P G n σ b q ∧ ∀ m, p m = !(q m)) ∨
    (sx_rd G σ a (.inr (20, [])) ∧ ∀ m, p m = true) ∨
    (∃ x, sx_rd G σ a (.inr (21, [.int x])) ∧ ∀ m, p m = decide (m.2.1 < x)) ∨
    (∃ x, sx_rd G σ a (.inr (22, [.int x])) ∧ ∀ m, p m = decide (x < m.2.1)) ∨
    (∃ x, sx_rd G σ a (.inr (23, [.int x])) ∧ ∀ m, p m = decide (m.1 < x)) ∨
    (∃ x, sx_rd G σ a (.inr (24, [.int x])) ∧ ∀ m, p m = decide (x < m.1)) ∨
    (∃ b c q r, sx_rd G σ a (.inr (25, [.ref b, .ref c])) ∧ k_P G n σ b q ∧ k_P G n σ c r ∧ ∀ m, p m = (q m && r m)) ∨
    (∃ b c q r, sx_rd G σ a (.inr (26, [.ref b, .ref c])) ∧ k_P G n σ b q ∧ k_P G n σ c r ∧ ∀ m, p m = (q m || r m)) ∨
    (∃ so u t ac nm S f l, sx_rd G σ a (.inr (27, [.ref so, .int f, .int l])) ∧ k_S G σ so u t ac nm S ∧ ∀ m, p m = decide ((f - 1).toInt64 ≤ (o_I (S.2.2.2.2.2.2.findIdx? (fun e => e.1 == m.1))).toInt64 ∧ (o_I (S.2.2.2.2.2.2.findIdx? (fun e => e.1 == m.1))).toInt64 ≤ (l - 1).toInt64))
/-- holds can be called on tests of n levels -/
def sh_H (G : sx_G) (n : Nat) : Prop := ∀ (Y : sx_Y) (pc d : Nat) (L : List (Option Value)) (rest : List Value) (σ : sx_St) (Q : sx_O → sx_St → Prop) (idx cnt a q : Nat) (p : a_M → Bool) (m : a_M), k_P G n σ a p → k_M σ q m → Cond.methodLink Y.1.cls idx s_hol ∈ lw_all → decode Y.2.1 pc = .ok (.invokeinterface idx cnt, 5) → 4 + 3 * n < d → (rest.map fun v => v.category).sum ≤ 8 → sx_V G d Y (pc + 5) L (.int (b_I (p m)) :: rest) σ Q → sx_V G d Y pc L (.ref q :: .ref a :: rest) σ Q
theorem cl_2 {n b : Nat} {r : a_M → Bool} (H : sh_H G n) (hb : k_P G n σ b r) {q : Nat} {m : a_M} (hm : k_M σ q m) : sx_Cr G (5 + 3 * n) YX1_lambda_not_3 [.ref b, .ref q] σ (some (.int (b_I (!(r m))))) σ := by
  refine sx_body (by decide) (Nat.le_of_ble_eq_true rfl) ?_
  refine sv_aload_n dX1_lambda_not_3_0 rfl ?_
  refine sv_aload_n dX1_lambda_not_3_1 rfl ?_
  refine H _ _ _ _ _ _ _ _ _ _ _ _ _ hb hm q1469 dX1_lambda_not_3_2 (by omega) (Nat.le_of_ble_eq_true rfl) ?_
  refine sv_if_neB (tgt := 14) dX1_lambda_not_3_7 (by decide) (fun c7 => ?_) (fun c7 => ?_)
  · rw [c7]
    refine sv_iconst (nI 0) dX1_lambda_not_3_14 (by decide +kernel) ?_
    refine sv_iret (by first | exact b_I_nar _ | rfl) rfl dX1_lambda_not_3_15 ?_
    exact ⟨_, rfl, rfl, rfl⟩
  · rw [c7]
    refine sv_iconst (nI 1) dX1_lambda_not_3_10 (by decide +kernel) ?_
    refine sv_goto (tgt := 15) dX1_lambda_not_3_11 (by decide) ?_
    refine sv_iret (by first | exact b_I_nar _ | rfl) rfl dX1_lambda_not_3_15 ?_
    exact ⟨_, rfl, rfl, rfl⟩
theorem cl_8 {n b c : Nat} {r s : a_M → Bool} (H : sh_H G n) (hb : k_P G n σ b r) (hc : k_P G n σ c s) {q : Nat} {m : a_M} (hm : k_M σ q m) : sx_Cr G (5 + 3 * n) YX1_lambda_both_2 [.ref b, .ref c, .ref q] σ (some (.int (b_I (r m && s m)))) σ := by
  refine sx_body (by decide) (Nat.le_of_ble_eq_true rfl) ?_
  refine sv_aload_n dX1_lambda_both_2_0 rfl ?_
  refine sv_aload_n dX1_lambda_both_2_1 rfl ?_
  refine H _ _ _ _ _ _ _ _ _ _ _ _ _ hb hm q1469 dX1_lambda_both_2_2 (by omega) (Nat.le_of_ble_eq_true rfl) ?_
  refine sv_if_eqB (tgt := 24) dX1_lambda_both_2_7 (by decide) (fun c7 => ?_) (fun c7 => ?_)
  · rw [c7]
    refine sv_iconst (nI 0) dX1_lambda_both_2_24 (by decide +kernel) ?_
    refine sv_iret (by first | exact b_I_nar _ | rfl) rfl dX1_lambda_both_2_25 ?_
    exact ⟨_, rfl, rfl, rfl⟩
  · rw [c7]
    refine sv_aload_n dX1_lambda_both_2_10 rfl ?_
    refine sv_aload_n dX1_lambda_both_2_11 rfl ?_
    refine H _ _ _ _ _ _ _ _ _ _ _ _ _ hc hm q1469 dX1_lambda_both_2_12 (by omega) (Nat.le_of_ble_eq_true rfl) ?_
    refine sv_if_eqB (tgt := 24) dX1_lambda_both_2_17 (by decide) (fun c17 => ?_) (fun c17 => ?_)
    · rw [c17]
      refine sv_iconst (nI 0) dX1_lambda_both_2_24 (by decide +kernel) ?_
      refine sv_iret (by first | exact b_I_nar _ | rfl) rfl dX1_lambda_both_2_25 ?_
      exact ⟨_, rfl, rfl, rfl⟩
    · rw [c17]
      refine sv_iconst (nI 1) dX1_lambda_both_2_20 (by decide +kernel) ?_
      refine sv_goto (tgt := 25) dX1_lambda_both_2_21 (by decide) ?_
      refine sv_iret (by first | exact b_I_nar _ | rfl) rfl dX1_lambda_both_2_25 ?_
      exact ⟨_, rfl, rfl, rfl⟩
theorem cl_9 {n b c : Nat} {r s : a_M → Bool} (H : sh_H G n) (hb : k_P G n σ b r) (hc : k_P G n σ c s) {q : Nat} {m : a_M} (hm : k_M σ q m) : sx_Cr G (5 + 3 * n) YX1_lambda_either_1 [.ref b, .ref c, .ref q] σ (some (.int (b_I (r m || s m)))) σ := by
  refine sx_body (by decide) (Nat.le_of_ble_eq_true rfl) ?_
  refine sv_aload_n dX1_lambda_either_1_0 rfl ?_
  refine sv_aload_n dX1_lambda_either_1_1 rfl ?_
  refine H _ _ _ _ _ _ _ _ _ _ _ _ _ hb hm q1469 dX1_lambda_either_1_2 (by omega) (Nat.le_of_ble_eq_true rfl) ?_
  refine sv_if_neB (tgt := 20) dX1_lambda_either_1_7 (by decide) (fun c7 => ?_) (fun c7 => ?_)
  · rw [c7]
    refine sv_iconst (nI 1) dX1_lambda_either_1_20 (by decide +kernel) ?_
    refine sv_goto (tgt := 25) dX1_lambda_either_1_21 (by decide) ?_
    refine sv_iret (by first | exact b_I_nar _ | rfl) rfl dX1_lambda_either_1_25 ?_
    exact ⟨_, rfl, rfl, rfl⟩
  · rw [c7]
    refine sv_aload_n dX1_lambda_either_1_10 rfl ?_
    refine sv_aload_n dX1_lambda_either_1_11 rfl ?_
    refine H _ _ _ _ _ _ _ _ _ _ _ _ _ hc hm q1469 dX1_lambda_either_1_12 (by omega) (Nat.le_of_ble_eq_true rfl) ?_
    refine sv_if_eqB (tgt := 24) dX1_lambda_either_1_17 (by decide) (fun c17 => ?_) (fun c17 => ?_)
    · rw [c17]
      refine sv_iconst (nI 0) dX1_lambda_either_1_24 (by decide +kernel) ?_
      refine sv_iret (by first | exact b_I_nar _ | rfl) rfl dX1_lambda_either_1_25 ?_
      exact ⟨_, rfl, rfl, rfl⟩
    · rw [c17]
      refine sv_iconst (nI 1) dX1_lambda_either_1_20 (by decide +kernel) ?_
      refine sv_goto (tgt := 25) dX1_lambda_either_1_21 (by decide) ?_
      refine sv_iret (by first | exact b_I_nar _ | rfl) rfl dX1_lambda_either_1_25 ?_
      exact ⟨_, rfl, rfl, rfl⟩
variable {d : Nat} {Y : sx_Y} {pc : Nat} {L : List (Option Value)} {rest : List Value} {Q : sx_O → sx_St → Prop} {idx cnt : Nat}
def sh_2 : Lambda.Shape := ({ iface := "MailSessions$Test", name := "holds", sam := ({ parameters := [(Jvm.ClassFile.FieldType.object "MailSessions$Message")], returnType := (Option.some Jvm.ClassFile.FieldType.boolean) } : Jvm.ClassFile.MethodDescriptor), captured := [(Jvm.ClassFile.FieldType.object "MailSessions$Test")], kind := 6, implClass := "MailSessions", implName := "lambda$not$3", implDesc := ({ parameters := [(Jvm.ClassFile.FieldType.object "MailSessions$Test"), (Jvm.ClassFile.FieldType.object "MailSessions$Message")], returnType := (Option.some Jvm.ClassFile.FieldType.boolean) } : Jvm.ClassFile.MethodDescriptor), implItf := false, inst := ({ parameters := [(Jvm.ClassFile.FieldType.object "MailSessions$Message")], returnType := (Option.some Jvm.ClassFile.FieldType.boolean) } : Jvm.ClassFile.MethodDescriptor) } : Jvm.Lambda.Shape)
theorem sh_2_s : sh_2.sam.toString = "(LMailSessions$Message;)Z" := by decide +kernel
def sh_2_c : ByteArray := ⟨#[42, 180, 0, 15, 43, 184, 0, 23, 172]⟩
theorem sh_2_k : sl_chk sh_2 "MailSessions" sh_2_c [15] 23 = true := by decide +kernel
theorem sh_2_d : ∀ (j i : Nat), ([15] : List Nat)[j]? = some i → decode sh_2_c (4 * j) = .ok (.aload_n 0, 1) ∧ decode sh_2_c (4 * j + 1) = .ok (.getfield i, 3) := by
  intro j i h
  match j, h with
  | 0, h => cases h; exact ⟨by decide +kernel, by decide +kernel⟩
  | j + 1, h => cases h
theorem sv_l2 {a : Nat} {n b : Nat} {r : a_M → Bool} (H : sh_H G n) (hb : k_P G n σ b r) {q : Nat} {m : a_M} (hm : k_M σ q m) (hG : g_L G) (ha : sx_rd G σ a (.inr (19, [.ref b]))) (hw : Cond.methodLink Y.1.cls idx s_hol ∈ lw_all) (hd : decode Y.2.1 pc = .ok (.invokeinterface idx cnt, 5)) (hdd : 7 + 3 * n ≤ d) (hcat : (rest.map fun v => v.category).sum ≤ 8) (k : sx_V G d Y (pc + 5) L (.int (b_I (!(r m))) :: rest) σ Q) : sx_V G d Y pc L (.ref q :: .ref a :: rest) σ Q :=
  sv_il (i := 2) (x0 := ⟨"MailSessions", "not", "(LMailSessions$Test;)LMailSessions$Test;"⟩) (pc0 := 1) (ix0 := 24) (f := sh_2) (caps := [.ref b]) (code := sh_2_c) (ix := [15]) (im := 23) (rt := .boolean) hG (cl_2 H hb hm) (fun w τ h => ⟨_, h.1, b_I_nar _⟩) okX1_lambda_not_3 rfl q1466 rfl sh_2_k (by decide +kernel) (by decide +kernel) rfl rfl (by rw [sh_2_s]; exact hw) (by rw [sh_2_s]; exact q1274) (by rw [sh_2_s]; exact q1273) (by rw [sh_2_s]; decide +kernel) ⟨by decide, by decide⟩ (by rw [sh_2_s]; decide +kernel) rfl ha (Or.inl ⟨_, rfl, by decide +kernel⟩) sh_2_d (by decide +kernel) (by decide +kernel) rfl hd (by omega) hcat (fun r τ h => by
    obtain ⟨h1, h2⟩ := h
    cases h1
    subst h2
    exact k)
def sh_8 : Lambda.Shape := ({ iface := "MailSessions$Test", name := "holds", sam := ({ parameters := [(Jvm.ClassFile.FieldType.object "MailSessions$Message")], returnType := (Option.some Jvm.ClassFile.FieldType.boolean) } : Jvm.ClassFile.MethodDescriptor), captured := [(Jvm.ClassFile.FieldType.object "MailSessions$Test"), (Jvm.ClassFile.FieldType.object "MailSessions$Test")], kind := 6, implClass := "MailSessions", implName := "lambda$both$2", implDesc := ({ parameters := [(Jvm.ClassFile.FieldType.object "MailSessions$Test"), (Jvm.ClassFile.FieldType.object "MailSessions$Test"), (Jvm.ClassFile.FieldType.object "MailSessions$Message")], returnType := (Option.some Jvm.ClassFile.FieldType.boolean) } : Jvm.ClassFile.MethodDescriptor), implItf := false, inst := ({ parameters := [(Jvm.ClassFile.FieldType.object "MailSessions$Message")], returnType := (Option.some Jvm.ClassFile.FieldType.boolean) } : Jvm.ClassFile.MethodDescriptor) } : Jvm.Lambda.Shape)
theorem sh_8_s : sh_8.sam.toString = "(LMailSessions$Message;)Z" := by decide +kernel
def sh_8_c : ByteArray := ⟨#[42, 180, 0, 16, 42, 180, 0, 18, 43, 184, 0, 26, 172]⟩
theorem sh_8_k : sl_chk sh_8 "MailSessions" sh_8_c [16, 18] 26 = true := by decide +kernel
theorem sh_8_d : ∀ (j i : Nat), ([16, 18] : List Nat)[j]? = some i → decode sh_8_c (4 * j) = .ok (.aload_n 0, 1) ∧ decode sh_8_c (4 * j + 1) = .ok (.getfield i, 3) := by
  intro j i h
  match j, h with
  | 0, h => cases h; exact ⟨by decide +kernel, by decide +kernel⟩
  | 1, h => cases h; exact ⟨by decide +kernel, by decide +kernel⟩
  | j + 2, h => cases h
theorem sv_l8 {a : Nat} {n b c : Nat} {r s : a_M → Bool} (H : sh_H G n) (hb : k_P G n σ b r) (hc : k_P G n σ c s) {q : Nat} {m : a_M} (hm : k_M σ q m) (hG : g_L G) (ha : sx_rd G σ a (.inr (25, [.ref b, .ref c]))) (hw : Cond.methodLink Y.1.cls idx s_hol ∈ lw_all) (hd : decode Y.2.1 pc = .ok (.invokeinterface idx cnt, 5)) (hdd : 7 + 3 * n ≤ d) (hcat : (rest.map fun v => v.category).sum ≤ 8) (k : sx_V G d Y (pc + 5) L (.int (b_I (r m && s m)) :: rest) σ Q) : sx_V G d Y pc L (.ref q :: .ref a :: rest) σ Q :=
  sv_il (i := 8) (x0 := ⟨"MailSessions", "both", "(LMailSessions$Test;LMailSessions$Test;)LMailSessions$Test;"⟩) (pc0 := 2) (ix0 := 23) (f := sh_8) (caps := [.ref b, .ref c]) (code := sh_8_c) (ix := [16, 18]) (im := 26) (rt := .boolean) hG (cl_8 H hb hc hm) (fun w τ h => ⟨_, h.1, b_I_nar _⟩) okX1_lambda_both_2 rfl q1679 rfl sh_8_k (by decide +kernel) (by decide +kernel) rfl rfl (by rw [sh_8_s]; exact hw) (by rw [sh_8_s]; exact q1274) (by rw [sh_8_s]; exact q1273) (by rw [sh_8_s]; decide +kernel) ⟨by decide, by decide⟩ (by rw [sh_8_s]; decide +kernel) rfl ha (Or.inl ⟨_, rfl, by decide +kernel⟩) sh_8_d (by decide +kernel) (by decide +kernel) rfl hd (by omega) hcat (fun r τ h => by
    obtain ⟨h1, h2⟩ := h
    cases h1
    subst h2
    exact k)
def sh_9 : Lambda.Shape := ({ iface := "MailSessions$Test", name := "holds", sam := ({ parameters := [(Jvm.ClassFile.FieldType.object "MailSessions$Message")], returnType := (Option.some Jvm.ClassFile.FieldType.boolean) } : Jvm.ClassFile.MethodDescriptor), captured := [(Jvm.ClassFile.FieldType.object "MailSessions$Test"), (Jvm.ClassFile.FieldType.object "MailSessions$Test")], kind := 6, implClass := "MailSessions", implName := "lambda$either$1", implDesc := ({ parameters := [(Jvm.ClassFile.FieldType.object "MailSessions$Test"), (Jvm.ClassFile.FieldType.object "MailSessions$Test"), (Jvm.ClassFile.FieldType.object "MailSessions$Message")], returnType := (Option.some Jvm.ClassFile.FieldType.boolean) } : Jvm.ClassFile.MethodDescriptor), implItf := false, inst := ({ parameters := [(Jvm.ClassFile.FieldType.object "MailSessions$Message")], returnType := (Option.some Jvm.ClassFile.FieldType.boolean) } : Jvm.ClassFile.MethodDescriptor) } : Jvm.Lambda.Shape)
theorem sh_9_s : sh_9.sam.toString = "(LMailSessions$Message;)Z" := by decide +kernel
def sh_9_c : ByteArray := ⟨#[42, 180, 0, 16, 42, 180, 0, 18, 43, 184, 0, 26, 172]⟩
theorem sh_9_k : sl_chk sh_9 "MailSessions" sh_9_c [16, 18] 26 = true := by decide +kernel
theorem sh_9_d : ∀ (j i : Nat), ([16, 18] : List Nat)[j]? = some i → decode sh_9_c (4 * j) = .ok (.aload_n 0, 1) ∧ decode sh_9_c (4 * j + 1) = .ok (.getfield i, 3) := by
  intro j i h
  match j, h with
  | 0, h => cases h; exact ⟨by decide +kernel, by decide +kernel⟩
  | 1, h => cases h; exact ⟨by decide +kernel, by decide +kernel⟩
  | j + 2, h => cases h
theorem sv_l9 {a : Nat} {n b c : Nat} {r s : a_M → Bool} (H : sh_H G n) (hb : k_P G n σ b r) (hc : k_P G n σ c s) {q : Nat} {m : a_M} (hm : k_M σ q m) (hG : g_L G) (ha : sx_rd G σ a (.inr (26, [.ref b, .ref c]))) (hw : Cond.methodLink Y.1.cls idx s_hol ∈ lw_all) (hd : decode Y.2.1 pc = .ok (.invokeinterface idx cnt, 5)) (hdd : 7 + 3 * n ≤ d) (hcat : (rest.map fun v => v.category).sum ≤ 8) (k : sx_V G d Y (pc + 5) L (.int (b_I (r m || s m)) :: rest) σ Q) : sx_V G d Y pc L (.ref q :: .ref a :: rest) σ Q :=
  sv_il (i := 9) (x0 := ⟨"MailSessions", "either", "(LMailSessions$Test;LMailSessions$Test;)LMailSessions$Test;"⟩) (pc0 := 2) (ix0 := 20) (f := sh_9) (caps := [.ref b, .ref c]) (code := sh_9_c) (ix := [16, 18]) (im := 26) (rt := .boolean) hG (cl_9 H hb hc hm) (fun w τ h => ⟨_, h.1, b_I_nar _⟩) okX1_lambda_either_1 rfl q1684 rfl sh_9_k (by decide +kernel) (by decide +kernel) rfl rfl (by rw [sh_9_s]; exact hw) (by rw [sh_9_s]; exact q1274) (by rw [sh_9_s]; exact q1273) (by rw [sh_9_s]; decide +kernel) ⟨by decide, by decide⟩ (by rw [sh_9_s]; decide +kernel) rfl ha (Or.inl ⟨_, rfl, by decide +kernel⟩) sh_9_d (by decide +kernel) (by decide +kernel) rfl hd (by omega) hcat (fun r τ h => by
    obtain ⟨h1, h2⟩ := h
    cases h1
    subst h2
    exact k)
theorem sv_hol (hG : g_L G) : ∀ n, sh_H G n := by
  intro n
  induction n with
  | zero =>
    intro Y pc d L rest σ Q idx cnt a q p m hP
    exact hP.elim
  | succ n H =>
    intro Y pc d L rest σ Q idx cnt a q p m hP hm hw hd hdd hcat k
    rcases hP with ⟨f, l, ha, hp⟩ | ⟨f, ha, hp⟩ | ⟨b, r, ha, hb, hp⟩ | ⟨ha, hp⟩ | ⟨x, ha, hp⟩ | ⟨x, ha, hp⟩ | ⟨x, ha, hp⟩ | ⟨x, ha, hp⟩ | ⟨b, c, r, s, ha, hb, hc, hp⟩ | ⟨b, c, r, s, ha, hb, hc, hp⟩ | ⟨so, u, t, ac, nm, S, f, l, ha, hS, hp⟩
    all_goals rw [hp m] at k
    · exact sv_l0 hm hG ha hw hd (by omega) hcat k
    · exact sv_l1 hm hG ha hw hd (by omega) hcat k
    · exact sv_l2 H hb hm hG ha hw hd (by omega) hcat k
    · exact sv_l3 hG ha hw hd (by omega) hcat k
    · exact sv_l4 hm hG ha hw hd (by omega) hcat k
    · exact sv_l5 hm hG ha hw hd (by omega) hcat k
    · exact sv_l6 hm hG ha hw hd (by omega) hcat k
    · exact sv_l7 hm hG ha hw hd (by omega) hcat k
    · exact sv_l8 H hb hc hm hG ha hw hd (by omega) hcat k
    · exact sv_l9 H hb hc hm hG ha hw hd (by omega) hcat k
    · exact sv_l10 hS hm hG ha hw hd (by omega) hcat k
/-- at a stands a change by g -/
def k_C (G : sx_G) (σ : sx_St) (a : Nat) (g : Int32 → Int32) : Prop := (sx_rd G σ a (.inr (28, [])) ∧ ∀ h, g h = h ||| 1) ∨ (∃ f, sx_rd G σ a (.inr (29, [.int f])) ∧ ∀ h, g h = f) ∨ (∃ f, sx_rd G σ a (.inr (30, [.int f])) ∧ ∀ h, g h = h ||| f) ∨ ∃ f, sx_rd G σ a (.inr (31, [.int f])) ∧ ∀ h, g h = h &&& (f ^^^ -1)
theorem sv_of {a : Nat} {g : Int32 → Int32} {h : Int32} (hG : g_L G) (hC : k_C G σ a g) (hw : Cond.methodLink Y.1.cls idx s_of ∈ lw_all) (hd : decode Y.2.1 pc = .ok (.invokeinterface idx cnt, 5)) (hdd : 3 ≤ d) (hcat : (rest.map fun v => v.category).sum ≤ 8) (k : sx_V G d Y (pc + 5) L (.int (g h) :: rest) σ Q) : sx_V G d Y pc L (.int h :: .ref a :: rest) σ Q := by
  rcases hC with ⟨ha, hp⟩ | ⟨f, ha, hp⟩ | ⟨f, ha, hp⟩ | ⟨f, ha, hp⟩
  all_goals rw [hp h] at k
  · exact sv_l11 hG ha hw hd hdd hcat k
  · exact sv_l12 hG ha hw hd hdd hcat k
  · exact sv_l13 hG ha hw hd hdd hcat k
  · exact sv_l14 hG ha hw hd hdd hcat k
/-- tests and changes are kept where only other things are written: box, list, message, notice, server cells, arrays of objects -/
def k_W (W : Nat → Prop) (σ : sx_St) : Prop := ∀ q e, W q → sx_c σ q = some e → e_k e ≠ 0 ∧ e_k e ≠ 15 ∧ e_k e < 25
theorem k_P_fr {W : Nat → Prop} {c s : Nat} (F : h_F W c s σ τ) (hW : k_W W σ) : ∀ (n a : Nat) (p : a_M → Bool), k_P G n σ a p → k_P G n τ a p := by
  have rd : ∀ (a i : Nat) (vs : List Value), 17 ≤ i → sx_rd G σ a (.inr (i, vs)) → sx_rd G τ a (.inr (i, vs)) := by
    intro a i vs hi h
    refine h_F_rd F h (fun hc hw => ?_)
    have h3 := (hW a _ hw hc).2.2
    have h4 : e_k (Sum.inr (i, vs) : va_E) = i + 8 := rfl
    rw [h4] at h3
    omega
  have cs : ∀ (a : Nat) (e : va_E), (e_k e = 0 ∨ e_k e = 15) → sx_c σ a = some e → sx_c τ a = some e := by
    intro a e he h
    refine h_F_c F h (fun hw => ?_)
    have h3 := hW a _ hw h
    omega
  intro n
  induction n with
  | zero => exact fun a p h => h.elim
  | succ n ih =>
    intro a p hP
    rcases hP with ⟨f, l, ha, hp⟩ | ⟨f, ha, hp⟩ | ⟨b, r, ha, hb, hp⟩ | ⟨ha, hp⟩ | ⟨x, ha, hp⟩ | ⟨x, ha, hp⟩ | ⟨x, ha, hp⟩ | ⟨x, ha, hp⟩ | ⟨b, c, r, s, ha, hb, hc, hp⟩ | ⟨b, c, r, s, ha, hb, hc, hp⟩ | ⟨so, u, t, ac, nm, S, f, l, ha, hS, hp⟩
    · exact Or.inl ⟨f, l, rd _ _ _ (by omega) ha, hp⟩
    · exact Or.inr (Or.inl ⟨f, rd _ _ _ (by omega) ha, hp⟩)
    · exact Or.inr (Or.inr (Or.inl ⟨b, r, rd _ _ _ (by omega) ha, ih b r hb, hp⟩))
    · exact Or.inr (Or.inr (Or.inr (Or.inl ⟨rd _ _ _ (by omega) ha, hp⟩)))
    · exact Or.inr (Or.inr (Or.inr (Or.inr (Or.inl ⟨x, rd _ _ _ (by omega) ha, hp⟩))))
    · exact Or.inr (Or.inr (Or.inr (Or.inr (Or.inr (Or.inl ⟨x, rd _ _ _ (by omega) ha, hp⟩)))))
    · exact Or.inr (Or.inr (Or.inr (Or.inr (Or.inr (Or.inr (Or.inl ⟨x, rd _ _ _ (by omega) ha, hp⟩))))))
    · exact Or.inr (Or.inr (Or.inr (Or.inr (Or.inr (Or.inr (Or.inr (Or.inl ⟨x, rd _ _ _ (by omega) ha, hp⟩)))))))
    · exact Or.inr (Or.inr (Or.inr (Or.inr (Or.inr (Or.inr (Or.inr (Or.inr (Or.inl ⟨b, c, r, s, rd _ _ _ (by omega) ha, ih b r hb, ih c s hc, hp⟩))))))))
    · exact Or.inr (Or.inr (Or.inr (Or.inr (Or.inr (Or.inr (Or.inr (Or.inr (Or.inr (Or.inl ⟨b, c, r, s, rd _ _ _ (by omega) ha, ih b r hb, ih c s hc, hp⟩)))))))))
    · obtain ⟨fu, ft, fa, a1, a2, a3, a4, a5⟩ := hS
      exact Or.inr (Or.inr (Or.inr (Or.inr (Or.inr (Or.inr (Or.inr (Or.inr (Or.inr (Or.inr ⟨so, u, t, ac, nm, S, f, l, rd _ _ _ (by omega) ha, ⟨fu, ft, fa, cs _ _ (Or.inr rfl) a1, cs _ _ (Or.inl rfl) a2, cs _ _ (Or.inl rfl) a3, cs _ _ (Or.inl rfl) a4, a5⟩, hp⟩)))))))))
theorem k_C_fr {W : Nat → Prop} {c s a : Nat} {g : Int32 → Int32} (F : h_F W c s σ τ) (hW : k_W W σ) (h : k_C G σ a g) : k_C G τ a g := by
  have rd : ∀ (a i : Nat) (vs : List Value), 17 ≤ i → sx_rd G σ a (.inr (i, vs)) → sx_rd G τ a (.inr (i, vs)) := by
    intro a i vs hi h
    refine h_F_rd F h (fun hc hw => ?_)
    have h3 := (hW a _ hw hc).2.2
    have h4 : e_k (Sum.inr (i, vs) : va_E) = i + 8 := rfl
    rw [h4] at h3
    omega
  rcases h with ⟨ha, hp⟩ | ⟨f, ha, hp⟩ | ⟨f, ha, hp⟩ | ⟨f, ha, hp⟩
  · exact Or.inl ⟨rd _ _ _ (by omega) ha, hp⟩
  · exact Or.inr (Or.inl ⟨f, rd _ _ _ (by omega) ha, hp⟩)
  · exact Or.inr (Or.inr (Or.inl ⟨f, rd _ _ _ (by omega) ha, hp⟩))
  · exact Or.inr (Or.inr (Or.inr ⟨f, rd _ _ _ (by omega) ha, hp⟩))
theorem k_P_le : ∀ (n k a : Nat) (p : a_M → Bool), n ≤ k → k_P G n σ a p → k_P G k σ a p := by
  intro n
  induction n with
  | zero => exact fun k a p _ h => h.elim
  | succ n ih =>
    intro k a p hk hP
    obtain ⟨k, rfl⟩ : ∃ j, k = j + 1 := ⟨k - 1, by omega⟩
    have ih := fun a p => ih k a p (by omega)
    rcases hP with h | h | ⟨b, r, ha, hb, hp⟩ | h | h | h | h | h | ⟨b, c, r, s, ha, hb, hc, hp⟩ | ⟨b, c, r, s, ha, hb, hc, hp⟩ | h
    · exact Or.inl h
    · exact Or.inr (Or.inl h)
    · exact Or.inr (Or.inr (Or.inl ⟨b, r, ha, ih b r hb, hp⟩))
    · exact Or.inr (Or.inr (Or.inr (Or.inl h)))
    · exact Or.inr (Or.inr (Or.inr (Or.inr (Or.inl h))))
    · exact Or.inr (Or.inr (Or.inr (Or.inr (Or.inr (Or.inl h)))))
    · exact Or.inr (Or.inr (Or.inr (Or.inr (Or.inr (Or.inr (Or.inl h))))))
    · exact Or.inr (Or.inr (Or.inr (Or.inr (Or.inr (Or.inr (Or.inr (Or.inl h)))))))
    · exact Or.inr (Or.inr (Or.inr (Or.inr (Or.inr (Or.inr (Or.inr (Or.inr (Or.inl ⟨b, c, r, s, ha, ih b r hb, ih c s hc, hp⟩))))))))
    · exact Or.inr (Or.inr (Or.inr (Or.inr (Or.inr (Or.inr (Or.inr (Or.inr (Or.inr (Or.inl ⟨b, c, r, s, ha, ih b r hb, ih c s hc, hp⟩)))))))))
    · exact Or.inr (Or.inr (Or.inr (Or.inr (Or.inr (Or.inr (Or.inr (Or.inr (Or.inr (Or.inr h)))))))))
end CTF
