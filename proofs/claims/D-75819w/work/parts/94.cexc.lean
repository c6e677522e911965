set_option maxRecDepth 100000
section CEX
variable {G : sx_G} {σ τ : sx_St}
theorem ex_A : ∀ (s : State) (args : Array Value), (∀ w ∈ lw_all, w.before args s = true) → (∀ w ∈ lw_tbl, sx_nw w = true → va_Nw w s) → ∀ w ∈ vx_at0 "MailSessions" 3 "java/lang/IllegalArgumentException" ["java/lang/RuntimeException", "java/lang/Exception"], w.before args s = true := by
  intro s args h1 h2
  refine vx_hat (B := [Cond.declares ⟨"java/lang/RuntimeException", "<init>", "()V"⟩, Cond.declares ⟨"java/lang/Exception", "<init>", "()V"⟩, Cond.declares ⟨"java/lang/Throwable", "<init>", "()V"⟩, Cond.castable "java/lang/IllegalArgumentException" "java/lang/IllegalArgumentException"]) (fun w hw => h1 w (lw_in _ [156, 240, 249, 257, 260, 262, 241, 242, 194, 195, 243, 248, 258, 499, 230, 500, 232, 501, 234, 244, 246, 236, 1409, 1410, 1411, 1143, 1143, 1144, 1145, 1146, 1146, 1147, 1148, 241, 1408, 219, 227, 228, 229, 231, 233, 235, 497, 238, 237] (by decide +kernel) (by decide +kernel) w hw)) (by decide +kernel) ?_
  intro w hw
  simp only [List.mem_cons, List.not_mem_nil, or_false] at hw
  rcases hw with rfl | rfl | rfl | rfl
  · exact va_Nw.use rfl (h2 _ q221 rfl)
  · exact va_Nw.use rfl (h2 _ q223 rfl)
  · exact va_Nw.use rfl (h2 _ q225 rfl)
  · exact va_Nw.use rfl (h2 _ q220 rfl)
theorem cr_A  : sx_Cr G 0 YX1_requireArgument [.int (b_I true)] σ none σ := by
  refine sx_body (by decide) (Nat.le_of_ble_eq_true rfl) ?_
  refine sv_iload_n dX1_requireArgument_0 rfl ?_
  refine sv_if_neB (tgt := 12) dX1_requireArgument_1 (by decide) (fun c1 => ?_) (fun c1 => ?_)
  · refine sv_vret rfl dX1_requireArgument_12 ?_
    exact ⟨_, rfl, rfl, rfl⟩
  · exact absurd c1 (by decide)
theorem cx_A  : sx_C G 9 YX1_requireArgument [.int (b_I false)] σ (fun o τ => ∃ q, o = .inr ("java/lang/IllegalArgumentException", q) ∧ h_F (fun _ => False) 1 6 σ τ) := by
  refine sx_body (by decide) (Nat.le_of_ble_eq_true rfl) ?_
  refine sv_iload_n dX1_requireArgument_0 rfl ?_
  refine sv_if_neB (tgt := 12) dX1_requireArgument_1 (by decide) (fun c1 => ?_) (fun c1 => ?_)
  · exact absurd c1 (by decide)
  · refine sv_make0 (ci := 13) (names := ["java/lang/RuntimeException", "java/lang/Exception"]) rfl (by decide +kernel) (by decide +kernel) q1407 q159 ex_A (by decide +kernel) dX1_requireArgument_4 dX1_requireArgument_7 dX1_requireArgument_8 (by decide) (Nat.le_of_ble_eq_true rfl) ?_
    refine hs_al (fun q τ1 E1 F1 h1 N1 Z1 => ?_)
    refine sv_athrow (sx_rd_c h1) rfl dX1_requireArgument_11 ?_
    refine sv_out (fun x hx => by cases hx) ?_
    exact ⟨q, rfl, F1⟩
theorem ex_S : ∀ (s : State) (args : Array Value), (∀ w ∈ lw_all, w.before args s = true) → (∀ w ∈ lw_tbl, sx_nw w = true → va_Nw w s) → ∀ w ∈ vx_at0 "MailSessions" 9 "java/lang/IllegalStateException" ["java/lang/RuntimeException", "java/lang/Exception"], w.before args s = true := by
  intro s args h1 h2
  refine vx_hat (B := [Cond.declares ⟨"java/lang/RuntimeException", "<init>", "()V"⟩, Cond.declares ⟨"java/lang/Exception", "<init>", "()V"⟩, Cond.declares ⟨"java/lang/Throwable", "<init>", "()V"⟩, Cond.castable "java/lang/IllegalStateException" "java/lang/IllegalStateException"]) (fun w hw => h1 w (lw_in _ [156, 240, 249, 257, 260, 262, 241, 242, 194, 195, 243, 248, 258, 499, 230, 500, 232, 501, 234, 244, 246, 236, 1389, 1390, 1391, 1143, 1143, 1144, 1145, 1146, 1146, 1147, 1148, 241, 1388, 1165, 1167, 253, 1168, 1169, 1170, 1171, 497, 238, 1172] (by decide +kernel) (by decide +kernel) w hw)) (by decide +kernel) ?_
  intro w hw
  simp only [List.mem_cons, List.not_mem_nil, or_false] at hw
  rcases hw with rfl | rfl | rfl | rfl
  · exact va_Nw.use rfl (h2 _ q221 rfl)
  · exact va_Nw.use rfl (h2 _ q223 rfl)
  · exact va_Nw.use rfl (h2 _ q225 rfl)
  · exact va_Nw.use rfl (h2 _ q1166 rfl)
theorem cr_S  : sx_Cr G 0 YX1_requireState [.int (b_I true)] σ none σ := by
  refine sx_body (by decide) (Nat.le_of_ble_eq_true rfl) ?_
  refine sv_iload_n dX1_requireState_0 rfl ?_
  refine sv_if_neB (tgt := 12) dX1_requireState_1 (by decide) (fun c1 => ?_) (fun c1 => ?_)
  · refine sv_vret rfl dX1_requireState_12 ?_
    exact ⟨_, rfl, rfl, rfl⟩
  · exact absurd c1 (by decide)
theorem cx_S  : sx_C G 9 YX1_requireState [.int (b_I false)] σ (fun o τ => ∃ q, o = .inr ("java/lang/IllegalStateException", q) ∧ h_F (fun _ => False) 1 6 σ τ) := by
  refine sx_body (by decide) (Nat.le_of_ble_eq_true rfl) ?_
  refine sv_iload_n dX1_requireState_0 rfl ?_
  refine sv_if_neB (tgt := 12) dX1_requireState_1 (by decide) (fun c1 => ?_) (fun c1 => ?_)
  · exact absurd c1 (by decide)
  · refine sv_make0 (ci := 14) (names := ["java/lang/RuntimeException", "java/lang/Exception"]) rfl (by decide +kernel) (by decide +kernel) q1387 q174 ex_S (by decide +kernel) dX1_requireState_4 dX1_requireState_7 dX1_requireState_8 (by decide) (Nat.le_of_ble_eq_true rfl) ?_
    refine hs_al (fun q τ1 E1 F1 h1 N1 Z1 => ?_)
    refine sv_athrow (sx_rd_c h1) rfl dX1_requireState_11 ?_
    refine sv_out (fun x hx => by cases hx) ?_
    exact ⟨q, rfl, F1⟩
theorem ex_I : ∀ (s : State) (args : Array Value), (∀ w ∈ lw_all, w.before args s = true) → (∀ w ∈ lw_tbl, sx_nw w = true → va_Nw w s) → ∀ w ∈ vx_at0 "MailSessions" 12 "java/lang/IndexOutOfBoundsException" ["java/lang/RuntimeException", "java/lang/Exception"], w.before args s = true := by
  intro s args h1 h2
  refine vx_hat (B := [Cond.declares ⟨"java/lang/RuntimeException", "<init>", "()V"⟩, Cond.declares ⟨"java/lang/Exception", "<init>", "()V"⟩, Cond.declares ⟨"java/lang/Throwable", "<init>", "()V"⟩, Cond.castable "java/lang/IndexOutOfBoundsException" "java/lang/IndexOutOfBoundsException"]) (fun w hw => h1 w (lw_in _ [156, 240, 249, 257, 260, 262, 241, 242, 194, 195, 243, 248, 258, 499, 230, 500, 232, 501, 234, 244, 246, 236, 1447, 1448, 1449, 1143, 1143, 1144, 1145, 1146, 1146, 1147, 1148, 241, 1446, 1438, 1440, 254, 1441, 1442, 1443, 1444, 497, 238, 1445] (by decide +kernel) (by decide +kernel) w hw)) (by decide +kernel) ?_
  intro w hw
  simp only [List.mem_cons, List.not_mem_nil, or_false] at hw
  rcases hw with rfl | rfl | rfl | rfl
  · exact va_Nw.use rfl (h2 _ q221 rfl)
  · exact va_Nw.use rfl (h2 _ q223 rfl)
  · exact va_Nw.use rfl (h2 _ q225 rfl)
  · exact va_Nw.use rfl (h2 _ q1439 rfl)
theorem cr_I  : sx_Cr G 0 YX1_requireIndex [.int (b_I true)] σ none σ := by
  refine sx_body (by decide) (Nat.le_of_ble_eq_true rfl) ?_
  refine sv_iload_n dX1_requireIndex_0 rfl ?_
  refine sv_if_neB (tgt := 12) dX1_requireIndex_1 (by decide) (fun c1 => ?_) (fun c1 => ?_)
  · refine sv_vret rfl dX1_requireIndex_12 ?_
    exact ⟨_, rfl, rfl, rfl⟩
  · exact absurd c1 (by decide)
theorem cx_I  : sx_C G 9 YX1_requireIndex [.int (b_I false)] σ (fun o τ => ∃ q, o = .inr ("java/lang/IndexOutOfBoundsException", q) ∧ h_F (fun _ => False) 1 6 σ τ) := by
  refine sx_body (by decide) (Nat.le_of_ble_eq_true rfl) ?_
  refine sv_iload_n dX1_requireIndex_0 rfl ?_
  refine sv_if_neB (tgt := 12) dX1_requireIndex_1 (by decide) (fun c1 => ?_) (fun c1 => ?_)
  · exact absurd c1 (by decide)
  · refine sv_make0 (ci := 15) (names := ["java/lang/RuntimeException", "java/lang/Exception"]) rfl (by decide +kernel) (by decide +kernel) q1437 q184 ex_I (by decide +kernel) dX1_requireIndex_4 dX1_requireIndex_7 dX1_requireIndex_8 (by decide) (Nat.le_of_ble_eq_true rfl) ?_
    refine hs_al (fun q τ1 E1 F1 h1 N1 Z1 => ?_)
    refine sv_athrow (sx_rd_c h1) rfl dX1_requireIndex_11 ?_
    refine sv_out (fun x hx => by cases hx) ?_
    exact ⟨q, rfl, F1⟩
theorem ex_E : ∀ (s : State) (args : Array Value), (∀ w ∈ lw_all, w.before args s = true) → (∀ w ∈ lw_tbl, sx_nw w = true → va_Nw w s) → ∀ w ∈ vx_at0 "MailSessions" 15 "java/util/NoSuchElementException" ["java/lang/RuntimeException", "java/lang/Exception"], w.before args s = true := by
  intro s args h1 h2
  refine vx_hat (B := [Cond.declares ⟨"java/lang/RuntimeException", "<init>", "()V"⟩, Cond.declares ⟨"java/lang/Exception", "<init>", "()V"⟩, Cond.declares ⟨"java/lang/Throwable", "<init>", "()V"⟩, Cond.castable "java/util/NoSuchElementException" "java/util/NoSuchElementException"]) (fun w hw => h1 w (lw_in _ [156, 240, 249, 257, 260, 262, 241, 242, 194, 195, 243, 248, 258, 499, 230, 500, 232, 501, 234, 244, 246, 236, 1140, 1141, 1142, 1143, 1143, 1144, 1145, 1146, 1146, 1147, 1148, 241, 1620, 1131, 1133, 256, 1134, 1135, 1136, 1137, 497, 238, 1138] (by decide +kernel) (by decide +kernel) w hw)) (by decide +kernel) ?_
  intro w hw
  simp only [List.mem_cons, List.not_mem_nil, or_false] at hw
  rcases hw with rfl | rfl | rfl | rfl
  · exact va_Nw.use rfl (h2 _ q221 rfl)
  · exact va_Nw.use rfl (h2 _ q223 rfl)
  · exact va_Nw.use rfl (h2 _ q225 rfl)
  · exact va_Nw.use rfl (h2 _ q1132 rfl)
theorem cr_E  : sx_Cr G 0 YX1_requireElement [.int (b_I true)] σ none σ := by
  refine sx_body (by decide) (Nat.le_of_ble_eq_true rfl) ?_
  refine sv_iload_n dX1_requireElement_0 rfl ?_
  refine sv_if_neB (tgt := 12) dX1_requireElement_1 (by decide) (fun c1 => ?_) (fun c1 => ?_)
  · refine sv_vret rfl dX1_requireElement_12 ?_
    exact ⟨_, rfl, rfl, rfl⟩
  · exact absurd c1 (by decide)
theorem cx_E  : sx_C G 9 YX1_requireElement [.int (b_I false)] σ (fun o τ => ∃ q, o = .inr ("java/util/NoSuchElementException", q) ∧ h_F (fun _ => False) 1 6 σ τ) := by
  refine sx_body (by decide) (Nat.le_of_ble_eq_true rfl) ?_
  refine sv_iload_n dX1_requireElement_0 rfl ?_
  refine sv_if_neB (tgt := 12) dX1_requireElement_1 (by decide) (fun c1 => ?_) (fun c1 => ?_)
  · exact absurd c1 (by decide)
  · refine sv_make0 (ci := 16) (names := ["java/lang/RuntimeException", "java/lang/Exception"]) rfl (by decide +kernel) (by decide +kernel) q1619 q183 ex_E (by decide +kernel) dX1_requireElement_4 dX1_requireElement_7 dX1_requireElement_8 (by decide) (Nat.le_of_ble_eq_true rfl) ?_
    refine hs_al (fun q τ1 E1 F1 h1 N1 Z1 => ?_)
    refine sv_athrow (sx_rd_c h1) rfl dX1_requireElement_11 ?_
    refine sv_out (fun x hx => by cases hx) ?_
    exact ⟨q, rfl, F1⟩
end CEX
