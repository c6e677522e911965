set_option maxRecDepth 100000
section CNO
variable {G : sx_G} {σ τ ρ : sx_St} {ow : Nat → Nat} {a lo nl cap : Nat} {Λ : Nat → Nat → Nat → Nat} {V : a_V} {W : Nat → Prop} {c sl : Nat} {A : a_A} {N : List a_N}
/-- owners, where na is the notices' array -/
def ow_n (ow : Nat → Nat) (na : Nat) : Nat → Nat := fun q => if q = na then 7 else ow q
theorem c_I_0 (F : h_F (fun _ => False) c sl σ τ) (h : c_I G lo σ ow a Λ V) : c_I G lo τ ow a Λ V := by
  obtain ⟨h1, h2, h3, h4⟩ := h
  exact ⟨k_V_w F h1 h2 (fun _ z => z.elim), h2, h3, fun q hq => h4 q (Nat.le_trans F.1.1 hq)⟩
theorem k_Nt_fr {a : Nat} {n : a_N} (F : h_F W c sl σ τ) (h : k_Nt σ a n) (h1 : ¬ W a) : k_Nt τ a n := h_F_c F h h1
theorem c_N_w (F : h_F W c sl σ τ) (h : c_N G σ ow nl cap N) (hW : ∀ q, W q → ow q ≠ 6 ∧ ow q ≠ 7 ∧ ow q ≠ 0) : c_N G τ ow nl cap N := by
  obtain ⟨h1, h2⟩ := h
  refine ⟨h1, ?_⟩
  rcases h2 with ⟨g1, g2⟩ | ⟨na, g, g1, g2, g3⟩
  · exact Or.inl ⟨k_L0_fr F g1 (fun z => (hW _ z).1 h1), g2⟩
  · exact Or.inr ⟨na, g, k_L_fr F g1 (fun z => (hW _ z).1 h1) (fun z => (hW _ z).2.1 g2), g2, fun i hi => ⟨k_Nt_fr F (g3 i hi).1 (fun z => (hW _ z).2.2 (g3 i hi).2), (g3 i hi).2⟩⟩
theorem c_N_c (h : c_N G σ ow nl cap N) : ∃ vs, sx_c σ nl = some (.inr (9, vs)) := by
  rcases h.2 with ⟨⟨mc, z, g1, -⟩, -⟩ | ⟨na, g, ⟨mc, f, g1, -⟩, -⟩
  · exact ⟨_, g1⟩
  · exact ⟨_, g1⟩
theorem c_N_size (h : c_N G σ ow nl cap N) : sx_Cr G 0 YJ2_size [.ref nl] σ (some (.int (nI N.length))) σ := by
  rcases h.2 with ⟨g1, g2, -⟩ | ⟨na, g, g1, -⟩
  · rw [g2]; exact cj_size0 g1
  · exact cj_size g1
theorem c_I_w {na : Nat} (F : h_F W c sl σ τ) (h : c_I G lo σ ow a Λ V) (hlo : lo ≤ sx_n σ) (hW : ∀ q, W q → 6 ≤ ow q ∧ ow q ≤ 7) (hna : sx_n σ ≤ na ∨ ow na = 7) (hna2 : na < sx_n τ) : c_I G lo τ (ow_n ow na) a Λ V := by
  obtain ⟨h1, h2, h3, h4⟩ := h
  have hl := k_V_lt h1
  have hw : ∀ q, q < sx_n σ → ow q ≠ 7 → ow_n ow na q = ow q := by
    intro q q1 q2
    unfold ow_n
    rw [if_neg (fun e => by rcases hna with z | z; omega; rw [← e] at z; exact q2 z)]
  refine ⟨k_V_w F h1 h2 hW, ?_, fun q hq => ?_, fun q hq => ?_⟩
  · obtain ⟨t1, t2, t3, t4, t5, t6, t7⟩ := h2
    obtain ⟨l1, l2, l3, l4, l5, l6, l7⟩ := hl
    refine ⟨by rw [hw _ l1 (by omega)]; exact t1, by rw [hw _ l2 (by omega)]; exact t2, by rw [hw _ l3 (by omega)]; exact t3, by rw [hw _ l4 (by omega)]; exact t4, by rw [hw _ l5 (by omega)]; exact t5, fun i hi => ?_, fun s hs => ?_⟩
    · have g6 := t6 i hi
      have m6 := l6 i hi
      refine ⟨by rw [hw _ m6.1 (by omega)]; exact g6.1, by rw [hw _ m6.2.1 (by omega)]; exact g6.2.1, by rw [hw _ m6.2.2.1 (by omega)]; exact g6.2.2.1, by rw [hw _ m6.2.2.2.1 (by omega)]; exact g6.2.2.2.1, by rw [hw _ m6.2.2.2.2.1 (by omega)]; exact g6.2.2.2.2.1, fun j hj => ?_⟩
      have e9 := g6.2.2.2.2.2 j hj
      rw [hw _ (m6.2.2.2.2.2 j hj) (by omega)]
      exact e9
    · have g6 := t7 s hs
      have m6 := l7 s hs
      rw [hw _ m6.1 (by omega), hw _ m6.2.1 (by omega), hw _ m6.2.2.1 (by omega), hw _ m6.2.2.2.1 (by omega), hw _ m6.2.2.2.2.1 (by omega), hw _ m6.2.2.2.2.2 (by omega)]
      exact g6
  · unfold ow_n at hq
    by_cases hqa : q = na
    · subst hqa
      rcases hna with z | z
      · omega
      · exact h3 q (by omega)
    · rw [if_neg hqa] at hq
      exact h3 q hq
  · unfold ow_n
    rw [if_neg (by omega)]
    exact h4 q (Nat.le_trans F.1.1 hq)
/-- a notice is added to the list -/
theorem cn_add {v : Nat} {n : a_N} (h : c_N G σ ow nl cap N) (hv : k_Nt σ v n) (hov : ow v = 0) (hlen : N.length ≤ 10000) : sx_Cp G 6 YJ2_add [.ref nl, .ref v] σ (fun w τ => w = some (.int (nI 1)) ∧ ∃ na cap2, cap ≤ cap2 ∧ (cap2 ≤ cap ∨ cap2 ≤ 2 * N.length + 10) ∧ (sx_n σ ≤ na ∨ ow na = 7) ∧ na < sx_n τ ∧ c_N G τ (ow_n ow na) nl cap2 (N ++ [n]) ∧ h_F (fun q => 6 ≤ ow q ∧ ow q ≤ 7) 1 (4 * (cap2 - cap)) σ τ) := by
  obtain ⟨h1, h2⟩ := h
  have hv9 := sx_lt hv
  rcases h2 with ⟨g1, g2, g3⟩ | ⟨na, g, g1, g2, g3⟩
  · subst g2; subst g3
    refine sx_C_Q (cj_add0 g1 k_O_8 (by decide) ⟨_, hv⟩) ?_
    rintro o τ ⟨w, rfl, rfl, ar2, e1, e2, F⟩
    have hl9 : nl < sx_n σ := by obtain ⟨_, _, x, _⟩ := g1; exact sx_lt x
    have ha9 : ar2 < sx_n τ := by obtain ⟨_, _, _, x, _⟩ := e2; exact sx_lt x
    refine ⟨_, rfl, rfl, ar2, 10, by omega, by omega, Or.inl e1, ha9, ⟨?_, Or.inr ⟨ar2, fun _ => v, e2, by unfold ow_n; rw [if_pos rfl], fun i hi => ?_⟩⟩, h_F_w F (fun q _ z => by rw [z]; omega) (by omega) (by omega)⟩
    · unfold ow_n; rw [if_neg (by omega)]; exact h1
    · have hi : i < 1 := hi
      obtain rfl : i = 0 := by omega
      refine ⟨k_Nt_fr F hv (fun z => ?_), ?_⟩
      · obtain ⟨_, _, x, _⟩ := g1
        exact e_kn hv x rfl z
      · show ow_n ow ar2 v = 0
        unfold ow_n; rw [if_neg (by omega)]; exact hov
  · refine sx_C_Q (cj_add g1 k_O_8 (by decide) ⟨_, hv⟩ (fun i hi => ⟨_, (g3 i hi).1⟩) (by omega)) ?_
    rintro o τ ⟨w, rfl, rfl, ar2, cap2, l1, l2, l3, L, F⟩
    obtain ⟨_, _, x1, x2, _⟩ := id g1
    have hl9 := sx_lt x1
    have ha8 := sx_lt x2
    have ha9 : ar2 < sx_n τ := by obtain ⟨_, _, _, x, _⟩ := L; exact sx_lt x
    have hna : sx_n σ ≤ ar2 ∨ ow ar2 = 7 := by
      rcases l3 with e | e
      · rw [e]; exact Or.inr g2
      · exact Or.inl e
    refine ⟨_, rfl, rfl, ar2, cap2, l1, by omega, hna, ha9, ⟨?_, Or.inr ⟨ar2, va_up g N.length v, ?_, by unfold ow_n; rw [if_pos rfl], fun i hi => ?_⟩⟩, h_F_w F (fun q _ z => by rcases z with rfl | rfl <;> omega) (by omega) (by omega)⟩
    · unfold ow_n
      rw [if_neg (fun e => by rw [e] at h1; rcases hna with z | z <;> omega)]
      exact h1
    · rw [List.length_append]; exact L
    · rw [List.length_append] at hi
      have hi : i < N.length + 1 := hi
      have nW : ∀ (q : Nat) (m : a_N), k_Nt σ q m → ow q = 0 → k_Nt τ q m ∧ ow_n ow ar2 q = 0 := by
        intro q m hq ho
        refine ⟨k_Nt_fr F hq (fun z => z.elim (e_kn hq x1 rfl) (e_kn hq x2 rfl)), ?_⟩
        have := sx_lt hq
        unfold ow_n
        rw [if_neg (fun e => by rw [e] at ho; rcases hna with z | z <;> omega)]
        exact ho
      unfold va_up
      by_cases hx : i = N.length
      · rw [if_pos hx, hx, List.getD_eq_getElem?_getD, List.getElem?_append_right (Nat.le_refl _), Nat.sub_self]
        exact nW v n hv hov
      · rw [if_neg hx, List.getD_eq_getElem?_getD, List.getElem?_append_left (by omega), ← List.getD_eq_getElem?_getD]
        exact nW _ _ (g3 i (by omega)).1 (g3 i (by omega)).2
theorem k_S_ac {so u t ac nm k : Nat} {S : a_S} {x : Int32} {fa : Nat → Int32} (hS : k_S G σ so u t ac nm S) (F : h_F (fun q => q = ac) c sl σ τ) (ha : sx_c σ ac = some (.inl (sg_a G 0, 5, .inl fa))) (h : sx_c τ ac = some (.inl (sg_a G 0, 5, .inl (upd fa k (fa k + x))))) (hk : k < 5) : k_S G τ so u t ac nm (S_ac S k x) := by
  obtain ⟨fu, ft, fa', a1, a2, a3, a4, ⟨n1, n2, n3⟩, a6, a7, a8, a9⟩ := hS
  have e := Option.some.inj (ha.symm.trans a4)
  have e : fa = fa' := Sum.inl.inj (congrArg (fun q : vp_A => q.2) (congrArg Prod.snd (Sum.inl.inj e)))
  subst e
  refine ⟨fu, ft, _, h_F_c F a1 (e_kn a1 a4 rfl), h_F_c F a2 n2, h_F_c F a3 n3, h, ⟨n1, n2, n3⟩, a6, a7, a8, fun i hi => ?_⟩
  show upd fa k (fa k + x) i = upd S.2.2.2.2.2.1 k (S.2.2.2.2.2.1 k + x) i
  by_cases hik : i = k
  · rw [hik, pk_us, pk_us, a9 k hk]
  · rw [pk_un hik, pk_un hik]; exact a9 i hi
/-- the act's state: server, notices -/
def c_J (G : sx_G) (lo : Nat) (σ : sx_St) (ow : Nat → Nat) (a : Nat) (Λ : Nat → Nat → Nat → Nat) (nl cap : Nat) (A : a_A) : Prop := c_I G lo σ ow a Λ (A_v A) ∧ c_N G σ ow nl cap (A_n A) ∧ w_V (A_v A) ∧ lo ≤ sx_n σ ∧ cap ≤ 2 * (A_n A).length + 12
/-- how far telling goes -/
def c_T (lo : Nat) (σ τ : sx_St) (A B : a_A) (cap cap2 : Nat) : Prop := (A_n A).length ≤ (A_n B).length ∧ cap ≤ cap2 ∧ h_F (fun q => lo ≤ q) (2 * ((A_n B).length - (A_n A).length)) (4 * ((A_n B).length - (A_n A).length) + 4 * (cap2 - cap)) σ τ
theorem c_T_r : c_T lo σ σ A A cap cap := ⟨Nat.le_refl _, Nat.le_refl _, h_F_r⟩
theorem c_T_t {B C : a_A} {cap2 cap3 : Nat} (h : c_T lo σ τ A B cap cap2) (h' : c_T lo τ ρ B C cap2 cap3) : c_T lo σ ρ A C cap cap3 := by
  obtain ⟨a1, a2, a3⟩ := h
  obtain ⟨b1, b2, b3⟩ := h'
  exact ⟨by omega, by omega, h_F_u a3 b3 (fun _ _ z => z) (fun _ _ z => z) (by omega) (by omega)⟩
theorem c_T_v {V' : a_V} (F : h_F (fun q => lo ≤ q) 0 0 σ τ) : c_T lo σ τ A (A_sv A V') cap cap := ⟨Nat.le_refl _, Nat.le_refl _, h_F_w F (fun _ _ z => z) (by omega) (by omega)⟩
theorem a_us_us {s : Nat} {S T : a_S} : a_us (a_us V s S) s T = a_us V s T := by
  unfold a_us
  simp
theorem no_dr {s k : Nat} {n : Int32} (hs : s < (A_v A).2.2.length) : s_no (A_sv A (v_dr (A_v A) s k)) s 0 n 0 = A_sv (s_no A s 0 n 0) (v_dr (A_v (s_no A s 0 n 0)) s k) := by
  unfold s_no v_dr v_ac
  show A_sn (A_sv A (a_us (a_us (A_v A) s _) s _)) _ = A_sv (A_sn (A_sv A _) _) (a_us (a_us (A_v A) s _) s _)
  rw [a_us_us, a_us_us]
  show A_sn (A_sv A (a_us (A_v A) s (S_ac (a_s (a_us (A_v A) s _) s) _ _))) _ = A_sv (A_sn (A_sv A _) _) (a_us (A_v A) s (S_es (a_s (a_us (A_v A) s _) s) ((a_s (a_us (A_v A) s _) s).2.2.2.2.2.2.eraseIdx k)))
  rw [a_us_s _ hs, a_us_s _ hs]
  rfl
end CNO
