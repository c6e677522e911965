set_option maxRecDepth 100000
section CPJ
variable {G : sx_G} {σ τ ρ σ0 : sx_St} {pa ps sel onl x0 inp o wd lo n0 s0 wb : Nat} {tt : Nat → Nat} {t : List Int32} {k : k_T} {w0 w1 w2 w3 w6 w7 w8 : Value} {S : p_S} {ow : Nat → Nat} {Λ : Nat → Nat → Nat → Nat} {T : List (Nat × Nat × (a_M → Bool))}
/-- how much was made -/
def y_B (n0 s0 : Nat) (σ : sx_St) (S : p_S) (k : k_T) : Prop := sx_n σ ≤ n0 + 4 * k.2.2.1 + 2 * k.2.1 + 5 * S.1.2.1.length + 6 * S.1.2.2.length + 3 * p_tot S.1 ∧ sx_s σ ≤ s0 + 30 * k.2.2.1 + 4 * k.2.1 + 60 * S.1.2.1.length + 200 * S.1.2.2.length + 300 * p_tot S.1
/-- the parser at work: what it read, where it stands; σ0: the heap when the act began -/
def y_K (G : sx_G) (lo n0 s0 wb : Nat) (σ0 : sx_St) (pa ps sel onl x0 inp : Nat) (w0 w1 w2 w3 w6 w7 w8 : Value) (t : List Int32) (σ : sx_St) (S : p_S) (k : k_T) (ow : Nat → Nat) (Λ : Nat → Nat → Nat → Nat) (wd o : Nat) (T : List (Nat × Nat × (a_M → Bool))) (Z : Nat → Prop) (m : Nat) : Prop :=
  (y_P G (fun q => wb ≤ q ∧ ow q = 0) σ pa ps sel onl x0 t k o S.2.1 wd ∧ (p_w t k ≠ [] → lo ≤ wd)) ∧ (c_I G lo σ ow ps Λ S.1 ∧ c_cap Λ S.1) ∧ ((ow pa = 8 ∧ ow sel = 9 ∧ ow onl = 10) ∧ ow wd = 0 ∧ sel < wb ∧ onl < wb ∧ wb ≤ sx_n σ) ∧
  (∃ fs fo, sx_c σ sel = some (.inl (sg_a G 0, 4, .inl fs)) ∧ sx_c σ onl = some (.inl (sg_a G 3, 4, .inl fo)) ∧ (∀ s, s < m → fs s = o_I (S.2.2.getD s (none, false)).1) ∧ ∀ s, fo s = b_I (S.2.2.getD s (none, false)).2) ∧
  c_Z Z Λ S.1 ∧ y_B n0 s0 σ S k ∧ p_ok S ∧
  ((∀ q, q < lo → sx_c σ q = sx_c σ0 q) ∧ lo ≤ sx_n σ0 ∧ sx_n σ0 ≤ sx_n σ ∧ x0 < lo ∧ inp < lo) ∧ k_I G σ0 x0 inp w0 w1 w2 w3 w6 w7 w8 t ∧ ∀ x, x ∈ T → k_P G x.1 σ x.2.1 x.2.2
def y_J (G : sx_G) (lo n0 s0 wb : Nat) (σ0 : sx_St) (pa ps sel onl x0 inp : Nat) (w0 w1 w2 w3 w6 w7 w8 : Value) (t : List Int32) (σ : sx_St) (S : p_S) (k : k_T) (ow : Nat → Nat) (Λ : Nat → Nat → Nat → Nat) (wd o : Nat) (T : List (Nat × Nat × (a_M → Bool))) : Prop := y_K G lo n0 s0 wb σ0 pa ps sel onl x0 inp w0 w1 w2 w3 w6 w7 w8 t σ S k ow Λ wd o T (fun q => lo ≤ q ∧ q ≠ wd) S.2.2.length
def y_Z (lo n0 s0 : Nat) (σ0 : sx_St) (e : p_E) (oc : sx_O) (τ : sx_St) : Prop := ∃ q, oc = .inr ("MailSessions$ParseError", q) ∧ y_E τ q e.1 e.2 ∧ (∀ a, a < lo → sx_c τ a = sx_c σ0 a) ∧ sx_n σ0 ≤ sx_n τ ∧ sx_n τ ≤ n0 + 5000 ∧ sx_s τ ≤ s0 + 60000
theorem K_I {Z : Nat → Prop} {m : Nat} (hJ : y_K G lo n0 s0 wb σ0 pa ps sel onl x0 inp w0 w1 w2 w3 w6 w7 w8 t σ S k ow Λ wd o T Z m) : k_I G σ x0 inp w0 w1 w2 w3 w6 w7 w8 t := by
  obtain ⟨-, -, -, -, -, -, -, ⟨h1, -, -, h2, h3⟩, ⟨h4, f, h5, h6⟩, -⟩ := hJ
  exact ⟨(h1 _ h2).trans h4, f, (h1 _ h3).trans h5, h6⟩
theorem J_I (hJ : y_J G lo n0 s0 wb σ0 pa ps sel onl x0 inp w0 w1 w2 w3 w6 w7 w8 t σ S k ow Λ wd o T) : k_I G σ x0 inp w0 w1 w2 w3 w6 w7 w8 t := K_I (Z := fun q => lo ≤ q ∧ q ≠ wd) hJ
theorem K_7 {Z : Nat → Prop} {m : Nat} (hJ : y_K G lo n0 s0 wb σ0 pa ps sel onl x0 inp w0 w1 w2 w3 w6 w7 w8 t σ S k ow Λ wd o T Z m) : t.length ≤ 700 := (K_I hJ).2.choose_spec.2.1
theorem J_7 (hJ : y_J G lo n0 s0 wb σ0 pa ps sel onl x0 inp w0 w1 w2 w3 w6 w7 w8 t σ S k ow Λ wd o T) : t.length ≤ 700 := (J_I hJ).2.choose_spec.2.1
theorem J_bd (hJ : y_J G lo n0 s0 wb σ0 pa ps sel onl x0 inp w0 w1 w2 w3 w6 w7 w8 t σ S k ow Λ wd o T) : sx_n σ + 10 ≤ n0 + 5000 ∧ sx_s σ + 100 ≤ s0 + 60000 := by
  have h7 := J_7 hJ
  obtain ⟨⟨⟨_, _, _, _, _, _, hko⟩, _⟩, -, -, -, -, ⟨b1, b2⟩, hok, -⟩ := hJ
  have g1 := hko.2.1
  have g0 := hko.1
  have g2 := hok.1.2.1
  have g3 := hok.1.2.2.1
  have g4 := p_tot_90 hok.1
  omega
theorem J_x (hJ : y_J G lo n0 s0 wb σ0 pa ps sel onl x0 inp w0 w1 w2 w3 w6 w7 w8 t σ S k ow Λ wd o T) {c s : Nat} {oc : sx_O} (h : y_X c s σ oc τ) : y_Z lo n0 s0 σ0 (c, s) oc τ := by
  obtain ⟨q, h1, h2, h3⟩ := h
  have hbd := J_bd hJ
  obtain ⟨-, -, -, -, -, -, -, ⟨b1, b2, b3, -⟩, -⟩ := hJ
  refine ⟨q, h1, h2, fun a ha => (h3.2.2 a (by omega) (fun z => z)).trans (b1 a ha), ?_, ?_, ?_⟩
  · have := h3.1.1; omega
  · have := h3.1.2; omega
  · have := h3.2.1; omega
theorem k_V_w9 {V : a_V} {W : Nat → Prop} {c sl : Nat} (F : h_F W c sl σ τ) (h : k_V G σ ps Λ V) (ht : k_t ow ps Λ V) (hW : ∀ q, W q → 8 ≤ ow q ∧ ow q ≤ 10) : k_V G τ ps Λ V := by
  obtain ⟨h1, h2, h3, h4, h5⟩ := h
  obtain ⟨t1, t2, t3, t4, t5, t6, t7⟩ := ht
  refine ⟨h_F_c F h1 (fun z => by have := hW _ z; omega), k_L_fr F h2 (fun z => by have := hW _ z; omega) (fun z => by have := hW _ z; omega), k_L_fr F h3 (fun z => by have := hW _ z; omega) (fun z => by have := hW _ z; omega), fun i hi => ?_, fun t ht => ?_⟩
  · obtain ⟨g1, g2, g3, g4, g5, g6⟩ := t6 i hi
    exact ⟨k_B_fr F (h4 i hi).1 (fun z => by have := hW _ z; omega) (fun z => by have := hW _ z; omega) (fun z => by have := hW _ z; omega) (fun j hj z => by have h8 := hW _ z; have h9 := g6 j hj; omega), k_Sn_fr F (h4 i hi).2 (fun z => by have := hW _ z; omega) (fun z => by have := hW _ z; omega)⟩
  · obtain ⟨g1, g2, g3, g4, g5, g6⟩ := t7 t ht
    exact ⟨k_S_fr F (h5 t ht).1 (fun z => by have := hW _ z; omega) (fun z => by have := hW _ z; omega) (fun z => by have := hW _ z; omega) (fun z => by have := hW _ z; omega), k_Sn_fr F (h5 t ht).2 (fun z => by have := hW _ z; omega) (fun z => by have := hW _ z; omega)⟩
theorem c_I_w9 {V : a_V} {W : Nat → Prop} {c sl : Nat} (F : h_F W c sl σ τ) (h : c_I G lo σ ow ps Λ V) (hW : ∀ q, W q → 8 ≤ ow q ∧ ow q ≤ 10) : c_I G lo τ ow ps Λ V := ⟨k_V_w9 F h.1 h.2.1 hW, h.2.1, h.2.2.1, fun q hq => h.2.2.2 q (Nat.le_trans F.1.1 hq)⟩
theorem k_W_1 {a : Nat} {e0 : va_E} (h : sx_c σ a = some e0) (hk : e_k e0 ≠ 0 ∧ e_k e0 ≠ 15 ∧ e_k e0 < 25) : k_W (fun q => q = a) σ := by
  intro q e z hc
  rw [show q = a from z, h] at hc
  cases hc
  exact hk
theorem k_W_w {wp : Nat → Prop} {w : List Nat} (h : y_w G wp σ wd w) : k_W (fun q => q = wd ∧ w ≠ []) σ := by
  rintro q e ⟨z1, z2⟩ hc
  rcases h with ⟨h, -⟩ | ⟨-, nb, ⟨_, _, _, hc2, _⟩, -⟩
  · exact absurd h z2
  · rw [z1, hc2] at hc
    cases hc
    exact ⟨Nat.ne_of_beq_eq_false rfl, Nat.ne_of_beq_eq_false rfl, Nat.le_of_ble_eq_true rfl⟩
/-- the word's cell is none of the server's -/
theorem k_z_wd {wp : Nat → Prop} {V : a_V} {w : List Nat} (h : k_V G σ ps Λ V) (hw : y_w G wp σ wd w) (hz : c_Z (fun q => lo ≤ q ∧ q ≠ wd) Λ V) : k_z (fun q => ¬ (q = wd ∧ w ≠ [])) ps Λ V := by
  obtain ⟨h1, ⟨_, _, b1, b2, _⟩, ⟨_, _, s1, s2, _⟩, h4, h5⟩ := h
  refine ⟨y_w_ne hw h1 rfl, y_w_ne hw b1 rfl, y_w_ne hw b2 rfl, y_w_ne hw s1 rfl, y_w_ne hw s2 rfl, fun i hi => ?_, fun t ht => ?_⟩
  · obtain ⟨⟨c1, ⟨_, _, c2, c3, _⟩, c4⟩, ⟨_, _, _, c5, c6, _⟩⟩ := h4 i hi
    exact ⟨y_w_ne hw c1 rfl, y_w_ne hw c2 rfl, y_w_ne hw c3 rfl, fun z => (hz.1 i hi).1.2 z.1, y_w_ne hw c6 rfl, fun j hj => y_w_ne hw (c4 j hj) rfl⟩
  · obtain ⟨⟨_, _, _, c1, c2, c3, c4, _⟩, ⟨_, _, _, c5, c6, _⟩⟩ := h5 t ht
    exact ⟨y_w_ne hw c1 rfl, y_w_ne hw c2 rfl, y_w_ne hw c3 rfl, y_w_ne hw c4 rfl, fun z => (hz.2 t ht).1.2 z.1, y_w_ne hw c6 rfl⟩
theorem J_h (hJ : y_J G lo n0 s0 wb σ0 pa ps sel onl x0 inp w0 w1 w2 w3 w6 w7 w8 t σ S k ow Λ wd o T) (hww : y_w G (fun q => wb ≤ q ∧ ow q = 0) τ wd (p_w t k)) (F : h_F (fun q => q = wd ∧ p_w t k ≠ []) 0 0 σ τ) : y_J G lo n0 s0 wb σ0 pa ps sel onl x0 inp w0 w1 w2 w3 w6 w7 w8 t τ S k ow Λ wd o T := by
  obtain ⟨⟨⟨tk, vv, hp, hk9, hvv, hw0, hko⟩, hwl⟩, ⟨hI, hcap⟩, how, ⟨fs, fo, a1, a2, a3⟩, hz, hB, hok, ⟨b1, b2, b3, b4⟩, hx⟩ := hJ
  refine ⟨⟨⟨tk, vv, h_F_c F hp (y_w_ne hw0 hp rfl), hk9, hvv, hww, hko⟩, hwl⟩, ⟨⟨k_V_Z hI.1 (k_z_wd hI.1 hw0 hz) F (fun q z => z), hI.2.1, hI.2.2.1, fun q hq => hI.2.2.2 q (Nat.le_trans F.1.1 hq)⟩, hcap⟩, ⟨how.1, how.2.1, how.2.2.1, how.2.2.2.1, by have := how.2.2.2.2; have := F.1.1; omega⟩, ⟨fs, fo, h_F_c F a1 (y_w_ne hw0 a1 rfl), h_F_c F a2 (y_w_ne hw0 a2 rfl), a3⟩, hz, ?_, hok, ⟨fun q hq => ?_, b2, by have := F.1.1; omega, b4⟩, hx.1, fun x hm => k_P_fr F (k_W_w hw0) _ _ _ (hx.2 x hm)⟩
  · unfold y_B at hB ⊢
    have g1 := F.1.2
    have g2 := F.2.1
    omega
  · rw [F.2.2 q (by omega) (fun z => by have := hwl z.2; omega)]
    exact b1 q hq
theorem K_nx {wd2 m : Nat} (hG9 : g_Y G lo tt) (hJ : y_K G lo n0 s0 wb σ0 pa ps sel onl x0 inp w0 w1 w2 w3 w6 w7 w8 t σ S k ow Λ wd o T (fun q => lo ≤ q) m) (hy : y_P G (fun q => wb ≤ q ∧ ow q = 0) τ pa ps sel onl x0 t (p_nx t k) o S.2.1 wd2) (hw2 : p_w t (p_nx t k) ≠ [] → sx_n σ ≤ wd2) (F : h_F (fun q => q = pa) (4 * ((p_nx t k).2.2.1 - k.2.2.1)) (30 * ((p_nx t k).2.2.1 - k.2.2.1)) σ τ) : y_K G lo n0 s0 wb σ0 pa ps sel onl x0 inp w0 w1 w2 w3 w6 w7 w8 t τ S (p_nx t k) ow Λ wd2 o T (fun q => lo ≤ q ∧ q ≠ wd2) m := by
  obtain ⟨⟨⟨tk, vv, hp, hk9, hvv, hw0, hko⟩, hwl⟩, ⟨hI, hcap⟩, ⟨how, -, hsw⟩, ⟨fs, fo, a1, a2, a3⟩, hz, hB, hok, ⟨b1, b2, b3, b4⟩, hx⟩ := hJ
  have hlt := k_V_lt hI.1
  have hg := (k_ok_s hko).1
  have hg2 := (k_ok_x hko).1
  have hg3 : k.2.2.1 ≤ (p_nx t k).2.1 := (k_n_p hko.2.1).1
  have hg4 := hko.1
  have hpl := hI.2.2.1 pa (by omega)
  have hw9 : wd2 < lo ∨ sx_n σ ≤ wd2 := by
    obtain ⟨_, _, _, _, _, hw3, _⟩ := hy
    rcases hw3 with ⟨-, e⟩ | ⟨e, -⟩
    · left; rw [e]; exact hG9.2.2.2.1 0 (by decide)
    · exact Or.inr (hw2 e)
  refine ⟨⟨hy, fun z => by have := hw2 z; omega⟩, ⟨c_I_w9 F hI (fun q z => by rw [z]; omega), hcap⟩, ⟨how, ?_, hsw.1, hsw.2.1, by have := hsw.2.2; have := F.1.1; omega⟩, ⟨fs, fo, h_F_c F a1 (e_kn a1 hp rfl), h_F_c F a2 (e_kn a2 hp rfl), a3⟩, ⟨fun i hi => ?_, fun s hs => ?_⟩, ?_, hok, ⟨fun q hq => ?_, b2, by have := F.1.1; omega, b4⟩, hx.1, fun x hm => k_P_fr F (k_W_1 hp ⟨Nat.ne_of_beq_eq_false rfl, Nat.ne_of_beq_eq_false rfl, Nat.le_of_ble_eq_true rfl⟩) _ _ _ (hx.2 x hm)⟩
  · rcases hw9 with h | h
    · cases h8 : ow wd2 with
      | zero => rfl
      | succ n => have := hI.2.2.1 wd2 (by omega); omega
    · exact hI.2.2.2 wd2 h
  · have g1 := hz.1 i hi
    have g2 := (hlt.2.2.2.2.2.1 i hi)
    exact ⟨⟨g1.1, fun z => by have := g2.2.2.2.1; have := g1.1; omega⟩, ⟨g1.2, fun z => by have := g2.2.2.2.2.1; have := g1.2; omega⟩⟩
  · have g1 := hz.2 s hs
    have g2 := (hlt.2.2.2.2.2.2 s hs)
    exact ⟨⟨g1.1, fun z => by have := g2.2.2.2.2.1; have := g1.1; omega⟩, ⟨g1.2, fun z => by have := g2.2.2.2.2.2; have := g1.2; omega⟩⟩
  · unfold y_B at hB ⊢
    have g1 := F.1.2
    have g2 := F.2.1
    omega
  · rw [F.2.2 q (by omega) (by omega)]
    exact b1 q hq
theorem K_next {m : Nat} (hG9 : g_Y G lo tt) (hb : b_B t) (hJ : y_K G lo n0 s0 wb σ0 pa ps sel onl x0 inp w0 w1 w2 w3 w6 w7 w8 t σ S k ow Λ wd o T (fun q => lo ≤ q) m) : sx_Cp G 9 YX4_next [.ref pa] σ (fun v τ => v = none ∧ ∃ wd2, y_K G lo n0 s0 wb σ0 pa ps sel onl x0 inp w0 w1 w2 w3 w6 w7 w8 t τ S (p_nx t k) ow Λ wd2 o T (fun q => lo ≤ q ∧ q ≠ wd2) m) := by
  obtain ⟨⟨⟨tk, vv, hp, hk9, hvv, hw0, hko⟩, hwl⟩, -⟩ := id hJ
  refine sx_C_Q (cy_next (wb := fun q => wb ≤ q ∧ ow q = 0) hG9.1 hG9.2.2.2.2.1 hp (K_I hJ) hb hko.2.1 (fun q hq => ⟨Nat.le_trans hJ.2.2.1.2.2.2.2 hq, hJ.2.1.1.2.2.2 q hq⟩)) ?_
  rintro oc τ ⟨v, rfl, rfl, wd2, h1, h2, h3⟩
  exact ⟨_, rfl, rfl, wd2, K_nx hG9 hJ h1 h2 h3⟩
theorem J_K (hJ : y_J G lo n0 s0 wb σ0 pa ps sel onl x0 inp w0 w1 w2 w3 w6 w7 w8 t σ S k ow Λ wd o T) : y_K G lo n0 s0 wb σ0 pa ps sel onl x0 inp w0 w1 w2 w3 w6 w7 w8 t σ S k ow Λ wd o T (fun q => lo ≤ q) S.2.2.length := by
  obtain ⟨h1, h2, h3, h4, hz, h5⟩ := hJ
  exact ⟨h1, h2, h3, h4, ⟨fun i hi => ⟨(hz.1 i hi).1.1, (hz.1 i hi).2.1⟩, fun i hi => ⟨(hz.2 i hi).1.1, (hz.2 i hi).2.1⟩⟩, h5⟩
theorem J_next (hG9 : g_Y G lo tt) (hb : b_B t) (hJ : y_J G lo n0 s0 wb σ0 pa ps sel onl x0 inp w0 w1 w2 w3 w6 w7 w8 t σ S k ow Λ wd o T) : sx_Cp G 9 YX4_next [.ref pa] σ (fun v τ => v = none ∧ ∃ wd2, y_J G lo n0 s0 wb σ0 pa ps sel onl x0 inp w0 w1 w2 w3 w6 w7 w8 t τ S (p_nx t k) ow Λ wd2 o T) := K_next hG9 hb (J_K hJ)
theorem J_req1 {c : Nat} : sx_Cr G 5 YX4_require [.ref pa, .int (b_I true), .int (nI c)] σ none σ := cq_ok (s := 0)
theorem J_req0 (hG9 : g_Y G lo tt) (hJ : y_J G lo n0 s0 wb σ0 pa ps sel onl x0 inp w0 w1 w2 w3 w6 w7 w8 t σ S k ow Λ wd o T) {c : Nat} : sx_C G 5 YX4_require [.ref pa, .int (b_I false), .int (nI c)] σ (y_Z lo n0 s0 σ0 (p_er c k)) := by
  obtain ⟨⟨⟨tk, vv, hp, hk9, hvv, hw0, hko⟩, hwl⟩, -⟩ := id hJ
  exact sx_C_Q (cq_no hG9.2.2.2.2.2.2 hp) (fun oc τ h => J_x hJ h)
theorem J_sym (hG9 : g_Y G lo tt) (hb : b_B t) (hJ : y_J G lo n0 s0 wb σ0 pa ps sel onl x0 inp w0 w1 w2 w3 w6 w7 w8 t σ S k ow Λ wd o T) {c : Nat} (hc : c < 128) : sx_Cr G 1 YX4_isSymbol [.ref pa, .int (nI c)] σ (some (.int (b_I (p_sy t k (nI c))))) σ := cy_isSym hG9 hJ.1.1 hJ.1.2 (J_I hJ) hb hc
theorem J_word (hG9 : g_Y G lo tt) (hb : b_B t) (hJ : y_J G lo n0 s0 wb σ0 pa ps sel onl x0 inp w0 w1 w2 w3 w6 w7 w8 t σ S k ow Λ wd o T) {i : Nat} (h1 : 1 ≤ i) (hi : i < 16) : sx_Cr G 2 YX4_isWord [.ref pa, .ref (sg_t G i)] σ (some (.int (b_I (p_is t k i)))) σ := cy_isWord hG9 hJ.1.1 hJ.1.2 (J_I hJ) hb h1 hi
theorem J_flag (hG9 : g_Y G lo tt) (hb : b_B t) (hJ : y_J G lo n0 s0 wb σ0 pa ps sel onl x0 inp w0 w1 w2 w3 w6 w7 w8 t σ S k ow Λ wd o T) : sx_Cp G 4 YX4_flag [.ref pa] σ (fun v τ => v = some (.int (o_I (p_fl t k))) ∧ y_J G lo n0 s0 wb σ0 pa ps sel onl x0 inp w0 w1 w2 w3 w6 w7 w8 t τ S k ow Λ wd o T) := by
  refine sx_C_Q (cy_flag hG9 hJ.1.1 hJ.1.2 (J_I hJ) hb) ?_
  rintro oc τ ⟨v, rfl, rfl, h1, h2⟩
  exact ⟨_, rfl, rfl, J_h hJ h1 h2⟩
theorem J_kw (hG9 : g_Y G lo tt) (hb : b_B t) (hJ : y_J G lo n0 s0 wb σ0 pa ps sel onl x0 inp w0 w1 w2 w3 w6 w7 w8 t σ S k ow Λ wd o T) : sx_Cp G 5 YX4_isKeyword [.ref pa] σ (fun v τ => v = some (.int (b_I (p_kw t k))) ∧ y_J G lo n0 s0 wb σ0 pa ps sel onl x0 inp w0 w1 w2 w3 w6 w7 w8 t τ S k ow Λ wd o T) := by
  refine sx_C_Q (cy_kw hG9 hJ.1.1 hJ.1.2 (J_I hJ) hb) ?_
  rintro oc τ ⟨v, rfl, rfl, h1, h2⟩
  exact ⟨_, rfl, rfl, J_h hJ h1 h2⟩
end CPJ
