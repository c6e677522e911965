set_option maxRecDepth 100000
section CXC
variable {G : sx_G} {σ τ : sx_St} {mu : Nat → Nat} {n oc lo sv nl cap cap2 : Nat} {ow ow2 : Nat → Nat} {Λ : Nat → Nat → Nat → Nat} {A B : a_A} {V : a_V} {W : Nat → Prop} {c sl : Nat}
theorem c_I_z {a : Nat} {A : a_A} (h1 : c_X G mu n oc σ sv nl A) (hI : c_I G lo σ ow a Λ V) (hz : c_Z (fun q => ∀ i, i < 7 → q ≠ mu i) Λ V) (hm : ∀ i, i < 7 → mu i < lo) : k_z (c_Zm mu (sx_n σ)) a Λ V := by
  have hlt := k_V_lt hI.1
  obtain ⟨l1, l2, l3, l4, l5, l6, l7⟩ := hlt
  obtain ⟨t1, t2, t3, t4, t5, t6, t7⟩ := hI.2.1
  have hi : ∀ q, q < sx_n σ → ow q ≠ 0 → c_Zm mu (sx_n σ) q := fun q q1 q2 => ⟨q1, fun i hi z => by have h8 := hI.2.2.1 q q2; have h9 := hm i hi; omega⟩
  refine ⟨hi _ l1 (by omega), hi _ l2 (by omega), hi _ l3 (by omega), hi _ l4 (by omega), hi _ l5 (by omega), fun i hi2 => ?_, fun s hs => ?_⟩
  · have g6 := t6 i hi2
    have m6 := l6 i hi2
    exact ⟨hi _ m6.1 (by omega), hi _ m6.2.1 (by omega), hi _ m6.2.2.1 (by omega), ⟨m6.2.2.2.1, (hz.1 i hi2).1⟩, ⟨m6.2.2.2.2.1, (hz.1 i hi2).2⟩, fun j hj => ⟨m6.2.2.2.2.2 j hj, c_X_ne h1 ((hI.1.2.2.2.1 i hi2).1.2.2 j hj) (Or.inl rfl)⟩⟩
  · have g6 := t7 s hs
    have m6 := l7 s hs
    exact ⟨hi _ m6.1 (by omega), hi _ m6.2.1 (by omega), hi _ m6.2.2.1 (by omega), hi _ m6.2.2.2.1 (by omega), ⟨m6.2.2.2.2.1, (hz.2 s hs).1⟩, ⟨m6.2.2.2.2.2, (hz.2 s hs).2⟩⟩
/-- a new cell b gets the owner t -/
def ow_t (ow : Nat → Nat) (b t : Nat) : Nat → Nat := fun q => if q = b then t else ow q
theorem c_I_t {a b t : Nat} (h : c_I G lo σ ow a Λ V) (hV : k_V G τ a Λ V) (hb : sx_n σ ≤ b) (hb2 : b < sx_n τ) (hlo : lo ≤ sx_n σ) (hn : sx_n σ ≤ sx_n τ) : c_I G lo τ (ow_t ow b t) a Λ V := by
  obtain ⟨h1, ht, hge, hz⟩ := h
  have hlt := k_V_lt h1
  obtain ⟨l1, l2, l3, l4, l5, l6, l7⟩ := hlt
  obtain ⟨t1, t2, t3, t4, t5, t6, t7⟩ := ht
  have hw : ∀ q, q < sx_n σ → ow_t ow b t q = ow q := by
    intro q q1
    unfold ow_t
    rw [if_neg (by omega)]
  refine ⟨hV, ⟨by rw [hw _ l1]; exact t1, by rw [hw _ l2]; exact t2, by rw [hw _ l3]; exact t3, by rw [hw _ l4]; exact t4, by rw [hw _ l5]; exact t5, fun i hi => ?_, fun s hs => ?_⟩, fun q hq => ?_, fun q hq => ?_⟩
  · have g6 := t6 i hi
    have m6 := l6 i hi
    refine ⟨by rw [hw _ m6.1]; exact g6.1, by rw [hw _ m6.2.1]; exact g6.2.1, by rw [hw _ m6.2.2.1]; exact g6.2.2.1, by rw [hw _ m6.2.2.2.1]; exact g6.2.2.2.1, by rw [hw _ m6.2.2.2.2.1]; exact g6.2.2.2.2.1, fun j hj => by rw [hw _ (m6.2.2.2.2.2 j hj)]; exact g6.2.2.2.2.2 j hj⟩
  · have g6 := t7 s hs
    have m6 := l7 s hs
    rw [hw _ m6.1, hw _ m6.2.1, hw _ m6.2.2.1, hw _ m6.2.2.2.1, hw _ m6.2.2.2.2.1, hw _ m6.2.2.2.2.2]
    exact g6
  · unfold ow_t at hq
    by_cases hx : q = b
    · omega
    · rw [if_neg hx] at hq; exact hge q hq
  · unfold ow_t
    rw [if_neg (by omega)]
    exact hz q (by omega)
/-- x's own cells are kept where what is written lies at lo or behind -/
theorem c_X_lo (h : c_X G mu lo oc σ sv nl A) (F : h_F W c sl σ τ) (hW : ∀ q, W q → lo ≤ q) (hm : ∀ i, i < 7 → mu i < lo) : c_X G mu lo oc τ sv nl A := c_X_fr h F (fun q zq w => by have h8 := hW q w; have h9 := zq.1; omega) (fun i hi w => by have h8 := hW _ w; have h9 := hm i hi; omega)
theorem c_A_s {s : Nat} {S : a_S} (F : h_F W 0 0 σ τ) (h : c_A G mu oc lo σ sv nl ow Λ cap A) (hs : s < (A_v A).2.2.length) (hW : ∀ q, W q → q = Λ 3 s 0 ∨ q = Λ 3 s 1 ∨ q = Λ 3 s 2 ∨ q = Λ 3 s 3) (hS : k_S G τ (Λ 3 s 0) (Λ 3 s 1) (Λ 3 s 2) (Λ 3 s 3) (Λ 3 s 4) S) (hnm : S.1 = (a_s (A_v A) s).1) (hw : w_V (a_us (A_v A) s S)) : c_A G mu oc lo τ sv nl ow Λ cap (A_sv A (a_us (A_v A) s S)) := by
  obtain ⟨h1, h2, h3, h4, h5⟩ := h
  refine ⟨c_X_lo h1 F (fun q z => h2.1.2.2.1 q (by have := c_J_tg h2 hs (hW q z); omega)) h5, (c_J_s F h2 hs hW hS hnm hw).1, ⟨h3.1, fun t ht => ?_⟩, h4, h5⟩
  have ht : t < (a_us (A_v A) s S).2.2.length := ht
  rw [a_us_n] at ht
  exact h3.2 t ht
theorem c_A_T {k : Nat} (h : c_A G mu oc lo σ sv nl ow Λ cap A) (hJ : c_J G lo τ ow2 sv Λ nl cap2 B) (hT : c_T lo σ τ A B cap cap2) (hk : s_kp A B k) : c_A G mu oc lo τ sv nl ow2 Λ cap2 B := by
  obtain ⟨h1, h2, h3, h4, h5⟩ := h
  refine ⟨c_X_kp (c_X_lo h1 hT.2.2 (fun _ z => z) h5) hk, hJ, ⟨fun i hi => ?_, fun t ht => ?_⟩, fun i hi => ?_, h5⟩
  · rw [hk.2.1] at hi; exact h3.1 i hi
  · rw [hk.2.2.1] at ht; exact h3.2 t ht
  · rw [hk.2.1] at hi; exact h4 i hi
theorem cc_change (hX : c_X G mu (sx_n σ) oc σ sv nl A) (hF : c_F G mu (sx_n σ) σ sv (A_v A)) {z : Nat} (hz : g_Z G z) : sx_Cp G 10 YX1_change [.ref (mu 0)] σ (fun v τ => ∃ a, v = some (.ref a) ∧ ∃ nl2 ow2 Λ2, a = sx_n σ ∧ c_A G mu oc a τ a nl2 ow2 Λ2 0 (A_sn (s_rm A) []) ∧ c_B 170 2620 σ τ ∧ h_F (fun q => q = mu 0 ∨ q = mu 1 ∨ q = mu 2 ∨ sx_n σ ≤ q) 170 2620 σ τ) := by
  refine sx_body (by decide) (Nat.le_of_ble_eq_true rfl) ?_
  have hx := hX.1
  obtain ⟨Λ0, hV, hzz, hw⟩ := hF
  have lsv := sx_lt hV.1
  obtain ⟨a, ea⟩ : ∃ a, a = sx_n σ := ⟨_, rfl⟩
  have FF0 : h_F (fun q => q = a) 0 0 σ σ := h_F_r
  refine sv_aload_n dX1_change_0 rfl ?_
  refine sv_new fn_X1_41 dX1_change_1 ?_
  refine hs_al (fun a1 τ4 E9 F5 h6 N7 Z8 => ?_)
  have hx' := h_F_c F5 hx (fun z => z)
  have FF10 := h_F_u FF0 F5 (fun _ _ z => z) (fun _ _ z => z.elim) (Nat.le_refl _) (Nat.le_refl _)
  have h6 : sx_c τ4 a1 = some (.inr (1, [.null, .null, .int (nI 0)])) := by rw [nI_0]; exact h6
  refine sv_dup dX1_change_4 rfl ?_
  refine sv_aload_n dX1_change_5 rfl ?_
  refine sv_get fg_X1_44 dX1_change_6 (sx_rd_c hx') rfl ?_
  have FFp : h_F (fun _ => False) _ _ σ _ := F5
  obtain rfl : a1 = a := by omega
  refine sv_ciP _ (cc_vinit2 (k_V_Z hV hzz FFp (fun _ _ z => z)) hw (by omega) h6) okX2_init_2 ki_X1_113 dX1_change_9 rfl rfl (by omega) (Nat.le_of_ble_eq_true rfl) ?_
  intro v14 τ12 hp13
  obtain ⟨rfl, ow2, Λ2, hI2, hY2, F11⟩ := hp13
  have N15 := (F11).1.1
  have hx'' := h_F_c F11 hx' (e_kn hx' h6 rfl)
  have FF16 := h_F_u FF10 F11 (fun _ _ z => z) (by intro q hq hz; omega) (Nat.le_refl _) (Nat.le_refl _)
  have FF2 := FF16
  have hmu := c_X_mu hX
  have zW : ∀ q, c_Zm mu (sx_n σ) q → ¬ (q = a1) := fun q zq w => by have := zq.1; omega
  have hX2 := c_X_fr hX FF2 zW (fun i hi w => by have := hmu i hi; omega)
  have hF2 : c_F G mu (sx_n σ) _ sv (A_v A) := ⟨Λ0, k_V_Z hV hzz FF2 zW, hzz, hw⟩
  have hx2 := hX2.1
  refine sv_cvP _ (cc_become (a := a1) hX2 hF2 hz) okX1_become kv_X1_116 (sx_rd_c hx2) rfl dX1_change_12 rfl rfl (by omega) (Nat.le_of_ble_eq_true rfl) ?_
  intro v19 τ17 hp18
  obtain ⟨rfl, nl2, hn2, hL2, hX3, F3⟩ := hp18
  have hx3 := hX3.1
  refine sv_aload_n dX1_change_15 rfl ?_
  refine sv_get fg_X1_44 dX1_change_16 (sx_rd_c hx3) rfl ?_
  refine sv_aret (Or.inr ⟨_, rfl⟩) (Or.inl ⟨_, rfl⟩) rfl dX1_change_19 ?_
  have n2 := FF2.1.1
  have n3 := F3.1.1
  obtain ⟨mc0, z0, hL0, -⟩ := id hL2
  have n4 := sx_lt hL0
  have hcz : c_Z (fun q => ∀ i, i < 7 → q ≠ mu i) Λ2 (A_v A) := ⟨fun i hi => ?_, fun s hs => ?_⟩
  have hmu2 : ∀ i, i < 7 → mu i < a1 := fun i hi => by have := hmu i hi; omega
  have kz := c_I_z hX2 hI2 hcz hmu2
  have hV3 := k_V_Z hI2.1 kz F3 (fun q zq w => by rcases w with w | w | w; exact zq.2 0 (by decide) w; exact zq.2 1 (by decide) w; exact zq.2 2 (by decide) w)
  have ha2 := (k_V_lt hI2.1).1
  have hI3 := c_I_t (b := nl2) (t := 6) hI2 hV3 hn2 n4 (by omega) n3
  have hX9 : c_X G mu a1 oc _ a1 nl2 (A_sn (s_rm A) []) := c_X_n hX3 (by omega) (by omega)
  refine ⟨_, rfl, a1, rfl, nl2, ow_t ow2 nl2 6, Λ2, by omega, ⟨hX9, ⟨hI3, ⟨by unfold ow_t; rw [if_pos rfl], Or.inl ⟨hL2, rfl, rfl⟩⟩, hw, by omega, Nat.zero_le _⟩, hcz, hY2.2.1, hmu2⟩, c_B_t (c_B_F FF2) (c_B_F F3) (by omega) (by omega), h_F_u FF2 F3 (fun q _ z => Or.inr (Or.inr (Or.inr (by omega)))) (fun q _ z => by omega) (by omega) (by omega)⟩
  · rw [(hY2.2.2.1 i hi).1, (hY2.2.2.1 i hi).2]
    have hz9 := hzz.2.2.2.2.2.1 i hi
    exact ⟨hz9.2.2.2.1.2, hz9.2.2.2.2.1.2⟩
  · rw [(hY2.2.2.2 s hs).1, (hY2.2.2.2 s hs).2]
    have hz9 := hzz.2.2.2.2.2.2 s hs
    exact ⟨hz9.2.2.2.2.1.2, hz9.2.2.2.2.2.2⟩
end CXC
