set_option maxRecDepth 100000
section CBZ
variable {G : sx_G} {σ τ : sx_St}
def m_F (p : a_M → Bool) (cg : Int32 → Int32) (m : a_M) : a_M := if p m then (m.1, m.2.1, cg m.2.2) else m
def m_ch (p : a_M → Bool) (cg : Int32 → Int32) (ms : List a_M) (k : Nat) : List a_M := (ms.take k).map (m_F p cg) ++ ms.drop k
def m_cq (p : a_M → Bool) (cg : Int32 → Int32) (m : a_M) : Bool := p m && !(decide (cg m.2.2 = m.2.2))
theorem m_ch_l (p : a_M → Bool) (cg : Int32 → Int32) {ms : List a_M} {k : Nat} (h : k ≤ ms.length) : (m_ch p cg ms k).length = ms.length := by
  unfold m_ch
  rw [List.length_append, List.length_map, List.length_take, List.length_drop]
  omega
theorem m_ch_s (p : a_M → Bool) (cg : Int32 → Int32) {ms : List a_M} {k : Nat} (h : k < ms.length) : m_ch p cg ms (k + 1) = (m_ch p cg ms k).set k (m_F p cg (ms.getD k (0, 0, 0))) := by
  unfold m_ch
  have e1 : ms.drop k = ms.getD k (0, 0, 0) :: ms.drop (k + 1) := by
    rw [List.drop_eq_getElem_cons h, List.getD_eq_getElem?_getD, List.getElem?_eq_getElem h]; rfl
  have hl : ((ms.take k).map (m_F p cg)).length = k := by rw [List.length_map, List.length_take]; omega
  rw [e1, tk_s (0, 0, 0) h, List.map_append, List.append_assoc, List.set_append_right (h := by omega), hl, Nat.sub_self]
  rfl
theorem m_ch_g (p : a_M → Bool) (cg : Int32 → Int32) {ms : List a_M} {k : Nat} (h : k < ms.length) : (m_ch p cg ms k).getD k (0, 0, 0) = ms.getD k (0, 0, 0) := by
  unfold m_ch
  have hl : ((ms.take k).map (m_F p cg)).length = k := by rw [List.length_map, List.length_take]; omega
  rw [List.getD_eq_getElem?_getD, List.getElem?_append_right (by omega), hl, Nat.sub_self, List.getElem?_drop, Nat.add_zero, ← List.getD_eq_getElem?_getD]
theorem m_ch_n (p : a_M → Bool) (cg : Int32 → Int32) (ms : List a_M) : m_ch p cg ms ms.length = ms.map (m_F p cg) := by
  unfold m_ch
  rw [List.take_length, List.drop_length, List.append_nil]
theorem m_ch_0 (p : a_M → Bool) (cg : Int32 → Int32) (ms : List a_M) : m_ch p cg ms 0 = ms := by
  unfold m_ch
  simp
theorem m_ch_e (p : a_M → Bool) (cg : Int32 → Int32) {ms : List a_M} {k : Nat} (h : k < ms.length) (he : m_F p cg (ms.getD k (0, 0, 0)) = ms.getD k (0, 0, 0)) : m_ch p cg ms (k + 1) = m_ch p cg ms k := by
  rw [m_ch_s p cg h, he]
  have hl := m_ch_l p cg (show k ≤ ms.length by omega)
  refine List.ext_getElem? (fun i => ?_)
  rw [List.getElem?_set]
  by_cases hi : k = i
  · subst hi
    rw [if_pos rfl, if_pos (by omega)]
    have := m_ch_g p cg h
    rw [List.getD_eq_getElem?_getD, List.getElem?_eq_getElem (by omega)] at this
    rw [List.getElem?_eq_getElem (by omega), ← this]
    rfl
  · rw [if_neg hi]
theorem k_Ms_st {g : Nat → Nat} {ms : List a_M} {k a : Nat} {m : a_M} (hk : k < ms.length) (h : ∀ i, i < ms.length → k_M σ (g i) (ms.getD i (0, 0, 0))) (ha : k_M σ a m) : ∀ i, i < (ms.set k m).length → k_M σ (va_up g k a i) ((ms.set k m).getD i (0, 0, 0)) := by
  intro i hi
  rw [List.length_set] at hi
  unfold va_up
  rw [List.getD_eq_getElem?_getD, List.getElem?_set]
  by_cases hx : k = i
  · subst hx
    rw [if_pos rfl, if_pos rfl, if_pos hk]; exact ha
  · rw [if_neg (Ne.symm hx), if_neg hx, ← List.getD_eq_getElem?_getD]; exact h i hi
theorem cc_bchange {b l ar cap nm : Nat} {g : Nat → Nat} {B : a_B} (hB : k_B G σ b l ar cap nm g B) {te n : Nat} {p : a_M → Bool} (hG : g_L G) (hP : k_P G n σ te p) {ch : Nat} {cg : Int32 → Int32} (hC : k_C G σ ch cg) (hn : B.2.2.length ≤ 1000) : sx_Cp G (9 + 3 * n) YX6_change [.ref b, .ref te, .ref ch] σ (fun v τ => v = some (.int (nI (B.2.2.countP (m_cq p cg)))) ∧ ∃ g2, k_B G τ b l ar cap nm g2 (B.1, B.2.1, B.2.2.map (m_F p cg)) ∧ (∀ i, i < B.2.2.length → (∃ j, g2 i = g j ∧ j < B.2.2.length) ∨ sx_n σ ≤ g2 i) ∧ h_F (fun q => q = ar) B.2.2.length (3 * B.2.2.length) σ τ) := by
  have loop : ∀ r k (τ : sx_St) (g2 : Nat → Nat) (y z : Option Value), k ≤ B.2.2.length → B.2.2.length + 1 ≤ k + r → k_B G τ b l ar cap nm g2 (B.1, B.2.1, m_ch p cg B.2.2 k) → (∀ i, i < B.2.2.length → (∃ j, g2 i = g j ∧ j < B.2.2.length) ∨ sx_n σ ≤ g2 i) → h_F (fun q => q = ar) k (3 * k) σ τ → k_P G n τ te p → k_C G τ ch cg → sx_V G (9 + 3 * n) YX6_change 5 [some (.ref b), some (.ref te), some (.ref ch), some (.int (nI ((B.2.2.take k).countP (m_cq p cg)))), some (.int (nI k)), y, z] [] τ (fun o τ => ∃ v, o = .inl v ∧ (v = some (.int (nI (B.2.2.countP (m_cq p cg)))) ∧ ∃ g2, k_B G τ b l ar cap nm g2 (B.1, B.2.1, B.2.2.map (m_F p cg)) ∧ (∀ i, i < B.2.2.length → (∃ j, g2 i = g j ∧ j < B.2.2.length) ∨ sx_n σ ≤ g2 i) ∧ h_F (fun q => q = ar) B.2.2.length (3 * B.2.2.length) σ τ)) := by
    intro r
    induction r with
    | zero => intro k τ g2 y z h1 h2; omega
    | succ r ih =>
    intro k τ g2 y z hk1 hk2 hB2 hj FF hP2 hC2
    have n0 := FF.1.1
    have hlen := m_ch_l p cg (ms := B.2.2) (k := k) hk1
    obtain ⟨hb2, hL2, hm2⟩ := id hB2
    have hL2 : k_L G τ l ar cap (m_ch p cg B.2.2 k).length g2 := hL2
    have hm2 : ∀ i, i < (m_ch p cg B.2.2 k).length → k_M τ (g2 i) ((m_ch p cg B.2.2 k).getD i (0, 0, 0)) := hm2
    obtain ⟨mc2, f2, hl2, ha2, -⟩ := id hL2
    refine sv_iload dX6_change_5 rfl ?_
    refine sv_aload_n dX6_change_7 rfl ?_
    refine sv_get fg_X6_14 dX6_change_8 (sx_rd_c hb2) rfl ?_
    refine sv_cvR _ (cj_size hL2) okJ2_size kv_X6_31 (sx_rd_c hl2) rfl dX6_change_11 rfl rfl (by omega) (Nat.le_of_ble_eq_true rfl) ?_
    refine sv_icmp_geN (tgt := 103) dX6_change_14 (by decide) (by omega) (by omega) (fun c14 => ?_) (fun c14 => ?_)
    · refine sv_iload_n dX6_change_103 rfl ?_
      refine sv_iret rfl rfl dX6_change_104 ?_
      refine ⟨_, rfl, r_I (by rw [List.take_of_length_le (by omega)]), g2, ?_, hj, h_F_w FF (fun _ _ z => z) (by omega) (by omega)⟩
      rw [← m_ch_n, show B.2.2.length = k by omega]
      exact hB2
    · have hmk : k_M τ (g2 k) (B.2.2.getD k (0, 0, 0)) := by have h9 := hm2 k (by omega); rwa [m_ch_g p cg (by omega)] at h9
      refine sv_aload_n dX6_change_17 rfl ?_
      refine sv_get fg_X6_14 dX6_change_18 (sx_rd_c hb2) rfl ?_
      refine sv_iload dX6_change_21 rfl ?_
      refine sv_cvR _ (cj_get hL2 (i := k) (by omega)) okJ2_get kv_X6_35 (sx_rd_c hl2) rfl dX6_change_23 rfl rfl (by omega) (Nat.le_of_ble_eq_true rfl) ?_
      refine sv_cast (C0 := "") (sx_rd_c hmk) rfl q999 dX6_change_26 ?_
      refine sv_astore dX6_change_29 (by decide) ?_
      refine sv_aload_n dX6_change_31 rfl ?_
      refine sv_aload dX6_change_32 rfl ?_
      refine sv_hol hG n _ _ _ _ _ _ _ _ _ _ _ _ _ hP2 hmk q1272 dX6_change_34 (by omega) (Nat.le_of_ble_eq_true rfl) ?_
      refine sv_if_eqB (tgt := 97) dX6_change_39 (by decide) (fun c39 => ?_) (fun c39 => ?_)
      · refine sv_iincN dX6_change_97 rfl (by decide) ?_
        refine sv_goto (tgt := 5) dX6_change_100 (by decide) ?_
        have e9 := m_ch_e p cg (show k < B.2.2.length by omega) (by unfold m_F; rw [c39]; rfl)
        have e8 : (B.2.2.take (k + 1)).countP (m_cq p cg) = (B.2.2.take k).countP (m_cq p cg) := by rw [cp_s _ (0, 0, 0) (by omega)]; unfold m_cq; rw [c39]; rfl
        rw [← e8]
        exact ih (k + 1) τ g2 _ _ (by omega) (by omega) (by rw [e9]; exact hB2) hj (h_F_w FF (fun _ _ z => z) (by omega) (by omega)) hP2 hC2
      · refine sv_aload_n dX6_change_42 rfl ?_
        refine sv_aload dX6_change_43 rfl ?_
        refine sv_get fg_X6_70 dX6_change_45 (sx_rd_c hmk) rfl ?_
        refine sv_of hG hC2 q1826 dX6_change_48 (by omega) (Nat.le_of_ble_eq_true rfl) ?_
        refine sv_aload dX6_change_53 rfl ?_
        refine sv_get fg_X6_70 dX6_change_55 (sx_rd_c hmk) rfl ?_
        refine sv_icmp_ne (tgt := 64) dX6_change_58 (by decide) (fun c58 => ?_) (fun c58 => ?_)
        · refine sv_aload_n dX6_change_64 rfl ?_
          refine sv_get fg_X6_14 dX6_change_65 (sx_rd_c hb2) rfl ?_
          refine sv_iload dX6_change_68 rfl ?_
          refine sv_aload dX6_change_70 rfl ?_
          refine sv_aload_n dX6_change_72 rfl ?_
          refine sv_aload dX6_change_73 rfl ?_
          refine sv_get fg_X6_70 dX6_change_75 (sx_rd_c hmk) rfl ?_
          refine sv_of hG hC2 q1826 dX6_change_78 (by omega) (Nat.le_of_ble_eq_true rfl) ?_
          refine sv_cvP _ (cc_with (f := cg (B.2.2.getD k (0, 0, 0)).2.2) hmk) okX7_with kv_X6_78 (sx_rd_c hmk) rfl dX6_change_83 rfl rfl (by omega) (Nat.le_of_ble_eq_true rfl) ?_
          intro v102 τ100 hp101
          obtain ⟨a97, rfl, na99, hm98, F96⟩ := hp101
          have N103 := (F96).1.1
          have hb2' := h_F_c F96 hb2 (fun z => z)
          have hl2' := h_F_c F96 hl2 (fun z => z)
          have ha2' := h_F_c F96 ha2 (fun z => z)
          have hmk' := h_F_c F96 hmk (fun z => z)
          have hL2 := k_L_fr F96 hL2 (fun z => z) (fun z => z)
          have hm2 := fun (i : Nat) (hi : _) => k_M_fr F96 (hm2 i hi) (fun z => z)
          have hP2 := k_P_fr F96 k_W_0 n te p hP2
          have hC2 := k_C_fr F96 k_W_0 hC2
          refine sv_cvP _ (cj_set hL2 (i := k) (by omega) k_O_6 (k_M_E hm98)) okJ2_set kv_X6_82 (sx_rd_c hl2') rfl dX6_change_86 rfl rfl (by omega) (Nat.le_of_ble_eq_true rfl) ?_
          intro v108 τ106 hp107
          obtain ⟨rfl, L105, F104⟩ := hp107
          have N109 := (F104).1.1
          have hb2'' := h_F_c F104 hb2' (e_kn hb2' ha2' rfl)
          have hl2'' := h_F_c F104 hl2' (e_kn hl2' ha2' rfl)
          have hmk'' := h_F_c F104 hmk' (e_kn hmk' ha2' rfl)
          have hm98' := h_F_c F104 hm98 (e_kn hm98 ha2' rfl)
          have hm2 := fun (i : Nat) (hi : _) => k_M_fr F104 (hm2 i hi) (e_kn (hm2 i hi) ha2' rfl)
          have hP2 := k_P_fr F104 (k_W_a ha2') n te p hP2
          have hC2 := k_C_fr F104 (k_W_a ha2') hC2
          refine sv_cast (C0 := "") (sx_rd_c hmk'') rfl q999 dX6_change_89 ?_
          refine sv_astore dX6_change_92 (by decide) ?_
          refine sv_iincN dX6_change_94 rfl (by decide) ?_
          refine sv_iincN dX6_change_97 rfl (by decide) ?_
          refine sv_goto (tgt := 5) dX6_change_100 (by decide) ?_
          have e8 : (B.2.2.take (k + 1)).countP (m_cq p cg) = (B.2.2.take k).countP (m_cq p cg) + 1 := by
            rw [cp_s _ (0, 0, 0) (by omega)]
            unfold m_cq
            rw [c39, decide_eq_false c58]
            rfl
          rw [← e8]
          refine ih (k + 1) _ (va_up g2 k a97) _ _ (by omega) (by omega) ⟨hb2'', ?_, ?_⟩ ?_ (h_F_u (h_F_u FF F96 (fun _ _ z => z) (fun _ _ z => z.elim) (Nat.le_refl _) (Nat.le_refl _)) F104 (fun _ _ z => z) (fun _ _ z => z) (by omega) (by omega)) hP2 hC2
          · show k_L G _ l ar cap (m_ch p cg B.2.2 (k + 1)).length _
            rw [m_ch_l p cg (by omega), ← m_ch_l p cg (show k ≤ B.2.2.length by omega)]
            exact L105
          · show ∀ i, i < (m_ch p cg B.2.2 (k + 1)).length → _
            rw [m_ch_s p cg (by omega)]
            unfold m_F
            rw [c39, if_pos rfl]
            exact k_Ms_st (by omega) hm2 hm98'
          · intro i hi
            unfold va_up
            by_cases hx : i = k
            · rw [if_pos hx]; exact Or.inr (by omega)
            · rw [if_neg hx]; exact hj i hi
        · refine sv_goto (tgt := 97) dX6_change_61 (by decide) ?_
          refine sv_iincN dX6_change_97 rfl (by decide) ?_
          refine sv_goto (tgt := 5) dX6_change_100 (by decide) ?_
          have e9 := m_ch_e p cg (show k < B.2.2.length by omega) (by unfold m_F; rw [c39, if_pos rfl, c58])
          have e8 : (B.2.2.take (k + 1)).countP (m_cq p cg) = (B.2.2.take k).countP (m_cq p cg) := by rw [cp_s _ (0, 0, 0) (by omega)]; unfold m_cq; rw [c39, c58]; simp
          rw [← e8]
          exact ih (k + 1) τ g2 _ _ (by omega) (by omega) (by rw [e9]; exact hB2) hj (h_F_w FF (fun _ _ z => z) (by omega) (by omega)) hP2 hC2
  refine sx_body (by decide) (Nat.le_of_ble_eq_true rfl) ?_
  have hB0 := hB
  obtain ⟨hb, hL, hm⟩ := hB
  obtain ⟨mc, f, hl, ha, l1, l2, l3, hg⟩ := id hL
  refine sv_iconst (nI 0) dX6_change_0 (by decide +kernel) ?_
  refine sv_istore_n dX6_change_1 (by decide) ?_
  refine sv_iconst (nI 0) dX6_change_2 (by decide +kernel) ?_
  refine sv_istore dX6_change_3 (by decide) ?_
  exact loop (B.2.2.length + 1) 0 σ g _ _ (by omega) (by omega) (by rw [m_ch_0]; exact hB0) (fun i hi => Or.inl ⟨i, rfl, hi⟩) h_F_r hP hC
end CBZ
