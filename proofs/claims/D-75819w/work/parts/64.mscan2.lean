set_option maxRecDepth 100000
section MSB
variable {G : sx_G} {h : Nat} {M : m_M} {σ : sx_St} {V : a_V} {A : a_A} {t : List Int32}
theorem k_b_lt {p : Int32 → Bool} (hp : p (-1) = false) {i : Nat} (h : p (k_b t i) = true) : i < t.length := by
  unfold k_b at h
  by_cases hi : i < t.length
  · exact hi
  · rw [if_neg hi, hp] at h
    cases h
theorem k_w_s {p : Int32 → Bool} {f i : Nat} (h : p (k_b t i) = true) : k_w p t (f + 1) i = k_w p t f (i + 1) := if_pos h
theorem k_w_n {p : Int32 → Bool} {f i : Nat} (h : p (k_b t i) = false) : k_w p t (f + 1) i = i := if_neg (by rw [h]; decide)
theorem k_d_of {c : Int32} (h : k_d c = true) : ∃ d, c = nI d ∧ c.toNatClampNeg = d ∧ 48 ≤ d ∧ d ≤ 57 := by
  unfold k_d a_in at h
  have := of_decide_eq_true h
  rw [i64_le, i64_le, Int32.le_iff_toInt_le, Int32.le_iff_toInt_le, show (48 : Int32).toInt = 48 from rfl, show (57 : Int32).toInt = 57 from rfl] at this
  obtain ⟨e1, e2⟩ := i32_nat (x := c) (by omega)
  exact ⟨c.toNatClampNeg, e1, rfl, by omega, by omega⟩
theorem k_min {v d : Nat} : (if nI (10 * min 99999 v + d) < nI 99999 then nI (10 * min 99999 v + d) else nI 99999) = nI (min 99999 (10 * v + d)) ∨ 2 ^ 20 ≤ d := by
  by_cases hd : 2 ^ 20 ≤ d
  · exact Or.inr hd
  · refine Or.inl ?_
    by_cases hv : v ≤ 99999
    · rw [Nat.min_eq_right hv]
      by_cases hc : 10 * v + d < 99999
      · rw [if_pos ((nI_ltI (by omega) (by omega)).mpr hc), Nat.min_eq_right (by omega)]
      · rw [if_neg (fun z => hc ((nI_ltI (by omega) (by omega)).mp z)), Nat.min_eq_left (by omega)]
    · rw [Nat.min_eq_left (by omega), if_neg (fun z => by have := (nI_ltI (by omega) (by omega)).mp z; omega), Nat.min_eq_left (by omega)]
theorem k_b_m1 {s : Nat} : k_b t s = -1 ↔ ¬ s < t.length := by
  unfold k_b
  by_cases h : s < t.length
  · rw [if_pos h]
    refine ⟨fun z => ?_, fun z => absurd h z⟩
    have z2 := congrArg (fun x => x &&& (256 : Int32)) z
    have z3 : t.getD s 0 &&& (255 &&& 256) = (-1 : Int32) &&& 256 := by rw [← Int32.and_assoc]; exact z2
    rw [show (255 : Int32) &&& 256 = 0 from by decide +kernel, Int32.and_zero] at z3
    exact absurd z3 (by decide +kernel)
  · rw [if_neg h]
    exact ⟨fun _ => h, fun _ => rfl⟩
theorem ct_scan (hn : h + 11 < sx_n σ) (hT : m_T t M) {i : Nat} (hi : i ≤ t.length) (h10 : M.1 10 = nI i) : sx_Cp G 2 YX3_scan [.ref h] (m_S G h M σ) (fun v τ => v = none ∧ ∃ M2, τ = m_S G h M2 σ ∧ m_X M M2 ∧ m_Kt t (k_n t i) M2) := by
  have loopB : ∀ M0 s q i M, m_T t M → m_X M0 M → M.1 10 = nI i → M.1 11 = nI s → s ≤ i → i ≤ t.length → t.length + 1 ≤ i + q → sx_V G 2 YX3_scan 83 [some (.ref h), none] [] (m_S G h M σ) (fun o τ => ∃ v, o = .inl v ∧ v = none ∧ ∃ M2, τ = m_S G h M2 σ ∧ m_X M0 M2 ∧ m_Kt t (1, s, k_w k_a t q i, 0) M2) := by
    intro M0 s q
    induction q with
    | zero => intro i M hT hX e10 e11 g0 g1 g2; exact absurd g2 (by omega)
    | succ q ih =>
    intro i M hT hX e10 e11 g0 g1 g2
    have ht := hT.1
    refine sv_aload_n dX3_scan_83 rfl ?_
    refine sv_aload_n dX3_scan_84 rfl ?_
    refine sm_get hn fg_X3_289 dX3_scan_85 rfl ?_
    refine sv_topI e10 ?_
    refine sv_cvR _ (ct_byteAt (k := i) hn hT (by omega)) okX3_byteAt kv_X3_292 (sx_rd_c (m_S_0 hn)) rfl dX3_scan_88 rfl rfl (by decide) (Nat.le_of_ble_eq_true rfl) ?_
    refine sv_i2l dX3_scan_91 ?_
    refine sv_ldc2 q2435 dX3_scan_92 ?_
    refine sv_ldc2 q2436 dX3_scan_95 ?_
    refine sv_csR _ ct_in okX3_in ks_X3_70 dX3_scan_98 rfl rfl (by decide) (Nat.le_of_ble_eq_true rfl) ?_
    refine sv_if_eqB (tgt := 117) dX3_scan_101 (by decide) (fun c101 => ?_) (fun c101 => ?_)
    · rw [k_w_n (p := k_a) c101]
      refine sv_aload_n dX3_scan_117 rfl ?_
      refine sv_iconst (nI 1) dX3_scan_118 (by decide +kernel) ?_
      refine sm_put hn fp_X3_295 dX3_scan_119 rfl (by decide) ?_
      refine sv_goto (tgt := 235) dX3_scan_122 (by decide) ?_
      refine sv_vret rfl dX3_scan_235 ?_
      exact ⟨_, rfl, rfl, _, rfl, m_X_i (by decide) hX, g1, g0, e10, e11, rfl, (fun z => by cases z), (fun z => by cases z)⟩
    · have hlt := k_b_lt (p := k_a) (by decide +kernel) c101
      rw [k_w_s (p := k_a) c101]
      refine sv_aload_n dX3_scan_104 rfl ?_
      refine sv_dup dX3_scan_105 rfl ?_
      refine sm_get hn fg_X3_289 dX3_scan_106 rfl ?_
      refine sv_topI (y := nI i) e10 ?_
      refine sv_iconst (nI 1) dX3_scan_109 (by decide +kernel) ?_
      refine sv_iaddN dX3_scan_110 ?_
      refine sm_put hn fp_X3_289 dX3_scan_111 rfl (by decide) ?_
      refine sv_goto (tgt := 83) dX3_scan_114 (by decide) ?_
      exact ih (i + 1) _ (m_T_X hT (m_X_i (by decide) m_X_r)) (m_X_i (by decide) hX) rfl e11 (by omega) (by omega) (by omega)
  have loopC : ∀ M0 s q i M, m_T t M → m_X M0 M → M.1 10 = nI i → M.1 11 = nI s → s ≤ i → i ≤ t.length → t.length + 1 ≤ i + q → M.1 13 = nI (min 99999 (k_u t s (i - s))) → sx_V G 2 YX3_scan 144 [some (.ref h), none] [] (m_S G h M σ) (fun o τ => ∃ v, o = .inl v ∧ v = none ∧ ∃ M2, τ = m_S G h M2 σ ∧ m_X M0 M2 ∧ m_Kt t (2, s, k_w k_d t q i, k_u t s (k_w k_d t q i - s)) M2) := by
    intro M0 s q
    induction q with
    | zero => intro i M hT hX e10 e11 g0 g1 g2; exact absurd g2 (by omega)
    | succ q ih =>
    intro i M hT hX e10 e11 g0 g1 g2 e13
    have ht := hT.1
    refine sv_aload_n dX3_scan_144 rfl ?_
    refine sv_aload_n dX3_scan_145 rfl ?_
    refine sm_get hn fg_X3_289 dX3_scan_146 rfl ?_
    refine sv_topI e10 ?_
    refine sv_cvR _ (ct_byteAt (k := i) hn hT (by omega)) okX3_byteAt kv_X3_292 (sx_rd_c (m_S_0 hn)) rfl dX3_scan_149 rfl rfl (by decide) (Nat.le_of_ble_eq_true rfl) ?_
    refine sv_i2l dX3_scan_152 ?_
    refine sv_ldc2 q2437 dX3_scan_153 ?_
    refine sv_ldc2 q2438 dX3_scan_156 ?_
    refine sv_csR _ ct_in okX3_in ks_X3_70 dX3_scan_159 rfl rfl (by decide) (Nat.le_of_ble_eq_true rfl) ?_
    refine sv_if_eqB (tgt := 207) dX3_scan_162 (by decide) (fun c162 => ?_) (fun c162 => ?_)
    · rw [k_w_n (p := k_d) c162]
      refine sv_aload_n dX3_scan_207 rfl ?_
      refine sv_iconst (nI 2) dX3_scan_208 (by decide +kernel) ?_
      refine sm_put hn fp_X3_295 dX3_scan_209 rfl (by decide) ?_
      refine sv_goto (tgt := 235) dX3_scan_212 (by decide) ?_
      refine sv_vret rfl dX3_scan_235 ?_
      exact ⟨_, rfl, rfl, _, rfl, m_X_i (by decide) hX, g1, g0, e10, e11, rfl, (fun _ => e13), (fun z => by cases z)⟩
    · have hlt := k_b_lt (p := k_d) (by decide +kernel) c162
      rw [k_w_s (p := k_d) c162]
      obtain ⟨dd, hdd, hdc, hd1, hd2⟩ := k_d_of c162
      have hku : k_u t s (i + 1 - s) = 10 * k_u t s (i - s) + (dd - 48) := by rw [show i + 1 - s = i - s + 1 by omega]; show 10 * _ + ((k_b t (s + (i - s))).toNatClampNeg - 48) = _; rw [show s + (i - s) = i by omega, hdc]
      have hmn : (if nI (10 * min 99999 (k_u t s (i - s)) + (dd - 48)) < nI 99999 then nI (10 * min 99999 (k_u t s (i - s)) + (dd - 48)) else nI 99999) = nI (min 99999 (k_u t s (i + 1 - s))) := by rw [hku]; rcases k_min (v := k_u t s (i - s)) (d := dd - 48) with z | z; exact z; omega
      refine sv_aload_n dX3_scan_165 rfl ?_
      refine sv_ldcw q2439 dX3_scan_166 ?_
      refine sv_topI (y := nI 99999) (by decide +kernel) ?_
      refine sv_bipush (nI 10) dX3_scan_169 (by decide +kernel) ?_
      refine sv_aload_n dX3_scan_171 rfl ?_
      refine sm_get hn fg_X3_306 dX3_scan_172 rfl ?_
      refine sv_topI e13 ?_
      refine sv_imulN dX3_scan_175 ?_
      refine sv_aload_n dX3_scan_176 rfl ?_
      refine sv_aload_n dX3_scan_177 rfl ?_
      refine sm_get hn fg_X3_289 dX3_scan_178 rfl ?_
      refine sv_topI (y := nI i) e10 ?_
      refine sv_cvR _ (ct_byteAt (k := i) hn hT (by omega)) okX3_byteAt kv_X3_292 (sx_rd_c (m_S_0 hn)) rfl dX3_scan_181 rfl rfl (by decide) (Nat.le_of_ble_eq_true rfl) ?_
      refine sv_topI (y := nI dd) hdd ?_
      refine sv_iaddN dX3_scan_184 ?_
      refine sv_bipush (nI 48) dX3_scan_185 (by decide +kernel) ?_
      refine sv_isubN dX3_scan_187 (by omega) ?_
      rw [show 10 * min 99999 (k_u t s (i - s)) + dd - 48 = 10 * min 99999 (k_u t s (i - s)) + (dd - 48) by omega]
      refine sv_mmin q2440 q338 q165 (by have := q339; exact this) dX3_scan_188 (by decide) (Nat.le_of_ble_eq_true rfl) ?_
      refine sv_topI (y := nI (min 99999 (k_u t s (i + 1 - s)))) hmn ?_
      refine sm_put hn fp_X3_306 dX3_scan_191 rfl (by decide) ?_
      refine sv_aload_n dX3_scan_194 rfl ?_
      refine sv_dup dX3_scan_195 rfl ?_
      refine sm_get hn fg_X3_289 dX3_scan_196 rfl ?_
      refine sv_topI (y := nI i) e10 ?_
      refine sv_iconst (nI 1) dX3_scan_199 (by decide +kernel) ?_
      refine sv_iaddN dX3_scan_200 ?_
      refine sm_put hn fp_X3_289 dX3_scan_201 rfl (by decide) ?_
      refine sv_goto (tgt := 144) dX3_scan_204 (by decide) ?_
      exact ih (i + 1) _ (m_T_X hT (m_X_i (by decide) (m_X_i (by decide) m_X_r))) (m_X_i (by decide) (m_X_i (by decide) hX)) rfl e11 (by omega) (by omega) (by omega) rfl
  have mid : ∀ M0 s M, m_T t M → m_X M0 M → M.1 10 = nI s → s ≤ t.length → sx_V G 2 YX3_scan 39 [some (.ref h), none] [] (m_S G h M σ) (fun o τ => ∃ v, o = .inl v ∧ v = none ∧ ∃ M2, τ = m_S G h M2 σ ∧ m_X M0 M2 ∧ m_Kt t (k_c t s) M2) := by
    intro M0 s M hT hX e10 g1
    have ht := hT.1
    refine sv_aload_n dX3_scan_39 rfl ?_
    refine sv_aload_n dX3_scan_40 rfl ?_
    refine sm_get hn fg_X3_289 dX3_scan_41 rfl ?_
    refine sv_topI e10 ?_
    refine sm_put hn fp_X3_283 dX3_scan_44 rfl (by decide) ?_
    have hT1 := m_T_X hT (m_X_i (k := 11) (x := nI s) (by decide) m_X_r)
    have hX1 := m_X_i (k := 11) (x := nI s) (by decide) hX
    refine sv_aload_n dX3_scan_47 rfl ?_
    refine sv_aload_n dX3_scan_48 rfl ?_
    refine sm_get hn fg_X3_289 dX3_scan_49 rfl ?_
    refine sv_topI (y := nI s) e10 ?_
    refine sv_cvR _ (ct_byteAt (k := s) hn hT1 (by omega)) okX3_byteAt kv_X3_292 (sx_rd_c (m_S_0 hn)) rfl dX3_scan_52 rfl rfl (by decide) (Nat.le_of_ble_eq_true rfl) ?_
    refine sv_istore_n dX3_scan_55 (by decide) ?_
    refine sv_iload_n dX3_scan_56 rfl ?_
    refine sv_iconst (-1) dX3_scan_57 (by decide +kernel) ?_
    refine sv_icmp_ne (tgt := 69) dX3_scan_58 (by decide) (fun c58 => ?_) (fun c58 => ?_)
    · have hlt : s < t.length := Decidable.not_not.mp (fun z => c58 (k_b_m1.mpr z))
      refine sv_iload_n dX3_scan_69 rfl ?_
      refine sv_i2l dX3_scan_70 ?_
      refine sv_ldc2 q2435 dX3_scan_71 ?_
      refine sv_ldc2 q2436 dX3_scan_74 ?_
      refine sv_csR _ ct_in okX3_in ks_X3_70 dX3_scan_77 rfl rfl (by decide) (Nat.le_of_ble_eq_true rfl) ?_
      refine sv_if_eqB (tgt := 125) dX3_scan_80 (by decide) (fun c80 => ?_) (fun c80 => ?_)
      · refine sv_iload_n dX3_scan_125 rfl ?_
        refine sv_i2l dX3_scan_126 ?_
        refine sv_ldc2 q2437 dX3_scan_127 ?_
        refine sv_ldc2 q2438 dX3_scan_130 ?_
        refine sv_csR _ ct_in okX3_in ks_X3_70 dX3_scan_133 rfl rfl (by decide) (Nat.le_of_ble_eq_true rfl) ?_
        refine sv_if_eqB (tgt := 215) dX3_scan_136 (by decide) (fun c136 => ?_) (fun c136 => ?_)
        · have hk : k_c t s = (3, s, s + 1, 0) := by unfold k_c; rw [if_pos hlt, if_neg (show ¬ k_a (k_b t s) = true by rw [show k_a (k_b t s) = false from c80]; decide), if_neg (show ¬ k_d (k_b t s) = true by rw [show k_d (k_b t s) = false from c136]; decide)]
          rw [hk]
          have hfin : m_Kt t (3, s, s + 1, 0) (m_i (m_i (m_i (m_i M 11 (nI s)) 12 (nI 3)) 13 (k_b t s)) 10 (nI (s + 1))) := ⟨hlt, Nat.le_succ _, rfl, rfl, rfl, (fun z => by cases z), (fun _ => rfl)⟩
          have hX9 := m_X_i (k := 10) (x := nI (s + 1)) (by decide) (m_X_i (k := 13) (x := k_b t s) (by decide) (m_X_i (k := 12) (x := nI 3) (by decide) hX1))
          refine sv_aload_n dX3_scan_215 rfl ?_
          refine sv_iconst (nI 3) dX3_scan_216 (by decide +kernel) ?_
          refine sm_put hn fp_X3_295 dX3_scan_217 rfl (by decide) ?_
          refine sv_aload_n dX3_scan_220 rfl ?_
          refine sv_iload_n dX3_scan_221 rfl ?_
          refine sm_put hn fp_X3_306 dX3_scan_222 rfl (by decide) ?_
          refine sv_aload_n dX3_scan_225 rfl ?_
          refine sv_dup dX3_scan_226 rfl ?_
          refine sm_get hn fg_X3_289 dX3_scan_227 rfl ?_
          refine sv_topI (y := nI s) e10 ?_
          refine sv_iconst (nI 1) dX3_scan_230 (by decide +kernel) ?_
          refine sv_iaddN dX3_scan_231 ?_
          refine sm_put hn fp_X3_289 dX3_scan_232 rfl (by decide) ?_
          refine sv_vret rfl dX3_scan_235 ?_
          exact ⟨_, rfl, rfl, _, rfl, hX9, hfin⟩
        · refine sv_aload_n dX3_scan_139 rfl ?_
          refine sv_iconst (nI 0) dX3_scan_140 (by decide +kernel) ?_
          refine sm_put hn fp_X3_306 dX3_scan_141 rfl (by decide) ?_
          have hk : k_c t s = (2, s, k_w k_d t 701 s, k_u t s (k_w k_d t 701 s - s)) := by unfold k_c; rw [if_pos hlt, if_neg (show ¬ k_a (k_b t s) = true by rw [show k_a (k_b t s) = false from c80]; decide), if_pos (show k_d (k_b t s) = true from c136)]
          rw [hk]
          exact sx_loc [some (.ref h), none] ⟨rfl, trivial⟩ (loopC M0 s 701 s _ (m_T_X hT1 (m_X_i (by decide) m_X_r)) (m_X_i (by decide) hX1) e10 rfl (Nat.le_refl _) (by omega) (by omega) (by rw [Nat.sub_self]; rfl))
      · have hk : k_c t s = (1, s, k_w k_a t 701 s, 0) := by unfold k_c; rw [if_pos hlt, if_pos (show k_a (k_b t s) = true from c80)]
        rw [hk]
        exact sx_loc [some (.ref h), none] ⟨rfl, trivial⟩ (loopB M0 s 701 s _ hT1 hX1 e10 rfl (Nat.le_refl _) (by omega) (by omega))
    · have hge : ¬ s < t.length := k_b_m1.mp c58
      have hk : k_c t s = (0, s, s, 0) := by unfold k_c; rw [if_neg hge]
      rw [hk]
      have hfin : m_Kt t (0, s, s, 0) (m_i (m_i M 11 (nI s)) 12 (nI 0)) := ⟨g1, Nat.le_refl _, e10, rfl, rfl, (fun z => by cases z), (fun z => by cases z)⟩
      have hX9 := m_X_i (k := 12) (x := nI 0) (by decide) hX1
      refine sv_aload_n dX3_scan_61 rfl ?_
      refine sv_iconst (nI 0) dX3_scan_62 (by decide +kernel) ?_
      refine sm_put hn fp_X3_295 dX3_scan_63 rfl (by decide) ?_
      refine sv_goto (tgt := 235) dX3_scan_66 (by decide) ?_
      refine sv_vret rfl dX3_scan_235 ?_
      exact ⟨_, rfl, rfl, _, rfl, hX9, hfin⟩
  have loopA : ∀ M0 q i M, m_T t M → m_X M0 M → M.1 10 = nI i → i ≤ t.length → t.length + 1 ≤ i + q → sx_V G 2 YX3_scan 0 [some (.ref h), none] [] (m_S G h M σ) (fun o τ => ∃ v, o = .inl v ∧ v = none ∧ ∃ M2, τ = m_S G h M2 σ ∧ m_X M0 M2 ∧ m_Kt t (k_c t (k_w k_s t q i)) M2) := by
    intro M0 q
    induction q with
    | zero => intro i M hT hX e10 g1 g2; exact absurd g2 (by omega)
    | succ q ih =>
    intro i M hT hX e10 g1 g2
    have ht := hT.1
    refine sv_aload_n dX3_scan_0 rfl ?_
    refine sv_aload_n dX3_scan_1 rfl ?_
    refine sm_get hn fg_X3_289 dX3_scan_2 rfl ?_
    refine sv_topI e10 ?_
    refine sv_cvR _ (ct_byteAt (k := i) hn hT (by omega)) okX3_byteAt kv_X3_292 (sx_rd_c (m_S_0 hn)) rfl dX3_scan_5 rfl rfl (by decide) (Nat.le_of_ble_eq_true rfl) ?_
    refine sv_bipush (nI 32) dX3_scan_8 (by decide +kernel) ?_
    refine sv_topI (y := 32) (by decide +kernel) ?_
    refine sv_icmp_eq (tgt := 26) dX3_scan_10 (by decide) (fun c10 => ?_) (fun c10 => ?_)
    · have hks : k_s (k_b t i) = true := by unfold k_s; rw [decide_eq_true c10]; rfl
      have hlt := k_b_lt (p := k_s) (by decide +kernel) hks
      rw [k_w_s hks]
      refine sv_aload_n dX3_scan_26 rfl ?_
      refine sv_dup dX3_scan_27 rfl ?_
      refine sm_get hn fg_X3_289 dX3_scan_28 rfl ?_
      refine sv_topI (y := nI i) e10 ?_
      refine sv_iconst (nI 1) dX3_scan_31 (by decide +kernel) ?_
      refine sv_iaddN dX3_scan_32 ?_
      refine sm_put hn fp_X3_289 dX3_scan_33 rfl (by decide) ?_
      refine sv_goto (tgt := 0) dX3_scan_36 (by decide) ?_
      exact ih (i + 1) _ (m_T_X hT (m_X_i (by decide) m_X_r)) (m_X_i (by decide) hX) rfl (by omega) (by omega)
    · refine sv_aload_n dX3_scan_13 rfl ?_
      refine sv_aload_n dX3_scan_14 rfl ?_
      refine sm_get hn fg_X3_289 dX3_scan_15 rfl ?_
      refine sv_topI (y := nI i) e10 ?_
      refine sv_cvR _ (ct_byteAt (k := i) hn hT (by omega)) okX3_byteAt kv_X3_292 (sx_rd_c (m_S_0 hn)) rfl dX3_scan_18 rfl rfl (by decide) (Nat.le_of_ble_eq_true rfl) ?_
      refine sv_bipush (nI 10) dX3_scan_21 (by decide +kernel) ?_
      refine sv_topI (y := 10) (by decide +kernel) ?_
      refine sv_icmp_ne (tgt := 39) dX3_scan_23 (by decide) (fun c23 => ?_) (fun c23 => ?_)
      · have hks : k_s (k_b t i) = false := by unfold k_s; rw [decide_eq_false c10, decide_eq_false c23]; rfl
        rw [k_w_n hks]
        exact mid M0 i M hT hX e10 g1
      · have hks : k_s (k_b t i) = true := by unfold k_s; rw [decide_eq_true c23, Bool.or_true]
        have hlt := k_b_lt (p := k_s) (by decide +kernel) hks
        rw [k_w_s hks]
        refine sv_aload_n dX3_scan_26 rfl ?_
        refine sv_dup dX3_scan_27 rfl ?_
        refine sm_get hn fg_X3_289 dX3_scan_28 rfl ?_
        refine sv_topI (y := nI i) e10 ?_
        refine sv_iconst (nI 1) dX3_scan_31 (by decide +kernel) ?_
        refine sv_iaddN dX3_scan_32 ?_
        refine sm_put hn fp_X3_289 dX3_scan_33 rfl (by decide) ?_
        refine sv_goto (tgt := 0) dX3_scan_36 (by decide) ?_
        exact ih (i + 1) _ (m_T_X hT (m_X_i (by decide) m_X_r)) (m_X_i (by decide) hX) rfl (by omega) (by omega)
  refine sx_body (by decide) (Nat.le_of_ble_eq_true rfl) ?_
  exact loopA M 701 i M hT m_X_r h10 hi (by have := hT.1; omega)
end MSB
