set_option maxRecDepth 100000
section MRU
variable {G : sx_G} {h : Nat} {M : m_M} {σ : sx_St} {V : a_V} {A : a_A} {r r' : Nat → Int64} {t : Nat}
def a_sz (V : a_V) (s k : Nat) : Int32 := match a_bx V s, a_mo V s k with
  | some b, some m => (a_m V b m).2.1
  | _, _ => 0
def p_ent (V : a_V) (s k w : Nat) : Int32 := match w with
  | 0 => (a_e V s k).1
  | 1 => (a_e V s k).2
  | 2 => b_I (a_go V s k)
  | 3 => a_sz V s k
  | _ => a_fl V s k
def a_isE (V : a_V) (s k : Int32) : Bool := i_in s V.2.2.length && i_en k (a_es V s.toNatClampNeg).length
theorem a_isE_of (hw : w_V V) {s k : Int32} (h : a_isE V s k = true) : ∃ j i b, j < V.2.2.length ∧ i < (a_es V j).length ∧ a_bx V j = some b ∧ s = nI j ∧ k = nI (i + 1) ∧ s.toNatClampNeg = j ∧ k.toNatClampNeg = i + 1 := by
  unfold a_isE at h
  rw [Bool.and_eq_true] at h
  have hw2 := hw.1.2.1
  obtain ⟨j, hj, rfl⟩ := i_in_of (by omega) h.1
  have ej : (nI j).toNatClampNeg = j := nI_clamp (by omega)
  rw [ej] at h
  have hl := hw.2.1 j hj
  obtain ⟨i, hi, rfl⟩ := i_en_of (by omega) h.2
  obtain ⟨b, hb⟩ := a_some hw hj hi
  exact ⟨j, i, b, hj, hi, hb, rfl, rfl, ej, nI_clamp (by omega)⟩
theorem go_some {s k : Nat} (h : a_go V s k = false) : ∃ m, a_mo V s k = some m := by
  unfold a_go at h
  cases hm : a_mo V s k with
  | none => rw [hm] at h; cases h
  | some m => exact ⟨m, rfl⟩
theorem go_z {s k : Nat} (h : a_go V s k = true) : a_sz V s k = 0 ∧ a_fl V s k = 0 := by
  unfold a_go at h
  have : a_mo V s k = none := by cases hm : a_mo V s k with | none => rfl | some m => rw [hm] at h; cases h
  unfold a_sz a_fl
  rw [this]
  cases a_bx V s <;> exact ⟨rfl, rfl⟩
def sp_ent (A : a_A) (s k x : Int32) : Int32 × a_A := g_2 (a_isE (A_v A) s k) (a_in x 0 4) A (p_ent (A_v A) s.toNatClampNeg (k.toNatClampNeg - 1) x.toNatClampNeg, A_st A 0)
def sp_thn (A : a_A) (s k : Int32) : Int32 × a_A := g_1 (a_isE (A_v A) s k) A (if a_go (A_v A) s.toNatClampNeg (k.toNatClampNeg - 1) then -1 else nI (a_th (A_v A) s.toNatClampNeg 0 k.toNatClampNeg), A_st A 0)
def f_us (es : List a_E) : Int32 := match es.findIdx? (fun e => decide (e.2 &&& 1 = 0)) with
  | some k => nI (k + 1)
  | none => -1
def sp_fus (A : a_A) (s : Int32) : Int32 × a_A := g_1 (i_in s (A_v A).2.2.length) A (f_us (a_es (A_v A) s.toNatClampNeg), A_st A 0)
def z_l (V : a_V) (s : Nat) : Nat → Int32 × Int32
  | 0 => (-1, 0)
  | k + 1 => if a_sz V s k ≤ (z_l V s k).2 then z_l V s k else (nI (k + 1), a_sz V s k)
def sp_lar (A : a_A) (s : Int32) : Int32 × a_A := g_1 (i_in s (A_v A).2.2.length) A ((z_l (A_v A) s.toNatClampNeg (a_es (A_v A) s.toNatClampNeg).length).1, A_st A 0)
def n_com (V : a_V) (s o n : Nat) : Nat := (List.range n).countP (fun k => !(decide (e_w (a_es V o) (a_e V s k).1 = -1)))
def p_com (V : a_V) (s o : Nat) : Int32 := if (a_bx V s).isSome = true ∧ o_I (a_bx V s) = o_I (a_bx V o) then nI (n_com V s o (a_es V s).length) else 0
def sp_com (A : a_A) (s o : Int32) : Int32 × a_A := g_1 (i_in s (A_v A).2.2.length && i_in o (A_v A).2.2.length) A (p_com (A_v A) s.toNatClampNeg o.toNatClampNeg, A_st A 0)
def g_hol (V : a_V) (b u : Int32) (x : Int32) (s : Nat) : Int32 := x ||| (if o_I (a_bx V s) = b ∧ ¬ e_w (a_es V s) u = -1 then a_bit s else 0)
def sp_hol (A : a_A) (b u : Int32) : Int32 × a_A := g_1 (i_in b (A_v A).2.1.length) A (z_f (g_hol (A_v A) b u) (A_v A).2.2.length, A_st A 0)
def g_sta (V : a_V) (x : Int32) (s : Nat) : Int32 := x ||| (if (a_bx V s).isSome = true ∧ a_upd V s = false then a_bit s else 0)
def sp_sta (A : a_A) : Int32 × a_A := (z_f (g_sta (A_v A)) (A_v A).2.2.length, A_st A 0)
theorem ff_s {es : List a_E} {p : a_E → Bool} {k : Nat} (hk : k < es.length) (h : ∀ j, j < k → p (es.getD j (0, 0)) = false) (he : p (es.getD k (0, 0)) = true) : es.findIdx? p = some k := by
  rw [List.findIdx?_eq_some_iff_getElem]
  refine ⟨hk, ?_, fun j hj => ?_⟩
  · rwa [List.getD_eq_getElem?_getD, List.getElem?_eq_getElem hk] at he
  · have := h j hj
    rw [List.getD_eq_getElem?_getD, List.getElem?_eq_getElem (show j < es.length by omega)] at this
    exact Bool.eq_false_iff.mp this
theorem ff_n {es : List a_E} {p : a_E → Bool} (h : ∀ j, j < es.length → p (es.getD j (0, 0)) = false) : es.findIdx? p = none := by
  rw [List.findIdx?_eq_none_iff]
  intro e he
  obtain ⟨j, hj, rfl⟩ := List.mem_iff_getElem.mp he
  have := h j hj
  rwa [List.getD_eq_getElem?_getD, List.getElem?_eq_getElem hj] at this
theorem ct_entry (hn : h + 11 < sx_n σ) (hJ : m_J M A) {s k x : Int32} : sx_Cp G 7 YX3_entry [.ref h, .int s, .int k, .int x] (m_S G h M σ) (fun v τ => v = some (.int ((sp_ent A s k x).1)) ∧ ∃ M2, τ = m_S G h M2 σ ∧ m_J M2 ((sp_ent A s k x).2)) := by
  refine sx_body (by decide) (Nat.le_of_ble_eq_true rfl) ?_
  refine sv_aload_n dX3_entry_0 rfl ?_
  refine sv_aload_n dX3_entry_1 rfl ?_
  refine sv_iload_n dX3_entry_2 rfl ?_
  refine sv_iload_n dX3_entry_3 rfl ?_
  refine sv_cvR _ (ct_isEntry hn (m_J_e hJ) hJ.2.2.1) okX3_isEntry kv_X3_203 (sx_rd_c (m_S_0 hn)) rfl dX3_entry_4 rfl rfl (by decide) (Nat.le_of_ble_eq_true rfl) ?_
  refine sv_iload_n dX3_entry_7 rfl ?_
  refine sv_i2l dX3_entry_8 ?_
  refine sv_lconst 0 dX3_entry_9 (by decide) ?_
  refine sv_ldc2 q2628 dX3_entry_10 ?_
  refine sv_csR _ ct_in okX3_in ks_X3_70 dX3_entry_13 rfl rfl (by decide) (Nat.le_of_ble_eq_true rfl) ?_
  refine sv_cvR _ (ct_passes2 (a := a_isE (A_v A) s k) (b := a_in x 0 4) hn) okX3_passes2 kv_X3_192 (sx_rd_c (m_S_0 hn)) rfl dX3_entry_16 rfl rfl (by decide) (Nat.le_of_ble_eq_true rfl) ?_
  refine sv_if_neB (tgt := 24) dX3_entry_19 (by decide) (fun c19 => ?_) (fun c19 => ?_)
  · have hsp : sp_ent A s k x = (p_ent (A_v A) s.toNatClampNeg (k.toNatClampNeg - 1) x.toNatClampNeg, A_st A 0) := by unfold sp_ent; rw [g_2t c19]
    rw [hsp]
    rw [t_hr_2 c19]
    have hJ0 := m_J_t hJ 0
    have hc2 := c19
    rw [Bool.and_eq_true] at hc2
    obtain ⟨j, i, b, hj, hi, hbx, rfl, rfl, ej, ei⟩ := a_isE_of hJ.2.2.1 hc2.1
    have hs4 := hJ.2.2.1.1.2.1
    have hel := hJ.2.2.1.2.1 j hj
    rw [ej, ei, Nat.add_sub_cancel]
    have hb := hJ.2.2.1.2.2.1 j b hj hbx
    obtain ⟨w, rfl, ew, hw8⟩ := a_in_of hc2.2
    have hw9 : w = 0 ∨ w = 1 ∨ w = 2 ∨ w = 3 ∨ w = 4 := by have hz : (w : Int) ≤ 4 := hw8; omega
    rw [ew]
    refine sv_aload_n dX3_entry_24 rfl ?_
    refine sv_iload_n dX3_entry_25 rfl ?_
    refine sv_iload_n dX3_entry_26 rfl ?_
    refine sv_cvR _ (ct_isGone hn (m_J_e hJ0) hJ0.2.2.1 hj hbx hi) okX3_isGone kv_X3_116 (sx_rd_c (m_S_0 hn)) rfl dX3_entry_27 rfl rfl (by decide) (Nat.le_of_ble_eq_true rfl) ?_
    refine sv_istore dX3_entry_30 (by decide) ?_
    refine sv_iload_n dX3_entry_32 rfl ?_
    rcases hw9 with rfl | rfl | rfl | rfl | rfl
    · refine sv_tableIn (off := 31) (tgt := 64) dX3_entry_33 (by decide +kernel) (by decide +kernel) (by decide +kernel) (by decide) ?_
      refine sv_aload_n dX3_entry_64 rfl ?_
      refine sv_iload_n dX3_entry_65 rfl ?_
      refine sv_iload_n dX3_entry_66 rfl ?_
      refine sv_iconst (nI 0) dX3_entry_67 (by decide +kernel) ?_
      refine sv_cvR _ (ct_euid hn (m_J_e hJ0) hJ0.2.2.1 hj hi) okX3_ofEntry kv_X3_107 (sx_rd_c (m_S_0 hn)) rfl dX3_entry_68 rfl rfl (by decide) (Nat.le_of_ble_eq_true rfl) ?_
      refine sv_iret rfl rfl dX3_entry_71 ?_
      exact ⟨_, rfl, rfl, _, rfl, hJ0⟩
    · refine sv_tableIn (off := 39) (tgt := 72) dX3_entry_33 (by decide +kernel) (by decide +kernel) (by decide +kernel) (by decide) ?_
      refine sv_aload_n dX3_entry_72 rfl ?_
      refine sv_iload_n dX3_entry_73 rfl ?_
      refine sv_iload_n dX3_entry_74 rfl ?_
      refine sv_iconst (nI 1) dX3_entry_75 (by decide +kernel) ?_
      refine sv_cvR _ (ct_efl hn (m_J_e hJ0) hJ0.2.2.1 hj hi) okX3_ofEntry kv_X3_107 (sx_rd_c (m_S_0 hn)) rfl dX3_entry_76 rfl rfl (by decide) (Nat.le_of_ble_eq_true rfl) ?_
      refine sv_iret rfl rfl dX3_entry_79 ?_
      exact ⟨_, rfl, rfl, _, rfl, hJ0⟩
    · refine sv_tableIn (off := 47) (tgt := 80) dX3_entry_33 (by decide +kernel) (by decide +kernel) (by decide +kernel) (by decide) ?_
      refine sv_iload dX3_entry_80 rfl ?_
      refine sv_if_eqB (tgt := 89) dX3_entry_82 (by decide) (fun c82 => ?_) (fun c82 => ?_)
      · have hval : some (Value.int (nI 0)) = some (Value.int (p_ent (A_v A) j i 2)) := r_I (by show nI 0 = b_I (a_go (A_v (A_st A 0)) j i); rw [c82]; rfl)
        refine sv_iconst (nI 0) dX3_entry_89 (by decide +kernel) ?_
        refine sv_iret rfl rfl dX3_entry_90 ?_
        exact ⟨_, rfl, hval, _, rfl, hJ0⟩
      · have hval : some (Value.int (nI 1)) = some (Value.int (p_ent (A_v A) j i 2)) := r_I (by show nI 1 = b_I (a_go (A_v (A_st A 0)) j i); rw [c82]; rfl)
        refine sv_iconst (nI 1) dX3_entry_85 (by decide +kernel) ?_
        refine sv_goto (tgt := 90) dX3_entry_86 (by decide) ?_
        refine sv_iret rfl rfl dX3_entry_90 ?_
        exact ⟨_, rfl, hval, _, rfl, hJ0⟩
    · refine sv_tableIn (off := 58) (tgt := 91) dX3_entry_33 (by decide +kernel) (by decide +kernel) (by decide +kernel) (by decide) ?_
      refine sv_iload dX3_entry_91 rfl ?_
      refine sv_if_eqB (tgt := 100) dX3_entry_93 (by decide) (fun c93 => ?_) (fun c93 => ?_)
      · have cG : a_go (A_v A) j i = false := c93
        obtain ⟨m, hmo⟩ := go_some cG
        have hm : m < (a_ms (A_v A) b).length := by have h9 := hmo; unfold a_mo at h9; rw [hbx] at h9; exact a_find_lt h9
        have hval : some (Value.int (a_m (A_v A) b m).2.1) = some (Value.int (p_ent (A_v A) j i 3)) := r_I (by show _ = a_sz (A_v A) j i; unfold a_sz; rw [hbx, hmo])
        refine sv_aload_n dX3_entry_100 rfl ?_
        refine sv_aload_n dX3_entry_101 rfl ?_
        refine sv_iload_n dX3_entry_102 rfl ?_
        refine sv_cvR _ (ct_boxOf hn (m_J_e hJ0) hJ0.2.2.1 hj) okX3_boxOf kv_X3_87 (sx_rd_c (m_S_0 hn)) rfl dX3_entry_103 rfl rfl (by decide) (Nat.le_of_ble_eq_true rfl) ?_
        rw [show a_bx (A_v (A_st A 0)) j = some b from hbx]
        show sx_V G 7 _ _ _ (.int (nI b) :: _) _ _
        refine sv_aload_n dX3_entry_106 rfl ?_
        refine sv_iload_n dX3_entry_107 rfl ?_
        refine sv_iload_n dX3_entry_108 rfl ?_
        refine sv_cvR _ (ct_messageOf hn (m_J_e hJ0) hJ0.2.2.1 hj hbx hi) okX3_messageOf kv_X3_113 (sx_rd_c (m_S_0 hn)) rfl dX3_entry_109 rfl rfl (by decide) (Nat.le_of_ble_eq_true rfl) ?_
        rw [show a_mo (A_v (A_st A 0)) j i = some m from hmo]
        show sx_V G 7 _ _ _ (.int (nI m) :: _) _ _
        refine sv_iconst (nI 1) dX3_entry_112 (by decide +kernel) ?_
        refine sv_cvR _ (ct_size hn (m_J_e hJ0).1 hJ0.2.2.1.1 hb hm) okX3_ofMessage kv_X3_103 (sx_rd_c (m_S_0 hn)) rfl dX3_entry_113 rfl rfl (by decide) (Nat.le_of_ble_eq_true rfl) ?_
        refine sv_iret rfl rfl dX3_entry_116 ?_
        exact ⟨_, rfl, hval, _, rfl, hJ0⟩
      · have hval : some (Value.int (nI 0)) = some (Value.int (p_ent (A_v A) j i 3)) := r_I (by show nI 0 = a_sz (A_v A) j i; rw [(go_z (V := A_v A) c93).1]; rfl)
        refine sv_iconst (nI 0) dX3_entry_96 (by decide +kernel) ?_
        refine sv_goto (tgt := 116) dX3_entry_97 (by decide) ?_
        refine sv_iret rfl rfl dX3_entry_116 ?_
        exact ⟨_, rfl, hval, _, rfl, hJ0⟩
    · refine sv_tableOut (tgt := 117) dX3_entry_33 (by decide +kernel) (by decide) ?_
      refine sv_iload dX3_entry_117 rfl ?_
      refine sv_if_eqB (tgt := 126) dX3_entry_119 (by decide) (fun c119 => ?_) (fun c119 => ?_)
      · have cG : a_go (A_v A) j i = false := c119
        have hval : some (Value.int (a_fl (A_v A) j i)) = some (Value.int (p_ent (A_v A) j i 4)) := rfl
        refine sv_aload_n dX3_entry_126 rfl ?_
        refine sv_iload_n dX3_entry_127 rfl ?_
        refine sv_iload_n dX3_entry_128 rfl ?_
        refine sv_cvR _ (ct_flagsOf hn (m_J_e hJ0) hJ0.2.2.1 hj hbx hi cG) okX3_flagsOf kv_X3_120 (sx_rd_c (m_S_0 hn)) rfl dX3_entry_129 rfl rfl (by decide) (Nat.le_of_ble_eq_true rfl) ?_
        refine sv_iret rfl rfl dX3_entry_132 ?_
        exact ⟨_, rfl, hval, _, rfl, hJ0⟩
      · have hval : some (Value.int (nI 0)) = some (Value.int (p_ent (A_v A) j i 4)) := r_I (by show nI 0 = a_fl (A_v A) j i; rw [(go_z (V := A_v A) c119).2]; rfl)
        refine sv_iconst (nI 0) dX3_entry_122 (by decide +kernel) ?_
        refine sv_goto (tgt := 132) dX3_entry_123 (by decide) ?_
        refine sv_iret rfl rfl dX3_entry_132 ?_
        exact ⟨_, rfl, hval, _, rfl, hJ0⟩
  · unfold sp_ent
    rw [g_2f c19]
    refine sv_iconst (nI 0) dX3_entry_22 (by decide +kernel) ?_
    refine sv_iret rfl rfl dX3_entry_23 ?_
    exact ⟨_, rfl, r_I nI_0, _, rfl, m_J_t hJ _⟩
theorem ct_numberThen (hn : h + 11 < sx_n σ) (hJ : m_J M A) {s k : Int32} : sx_Cp G 7 YX3_numberThen [.ref h, .int s, .int k] (m_S G h M σ) (fun v τ => v = some (.int ((sp_thn A s k).1)) ∧ ∃ M2, τ = m_S G h M2 σ ∧ m_J M2 ((sp_thn A s k).2)) := by
  refine sx_body (by decide) (Nat.le_of_ble_eq_true rfl) ?_
  refine sv_aload_n dX3_numberThen_0 rfl ?_
  refine sv_aload_n dX3_numberThen_1 rfl ?_
  refine sv_iload_n dX3_numberThen_2 rfl ?_
  refine sv_iload_n dX3_numberThen_3 rfl ?_
  refine sv_cvR _ (ct_isEntry hn (m_J_e hJ) hJ.2.2.1) okX3_isEntry kv_X3_203 (sx_rd_c (m_S_0 hn)) rfl dX3_numberThen_4 rfl rfl (by decide) (Nat.le_of_ble_eq_true rfl) ?_
  refine sv_cvR _ (ct_passes (a := a_isE (A_v A) s k) hn) okX3_passes kv_X3_266 (sx_rd_c (m_S_0 hn)) rfl dX3_numberThen_7 rfl rfl (by decide) (Nat.le_of_ble_eq_true rfl) ?_
  refine sv_if_neB (tgt := 15) dX3_numberThen_10 (by decide) (fun c10 => ?_) (fun c10 => ?_)
  · have hsp : sp_thn A s k = (if a_go (A_v A) s.toNatClampNeg (k.toNatClampNeg - 1) then -1 else nI (a_th (A_v A) s.toNatClampNeg 0 k.toNatClampNeg), A_st A 0) := by unfold sp_thn; rw [g_1t c10]
    rw [hsp]
    rw [t_hr_1 c10]
    have hJ0 := m_J_t hJ 0
    obtain ⟨j, i, b, hj, hi, hbx, rfl, rfl, ej, ei⟩ := a_isE_of hJ.2.2.1 c10
    have hs4 := hJ.2.2.1.1.2.1
    have hel := hJ.2.2.1.2.1 j hj
    rw [ej, ei, Nat.add_sub_cancel]
    have hb := hJ.2.2.1.2.2.1 j b hj hbx
    refine sv_aload_n dX3_numberThen_15 rfl ?_
    refine sv_iload_n dX3_numberThen_16 rfl ?_
    refine sv_iload_n dX3_numberThen_17 rfl ?_
    refine sv_cvR _ (ct_isGone hn (m_J_e hJ0) hJ0.2.2.1 hj hbx hi) okX3_isGone kv_X3_116 (sx_rd_c (m_S_0 hn)) rfl dX3_numberThen_18 rfl rfl (by decide) (Nat.le_of_ble_eq_true rfl) ?_
    refine sv_if_eqB (tgt := 26) dX3_numberThen_21 (by decide) (fun c21 => ?_) (fun c21 => ?_)
    · rw [show a_go (A_v A) j i = false from c21, if_neg (by decide)]
      refine sv_aload_n dX3_numberThen_26 rfl ?_
      refine sv_iload_n dX3_numberThen_27 rfl ?_
      refine sv_iconst (nI 1) dX3_numberThen_28 (by decide +kernel) ?_
      refine sv_iload_n dX3_numberThen_29 rfl ?_
      refine sv_cvR _ (ct_thereMany (f := 0) (t := i + 1) hn (m_J_e hJ0) hJ0.2.2.1 hj (by omega) (show i + 1 ≤ (a_es (A_v A) j).length by omega)) okX3_thereMany kv_X3_250 (sx_rd_c (m_S_0 hn)) rfl dX3_numberThen_30 rfl rfl (by decide) (Nat.le_of_ble_eq_true rfl) ?_
      refine sv_iret rfl rfl dX3_numberThen_33 ?_
      exact ⟨_, rfl, rfl, _, rfl, hJ0⟩
    · rw [show a_go (A_v A) j i = true from c21, if_pos rfl]
      refine sv_iconst (-1) dX3_numberThen_24 (by decide +kernel) ?_
      refine sv_iret rfl rfl dX3_numberThen_25 ?_
      exact ⟨_, rfl, rfl, _, rfl, hJ0⟩
  · unfold sp_thn
    rw [g_1f c10]
    refine sv_iconst (nI 0) dX3_numberThen_13 (by decide +kernel) ?_
    refine sv_iret rfl rfl dX3_numberThen_14 ?_
    exact ⟨_, rfl, r_I nI_0, _, rfl, m_J_t hJ _⟩
theorem ct_firstUnseen (hn : h + 11 < sx_n σ) (hJ : m_J M A) {s : Int32} : sx_Cp G 4 YX3_firstUnseen [.ref h, .int s] (m_S G h M σ) (fun v τ => v = some (.int ((sp_fus A s).1)) ∧ ∃ M2, τ = m_S G h M2 σ ∧ m_J M2 ((sp_fus A s).2)) := by
  have loop : ∀ (j : Nat) M A, m_J M A → j < (A_v A).2.2.length → ∀ q k, k ≤ (a_es (A_v A) j).length → (a_es (A_v A) j).length + 1 ≤ k + q → (∀ i, i < k → decide (((a_es (A_v A) j).getD i (0, 0)).2 &&& 1 = 0) = false) → sx_V G 4 YX3_firstUnseen 16 [some (.ref h), some (.int (nI j)), some (.int (nI (k + 1)))] [] (m_S G h M σ) (fun o τ => ∃ v, o = .inl v ∧ v = some (.int (f_us (a_es (A_v A) j))) ∧ ∃ M2, τ = m_S G h M2 σ ∧ m_J M2 A) := by
    intro j M A hJ hj
    have hel := hJ.2.2.1.2.1 j hj
    have hs4 := hJ.2.2.1.1.2.1
    intro q
    induction q with
    | zero => intro k h1 h2 h3; exact absurd h2 (by omega)
    | succ q ih =>
    intro k h1 h2 h3
    refine sv_iload_n dX3_firstUnseen_16 rfl ?_
    refine sv_aload_n dX3_firstUnseen_17 rfl ?_
    refine sv_iload_n dX3_firstUnseen_18 rfl ?_
    refine sv_cvR _ (ct_entries hn (m_J_e hJ) hJ.2.2.1 hj) okX3_entries kv_X3_97 (sx_rd_c (m_S_0 hn)) rfl dX3_firstUnseen_19 rfl rfl (by decide) (Nat.le_of_ble_eq_true rfl) ?_
    refine sv_icmp_gtN (tgt := 45) dX3_firstUnseen_22 (by decide) (by omega) (by omega) (fun c22 => ?_) (fun c22 => ?_)
    · have hfin : -1 = f_us (a_es (A_v A) j) := by unfold f_us; rw [ff_n (fun i hi => h3 i (by omega))]
      refine sv_iconst (-1) dX3_firstUnseen_45 (by decide +kernel) ?_
      refine sv_iret rfl rfl dX3_firstUnseen_46 ?_
      exact ⟨_, rfl, r_I hfin, _, rfl, hJ⟩
    · have hk : k < (a_es (A_v A) j).length := by omega
      refine sv_aload_n dX3_firstUnseen_25 rfl ?_
      refine sv_iload_n dX3_firstUnseen_26 rfl ?_
      refine sv_iload_n dX3_firstUnseen_27 rfl ?_
      refine sv_iconst (nI 1) dX3_firstUnseen_28 (by decide +kernel) ?_
      refine sv_cvR _ (ct_efl hn (m_J_e hJ) hJ.2.2.1 hj hk) okX3_ofEntry kv_X3_107 (sx_rd_c (m_S_0 hn)) rfl dX3_firstUnseen_29 rfl rfl (by decide) (Nat.le_of_ble_eq_true rfl) ?_
      refine sv_iconst (nI 1) dX3_firstUnseen_32 (by decide +kernel) ?_
      refine sv_topI (y := 1) (by decide +kernel) ?_
      refine sv_iand dX3_firstUnseen_33 ?_
      refine sv_if_ne (tgt := 39) dX3_firstUnseen_34 (by decide) (fun c34 => ?_) (fun c34 => ?_)
      · refine sv_iincN dX3_firstUnseen_39 rfl (by decide) ?_
        refine sv_goto (tgt := 16) dX3_firstUnseen_42 (by decide) ?_
        refine ih (k + 1) (by omega) (by omega) (fun i hi => ?_)
        by_cases hik : i = k
        · rw [hik]; exact decide_eq_false c34
        · exact h3 i (by omega)
      · have hfin : nI (k + 1) = f_us (a_es (A_v A) j) := by unfold f_us; rw [ff_s hk h3 (decide_eq_true c34)]
        refine sv_iload_n dX3_firstUnseen_37 rfl ?_
        refine sv_iret rfl rfl dX3_firstUnseen_38 ?_
        exact ⟨_, rfl, r_I hfin, _, rfl, hJ⟩
  refine sx_body (by decide) (Nat.le_of_ble_eq_true rfl) ?_
  refine sv_aload_n dX3_firstUnseen_0 rfl ?_
  refine sv_aload_n dX3_firstUnseen_1 rfl ?_
  refine sv_iload_n dX3_firstUnseen_2 rfl ?_
  refine sv_cvR _ (ct_isSession hn (m_J_e hJ).1 hJ.2.2.1.1) okX3_isSession kv_X3_93 (sx_rd_c (m_S_0 hn)) rfl dX3_firstUnseen_3 rfl rfl (by decide) (Nat.le_of_ble_eq_true rfl) ?_
  refine sv_cvR _ (ct_passes hn) okX3_passes kv_X3_266 (sx_rd_c (m_S_0 hn)) rfl dX3_firstUnseen_6 rfl rfl (by decide) (Nat.le_of_ble_eq_true rfl) ?_
  refine sv_if_neB (tgt := 14) dX3_firstUnseen_9 (by decide) (fun c9 => ?_) (fun c9 => ?_)
  · have hsp : sp_fus A s = (f_us (a_es (A_v A) s.toNatClampNeg), A_st A 0) := by unfold sp_fus; rw [g_1t c9]
    rw [hsp]
    rw [t_hr_1 c9]
    have hJ0 := m_J_t hJ 0
    have hs4 := hJ.2.2.1.1.2.1
    obtain ⟨j, hj, rfl⟩ := i_in_of (by omega) c9
    have ej : (nI j).toNatClampNeg = j := nI_clamp (by omega)
    rw [ej]
    have hel := hJ.2.2.1.2.1 j hj
    refine sv_iconst (nI 1) dX3_firstUnseen_14 (by decide +kernel) ?_
    refine sv_istore_n dX3_firstUnseen_15 (by decide) ?_
    exact loop j _ _ hJ0 hj ((a_es (A_v A) j).length + 1) 0 (by omega) (by show (a_es (A_v A) j).length + 1 ≤ _; omega) (fun i hi => absurd hi (Nat.not_lt_zero i))
  · unfold sp_fus
    rw [g_1f c9]
    refine sv_iconst (nI 0) dX3_firstUnseen_12 (by decide +kernel) ?_
    refine sv_iret rfl rfl dX3_firstUnseen_13 ?_
    exact ⟨_, rfl, r_I nI_0, _, rfl, m_J_t hJ _⟩
theorem ct_largest (hn : h + 11 < sx_n σ) (hJ : m_J M A) {s : Int32} : sx_Cp G 6 YX3_largest [.ref h, .int s] (m_S G h M σ) (fun v τ => v = some (.int ((sp_lar A s).1)) ∧ ∃ M2, τ = m_S G h M2 σ ∧ m_J M2 ((sp_lar A s).2)) := by
  have loop : ∀ (j : Nat) M A, m_J M A → j < (A_v A).2.2.length → ∀ q k, k ≤ (a_es (A_v A) j).length → (a_es (A_v A) j).length + 1 ≤ k + q → sx_V G 6 YX3_largest 21 [some (.ref h), some (.int (nI j)), some (.int (z_l (A_v A) j k).1), some (.int (z_l (A_v A) j k).2), some (.int (nI (k + 1))), none] [] (m_S G h M σ) (fun o τ => ∃ v, o = .inl v ∧ v = some (.int ((z_l (A_v A) j (a_es (A_v A) j).length).1)) ∧ ∃ M2, τ = m_S G h M2 σ ∧ m_J M2 A) := by
    intro j M A hJ hj
    have hel := hJ.2.2.1.2.1 j hj
    have hs4 := hJ.2.2.1.1.2.1
    intro q
    induction q with
    | zero => intro k h1 h2; exact absurd h2 (by omega)
    | succ q ih =>
    intro k h1 h2
    have hih := fun z : k < (a_es (A_v A) j).length => ih (k + 1) (by omega) (by omega)
    refine sv_iload dX3_largest_21 rfl ?_
    refine sv_aload_n dX3_largest_23 rfl ?_
    refine sv_iload_n dX3_largest_24 rfl ?_
    refine sv_cvR _ (ct_entries hn (m_J_e hJ) hJ.2.2.1 hj) okX3_entries kv_X3_97 (sx_rd_c (m_S_0 hn)) rfl dX3_largest_25 rfl rfl (by decide) (Nat.le_of_ble_eq_true rfl) ?_
    refine sv_icmp_gtN (tgt := 85) dX3_largest_28 (by decide) (by omega) (by omega) (fun c28 => ?_) (fun c28 => ?_)
    · have hfin : k = (a_es (A_v A) j).length := by omega
      refine sv_iload_n dX3_largest_85 rfl ?_
      refine sv_iret rfl rfl dX3_largest_86 ?_
      exact ⟨_, rfl, r_I (by rw [hfin]), _, rfl, hJ⟩
    · have hk : k < (a_es (A_v A) j).length := by omega
      obtain ⟨b, hbx⟩ := a_some hJ.2.2.1 hj hk
      have hb := hJ.2.2.1.2.2.1 j b hj hbx
      have hih2 := hih hk
      refine sv_aload_n dX3_largest_31 rfl ?_
      refine sv_iload_n dX3_largest_32 rfl ?_
      refine sv_iload dX3_largest_33 rfl ?_
      refine sv_cvR _ (ct_isGone hn (m_J_e hJ) hJ.2.2.1 hj hbx hk) okX3_isGone kv_X3_116 (sx_rd_c (m_S_0 hn)) rfl dX3_largest_35 rfl rfl (by decide) (Nat.le_of_ble_eq_true rfl) ?_
      refine sv_if_eqB (tgt := 45) dX3_largest_38 (by decide) (fun c38 => ?_) (fun c38 => ?_)
      · obtain ⟨m, hmo⟩ := go_some c38
        have hm : m < (a_ms (A_v A) b).length := by have h9 := hmo; unfold a_mo at h9; rw [hbx] at h9; exact a_find_lt h9
        have hits : (a_m (A_v A) b m).2.1 = a_sz (A_v A) j k := by unfold a_sz; rw [hbx, hmo]
        refine sv_aload_n dX3_largest_45 rfl ?_
        refine sv_aload_n dX3_largest_46 rfl ?_
        refine sv_iload_n dX3_largest_47 rfl ?_
        refine sv_cvR _ (ct_boxOf hn (m_J_e hJ) hJ.2.2.1 hj) okX3_boxOf kv_X3_87 (sx_rd_c (m_S_0 hn)) rfl dX3_largest_48 rfl rfl (by decide) (Nat.le_of_ble_eq_true rfl) ?_
        rw [hbx]
        show sx_V G 6 _ _ _ (.int (nI b) :: _) _ _
        refine sv_aload_n dX3_largest_51 rfl ?_
        refine sv_iload_n dX3_largest_52 rfl ?_
        refine sv_iload dX3_largest_53 rfl ?_
        refine sv_cvR _ (ct_messageOf hn (m_J_e hJ) hJ.2.2.1 hj hbx hk) okX3_messageOf kv_X3_113 (sx_rd_c (m_S_0 hn)) rfl dX3_largest_55 rfl rfl (by decide) (Nat.le_of_ble_eq_true rfl) ?_
        rw [hmo]
        show sx_V G 6 _ _ _ (.int (nI m) :: _) _ _
        refine sv_iconst (nI 1) dX3_largest_58 (by decide +kernel) ?_
        refine sv_cvR _ (ct_size hn (m_J_e hJ).1 hJ.2.2.1.1 hb hm) okX3_ofMessage kv_X3_103 (sx_rd_c (m_S_0 hn)) rfl dX3_largest_59 rfl rfl (by decide) (Nat.le_of_ble_eq_true rfl) ?_
        refine sv_topI hits ?_
        refine sv_istore dX3_largest_62 (by decide) ?_
        refine sv_iload dX3_largest_64 rfl ?_
        refine sv_iload_n dX3_largest_66 rfl ?_
        refine sv_icmp_gt (tgt := 73) dX3_largest_67 (by decide) (fun c67 => ?_) (fun c67 => ?_)
        · have hz : z_l (A_v A) j (k + 1) = (nI (k + 1), a_sz (A_v A) j k) := by show (if _ then _ else _) = _; rw [if_neg (Int32.not_le.mpr c67)]
          rw [hz] at hih2
          refine sv_iload dX3_largest_73 rfl ?_
          refine sv_istore_n dX3_largest_75 (by decide) ?_
          refine sv_iload dX3_largest_76 rfl ?_
          refine sv_istore_n dX3_largest_78 (by decide) ?_
          refine sv_iincN dX3_largest_79 rfl (by decide) ?_
          refine sv_goto (tgt := 21) dX3_largest_82 (by decide) ?_
          exact sx_loc [some (.ref h), some (.int (nI j)), some (.int _), some (.int _), some (.int (nI (k + 1 + 1))), none] ⟨rfl, rfl, rfl, rfl, rfl, trivial⟩ hih2
        · have hz : z_l (A_v A) j (k + 1) = z_l (A_v A) j k := by show (if _ then _ else _) = _; rw [if_pos (Int32.not_lt.mp c67)]
          rw [hz] at hih2
          refine sv_goto (tgt := 79) dX3_largest_70 (by decide) ?_
          refine sv_iincN dX3_largest_79 rfl (by decide) ?_
          refine sv_goto (tgt := 21) dX3_largest_82 (by decide) ?_
          exact sx_loc [some (.ref h), some (.int (nI j)), some (.int _), some (.int _), some (.int (nI (k + 1 + 1))), none] ⟨rfl, rfl, rfl, rfl, rfl, trivial⟩ hih2
      · have hits : nI 0 = a_sz (A_v A) j k := by rw [(go_z c38).1]; rfl
        refine sv_iconst (nI 0) dX3_largest_41 (by decide +kernel) ?_
        refine sv_goto (tgt := 62) dX3_largest_42 (by decide) ?_
        refine sv_topI hits ?_
        refine sv_istore dX3_largest_62 (by decide) ?_
        refine sv_iload dX3_largest_64 rfl ?_
        refine sv_iload_n dX3_largest_66 rfl ?_
        refine sv_icmp_gt (tgt := 73) dX3_largest_67 (by decide) (fun c67 => ?_) (fun c67 => ?_)
        · have hz : z_l (A_v A) j (k + 1) = (nI (k + 1), a_sz (A_v A) j k) := by show (if _ then _ else _) = _; rw [if_neg (Int32.not_le.mpr c67)]
          rw [hz] at hih2
          refine sv_iload dX3_largest_73 rfl ?_
          refine sv_istore_n dX3_largest_75 (by decide) ?_
          refine sv_iload dX3_largest_76 rfl ?_
          refine sv_istore_n dX3_largest_78 (by decide) ?_
          refine sv_iincN dX3_largest_79 rfl (by decide) ?_
          refine sv_goto (tgt := 21) dX3_largest_82 (by decide) ?_
          exact sx_loc [some (.ref h), some (.int (nI j)), some (.int _), some (.int _), some (.int (nI (k + 1 + 1))), none] ⟨rfl, rfl, rfl, rfl, rfl, trivial⟩ hih2
        · have hz : z_l (A_v A) j (k + 1) = z_l (A_v A) j k := by show (if _ then _ else _) = _; rw [if_pos (Int32.not_lt.mp c67)]
          rw [hz] at hih2
          refine sv_goto (tgt := 79) dX3_largest_70 (by decide) ?_
          refine sv_iincN dX3_largest_79 rfl (by decide) ?_
          refine sv_goto (tgt := 21) dX3_largest_82 (by decide) ?_
          exact sx_loc [some (.ref h), some (.int (nI j)), some (.int _), some (.int _), some (.int (nI (k + 1 + 1))), none] ⟨rfl, rfl, rfl, rfl, rfl, trivial⟩ hih2
  refine sx_body (by decide) (Nat.le_of_ble_eq_true rfl) ?_
  refine sv_aload_n dX3_largest_0 rfl ?_
  refine sv_aload_n dX3_largest_1 rfl ?_
  refine sv_iload_n dX3_largest_2 rfl ?_
  refine sv_cvR _ (ct_isSession hn (m_J_e hJ).1 hJ.2.2.1.1) okX3_isSession kv_X3_93 (sx_rd_c (m_S_0 hn)) rfl dX3_largest_3 rfl rfl (by decide) (Nat.le_of_ble_eq_true rfl) ?_
  refine sv_cvR _ (ct_passes hn) okX3_passes kv_X3_266 (sx_rd_c (m_S_0 hn)) rfl dX3_largest_6 rfl rfl (by decide) (Nat.le_of_ble_eq_true rfl) ?_
  refine sv_if_neB (tgt := 14) dX3_largest_9 (by decide) (fun c9 => ?_) (fun c9 => ?_)
  · have hsp : sp_lar A s = ((z_l (A_v A) s.toNatClampNeg (a_es (A_v A) s.toNatClampNeg).length).1, A_st A 0) := by unfold sp_lar; rw [g_1t c9]
    rw [hsp]
    rw [t_hr_1 c9]
    have hJ0 := m_J_t hJ 0
    have hs4 := hJ.2.2.1.1.2.1
    obtain ⟨j, hj, rfl⟩ := i_in_of (by omega) c9
    have ej : (nI j).toNatClampNeg = j := nI_clamp (by omega)
    rw [ej]
    have hel := hJ.2.2.1.2.1 j hj
    refine sv_iconst (-1) dX3_largest_14 (by decide +kernel) ?_
    refine sv_istore_n dX3_largest_15 (by decide) ?_
    refine sv_iconst (nI 0) dX3_largest_16 (by decide +kernel) ?_
    refine sv_topI (y := 0) nI_0 ?_
    refine sv_istore_n dX3_largest_17 (by decide) ?_
    refine sv_iconst (nI 1) dX3_largest_18 (by decide +kernel) ?_
    refine sv_istore dX3_largest_19 (by decide) ?_
    exact sx_loc [some (.ref h), some (.int (nI j)), some (.int (-1)), some (.int 0), some (.int (nI 1)), none] ⟨rfl, rfl, rfl, rfl, rfl, trivial⟩ (loop j _ _ hJ0 hj ((a_es (A_v A) j).length + 1) 0 (by omega) (by show (a_es (A_v A) j).length + 1 ≤ _; omega))
  · unfold sp_lar
    rw [g_1f c9]
    refine sv_iconst (nI 0) dX3_largest_12 (by decide +kernel) ?_
    refine sv_iret rfl rfl dX3_largest_13 ?_
    exact ⟨_, rfl, r_I nI_0, _, rfl, m_J_t hJ _⟩
theorem ct_holders (hn : h + 11 < sx_n σ) (hJ : m_J M A) {b u : Int32} : sx_Cp G 5 YX3_holders [.ref h, .int b, .int u] (m_S G h M σ) (fun v τ => v = some (.int ((sp_hol A b u).1)) ∧ ∃ M2, τ = m_S G h M2 σ ∧ m_J M2 ((sp_hol A b u).2)) := by
  have loop : ∀ M A, m_J M A → ∀ q k, k ≤ (A_v A).2.2.length → (A_v A).2.2.length + 1 ≤ k + q → sx_V G 5 YX3_holders 19 [some (.ref h), some (.int b), some (.int u), some (.int (z_f (g_hol (A_v A) b u) k)), some (.int (nI k))] [] (m_S G h M σ) (fun o τ => ∃ v, o = .inl v ∧ v = some (.int (z_f (g_hol (A_v A) b u) (A_v A).2.2.length)) ∧ ∃ M2, τ = m_S G h M2 σ ∧ m_J M2 A) := by
    intro M A hJ
    have hs4 := hJ.2.2.1.1.2.1
    intro q
    induction q with
    | zero => intro k h1 h2; exact absurd h2 (by omega)
    | succ q ih =>
    intro k h1 h2
    refine sv_iload dX3_holders_19 rfl ?_
    refine sv_aload_n dX3_holders_21 rfl ?_
    refine sv_cvR _ (ct_sessions hn (m_J_e hJ).1 hJ.2.2.1.1) okX3_sessions kv_X3_74 (sx_rd_c (m_S_0 hn)) rfl dX3_holders_22 rfl rfl (by decide) (Nat.le_of_ble_eq_true rfl) ?_
    refine sv_icmp_geN (tgt := 66) dX3_holders_25 (by decide) (by omega) (by omega) (fun c25 => ?_) (fun c25 => ?_)
    · have hfin : k = (A_v A).2.2.length := by omega
      refine sv_iload_n dX3_holders_66 rfl ?_
      refine sv_iret rfl rfl dX3_holders_67 ?_
      exact ⟨_, rfl, r_I (by rw [hfin]), _, rfl, hJ⟩
    · have hk : k < (A_v A).2.2.length := by omega
      refine sv_iload_n dX3_holders_28 rfl ?_
      refine sv_aload_n dX3_holders_29 rfl ?_
      refine sv_iload dX3_holders_30 rfl ?_
      refine sv_cvR _ (ct_boxOf hn (m_J_e hJ) hJ.2.2.1 hk) okX3_boxOf kv_X3_87 (sx_rd_c (m_S_0 hn)) rfl dX3_holders_32 rfl rfl (by decide) (Nat.le_of_ble_eq_true rfl) ?_
      refine sv_iload_n dX3_holders_35 rfl ?_
      refine sv_icmp_ne (tgt := 57) dX3_holders_36 (by decide) (fun c36 => ?_) (fun c36 => ?_)
      · have hbt : nI 0 = (if o_I (a_bx (A_v A) k) = b ∧ ¬ e_w (a_es (A_v A) k) u = -1 then a_bit k else 0) := by rw [if_neg (fun z => c36 z.1)]; exact nI_0
        refine sv_iconst (nI 0) dX3_holders_57 (by decide +kernel) ?_
        refine sv_topI hbt ?_
        refine sv_ior dX3_holders_58 ?_
        refine sv_istore_n dX3_holders_59 (by decide) ?_
        refine sv_iincN dX3_holders_60 rfl (by decide) ?_
        refine sv_goto (tgt := 19) dX3_holders_63 (by decide) ?_
        exact ih (k + 1) (by omega) (by omega)
      · refine sv_aload_n dX3_holders_39 rfl ?_
        refine sv_iload dX3_holders_40 rfl ?_
        refine sv_iload_n dX3_holders_42 rfl ?_
        refine sv_cvR _ (ct_entryWith hn (m_J_e hJ) hJ.2.2.1 hk) okX3_entryWith kv_X3_502 (sx_rd_c (m_S_0 hn)) rfl dX3_holders_43 rfl rfl (by decide) (Nat.le_of_ble_eq_true rfl) ?_
        refine sv_iconst (-1) dX3_holders_46 (by decide +kernel) ?_
        refine sv_icmp_eq (tgt := 57) dX3_holders_47 (by decide) (fun c47 => ?_) (fun c47 => ?_)
        · have hbt : nI 0 = (if o_I (a_bx (A_v A) k) = b ∧ ¬ e_w (a_es (A_v A) k) u = -1 then a_bit k else 0) := by rw [if_neg (fun z => z.2 c47)]; exact nI_0
          refine sv_iconst (nI 0) dX3_holders_57 (by decide +kernel) ?_
          refine sv_topI hbt ?_
          refine sv_ior dX3_holders_58 ?_
          refine sv_istore_n dX3_holders_59 (by decide) ?_
          refine sv_iincN dX3_holders_60 rfl (by decide) ?_
          refine sv_goto (tgt := 19) dX3_holders_63 (by decide) ?_
          exact ih (k + 1) (by omega) (by omega)
        · have hbt : nI 1 <<< (nI k &&& 31) = (if o_I (a_bx (A_v A) k) = b ∧ ¬ e_w (a_es (A_v A) k) u = -1 then a_bit k else 0) := by rw [if_pos ⟨c36, c47⟩]; rfl
          refine sv_iconst (nI 1) dX3_holders_50 (by decide +kernel) ?_
          refine sv_iload dX3_holders_51 rfl ?_
          refine sv_ishl dX3_holders_53 ?_
          refine sv_goto (tgt := 58) dX3_holders_54 (by decide) ?_
          refine sv_topI hbt ?_
          refine sv_ior dX3_holders_58 ?_
          refine sv_istore_n dX3_holders_59 (by decide) ?_
          refine sv_iincN dX3_holders_60 rfl (by decide) ?_
          refine sv_goto (tgt := 19) dX3_holders_63 (by decide) ?_
          exact ih (k + 1) (by omega) (by omega)
  refine sx_body (by decide) (Nat.le_of_ble_eq_true rfl) ?_
  refine sv_aload_n dX3_holders_0 rfl ?_
  refine sv_aload_n dX3_holders_1 rfl ?_
  refine sv_iload_n dX3_holders_2 rfl ?_
  refine sv_cvR _ (ct_isBox hn (m_J_e hJ).1 hJ.2.2.1.1) okX3_isBox kv_X3_189 (sx_rd_c (m_S_0 hn)) rfl dX3_holders_3 rfl rfl (by decide) (Nat.le_of_ble_eq_true rfl) ?_
  refine sv_cvR _ (ct_passes hn) okX3_passes kv_X3_266 (sx_rd_c (m_S_0 hn)) rfl dX3_holders_6 rfl rfl (by decide) (Nat.le_of_ble_eq_true rfl) ?_
  refine sv_if_neB (tgt := 14) dX3_holders_9 (by decide) (fun c9 => ?_) (fun c9 => ?_)
  · have hsp : sp_hol A b u = (z_f (g_hol (A_v A) b u) (A_v A).2.2.length, A_st A 0) := by unfold sp_hol; rw [g_1t c9]
    rw [hsp]
    rw [t_hr_1 c9]
    have hJ0 := m_J_t hJ 0
    refine sv_iconst (nI 0) dX3_holders_14 (by decide +kernel) ?_
    refine sv_topI (y := 0) nI_0 ?_
    refine sv_istore_n dX3_holders_15 (by decide) ?_
    refine sv_iconst (nI 0) dX3_holders_16 (by decide +kernel) ?_
    refine sv_istore dX3_holders_17 (by decide) ?_
    exact loop _ _ hJ0 ((A_v A).2.2.length + 1) 0 (by omega) (by show (A_v A).2.2.length + 1 ≤ _; omega)
  · unfold sp_hol
    rw [g_1f c9]
    refine sv_iconst (nI 0) dX3_holders_12 (by decide +kernel) ?_
    refine sv_iret rfl rfl dX3_holders_13 ?_
    exact ⟨_, rfl, r_I nI_0, _, rfl, m_J_t hJ _⟩
theorem ct_stale (hn : h + 11 < sx_n σ) (hJ : m_J M A) : sx_Cp G 11 YX3_stale [.ref h] (m_S G h M σ) (fun v τ => v = some (.int ((sp_sta A).1)) ∧ ∃ M2, τ = m_S G h M2 σ ∧ m_J M2 ((sp_sta A).2)) := by
  have loop : ∀ M A, m_J M A → ∀ q k, k ≤ (A_v A).2.2.length → (A_v A).2.2.length + 1 ≤ k + q → sx_V G 11 YX3_stale 9 [some (.ref h), some (.int (z_f (g_sta (A_v A)) k)), some (.int (nI k))] [] (m_S G h M σ) (fun o τ => ∃ v, o = .inl v ∧ v = some (.int (z_f (g_sta (A_v A)) (A_v A).2.2.length)) ∧ ∃ M2, τ = m_S G h M2 σ ∧ m_J M2 A) := by
    intro M A hJ
    have hs4 := hJ.2.2.1.1.2.1
    intro q
    induction q with
    | zero => intro k h1 h2; exact absurd h2 (by omega)
    | succ q ih =>
    intro k h1 h2
    refine sv_iload_n dX3_stale_9 rfl ?_
    refine sv_aload_n dX3_stale_10 rfl ?_
    refine sv_cvR _ (ct_sessions hn (m_J_e hJ).1 hJ.2.2.1.1) okX3_sessions kv_X3_74 (sx_rd_c (m_S_0 hn)) rfl dX3_stale_11 rfl rfl (by decide) (Nat.le_of_ble_eq_true rfl) ?_
    refine sv_icmp_geN (tgt := 49) dX3_stale_14 (by decide) (by omega) (by omega) (fun c14 => ?_) (fun c14 => ?_)
    · have hfin : k = (A_v A).2.2.length := by omega
      refine sv_iload_n dX3_stale_49 rfl ?_
      refine sv_iret rfl rfl dX3_stale_50 ?_
      exact ⟨_, rfl, r_I (by rw [hfin]), _, rfl, hJ⟩
    · have hk : k < (A_v A).2.2.length := by omega
      refine sv_iload_n dX3_stale_17 rfl ?_
      refine sv_aload_n dX3_stale_18 rfl ?_
      refine sv_iload_n dX3_stale_19 rfl ?_
      refine sv_cvR _ (ct_hasBox hn (m_J_e hJ) hJ.2.2.1 hk) okX3_hasBox kv_X3_126 (sx_rd_c (m_S_0 hn)) rfl dX3_stale_20 rfl rfl (by decide) (Nat.le_of_ble_eq_true rfl) ?_
      refine sv_if_eqB (tgt := 40) dX3_stale_23 (by decide) (fun c23 => ?_) (fun c23 => ?_)
      · have hbt : nI 0 = (if (a_bx (A_v A) k).isSome = true ∧ a_upd (A_v A) k = false then a_bit k else 0) := by rw [if_neg (fun z => by rw [c23] at z; exact absurd z.1 (by decide))]; exact nI_0
        refine sv_iconst (nI 0) dX3_stale_40 (by decide +kernel) ?_
        refine sv_topI hbt ?_
        refine sv_ior dX3_stale_41 ?_
        refine sv_istore_n dX3_stale_42 (by decide) ?_
        refine sv_iincN dX3_stale_43 rfl (by decide) ?_
        refine sv_goto (tgt := 9) dX3_stale_46 (by decide) ?_
        exact ih (k + 1) (by omega) (by omega)
      · refine sv_aload_n dX3_stale_26 rfl ?_
        refine sv_iload_n dX3_stale_27 rfl ?_
        refine sv_cvR _ (ct_isUpToDate hn (m_J_e hJ) hJ.2.2.1 hk) okX3_isUpToDate kv_X3_508 (sx_rd_c (m_S_0 hn)) rfl dX3_stale_28 rfl rfl (by decide) (Nat.le_of_ble_eq_true rfl) ?_
        refine sv_if_neB (tgt := 40) dX3_stale_31 (by decide) (fun c31 => ?_) (fun c31 => ?_)
        · have hbt : nI 0 = (if (a_bx (A_v A) k).isSome = true ∧ a_upd (A_v A) k = false then a_bit k else 0) := by rw [if_neg (fun z => by rw [show a_upd (A_v A) k = true from c31] at z; exact absurd z.2 (by decide))]; exact nI_0
          refine sv_iconst (nI 0) dX3_stale_40 (by decide +kernel) ?_
          refine sv_topI hbt ?_
          refine sv_ior dX3_stale_41 ?_
          refine sv_istore_n dX3_stale_42 (by decide) ?_
          refine sv_iincN dX3_stale_43 rfl (by decide) ?_
          refine sv_goto (tgt := 9) dX3_stale_46 (by decide) ?_
          exact ih (k + 1) (by omega) (by omega)
        · have hbt : nI 1 <<< (nI k &&& 31) = (if (a_bx (A_v A) k).isSome = true ∧ a_upd (A_v A) k = false then a_bit k else 0) := by rw [if_pos ⟨c23, c31⟩]; rfl
          refine sv_iconst (nI 1) dX3_stale_34 (by decide +kernel) ?_
          refine sv_iload_n dX3_stale_35 rfl ?_
          refine sv_ishl dX3_stale_36 ?_
          refine sv_goto (tgt := 41) dX3_stale_37 (by decide) ?_
          refine sv_topI hbt ?_
          refine sv_ior dX3_stale_41 ?_
          refine sv_istore_n dX3_stale_42 (by decide) ?_
          refine sv_iincN dX3_stale_43 rfl (by decide) ?_
          refine sv_goto (tgt := 9) dX3_stale_46 (by decide) ?_
          exact ih (k + 1) (by omega) (by omega)
  refine sx_body (by decide) (Nat.le_of_ble_eq_true rfl) ?_
  refine sv_aload_n dX3_stale_0 rfl ?_
  refine sv_iconst (nI 0) dX3_stale_1 (by decide +kernel) ?_
  refine sm_put hn fp_X3_3 dX3_stale_2 rfl (by decide) ?_
  rw [nI_0]
  have hJ0 := m_J_t hJ 0
  refine sv_iconst (nI 0) dX3_stale_5 (by decide +kernel) ?_
  refine sv_topI (y := 0) nI_0 ?_
  refine sv_istore_n dX3_stale_6 (by decide) ?_
  refine sv_iconst (nI 0) dX3_stale_7 (by decide +kernel) ?_
  refine sv_istore_n dX3_stale_8 (by decide) ?_
  exact loop _ _ hJ0 ((A_v A).2.2.length + 1) 0 (by omega) (by show (A_v A).2.2.length + 1 ≤ _; omega)
theorem ct_common (hn : h + 11 < sx_n σ) (hJ : m_J M A) {s o : Int32} : sx_Cp G 5 YX3_common [.ref h, .int s, .int o] (m_S G h M σ) (fun v τ => v = some (.int ((sp_com A s o).1)) ∧ ∃ M2, τ = m_S G h M2 σ ∧ m_J M2 ((sp_com A s o).2)) := by
  have loop : ∀ (j i : Nat) M A, m_J M A → j < (A_v A).2.2.length → i < (A_v A).2.2.length → ∀ q k, k ≤ (a_es (A_v A) j).length → (a_es (A_v A) j).length + 1 ≤ k + q → sx_V G 5 YX3_common 56 [some (.ref h), some (.int (nI j)), some (.int (nI i)), some (.int (nI (n_com (A_v A) j i k))), some (.int (nI (k + 1)))] [] (m_S G h M σ) (fun o τ => ∃ v, o = .inl v ∧ v = some (.int (nI (n_com (A_v A) j i (a_es (A_v A) j).length))) ∧ ∃ M2, τ = m_S G h M2 σ ∧ m_J M2 A) := by
    intro j i M A hJ hj hi
    have hel := hJ.2.2.1.2.1 j hj
    have hs4 := hJ.2.2.1.1.2.1
    intro q
    induction q with
    | zero => intro k h1 h2; exact absurd h2 (by omega)
    | succ q ih =>
    intro k h1 h2
    refine sv_iload dX3_common_56 rfl ?_
    refine sv_aload_n dX3_common_58 rfl ?_
    refine sv_iload_n dX3_common_59 rfl ?_
    refine sv_cvR _ (ct_entries hn (m_J_e hJ) hJ.2.2.1 hj) okX3_entries kv_X3_97 (sx_rd_c (m_S_0 hn)) rfl dX3_common_60 rfl rfl (by decide) (Nat.le_of_ble_eq_true rfl) ?_
    refine sv_icmp_gtN (tgt := 97) dX3_common_63 (by decide) (by omega) (by omega) (fun c63 => ?_) (fun c63 => ?_)
    · have hfin : k = (a_es (A_v A) j).length := by omega
      refine sv_iload_n dX3_common_97 rfl ?_
      refine sv_iret rfl rfl dX3_common_98 ?_
      exact ⟨_, rfl, r_I (by rw [hfin]), _, rfl, hJ⟩
    · have hk : k < (a_es (A_v A) j).length := by omega
      refine sv_iload_n dX3_common_66 rfl ?_
      refine sv_aload_n dX3_common_67 rfl ?_
      refine sv_iload_n dX3_common_68 rfl ?_
      refine sv_aload_n dX3_common_69 rfl ?_
      refine sv_iload_n dX3_common_70 rfl ?_
      refine sv_iload dX3_common_71 rfl ?_
      refine sv_iconst (nI 0) dX3_common_73 (by decide +kernel) ?_
      refine sv_cvR _ (ct_euid hn (m_J_e hJ) hJ.2.2.1 hj hk) okX3_ofEntry kv_X3_107 (sx_rd_c (m_S_0 hn)) rfl dX3_common_74 rfl rfl (by decide) (Nat.le_of_ble_eq_true rfl) ?_
      refine sv_cvR _ (ct_entryWith hn (m_J_e hJ) hJ.2.2.1 hi) okX3_entryWith kv_X3_502 (sx_rd_c (m_S_0 hn)) rfl dX3_common_77 rfl rfl (by decide) (Nat.le_of_ble_eq_true rfl) ?_
      refine sv_iconst (-1) dX3_common_80 (by decide +kernel) ?_
      refine sv_icmp_ne (tgt := 88) dX3_common_81 (by decide) (fun c81 => ?_) (fun c81 => ?_)
      · have hin : (!(decide (e_w (a_es (A_v A) i) (a_e (A_v A) j k).1 = -1))) = true := by rw [decide_eq_false c81]; rfl
        refine sv_iconst (nI 1) dX3_common_88 (by decide +kernel) ?_
        refine sv_iaddN dX3_common_89 ?_
        refine sv_istore_n dX3_common_90 (by decide) ?_
        refine sv_iincN dX3_common_91 rfl (by decide) ?_
        refine sv_goto (tgt := 56) dX3_common_94 (by decide) ?_
        have hih := ih (k + 1) (by omega) (by omega)
        unfold n_com at hih
        rw [countP_rs, hin] at hih
        exact hih
      · have hin : (!(decide (e_w (a_es (A_v A) i) (a_e (A_v A) j k).1 = -1))) = false := by rw [decide_eq_true c81]; rfl
        refine sv_iconst (nI 0) dX3_common_84 (by decide +kernel) ?_
        refine sv_goto (tgt := 89) dX3_common_85 (by decide) ?_
        refine sv_iaddN dX3_common_89 ?_
        refine sv_istore_n dX3_common_90 (by decide) ?_
        refine sv_iincN dX3_common_91 rfl (by decide) ?_
        refine sv_goto (tgt := 56) dX3_common_94 (by decide) ?_
        have hih := ih (k + 1) (by omega) (by omega)
        unfold n_com at hih
        rw [countP_rs, hin] at hih
        exact hih
  refine sx_body (by decide) (Nat.le_of_ble_eq_true rfl) ?_
  refine sv_aload_n dX3_common_0 rfl ?_
  refine sv_aload_n dX3_common_1 rfl ?_
  refine sv_iload_n dX3_common_2 rfl ?_
  refine sv_cvR _ (ct_isSession hn (m_J_e hJ).1 hJ.2.2.1.1) okX3_isSession kv_X3_93 (sx_rd_c (m_S_0 hn)) rfl dX3_common_3 rfl rfl (by decide) (Nat.le_of_ble_eq_true rfl) ?_
  refine sv_if_eqB (tgt := 21) dX3_common_6 (by decide) (fun c6 => ?_) (fun c6 => ?_)
  · have hjn : nI 0 = b_I (i_in s (A_v A).2.2.length && i_in o (A_v A).2.2.length) := by rw [c6]; rfl
    refine sv_iconst (nI 0) dX3_common_21 (by decide +kernel) ?_
    refine sv_topI hjn ?_
    refine sv_cvR _ (ct_passes hn) okX3_passes kv_X3_266 (sx_rd_c (m_S_0 hn)) rfl dX3_common_22 rfl rfl (by decide) (Nat.le_of_ble_eq_true rfl) ?_
    refine sv_if_eqB (tgt := 49) dX3_common_25 (by decide) (fun c25 => ?_) (fun c25 => ?_)
    · unfold sp_com
      rw [g_1f c25]
      have hJ9 := fun x => m_J_t hJ x
      have hval : some (Value.int (nI 0)) = some (Value.int 0) := r_I nI_0
      refine sv_iconst (nI 0) dX3_common_49 (by decide +kernel) ?_
      refine sv_iret rfl rfl dX3_common_50 ?_
      first | exact ⟨_, rfl, hval, _, rfl, hJ0⟩ | exact ⟨_, rfl, hval, _, rfl, m_J_t hJ _⟩
    · have hsp : sp_com A s o = (p_com (A_v A) s.toNatClampNeg o.toNatClampNeg, A_st A 0) := by unfold sp_com; rw [g_1t c25]
      rw [hsp]
      rw [t_hr_1 c25]
      have hJ0 := m_J_t hJ 0
      have hc2 := c25
      rw [Bool.and_eq_true] at hc2
      have hs4 := hJ.2.2.1.1.2.1
      obtain ⟨j, hj, rfl⟩ := i_in_of (by omega) hc2.1
      obtain ⟨i, hi, rfl⟩ := i_in_of (by omega) hc2.2
      have ej : (nI j).toNatClampNeg = j := nI_clamp (by omega)
      have ei : (nI i).toNatClampNeg = i := nI_clamp (by omega)
      rw [ej, ei]
      have hel := hJ.2.2.1.2.1 j hj
      refine sv_aload_n dX3_common_28 rfl ?_
      refine sv_iload_n dX3_common_29 rfl ?_
      refine sv_cvR _ (ct_hasBox hn (m_J_e hJ0) hJ0.2.2.1 hj) okX3_hasBox kv_X3_126 (sx_rd_c (m_S_0 hn)) rfl dX3_common_30 rfl rfl (by decide) (Nat.le_of_ble_eq_true rfl) ?_
      refine sv_if_eqB (tgt := 49) dX3_common_33 (by decide) (fun c33 => ?_) (fun c33 => ?_)
      · have hJ9 := fun (_ : Int32) => hJ0
        have hval : some (Value.int (nI 0)) = some (Value.int (p_com (A_v A) j i)) := r_I (by unfold p_com; rw [if_neg (fun z => by have := z.1; rw [show (a_bx (A_v A) j).isSome = false from c33] at this; exact absurd this (by decide))]; exact nI_0)
        refine sv_iconst (nI 0) dX3_common_49 (by decide +kernel) ?_
        refine sv_iret rfl rfl dX3_common_50 ?_
        first | exact ⟨_, rfl, hval, _, rfl, hJ0⟩ | exact ⟨_, rfl, hval, _, rfl, m_J_t hJ _⟩
      · refine sv_aload_n dX3_common_36 rfl ?_
        refine sv_iload_n dX3_common_37 rfl ?_
        refine sv_cvR _ (ct_boxOf hn (m_J_e hJ0) hJ0.2.2.1 hj) okX3_boxOf kv_X3_87 (sx_rd_c (m_S_0 hn)) rfl dX3_common_38 rfl rfl (by decide) (Nat.le_of_ble_eq_true rfl) ?_
        refine sv_aload_n dX3_common_41 rfl ?_
        refine sv_iload_n dX3_common_42 rfl ?_
        refine sv_cvR _ (ct_boxOf hn (m_J_e hJ0) hJ0.2.2.1 hi) okX3_boxOf kv_X3_87 (sx_rd_c (m_S_0 hn)) rfl dX3_common_43 rfl rfl (by decide) (Nat.le_of_ble_eq_true rfl) ?_
        refine sv_icmp_eq (tgt := 51) dX3_common_46 (by decide) (fun c46 => ?_) (fun c46 => ?_)
        · have hpc : p_com (A_v A) j i = nI (n_com (A_v A) j i (a_es (A_v A) j).length) := by unfold p_com; rw [if_pos ⟨c33, c46⟩]
          rw [hpc]
          refine sv_iconst (nI 0) dX3_common_51 (by decide +kernel) ?_
          refine sv_istore_n dX3_common_52 (by decide) ?_
          refine sv_iconst (nI 1) dX3_common_53 (by decide +kernel) ?_
          refine sv_istore dX3_common_54 (by decide) ?_
          exact loop j i _ _ hJ0 hj hi ((a_es (A_v A) j).length + 1) 0 (by omega) (by show (a_es (A_v A) j).length + 1 ≤ _; omega)
        · have hJ9 := fun (_ : Int32) => hJ0
          have hval : some (Value.int (nI 0)) = some (Value.int (p_com (A_v A) j i)) := r_I (by unfold p_com; rw [if_neg (fun z => c46 z.2)]; exact nI_0)
          refine sv_iconst (nI 0) dX3_common_49 (by decide +kernel) ?_
          refine sv_iret rfl rfl dX3_common_50 ?_
          first | exact ⟨_, rfl, hval, _, rfl, hJ0⟩ | exact ⟨_, rfl, hval, _, rfl, m_J_t hJ _⟩
  · refine sv_aload_n dX3_common_9 rfl ?_
    refine sv_iload_n dX3_common_10 rfl ?_
    refine sv_cvR _ (ct_isSession hn (m_J_e hJ).1 hJ.2.2.1.1) okX3_isSession kv_X3_93 (sx_rd_c (m_S_0 hn)) rfl dX3_common_11 rfl rfl (by decide) (Nat.le_of_ble_eq_true rfl) ?_
    refine sv_if_eqB (tgt := 21) dX3_common_14 (by decide) (fun c14 => ?_) (fun c14 => ?_)
    · have hjn : nI 0 = b_I (i_in s (A_v A).2.2.length && i_in o (A_v A).2.2.length) := by rw [c6, c14]; rfl
      refine sv_iconst (nI 0) dX3_common_21 (by decide +kernel) ?_
      refine sv_topI hjn ?_
      refine sv_cvR _ (ct_passes hn) okX3_passes kv_X3_266 (sx_rd_c (m_S_0 hn)) rfl dX3_common_22 rfl rfl (by decide) (Nat.le_of_ble_eq_true rfl) ?_
      refine sv_if_eqB (tgt := 49) dX3_common_25 (by decide) (fun c25 => ?_) (fun c25 => ?_)
      · unfold sp_com
        rw [g_1f c25]
        have hJ9 := fun x => m_J_t hJ x
        have hval : some (Value.int (nI 0)) = some (Value.int 0) := r_I nI_0
        refine sv_iconst (nI 0) dX3_common_49 (by decide +kernel) ?_
        refine sv_iret rfl rfl dX3_common_50 ?_
        first | exact ⟨_, rfl, hval, _, rfl, hJ0⟩ | exact ⟨_, rfl, hval, _, rfl, m_J_t hJ _⟩
      · have hsp : sp_com A s o = (p_com (A_v A) s.toNatClampNeg o.toNatClampNeg, A_st A 0) := by unfold sp_com; rw [g_1t c25]
        rw [hsp]
        rw [t_hr_1 c25]
        have hJ0 := m_J_t hJ 0
        have hc2 := c25
        rw [Bool.and_eq_true] at hc2
        have hs4 := hJ.2.2.1.1.2.1
        obtain ⟨j, hj, rfl⟩ := i_in_of (by omega) hc2.1
        obtain ⟨i, hi, rfl⟩ := i_in_of (by omega) hc2.2
        have ej : (nI j).toNatClampNeg = j := nI_clamp (by omega)
        have ei : (nI i).toNatClampNeg = i := nI_clamp (by omega)
        rw [ej, ei]
        have hel := hJ.2.2.1.2.1 j hj
        refine sv_aload_n dX3_common_28 rfl ?_
        refine sv_iload_n dX3_common_29 rfl ?_
        refine sv_cvR _ (ct_hasBox hn (m_J_e hJ0) hJ0.2.2.1 hj) okX3_hasBox kv_X3_126 (sx_rd_c (m_S_0 hn)) rfl dX3_common_30 rfl rfl (by decide) (Nat.le_of_ble_eq_true rfl) ?_
        refine sv_if_eqB (tgt := 49) dX3_common_33 (by decide) (fun c33 => ?_) (fun c33 => ?_)
        · have hJ9 := fun (_ : Int32) => hJ0
          have hval : some (Value.int (nI 0)) = some (Value.int (p_com (A_v A) j i)) := r_I (by unfold p_com; rw [if_neg (fun z => by have := z.1; rw [show (a_bx (A_v A) j).isSome = false from c33] at this; exact absurd this (by decide))]; exact nI_0)
          refine sv_iconst (nI 0) dX3_common_49 (by decide +kernel) ?_
          refine sv_iret rfl rfl dX3_common_50 ?_
          first | exact ⟨_, rfl, hval, _, rfl, hJ0⟩ | exact ⟨_, rfl, hval, _, rfl, m_J_t hJ _⟩
        · refine sv_aload_n dX3_common_36 rfl ?_
          refine sv_iload_n dX3_common_37 rfl ?_
          refine sv_cvR _ (ct_boxOf hn (m_J_e hJ0) hJ0.2.2.1 hj) okX3_boxOf kv_X3_87 (sx_rd_c (m_S_0 hn)) rfl dX3_common_38 rfl rfl (by decide) (Nat.le_of_ble_eq_true rfl) ?_
          refine sv_aload_n dX3_common_41 rfl ?_
          refine sv_iload_n dX3_common_42 rfl ?_
          refine sv_cvR _ (ct_boxOf hn (m_J_e hJ0) hJ0.2.2.1 hi) okX3_boxOf kv_X3_87 (sx_rd_c (m_S_0 hn)) rfl dX3_common_43 rfl rfl (by decide) (Nat.le_of_ble_eq_true rfl) ?_
          refine sv_icmp_eq (tgt := 51) dX3_common_46 (by decide) (fun c46 => ?_) (fun c46 => ?_)
          · have hpc : p_com (A_v A) j i = nI (n_com (A_v A) j i (a_es (A_v A) j).length) := by unfold p_com; rw [if_pos ⟨c33, c46⟩]
            rw [hpc]
            refine sv_iconst (nI 0) dX3_common_51 (by decide +kernel) ?_
            refine sv_istore_n dX3_common_52 (by decide) ?_
            refine sv_iconst (nI 1) dX3_common_53 (by decide +kernel) ?_
            refine sv_istore dX3_common_54 (by decide) ?_
            exact loop j i _ _ hJ0 hj hi ((a_es (A_v A) j).length + 1) 0 (by omega) (by show (a_es (A_v A) j).length + 1 ≤ _; omega)
          · have hJ9 := fun (_ : Int32) => hJ0
            have hval : some (Value.int (nI 0)) = some (Value.int (p_com (A_v A) j i)) := r_I (by unfold p_com; rw [if_neg (fun z => c46 z.2)]; exact nI_0)
            refine sv_iconst (nI 0) dX3_common_49 (by decide +kernel) ?_
            refine sv_iret rfl rfl dX3_common_50 ?_
            first | exact ⟨_, rfl, hval, _, rfl, hJ0⟩ | exact ⟨_, rfl, hval, _, rfl, m_J_t hJ _⟩
    · have hjn : nI 1 = b_I (i_in s (A_v A).2.2.length && i_in o (A_v A).2.2.length) := by rw [c6, c14]; rfl
      refine sv_iconst (nI 1) dX3_common_17 (by decide +kernel) ?_
      refine sv_goto (tgt := 22) dX3_common_18 (by decide) ?_
      refine sv_topI hjn ?_
      refine sv_cvR _ (ct_passes hn) okX3_passes kv_X3_266 (sx_rd_c (m_S_0 hn)) rfl dX3_common_22 rfl rfl (by decide) (Nat.le_of_ble_eq_true rfl) ?_
      refine sv_if_eqB (tgt := 49) dX3_common_25 (by decide) (fun c25 => ?_) (fun c25 => ?_)
      · unfold sp_com
        rw [g_1f c25]
        have hJ9 := fun x => m_J_t hJ x
        have hval : some (Value.int (nI 0)) = some (Value.int 0) := r_I nI_0
        refine sv_iconst (nI 0) dX3_common_49 (by decide +kernel) ?_
        refine sv_iret rfl rfl dX3_common_50 ?_
        first | exact ⟨_, rfl, hval, _, rfl, hJ0⟩ | exact ⟨_, rfl, hval, _, rfl, m_J_t hJ _⟩
      · have hsp : sp_com A s o = (p_com (A_v A) s.toNatClampNeg o.toNatClampNeg, A_st A 0) := by unfold sp_com; rw [g_1t c25]
        rw [hsp]
        rw [t_hr_1 c25]
        have hJ0 := m_J_t hJ 0
        have hc2 := c25
        rw [Bool.and_eq_true] at hc2
        have hs4 := hJ.2.2.1.1.2.1
        obtain ⟨j, hj, rfl⟩ := i_in_of (by omega) hc2.1
        obtain ⟨i, hi, rfl⟩ := i_in_of (by omega) hc2.2
        have ej : (nI j).toNatClampNeg = j := nI_clamp (by omega)
        have ei : (nI i).toNatClampNeg = i := nI_clamp (by omega)
        rw [ej, ei]
        have hel := hJ.2.2.1.2.1 j hj
        refine sv_aload_n dX3_common_28 rfl ?_
        refine sv_iload_n dX3_common_29 rfl ?_
        refine sv_cvR _ (ct_hasBox hn (m_J_e hJ0) hJ0.2.2.1 hj) okX3_hasBox kv_X3_126 (sx_rd_c (m_S_0 hn)) rfl dX3_common_30 rfl rfl (by decide) (Nat.le_of_ble_eq_true rfl) ?_
        refine sv_if_eqB (tgt := 49) dX3_common_33 (by decide) (fun c33 => ?_) (fun c33 => ?_)
        · have hJ9 := fun (_ : Int32) => hJ0
          have hval : some (Value.int (nI 0)) = some (Value.int (p_com (A_v A) j i)) := r_I (by unfold p_com; rw [if_neg (fun z => by have := z.1; rw [show (a_bx (A_v A) j).isSome = false from c33] at this; exact absurd this (by decide))]; exact nI_0)
          refine sv_iconst (nI 0) dX3_common_49 (by decide +kernel) ?_
          refine sv_iret rfl rfl dX3_common_50 ?_
          first | exact ⟨_, rfl, hval, _, rfl, hJ0⟩ | exact ⟨_, rfl, hval, _, rfl, m_J_t hJ _⟩
        · refine sv_aload_n dX3_common_36 rfl ?_
          refine sv_iload_n dX3_common_37 rfl ?_
          refine sv_cvR _ (ct_boxOf hn (m_J_e hJ0) hJ0.2.2.1 hj) okX3_boxOf kv_X3_87 (sx_rd_c (m_S_0 hn)) rfl dX3_common_38 rfl rfl (by decide) (Nat.le_of_ble_eq_true rfl) ?_
          refine sv_aload_n dX3_common_41 rfl ?_
          refine sv_iload_n dX3_common_42 rfl ?_
          refine sv_cvR _ (ct_boxOf hn (m_J_e hJ0) hJ0.2.2.1 hi) okX3_boxOf kv_X3_87 (sx_rd_c (m_S_0 hn)) rfl dX3_common_43 rfl rfl (by decide) (Nat.le_of_ble_eq_true rfl) ?_
          refine sv_icmp_eq (tgt := 51) dX3_common_46 (by decide) (fun c46 => ?_) (fun c46 => ?_)
          · have hpc : p_com (A_v A) j i = nI (n_com (A_v A) j i (a_es (A_v A) j).length) := by unfold p_com; rw [if_pos ⟨c33, c46⟩]
            rw [hpc]
            refine sv_iconst (nI 0) dX3_common_51 (by decide +kernel) ?_
            refine sv_istore_n dX3_common_52 (by decide) ?_
            refine sv_iconst (nI 1) dX3_common_53 (by decide +kernel) ?_
            refine sv_istore dX3_common_54 (by decide) ?_
            exact loop j i _ _ hJ0 hj hi ((a_es (A_v A) j).length + 1) 0 (by omega) (by show (a_es (A_v A) j).length + 1 ≤ _; omega)
          · have hJ9 := fun (_ : Int32) => hJ0
            have hval : some (Value.int (nI 0)) = some (Value.int (p_com (A_v A) j i)) := r_I (by unfold p_com; rw [if_neg (fun z => c46 z.2)]; exact nI_0)
            refine sv_iconst (nI 0) dX3_common_49 (by decide +kernel) ?_
            refine sv_iret rfl rfl dX3_common_50 ?_
            first | exact ⟨_, rfl, hval, _, rfl, hJ0⟩ | exact ⟨_, rfl, hval, _, rfl, m_J_t hJ _⟩
end MRU
