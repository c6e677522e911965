set_option maxRecDepth 100000
section MRD
variable {G : sx_G} {h : Nat} {M : m_M} {σ : sx_St} {V : a_V} {A : a_A}
theorem sv_topI {d : Nat} {Y : sx_Y} {pc : Nat} {L : List (Option Value)} {st : List Value} {Q : sx_O → sx_St → Prop} {x y : Int32} (e : x = y) (k : sx_V G d Y pc L (.int y :: st) σ Q) : sx_V G d Y pc L (.int x :: st) σ Q := by rw [e]; exact k
theorem sv_topL {d : Nat} {Y : sx_Y} {pc : Nat} {L : List (Option Value)} {st : List Value} {Q : sx_O → sx_St → Prop} {x y : Int64} (e : x = y) (k : sx_V G d Y pc L (.long y :: st) σ Q) : sx_V G d Y pc L (.long x :: st) σ Q := by rw [e]; exact k
def t_hr (a b c : Bool) : Nat := if !a then 1 else if !b then 2 else if !c then 3 else 0
theorem ct_thrown (hn : h + 11 < sx_n σ) : sx_Cr G 0 YX3_thrown [.ref h] (m_S G h M σ) (some (.int (M.1 0))) (m_S G h M σ) := by
  refine sx_body (by decide) (Nat.le_of_ble_eq_true rfl) ?_
  refine sv_aload_n dX3_thrown_0 rfl ?_
  refine sm_get hn fg_X3_3 dX3_thrown_1 rfl ?_
  refine sv_iret rfl rfl dX3_thrown_4 ?_
  exact ⟨_, rfl, rfl, rfl⟩
theorem ct_passes3 (hn : h + 11 < sx_n σ) {a b c : Bool} : sx_Cr G 0 YX3_passes3 [.ref h, .int (b_I a), .int (b_I b), .int (b_I c)] (m_S G h M σ) (some (.int (b_I (a && (b && c))))) (m_S G h (m_i M 0 (nI (t_hr a b c))) σ) := by
  refine sx_body (by decide) (Nat.le_of_ble_eq_true rfl) ?_
  refine sv_aload_n dX3_passes3_0 rfl ?_
  refine sv_iload_n dX3_passes3_1 rfl ?_
  refine sv_if_neB (tgt := 9) dX3_passes3_2 (by decide) (fun c2 => ?_) (fun c2 => ?_)
  · refine sv_iload_n dX3_passes3_9 rfl ?_
    refine sv_if_neB (tgt := 17) dX3_passes3_10 (by decide) (fun c10 => ?_) (fun c10 => ?_)
    · refine sv_iload_n dX3_passes3_17 rfl ?_
      refine sv_if_neB (tgt := 25) dX3_passes3_18 (by decide) (fun c18 => ?_) (fun c18 => ?_)
      · subst c2
        subst c10
        subst c18
        have ht : nI 0 = nI (t_hr true true true) := rfl
        have hv : t_hr true true true = 0 := rfl
        refine sv_iconst (nI 0) dX3_passes3_25 (by decide +kernel) ?_
        rw [ht]
        refine sm_put hn fp_X3_3 dX3_passes3_26 rfl (by decide) ?_
        refine sv_aload_n dX3_passes3_29 rfl ?_
        refine sm_get hn fg_X3_3 dX3_passes3_30 rfl ?_
        refine sv_topI (y := _) (show upd M.1 0 (nI (t_hr _ _ _)) 0 = nI (t_hr _ _ _) from pk_us) ?_
        refine sv_if_neN (tgt := 40) dX3_passes3_33 (by decide) (by omega) (fun c33 => ?_) (fun c33 => ?_)
        · refine sv_iconst (nI 0) dX3_passes3_40 (by decide +kernel) ?_
          refine sv_iret (by first | exact b_I_nar _ | rfl) rfl dX3_passes3_41 ?_
          first | (exfalso; omega) | exact ⟨_, rfl, rfl, rfl⟩
        · refine sv_iconst (nI 1) dX3_passes3_36 (by decide +kernel) ?_
          refine sv_goto (tgt := 41) dX3_passes3_37 (by decide) ?_
          refine sv_iret (by first | exact b_I_nar _ | rfl) rfl dX3_passes3_41 ?_
          first | (exfalso; omega) | exact ⟨_, rfl, rfl, rfl⟩
      · subst c2
        subst c10
        subst c18
        have ht : nI 3 = nI (t_hr true true false) := rfl
        have hv : t_hr true true false = 3 := rfl
        refine sv_iconst (nI 3) dX3_passes3_21 (by decide +kernel) ?_
        refine sv_goto (tgt := 26) dX3_passes3_22 (by decide) ?_
        rw [ht]
        refine sm_put hn fp_X3_3 dX3_passes3_26 rfl (by decide) ?_
        refine sv_aload_n dX3_passes3_29 rfl ?_
        refine sm_get hn fg_X3_3 dX3_passes3_30 rfl ?_
        refine sv_topI (y := _) (show upd M.1 0 (nI (t_hr _ _ _)) 0 = nI (t_hr _ _ _) from pk_us) ?_
        refine sv_if_neN (tgt := 40) dX3_passes3_33 (by decide) (by omega) (fun c33 => ?_) (fun c33 => ?_)
        · refine sv_iconst (nI 0) dX3_passes3_40 (by decide +kernel) ?_
          refine sv_iret (by first | exact b_I_nar _ | rfl) rfl dX3_passes3_41 ?_
          first | (exfalso; omega) | exact ⟨_, rfl, rfl, rfl⟩
        · refine sv_iconst (nI 1) dX3_passes3_36 (by decide +kernel) ?_
          refine sv_goto (tgt := 41) dX3_passes3_37 (by decide) ?_
          refine sv_iret (by first | exact b_I_nar _ | rfl) rfl dX3_passes3_41 ?_
          first | (exfalso; omega) | exact ⟨_, rfl, rfl, rfl⟩
    · subst c2
      subst c10
      have ht : nI 2 = nI (t_hr true false c) := rfl
      have hv : t_hr true false c = 2 := rfl
      refine sv_iconst (nI 2) dX3_passes3_13 (by decide +kernel) ?_
      refine sv_goto (tgt := 26) dX3_passes3_14 (by decide) ?_
      rw [ht]
      refine sm_put hn fp_X3_3 dX3_passes3_26 rfl (by decide) ?_
      refine sv_aload_n dX3_passes3_29 rfl ?_
      refine sm_get hn fg_X3_3 dX3_passes3_30 rfl ?_
      refine sv_topI (y := _) (show upd M.1 0 (nI (t_hr _ _ _)) 0 = nI (t_hr _ _ _) from pk_us) ?_
      refine sv_if_neN (tgt := 40) dX3_passes3_33 (by decide) (by omega) (fun c33 => ?_) (fun c33 => ?_)
      · refine sv_iconst (nI 0) dX3_passes3_40 (by decide +kernel) ?_
        refine sv_iret (by first | exact b_I_nar _ | rfl) rfl dX3_passes3_41 ?_
        first | (exfalso; omega) | exact ⟨_, rfl, rfl, rfl⟩
      · refine sv_iconst (nI 1) dX3_passes3_36 (by decide +kernel) ?_
        refine sv_goto (tgt := 41) dX3_passes3_37 (by decide) ?_
        refine sv_iret (by first | exact b_I_nar _ | rfl) rfl dX3_passes3_41 ?_
        first | (exfalso; omega) | exact ⟨_, rfl, rfl, rfl⟩
  · subst c2
    have ht : nI 1 = nI (t_hr false b c) := rfl
    have hv : t_hr false b c = 1 := rfl
    refine sv_iconst (nI 1) dX3_passes3_5 (by decide +kernel) ?_
    refine sv_goto (tgt := 26) dX3_passes3_6 (by decide) ?_
    rw [ht]
    refine sm_put hn fp_X3_3 dX3_passes3_26 rfl (by decide) ?_
    refine sv_aload_n dX3_passes3_29 rfl ?_
    refine sm_get hn fg_X3_3 dX3_passes3_30 rfl ?_
    refine sv_topI (y := _) (show upd M.1 0 (nI (t_hr _ _ _)) 0 = nI (t_hr _ _ _) from pk_us) ?_
    refine sv_if_neN (tgt := 40) dX3_passes3_33 (by decide) (by omega) (fun c33 => ?_) (fun c33 => ?_)
    · refine sv_iconst (nI 0) dX3_passes3_40 (by decide +kernel) ?_
      refine sv_iret (by first | exact b_I_nar _ | rfl) rfl dX3_passes3_41 ?_
      first | (exfalso; omega) | exact ⟨_, rfl, rfl, rfl⟩
    · refine sv_iconst (nI 1) dX3_passes3_36 (by decide +kernel) ?_
      refine sv_goto (tgt := 41) dX3_passes3_37 (by decide) ?_
      refine sv_iret (by first | exact b_I_nar _ | rfl) rfl dX3_passes3_41 ?_
      first | (exfalso; omega) | exact ⟨_, rfl, rfl, rfl⟩
theorem ct_passes2 (hn : h + 11 < sx_n σ) {a b : Bool} : sx_Cr G 1 YX3_passes2 [.ref h, .int (b_I a), .int (b_I b)] (m_S G h M σ) (some (.int (b_I (a && b)))) (m_S G h (m_i M 0 (nI (t_hr a b true))) σ) := by
  refine sx_body (by decide) (Nat.le_of_ble_eq_true rfl) ?_
  refine sv_aload_n dX3_passes2_0 rfl ?_
  refine sv_iload_n dX3_passes2_1 rfl ?_
  refine sv_iload_n dX3_passes2_2 rfl ?_
  refine sv_iconst (nI 1) dX3_passes2_3 (by decide +kernel) ?_
  refine sv_cvR _ (ct_passes3 (c := true) hn) okX3_passes3 kv_X3_7 (sx_rd_c (m_S_0 hn)) rfl dX3_passes2_4 rfl rfl (by decide) (Nat.le_of_ble_eq_true rfl) ?_
  refine sv_iret (by first | exact b_I_nar _ | rfl) rfl dX3_passes2_7 ?_
  exact ⟨_, rfl, r_I (by rw [Bool.and_true]), rfl⟩
theorem ct_passes (hn : h + 11 < sx_n σ) {a : Bool} : sx_Cr G 1 YX3_passes [.ref h, .int (b_I a)] (m_S G h M σ) (some (.int (b_I a))) (m_S G h (m_i M 0 (nI (t_hr a true true))) σ) := by
  refine sx_body (by decide) (Nat.le_of_ble_eq_true rfl) ?_
  refine sv_aload_n dX3_passes_0 rfl ?_
  refine sv_iload_n dX3_passes_1 rfl ?_
  refine sv_iconst (nI 1) dX3_passes_2 (by decide +kernel) ?_
  refine sv_iconst (nI 1) dX3_passes_3 (by decide +kernel) ?_
  refine sv_cvR _ (ct_passes3 (b := true) (c := true) hn) okX3_passes3 kv_X3_7 (sx_rd_c (m_S_0 hn)) rfl dX3_passes_4 rfl rfl (by decide) (Nat.le_of_ble_eq_true rfl) ?_
  refine sv_iret (by first | exact b_I_nar _ | rfl) rfl dX3_passes_7 ?_
  exact ⟨_, rfl, r_I (by rw [Bool.and_true, Bool.and_true]), rfl⟩
theorem m_J_t (hJ : m_J M A) (x : Int32) : m_J (m_i M 0 x) (A_st A x) := by
  obtain ⟨g1, g2, g3, g4, g5, g6, g7, g8, g9, g10, g11⟩ := hJ
  exact ⟨g1, g2, g3, ⟨g4.1, g4.2.1, g4.2.2⟩, g5, ⟨g6.1, g6.2.1, g6.2.2⟩, ⟨g7.1, g7.2.1, g7.2.2⟩, g8, g9, ⟨g10.1, g10.2.1, g10.2.2⟩, show upd M.1 0 x 0 = x from pk_us⟩
/-- the reference with a notice more -/
def m_nt (M : m_M) (c s k : Nat) (n f : Int32) : m_M := m_n (m_i (m_b (m_b (m_b (m_b M 0 (upd (M.2.2.2 0) (4 * c) (nI s))) 0 (upd (upd (M.2.2.2 0) (4 * c) (nI s)) (4 * c + 1) (nI k))) 0 (upd (upd (upd (M.2.2.2 0) (4 * c) (nI s)) (4 * c + 1) (nI k)) (4 * c + 2) n)) 0 (upd (upd (upd (upd (M.2.2.2 0) (4 * c) (nI s)) (4 * c + 1) (nI k)) (4 * c + 2) n) (4 * c + 3) f)) 5 (nI (c + 1))) (282 + 131 * s + 6 + 1 + k) (M.2.2.1 0 (282 + 131 * s + 6 + 1 + k) + 1)
theorem m_J_nt {s k : Nat} {n f : Int32} (hJ : m_J M A) (hs : s < (A_v A).2.2.length) (hk : k < 3) (hl : (A_n A).length < 1000) : m_J (m_nt M (A_n A).length s k n f) (s_no A s k n f) := by
  have hJ2 := hJ
  obtain ⟨g1, g2, g3, g4, g5, g6, g7, g8, g9, g10, g11⟩ := hJ
  refine m_J_v hJ2 rfl (fun j hj => ?_) (fun t ht => ?_) (fun t ht _ => ?_) ?_ (w_V_ac g3 hs) ⟨by rw [List.length_append]; exact hl, ?_, fun i hi w hw => ?_⟩
  · show upd M.1 5 _ j = M.1 j
    exact pk_un hj
  · show (if t = 0 then _ else M.2.2.1 t) = M.2.2.1 t
    rw [if_neg ht]
  · simp [m_nt, m_n, m_a, m_i, m_b, ht]
  · have := e_V_ac (x := 1) g3 hs (show k + 1 < 5 by omega) g2
    rw [show 282 + 131 * s + 6 + (k + 1) = 282 + 131 * s + 6 + 1 + k by omega] at this
    exact this
  · show upd M.1 5 _ 5 = _
    rw [pk_us, List.length_append]
    rfl
  · have e : (m_nt M (A_n A).length s k n f).2.2.2 0 = upd (upd (upd (upd (M.2.2.2 0) (4 * (A_n A).length) (nI s)) (4 * (A_n A).length + 1) (nI k)) (4 * (A_n A).length + 2) n) (4 * (A_n A).length + 3) f := by simp [m_nt, m_n, m_a, m_i, m_b]
    rw [e]
    rw [List.length_append, List.length_singleton] at hi
    by_cases hil : i < (A_n A).length
    · rw [pk_un (by omega), pk_un (by omega), pk_un (by omega), pk_un (by omega), g6.2.2 i hil w hw, List.getD_eq_getElem?_getD, List.getD_eq_getElem?_getD, List.getElem?_append_left hil]
    · have hi2 : i = (A_n A).length := by omega
      subst hi2
      rw [List.getD_eq_getElem?_getD, List.getElem?_append_right (Nat.le_refl _), Nat.sub_self]
      match w, hw with
      | 0, _ => rw [pk_un (by omega), pk_un (by omega), pk_un (by omega)]; exact pk_us (f := M.2.2.2 0) (k := 4 * (A_n A).length) (x := nI s)
      | 1, _ => rw [pk_un (by omega), pk_un (by omega), pk_us]; rfl
      | 2, _ => rw [pk_un (by omega), pk_us]; rfl
      | 3, _ => rw [pk_us]; rfl
theorem ct_notes (hn : h + 11 < sx_n σ) (hJ : m_J M A) {s k : Nat} {n f : Int32} (hs : s < (A_v A).2.2.length) (hk : k < 3) (hl : (A_n A).length < 1000) : sx_Cr G 1 YX3_notes [.ref h, .int (nI s), .int (nI k), .int n, .int f] (m_S G h M σ) none (m_S G h (m_nt M (A_n A).length s k n f) σ) := by
  refine sx_body (by decide) (Nat.le_of_ble_eq_true rfl) ?_
  have hc : M.1 5 = nI (A_n A).length := hJ.2.2.2.2.2.1.2.1
  have hw2 := hJ.2.2.1.1.2.1
  refine sv_iconst (nI 4) dX3_notes_0 (by decide +kernel) ?_
  refine sv_aload_n dX3_notes_1 rfl ?_
  refine sm_get hn fg_X3_138 dX3_notes_2 rfl ?_
  refine sv_topI hc ?_
  refine sv_imulN dX3_notes_5 ?_
  refine sv_istore dX3_notes_6 (by decide) ?_
  refine sv_aload_n dX3_notes_8 rfl ?_
  refine sm_get hn fg_X3_27 dX3_notes_9 rfl ?_
  refine sv_iload dX3_notes_12 rfl ?_
  refine sv_iload_n dX3_notes_14 rfl ?_
  refine sm_b0st hn dX3_notes_15 (by omega) ?_
  refine sv_aload_n dX3_notes_16 rfl ?_
  refine sm_get hn fg_X3_27 dX3_notes_17 rfl ?_
  refine sv_iload dX3_notes_20 rfl ?_
  refine sv_iconst (nI 1) dX3_notes_22 (by decide +kernel) ?_
  refine sv_iaddN dX3_notes_23 ?_
  refine sv_iload_n dX3_notes_24 rfl ?_
  refine sm_b0st hn dX3_notes_25 (by omega) ?_
  refine sv_aload_n dX3_notes_26 rfl ?_
  refine sm_get hn fg_X3_27 dX3_notes_27 rfl ?_
  refine sv_iload dX3_notes_30 rfl ?_
  refine sv_iconst (nI 2) dX3_notes_32 (by decide +kernel) ?_
  refine sv_iaddN dX3_notes_33 ?_
  refine sv_iload_n dX3_notes_34 rfl ?_
  refine sm_b0st hn dX3_notes_35 (by omega) ?_
  refine sv_aload_n dX3_notes_36 rfl ?_
  refine sm_get hn fg_X3_27 dX3_notes_37 rfl ?_
  refine sv_iload dX3_notes_40 rfl ?_
  refine sv_iconst (nI 3) dX3_notes_42 (by decide +kernel) ?_
  refine sv_iaddN dX3_notes_43 ?_
  refine sv_iload dX3_notes_44 rfl ?_
  refine sm_b0st hn dX3_notes_46 (by omega) ?_
  refine sv_aload_n dX3_notes_47 rfl ?_
  refine sv_dup dX3_notes_48 rfl ?_
  refine sm_get hn fg_X3_138 dX3_notes_49 rfl ?_
  refine sv_topI (y := nI (A_n A).length) hc ?_
  refine sv_iconst (nI 1) dX3_notes_52 (by decide +kernel) ?_
  refine sv_iaddN dX3_notes_53 ?_
  refine sm_put hn fp_X3_138 dX3_notes_54 rfl (by decide) ?_
  refine sv_aload_n dX3_notes_57 rfl ?_
  refine sm_get hn fg_X3_17 dX3_notes_58 rfl ?_
  refine sv_iload_n dX3_notes_61 rfl ?_
  refine sv_csR _ ct_sessionAt okX3_sessionAt ks_X3_84 dX3_notes_62 rfl rfl (by decide) (Nat.le_of_ble_eq_true rfl) ?_
  refine sv_bipush (nI 6) dX3_notes_65 (by decide +kernel) ?_
  refine sv_iaddN dX3_notes_67 ?_
  refine sv_iconst (nI 1) dX3_notes_68 (by decide +kernel) ?_
  refine sv_iaddN dX3_notes_69 ?_
  refine sv_iload_n dX3_notes_70 rfl ?_
  refine sv_iaddN dX3_notes_71 ?_
  refine sv_dup2 dX3_notes_72 rfl rfl ?_
  refine sm_nld hn dX3_notes_73 (by omega) ?_
  refine sv_lconst 1 dX3_notes_74 (by decide) ?_
  refine sv_ladd dX3_notes_75 ?_
  refine sm_nst hn dX3_notes_76 (by omega) ?_
  refine sv_vret rfl dX3_notes_77 ?_
  exact ⟨_, rfl, rfl, by unfold m_nt; rfl⟩
end MRD
