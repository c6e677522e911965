set_option maxRecDepth 100000
section MRQ
variable {G : sx_G} {h : Nat} {M : m_M} {σ : sx_St} {V : a_V} {A : a_A} {r r' : Nat → Int64} {t : Nat}
/-- the messages of a range of entries -/
def a_mf (V : a_V) (s f k : Nat) : List a_M := (a_ms V (a_bs V s)).filter (r_g (a_es V s) f k)
theorem a_mf_e {s c : Nat} (h : a_bx V s = some c) (f k : Nat) : a_mf V s f k = (a_ms V c).filter (r_g (a_es V s) f k) := by unfold a_mf; rw [a_bs_e h]
theorem m_J_c1 {f : Nat → Int32} (hJ : m_J M A) : m_J (m_b M 1 f) A := m_J_v (V' := A_v A) (ns := A_n A) hJ rfl (fun _ _ => rfl) (fun _ _ => rfl) (fun k _ h1 => by simp [m_b, h1]) hJ.2.1 hJ.2.2.1 (by have := hJ.2.2.2.2.2.1; simpa [m_b] using this)
theorem ct_copies (hn : h + 11 < sx_n σ) (hJ : m_J M A) (ho : o_V t (A_v A)) (ht6 : t ≤ 1000) {s c b f u : Nat} (hs : s < (A_v A).2.2.length) (hbx : a_bx (A_v A) s = some c) (hb : b < (A_v A).2.1.length) (hfu : f ≤ u) (hu : u ≤ (a_es (A_v A) s).length) (hrm : a_room (A_v A) b (a_th (A_v A) s f (u - f)) = true) : sx_Cp G 6 YX3_copies [.ref h, .int (nI s), .int (nI (f + 1)), .int (nI u), .int (nI b)] (m_S G h M σ) (fun v τ => v = some (.int (nI (a_mf (A_v A) s f u).length)) ∧ ∃ M2, τ = m_S G h M2 σ ∧ m_J M2 (A_sv A (v_cs (A_v A) b (a_mf (A_v A) s f u))) ∧ (∀ j, j < (a_mf (A_v A) s f u).length → M2.2.2.2 1 j = ((a_mf (A_v A) s f u).getD j (0, 0, 0)).1)) := by
  have loop : ∀ q i M, m_J M (A_sv A (v_cs (A_v A) b (a_mf (A_v A) s f i))) → (∀ j, j < (a_mf (A_v A) s f i).length → M.2.2.2 1 j = ((a_mf (A_v A) s f i).getD j (0, 0, 0)).1) → f ≤ i → i ≤ u → u + 1 ≤ i + q → sx_V G 6 YX3_copies 6 [some (.ref h), some (.int (nI s)), some (.int (nI (f + 1))), some (.int (nI u)), some (.int (nI b)), some (.int (nI (a_mf (A_v A) s f i).length)), some (.int (nI (i + 1))), none, none] [] (m_S G h M σ) (fun o τ => ∃ v, o = .inl v ∧ v = some (.int (nI (a_mf (A_v A) s f u).length)) ∧ ∃ M2, τ = m_S G h M2 σ ∧ m_J M2 (A_sv A (v_cs (A_v A) b (a_mf (A_v A) s f u))) ∧ (∀ j, j < (a_mf (A_v A) s f u).length → M2.2.2.2 1 j = ((a_mf (A_v A) s f u).getD j (0, 0, 0)).1)) := by
    have hc : c < (A_v A).2.1.length := hJ.2.2.1.2.2.1 s c hs hbx
    have hth : a_th (A_v A) s f (u - f) = (a_mf (A_v A) s f u).length := by rw [th_fl ho hs hbx hc (u - f) (by omega), show f + (u - f) = u by omega, a_mf_e hbx]
    have hel := hJ.2.2.1.2.1 s hs
    have hml := hJ.2.2.1.1.2.2 b hb
    have hb3 := hJ.2.2.1.1.1
    have hs4 := hJ.2.2.1.1.2.1
    have hE : E_lt (a_es (A_v A) s) := (ho.2.2 s hs).1.2.1
    have hL : L_lt (a_ms (A_v A) c) := (ho.2.1 c hc).2.2.1
    have hrl : (a_mf (A_v A) s f u).length = 0 ∨ (a_ms (A_v A) b).length + (a_mf (A_v A) s f u).length ≤ 30 := by rcases Nat.eq_zero_or_pos (a_mf (A_v A) s f u).length with q | q; exact Or.inl q; have := room_lt (k := a_th (A_v A) s f (u - f)) ho hml (by have := a_th_le (A_v A) s f (u - f); omega) hrm (by rw [hth]; exact q); rw [hth] at this; exact Or.inr this
    intro q
    induction q with
    | zero => intro i M hJ hcp g1 g2 g3; exact absurd g3 (by omega)
    | succ q ih =>
    intro i M hJ hcp g1 g2 g3
    have hmn : (a_mf (A_v A) s f i).length ≤ (a_mf (A_v A) s f u).length := by rw [a_mf_e hbx, a_mf_e hbx]; exact fl_mono g2
    have hbV : b < (A_v (A_sv A (v_cs (A_v A) b (a_mf (A_v A) s f i)))).2.1.length := Nat.lt_of_lt_of_eq hb (a_ub_n _ _ _).symm
    have hcV : c < (A_v (A_sv A (v_cs (A_v A) b (a_mf (A_v A) s f i)))).2.1.length := Nat.lt_of_lt_of_eq hc (a_ub_n _ _ _).symm
    have hmlV := hJ.2.2.1.1.2.2 c hcV
    have hFl : (a_mf (A_v A) s f u).length ≤ 30 := by omega
    refine sv_iload dX3_copies_6 rfl ?_
    refine sv_iload_n dX3_copies_8 rfl ?_
    refine sv_icmp_gtN (tgt := 86) dX3_copies_9 (by decide) (by omega) (by omega) (fun c9 => ?_) (fun c9 => ?_)
    · have hi : i = u := by omega
      subst hi
      refine sv_iload dX3_copies_86 rfl ?_
      refine sv_iret rfl rfl dX3_copies_88 ?_
      exact ⟨_, rfl, rfl, M, rfl, hJ, hcp⟩
    · have hi : i < (a_es (A_v (A_sv A (v_cs (A_v A) b (a_mf (A_v A) s f i)))) s).length := by show i < (a_es (A_v A) s).length; omega
      have hi0 : i < (a_es (A_v A) s).length := hi
      refine sv_aload_n dX3_copies_12 rfl ?_
      refine sv_iload_n dX3_copies_13 rfl ?_
      refine sv_iload dX3_copies_14 rfl ?_
      refine sv_cvR _ (ct_messageOf hn (m_J_e hJ) hJ.2.2.1 hs hbx hi) okX3_messageOf kv_X3_113 (sx_rd_c (m_S_0 hn)) rfl dX3_copies_16 rfl rfl (by decide) (Nat.le_of_ble_eq_true rfl) ?_
      rw [show a_mo (A_v (A_sv A (v_cs (A_v A) b (a_mf (A_v A) s f i)))) s i = a_mo (A_v A) s i from a_mo_cs ho ht6 hs hbx hc hi0 (by omega)]
      refine sv_istore dX3_copies_19 (by decide) ?_
      refine sv_iload dX3_copies_21 rfl ?_
      refine sv_iconst (-1) dX3_copies_23 (by decide +kernel) ?_
      refine sv_icmp_ne (tgt := 30) dX3_copies_24 (by decide) (fun c24 => ?_) (fun c24 => ?_)
      · obtain ⟨m, hmo⟩ : ∃ m, a_mo (A_v A) s i = some m := by cases hmo : a_mo (A_v A) s i with | some m => exact ⟨m, rfl⟩ | none => rw [hmo] at c24; exact absurd rfl c24
        rw [hmo]
        have hfn : a_find (a_ms (A_v A) c) ((a_es (A_v A) s).getD i (0, 0)).1 = some m := (a_mo_e hbx).symm.trans hmo
        have hm0 : m < (a_ms (A_v A) c).length := a_find_lt hfn
        have hxm : a_m (A_v (A_sv A (v_cs (A_v A) b (a_mf (A_v A) s f i)))) c m = a_m (A_v A) c m := v_cs_m hm0
        have hF1 : (a_mf (A_v A) s f (i + 1)) = (a_mf (A_v A) s f i) ++ [a_m (A_v A) c m] := by rw [a_mf_e hbx, a_mf_e hbx]; exact fl_some hE hL g1 hi0 hfn
        have hmn1 : (a_mf (A_v A) s f (i + 1)).length ≤ (a_mf (A_v A) s f u).length := by rw [a_mf_e hbx, a_mf_e hbx]; exact fl_mono (by omega)
        rw [hF1, List.length_append, List.length_singleton] at hmn1
        have hm : m < (a_ms (A_v (A_sv A (v_cs (A_v A) b (a_mf (A_v A) s f i)))) c).length := by obtain ⟨l2, h1, _⟩ := v_cs_ms (V := A_v A) (b := b) (c := c) (l := (a_mf (A_v A) s f i)); rw [show a_ms (A_v (A_sv A (v_cs (A_v A) b (a_mf (A_v A) s f i)))) c = _ from h1, List.length_append]; omega
        obtain ⟨pre, x, post, hsp, hpl, hx, _⟩ := a_find_s hfn
        have hxu : (a_m (A_v A) c m).1 = ((a_es (A_v A) s).getD i (0, 0)).1 := by show ((a_ms (A_v A) c).getD m (0, 0, 0)).1 = _; rw [hsp, ← hpl, gd_mid]; exact hx
        show sx_V G 6 _ _ [_, _, _, _, _, _, _, some (.int (nI m)), _] _ _ _
        refine sv_aload_n dX3_copies_30 rfl ?_
        refine sm_get hn fg_X3_31 dX3_copies_31 rfl ?_
        refine sv_iload dX3_copies_34 rfl ?_
        refine sv_aload_n dX3_copies_36 rfl ?_
        refine sv_iload_n dX3_copies_37 rfl ?_
        refine sv_iload dX3_copies_38 rfl ?_
        refine sv_iconst (nI 0) dX3_copies_40 (by decide +kernel) ?_
        refine sv_cvR _ (ct_euid hn (m_J_e hJ) hJ.2.2.1 hs hi) okX3_ofEntry kv_X3_107 (sx_rd_c (m_S_0 hn)) rfl dX3_copies_41 rfl rfl (by decide) (Nat.le_of_ble_eq_true rfl) ?_
        refine sm_b1st hn dX3_copies_44 (by omega) ?_
        have hJ2 : m_J _ (A_sv A (v_cs (A_v A) b (a_mf (A_v A) s f i))) := m_J_c1 (f := upd (M.2.2.2 1) (a_mf (A_v A) s f i).length (a_e (A_v (A_sv A (v_cs (A_v A) b (a_mf (A_v A) s f i)))) s i).1) hJ
        refine sv_iincN dX3_copies_45 rfl (by decide) ?_
        refine sv_aload_n dX3_copies_48 rfl ?_
        refine sv_iload dX3_copies_49 rfl ?_
        refine sv_aload_n dX3_copies_51 rfl ?_
        refine sv_aload_n dX3_copies_52 rfl ?_
        refine sv_iload_n dX3_copies_53 rfl ?_
        refine sv_cvR _ (ct_boxOf hn (m_J_e hJ2) hJ2.2.2.1 hs) okX3_boxOf kv_X3_87 (sx_rd_c (m_S_0 hn)) rfl dX3_copies_54 rfl rfl (by decide) (Nat.le_of_ble_eq_true rfl) ?_
        rw [show a_bx (A_v (A_sv A (v_cs (A_v A) b (a_mf (A_v A) s f i)))) s = some c from hbx]
        show sx_V G 6 _ _ _ (.int (nI c) :: _) _ _
        refine sv_iload dX3_copies_57 rfl ?_
        refine sv_iconst (nI 1) dX3_copies_59 (by decide +kernel) ?_
        refine sv_cvR _ (ct_size hn (m_J_e hJ2).1 hJ2.2.2.1.1 hcV hm) okX3_ofMessage kv_X3_103 (sx_rd_c (m_S_0 hn)) rfl dX3_copies_60 rfl rfl (by decide) (Nat.le_of_ble_eq_true rfl) ?_
        rw [hxm]
        refine sv_aload_n dX3_copies_63 rfl ?_
        refine sv_aload_n dX3_copies_64 rfl ?_
        refine sv_iload_n dX3_copies_65 rfl ?_
        refine sv_cvR _ (ct_boxOf hn (m_J_e hJ2) hJ2.2.2.1 hs) okX3_boxOf kv_X3_87 (sx_rd_c (m_S_0 hn)) rfl dX3_copies_66 rfl rfl (by decide) (Nat.le_of_ble_eq_true rfl) ?_
        rw [show a_bx (A_v (A_sv A (v_cs (A_v A) b (a_mf (A_v A) s f i)))) s = some c from hbx]
        show sx_V G 6 _ _ _ (.int (nI c) :: _) _ _
        refine sv_iload dX3_copies_69 rfl ?_
        refine sv_iconst (nI 2) dX3_copies_71 (by decide +kernel) ?_
        refine sv_cvR _ (ct_flags hn (m_J_e hJ2).1 hJ2.2.2.1.1 hcV hm) okX3_ofMessage kv_X3_103 (sx_rd_c (m_S_0 hn)) rfl dX3_copies_72 rfl rfl (by decide) (Nat.le_of_ble_eq_true rfl) ?_
        rw [hxm]
        have hbe : a_b (A_v (A_sv A (v_cs (A_v A) b (a_mf (A_v A) s f i)))) b = _ := v_cs_b hb
        have hln : (a_ms (A_v (A_sv A (v_cs (A_v A) b (a_mf (A_v A) s f i)))) b).length = (a_ms (A_v A) b).length + (a_mf (A_v A) s f i).length := by unfold a_ms; rw [hbe]; dsimp only; rw [List.length_append, n_um_l]; rfl
        have hmb := ((m_J_e hJ2).1.2.2.2 b hbV).2.1
        rw [show (a_b (A_v (A_sv A (v_cs (A_v A) b (a_mf (A_v A) s f i)))) b).2.2.length = _ from hln] at hmb
        refine sv_cvR _ (ct_comes (n := (a_ms (A_v A) b).length + (a_mf (A_v A) s f i).length) hn (by omega) (by omega) hmb) okX3_comes kv_X3_247 (sx_rd_c (m_S_0 hn)) rfl dX3_copies_75 rfl rfl (by decide) (Nat.le_of_ble_eq_true rfl) ?_
        have he2 := m_J_e hJ2
        have he4 := e_V_co (sz := (a_m (A_v A) c m).2.1) (fl := (a_m (A_v A) c m).2.2) hJ2.2.2.1 hbV (by rw [hln]; omega) (by rw [hbe]; dsimp only; rw [(o_far ho ht6 hb (by omega)).2]; have := (ho.2.1 b hb).1.2; omega) he2
        rw [hln] at he4
        have hJ3 := m_J_fr hJ2 (m_fr_cm (m_fr_r hJ2.1)) he4 (w_V_co hJ2.2.2.1 (by rw [hln]; omega))
        rw [show v_co (A_v (A_sv A (v_cs (A_v A) b (a_mf (A_v A) s f i)))) b (a_m (A_v A) c m).2.1 (a_m (A_v A) c m).2.2 = v_cs (A_v A) b (a_mf (A_v A) s f (i + 1)) from by rw [hF1]; exact v_cs_s hb] at hJ3
        have hJ3 : m_J _ (A_sv A (v_cs (A_v A) b (a_mf (A_v A) s f (i + 1)))) := hJ3
        have hih := ih (i + 1) _ hJ3 ?_ (by omega) (by omega) (by omega)
        rotate_left
        · intro j hj
          rw [hF1] at hj ⊢
          rw [gd_appM _ _ _ hj]
          rw [List.length_append, List.length_singleton] at hj
          show upd (M.2.2.2 1) (a_mf (A_v A) s f i).length _ j = _
          by_cases hjl : j < (a_mf (A_v A) s f i).length
          · rw [if_pos hjl, pk_un (by omega)]; exact hcp j hjl
          · rw [if_neg hjl, show j = (a_mf (A_v A) s f i).length by omega, pk_us]; exact hxu.symm
        rw [hF1, List.length_append, List.length_singleton] at hih
        refine sv_istore dX3_copies_78 (by decide) ?_
        refine sv_iincN dX3_copies_80 rfl (by decide) ?_
        refine sv_goto (tgt := 6) dX3_copies_83 (by decide) ?_
        exact sx_loc [some (.ref h), some (.int (nI s)), some (.int (nI (f + 1))), some (.int (nI u)), some (.int (nI b)), some (.int _), some (.int (nI (i + 1 + 1))), none, none] ⟨rfl, rfl, rfl, rfl, rfl, rfl, rfl, trivial⟩ hih
      · have hmo : a_mo (A_v A) s i = none := by cases hmo : a_mo (A_v A) s i with | none => rfl | some m => rw [hmo] at c24; have := (o_I_m1 (some m) (fun k hk => by cases hk; exact a_mo_lt hJ.2.2.1 hs _ ((a_mo_cs (b := b) (l := (a_mf (A_v A) s f i)) ho ht6 hs hbx hc hi0 (by omega)).trans hmo))).mp c24; cases this
        have hfn : a_find (a_ms (A_v A) c) ((a_es (A_v A) s).getD i (0, 0)).1 = none := (a_mo_e hbx).symm.trans hmo
        have hF1 : (a_mf (A_v A) s f i) = (a_mf (A_v A) s f (i + 1)) := by rw [a_mf_e hbx, a_mf_e hbx, fl_none hE hfn]
        rw [hF1] at hJ hcp ⊢
        have hih := ih (i + 1) M hJ hcp (by omega) (by omega) (by omega)
        refine sv_goto (tgt := 80) dX3_copies_27 (by decide) ?_
        refine sv_iincN dX3_copies_80 rfl (by decide) ?_
        refine sv_goto (tgt := 6) dX3_copies_83 (by decide) ?_
        exact sx_loc [some (.ref h), some (.int (nI s)), some (.int (nI (f + 1))), some (.int (nI u)), some (.int (nI b)), some (.int _), some (.int (nI (i + 1 + 1))), none, none] ⟨rfl, rfl, rfl, rfl, rfl, rfl, rfl, trivial⟩ hih
  refine sx_body (by decide) (Nat.le_of_ble_eq_true rfl) ?_
  have hc : c < (A_v A).2.1.length := hJ.2.2.1.2.2.1 s c hs hbx
  have hth : a_th (A_v A) s f (u - f) = (a_mf (A_v A) s f u).length := by rw [th_fl ho hs hbx hc (u - f) (by omega), show f + (u - f) = u by omega, a_mf_e hbx]
  have hel := hJ.2.2.1.2.1 s hs
  have hml := hJ.2.2.1.1.2.2 b hb
  have hb3 := hJ.2.2.1.1.1
  have hs4 := hJ.2.2.1.1.2.1
  have hE : E_lt (a_es (A_v A) s) := (ho.2.2 s hs).1.2.1
  have hL : L_lt (a_ms (A_v A) c) := (ho.2.1 c hc).2.2.1
  have hrl : (a_mf (A_v A) s f u).length = 0 ∨ (a_ms (A_v A) b).length + (a_mf (A_v A) s f u).length ≤ 30 := by rcases Nat.eq_zero_or_pos (a_mf (A_v A) s f u).length with q | q; exact Or.inl q; have := room_lt (k := a_th (A_v A) s f (u - f)) ho hml (by have := a_th_le (A_v A) s f (u - f); omega) hrm (by rw [hth]; exact q); rw [hth] at this; exact Or.inr this
  refine sv_iconst (nI 0) dX3_copies_0 (by decide +kernel) ?_
  refine sv_istore dX3_copies_1 (by decide) ?_
  refine sv_iload_n dX3_copies_3 rfl ?_
  refine sv_istore dX3_copies_4 (by decide) ?_
  have hz : (a_mf (A_v A) s f f) = [] := by rw [a_mf_e hbx]; exact List.filter_eq_nil_iff.mpr (fun m _ => by rw [r_g_0]; decide)
  have hlo := loop (u - f + 1) f M (by rw [hz, v_cs_nil hb]; exact hJ) (by rw [hz]; intro j hj; exact absurd hj (Nat.not_lt_zero j)) (by omega) (by omega) (by omega)
  rw [hz] at hlo
  exact sx_loc [some (.ref h), some (.int (nI s)), some (.int (nI (f + 1))), some (.int (nI u)), some (.int (nI b)), some (.int (nI 0)), some (.int (nI (f + 1))), none, none] ⟨rfl, rfl, rfl, rfl, rfl, rfl, rfl, trivial⟩ hlo
def a_X (V : a_V) (s k l b : Int32) : Bool := a_are V s k l && i_in b V.2.1.length
def a_Z (V : a_V) (s k l b : Int32) (can : Bool) : Bool := (a_X V s k l b && decide (k ≤ l)) && (can && a_room V b.toNatClampNeg (a_th V s.toNatClampNeg (k.toNatClampNeg - 1) (l.toNatClampNeg - (k.toNatClampNeg - 1))))
theorem ct_asksCopy (hn : h + 11 < sx_n σ) (hE : e_V (m_w M) V) (hw : w_V V) {s k l b : Int32} {can : Bool} : sx_Cr G 7 YX3_asksCopy [.ref h, .int s, .int k, .int l, .int b, .int (b_I can)] (m_S G h M σ) (some (.int (b_I ((a_X V s k l b) && ((decide (k ≤ l)) && (a_Z V s k l b can)))))) (m_S G h (m_i M 0 (nI (t_hr (a_X V s k l b) (decide (k ≤ l)) (a_Z V s k l b can)))) σ) := by
  have tail2 : ∀ (s k l b : Int32), sx_V G 7 YX3_asksCopy 43 [some (.ref h), some (.int s), some (.int k), some (.int l), some (.int b), some (.int (b_I can)), some (.int (b_I (a_X V s k l b))), some (.int (b_I ((a_X V s k l b) && (decide (k ≤ l)))))] [] (m_S G h M σ) (fun o τ => ∃ v, o = .inl v ∧ v = (some (.int (b_I ((a_X V s k l b) && ((decide (k ≤ l)) && (a_Z V s k l b can)))))) ∧ τ = m_S G h (m_i M 0 (nI (t_hr (a_X V s k l b) (decide (k ≤ l)) (a_Z V s k l b can)))) σ) := by
    intro s k l b
    refine sv_aload_n dX3_asksCopy_43 rfl ?_
    refine sv_iload dX3_asksCopy_44 rfl ?_
    refine sv_iload_n dX3_asksCopy_46 rfl ?_
    refine sv_iload_n dX3_asksCopy_47 rfl ?_
    refine sv_icmp_lt (tgt := 55) dX3_asksCopy_48 (by decide) (fun c48 => ?_) (fun c48 => ?_)
    · have hjy : nI 0 = b_I (decide (k ≤ l)) := by rw [decide_eq_false (Int32.not_le.mpr c48)]; rfl
      refine sv_iconst (nI 0) dX3_asksCopy_55 (by decide +kernel) ?_
      refine sv_topI hjy ?_
      refine sv_iload dX3_asksCopy_56 rfl ?_
      refine sv_if_eqB (tgt := 86) dX3_asksCopy_58 (by decide) (fun c58 => ?_) (fun c58 => ?_)
      · have hjz : nI 0 = b_I (a_Z V s k l b can) := by unfold a_Z; rw [c58]; rfl
        refine sv_iconst (nI 0) dX3_asksCopy_86 (by decide +kernel) ?_
        refine sv_topI hjz ?_
        refine sv_cvR _ (ct_passes3 (a := a_X V s k l b) (b := decide (k ≤ l)) (c := a_Z V s k l b can) hn) okX3_passes3 kv_X3_7 (sx_rd_c (m_S_0 hn)) rfl dX3_asksCopy_87 rfl rfl (by decide) (Nat.le_of_ble_eq_true rfl) ?_
        refine sv_iret (by first | exact b_I_nar _ | rfl) rfl dX3_asksCopy_90 ?_
        exact ⟨_, rfl, rfl, rfl⟩
      · refine sv_iload dX3_asksCopy_61 rfl ?_
        refine sv_if_eqB (tgt := 86) dX3_asksCopy_63 (by decide) (fun c63 => ?_) (fun c63 => ?_)
        · have hjz : nI 0 = b_I (a_Z V s k l b can) := by unfold a_Z; rw [c63, Bool.false_and, Bool.and_false]; rfl
          refine sv_iconst (nI 0) dX3_asksCopy_86 (by decide +kernel) ?_
          refine sv_topI hjz ?_
          refine sv_cvR _ (ct_passes3 (a := a_X V s k l b) (b := decide (k ≤ l)) (c := a_Z V s k l b can) hn) okX3_passes3 kv_X3_7 (sx_rd_c (m_S_0 hn)) rfl dX3_asksCopy_87 rfl rfl (by decide) (Nat.le_of_ble_eq_true rfl) ?_
          refine sv_iret (by first | exact b_I_nar _ | rfl) rfl dX3_asksCopy_90 ?_
          exact ⟨_, rfl, rfl, rfl⟩
        · have hA := c58
          rw [Bool.and_eq_true] at hA
          have hA1 := hA.1
          unfold a_X at hA1
          rw [Bool.and_eq_true] at hA1
          obtain ⟨j, f, u, hj, hf, hu, es, ek, el, ej, ek2, el2⟩ := a_are_of hw hA1.1
          have hw1 := hw.1.1
          have hw2 := hw.1.2.1
          obtain ⟨c, hc, eb⟩ := i_in_of (by omega) hA1.2
          have ec : b.toNatClampNeg = c := by rw [eb]; exact nI_clamp (by omega)
          have hel := hw.2.1 j hj
          have hfu : f ≤ u := by have := of_decide_eq_true hA.2; rw [ek, el, nI_leI (by omega) (by omega)] at this; omega
          have hthl := a_th_le V j f (u + 1 - f)
          have hL9 : [some (Value.ref h), some (Value.int s), some (Value.int k), some (Value.int l), some (Value.int b), some (Value.int (b_I can)), (some (Value.int (b_I (a_X V s k l b)))), (some (Value.int (b_I (a_X V s k l b && decide (k ≤ l)))))] = [some (.ref h), some (.int (nI j)), some (.int (nI (f + 1))), some (.int (nI (u + 1))), some (.int (nI c)), some (.int (b_I can)), some (.int (b_I (a_X V s k l b))), some (.int (b_I (a_X V s k l b && decide (k ≤ l))))] := by rw [← es, ← ek, ← el, ← eb]
          rw [hL9]
          refine sv_aload_n dX3_asksCopy_66 rfl ?_
          refine sv_iload dX3_asksCopy_67 rfl ?_
          refine sv_aload_n dX3_asksCopy_69 rfl ?_
          refine sv_iload_n dX3_asksCopy_70 rfl ?_
          refine sv_iload_n dX3_asksCopy_71 rfl ?_
          refine sv_iload_n dX3_asksCopy_72 rfl ?_
          refine sv_cvR _ (ct_thereMany hn hE hw hj (by omega) (by omega)) okX3_thereMany kv_X3_250 (sx_rd_c (m_S_0 hn)) rfl dX3_asksCopy_73 rfl rfl (by decide) (Nat.le_of_ble_eq_true rfl) ?_
          refine sv_cvR _ (ct_hasRoom hn hE.1 hw.1 hc (by omega)) okX3_hasRoom kv_X3_253 (sx_rd_c (m_S_0 hn)) rfl dX3_asksCopy_76 rfl rfl (by decide) (Nat.le_of_ble_eq_true rfl) ?_
          refine sv_if_eqB (tgt := 86) dX3_asksCopy_79 (by decide) (fun c79 => ?_) (fun c79 => ?_)
          · have hjz : nI 0 = b_I (a_Z V s k l b can) := by unfold a_Z; rw [c58, c63, ej, ec, ek2, el2, Nat.add_sub_cancel, c79]; rfl
            refine sv_iconst (nI 0) dX3_asksCopy_86 (by decide +kernel) ?_
            refine sv_topI hjz ?_
            refine sv_cvR _ (ct_passes3 (a := a_X V s k l b) (b := decide (k ≤ l)) (c := a_Z V s k l b can) hn) okX3_passes3 kv_X3_7 (sx_rd_c (m_S_0 hn)) rfl dX3_asksCopy_87 rfl rfl (by decide) (Nat.le_of_ble_eq_true rfl) ?_
            refine sv_iret (by first | exact b_I_nar _ | rfl) rfl dX3_asksCopy_90 ?_
            exact ⟨_, rfl, rfl, rfl⟩
          · have hjz : nI 1 = b_I (a_Z V s k l b can) := by unfold a_Z; rw [c58, c63, ej, ec, ek2, el2, Nat.add_sub_cancel, c79]; rfl
            refine sv_iconst (nI 1) dX3_asksCopy_82 (by decide +kernel) ?_
            refine sv_goto (tgt := 87) dX3_asksCopy_83 (by decide) ?_
            refine sv_topI hjz ?_
            refine sv_cvR _ (ct_passes3 (a := a_X V s k l b) (b := decide (k ≤ l)) (c := a_Z V s k l b can) hn) okX3_passes3 kv_X3_7 (sx_rd_c (m_S_0 hn)) rfl dX3_asksCopy_87 rfl rfl (by decide) (Nat.le_of_ble_eq_true rfl) ?_
            refine sv_iret (by first | exact b_I_nar _ | rfl) rfl dX3_asksCopy_90 ?_
            exact ⟨_, rfl, rfl, rfl⟩
    · have hjy : nI 1 = b_I (decide (k ≤ l)) := by rw [decide_eq_true (Int32.not_lt.mp c48)]; rfl
      refine sv_iconst (nI 1) dX3_asksCopy_51 (by decide +kernel) ?_
      refine sv_goto (tgt := 56) dX3_asksCopy_52 (by decide) ?_
      refine sv_topI hjy ?_
      refine sv_iload dX3_asksCopy_56 rfl ?_
      refine sv_if_eqB (tgt := 86) dX3_asksCopy_58 (by decide) (fun c58 => ?_) (fun c58 => ?_)
      · have hjz : nI 0 = b_I (a_Z V s k l b can) := by unfold a_Z; rw [c58]; rfl
        refine sv_iconst (nI 0) dX3_asksCopy_86 (by decide +kernel) ?_
        refine sv_topI hjz ?_
        refine sv_cvR _ (ct_passes3 (a := a_X V s k l b) (b := decide (k ≤ l)) (c := a_Z V s k l b can) hn) okX3_passes3 kv_X3_7 (sx_rd_c (m_S_0 hn)) rfl dX3_asksCopy_87 rfl rfl (by decide) (Nat.le_of_ble_eq_true rfl) ?_
        refine sv_iret (by first | exact b_I_nar _ | rfl) rfl dX3_asksCopy_90 ?_
        exact ⟨_, rfl, rfl, rfl⟩
      · refine sv_iload dX3_asksCopy_61 rfl ?_
        refine sv_if_eqB (tgt := 86) dX3_asksCopy_63 (by decide) (fun c63 => ?_) (fun c63 => ?_)
        · have hjz : nI 0 = b_I (a_Z V s k l b can) := by unfold a_Z; rw [c63, Bool.false_and, Bool.and_false]; rfl
          refine sv_iconst (nI 0) dX3_asksCopy_86 (by decide +kernel) ?_
          refine sv_topI hjz ?_
          refine sv_cvR _ (ct_passes3 (a := a_X V s k l b) (b := decide (k ≤ l)) (c := a_Z V s k l b can) hn) okX3_passes3 kv_X3_7 (sx_rd_c (m_S_0 hn)) rfl dX3_asksCopy_87 rfl rfl (by decide) (Nat.le_of_ble_eq_true rfl) ?_
          refine sv_iret (by first | exact b_I_nar _ | rfl) rfl dX3_asksCopy_90 ?_
          exact ⟨_, rfl, rfl, rfl⟩
        · have hA := c58
          rw [Bool.and_eq_true] at hA
          have hA1 := hA.1
          unfold a_X at hA1
          rw [Bool.and_eq_true] at hA1
          obtain ⟨j, f, u, hj, hf, hu, es, ek, el, ej, ek2, el2⟩ := a_are_of hw hA1.1
          have hw1 := hw.1.1
          have hw2 := hw.1.2.1
          obtain ⟨c, hc, eb⟩ := i_in_of (by omega) hA1.2
          have ec : b.toNatClampNeg = c := by rw [eb]; exact nI_clamp (by omega)
          have hel := hw.2.1 j hj
          have hfu : f ≤ u := by have := of_decide_eq_true hA.2; rw [ek, el, nI_leI (by omega) (by omega)] at this; omega
          have hthl := a_th_le V j f (u + 1 - f)
          have hL9 : [some (Value.ref h), some (Value.int s), some (Value.int k), some (Value.int l), some (Value.int b), some (Value.int (b_I can)), (some (Value.int (b_I (a_X V s k l b)))), (some (Value.int (b_I (a_X V s k l b && decide (k ≤ l)))))] = [some (.ref h), some (.int (nI j)), some (.int (nI (f + 1))), some (.int (nI (u + 1))), some (.int (nI c)), some (.int (b_I can)), some (.int (b_I (a_X V s k l b))), some (.int (b_I (a_X V s k l b && decide (k ≤ l))))] := by rw [← es, ← ek, ← el, ← eb]
          rw [hL9]
          refine sv_aload_n dX3_asksCopy_66 rfl ?_
          refine sv_iload dX3_asksCopy_67 rfl ?_
          refine sv_aload_n dX3_asksCopy_69 rfl ?_
          refine sv_iload_n dX3_asksCopy_70 rfl ?_
          refine sv_iload_n dX3_asksCopy_71 rfl ?_
          refine sv_iload_n dX3_asksCopy_72 rfl ?_
          refine sv_cvR _ (ct_thereMany hn hE hw hj (by omega) (by omega)) okX3_thereMany kv_X3_250 (sx_rd_c (m_S_0 hn)) rfl dX3_asksCopy_73 rfl rfl (by decide) (Nat.le_of_ble_eq_true rfl) ?_
          refine sv_cvR _ (ct_hasRoom hn hE.1 hw.1 hc (by omega)) okX3_hasRoom kv_X3_253 (sx_rd_c (m_S_0 hn)) rfl dX3_asksCopy_76 rfl rfl (by decide) (Nat.le_of_ble_eq_true rfl) ?_
          refine sv_if_eqB (tgt := 86) dX3_asksCopy_79 (by decide) (fun c79 => ?_) (fun c79 => ?_)
          · have hjz : nI 0 = b_I (a_Z V s k l b can) := by unfold a_Z; rw [c58, c63, ej, ec, ek2, el2, Nat.add_sub_cancel, c79]; rfl
            refine sv_iconst (nI 0) dX3_asksCopy_86 (by decide +kernel) ?_
            refine sv_topI hjz ?_
            refine sv_cvR _ (ct_passes3 (a := a_X V s k l b) (b := decide (k ≤ l)) (c := a_Z V s k l b can) hn) okX3_passes3 kv_X3_7 (sx_rd_c (m_S_0 hn)) rfl dX3_asksCopy_87 rfl rfl (by decide) (Nat.le_of_ble_eq_true rfl) ?_
            refine sv_iret (by first | exact b_I_nar _ | rfl) rfl dX3_asksCopy_90 ?_
            exact ⟨_, rfl, rfl, rfl⟩
          · have hjz : nI 1 = b_I (a_Z V s k l b can) := by unfold a_Z; rw [c58, c63, ej, ec, ek2, el2, Nat.add_sub_cancel, c79]; rfl
            refine sv_iconst (nI 1) dX3_asksCopy_82 (by decide +kernel) ?_
            refine sv_goto (tgt := 87) dX3_asksCopy_83 (by decide) ?_
            refine sv_topI hjz ?_
            refine sv_cvR _ (ct_passes3 (a := a_X V s k l b) (b := decide (k ≤ l)) (c := a_Z V s k l b can) hn) okX3_passes3 kv_X3_7 (sx_rd_c (m_S_0 hn)) rfl dX3_asksCopy_87 rfl rfl (by decide) (Nat.le_of_ble_eq_true rfl) ?_
            refine sv_iret (by first | exact b_I_nar _ | rfl) rfl dX3_asksCopy_90 ?_
            exact ⟨_, rfl, rfl, rfl⟩
  have tail1 : ∀ (s k l b : Int32), sx_V G 7 YX3_asksCopy 26 [some (.ref h), some (.int s), some (.int k), some (.int l), some (.int b), some (.int (b_I can)), some (.int (b_I (a_X V s k l b))), none] [] (m_S G h M σ) (fun o τ => ∃ v, o = .inl v ∧ v = (some (.int (b_I ((a_X V s k l b) && ((decide (k ≤ l)) && (a_Z V s k l b can)))))) ∧ τ = m_S G h (m_i M 0 (nI (t_hr (a_X V s k l b) (decide (k ≤ l)) (a_Z V s k l b can)))) σ) := by
    intro s k l b
    refine sv_iload dX3_asksCopy_26 rfl ?_
    refine sv_if_eqB (tgt := 40) dX3_asksCopy_28 (by decide) (fun c28 => ?_) (fun c28 => ?_)
    · have hji : nI 0 = b_I ((a_X V s k l b) && (decide (k ≤ l))) := by rw [c28]; rfl
      refine sv_iconst (nI 0) dX3_asksCopy_40 (by decide +kernel) ?_
      refine sv_topI hji ?_
      refine sv_istore dX3_asksCopy_41 (by decide) ?_
      exact tail2 s k l b
    · refine sv_iload_n dX3_asksCopy_31 rfl ?_
      refine sv_iload_n dX3_asksCopy_32 rfl ?_
      refine sv_icmp_lt (tgt := 40) dX3_asksCopy_33 (by decide) (fun c33 => ?_) (fun c33 => ?_)
      · have hji : nI 0 = b_I ((a_X V s k l b) && (decide (k ≤ l))) := by rw [decide_eq_false (Int32.not_le.mpr c33), Bool.and_false]; rfl
        refine sv_iconst (nI 0) dX3_asksCopy_40 (by decide +kernel) ?_
        refine sv_topI hji ?_
        refine sv_istore dX3_asksCopy_41 (by decide) ?_
        exact tail2 s k l b
      · have hji : nI 1 = b_I ((a_X V s k l b) && (decide (k ≤ l))) := by rw [c28, decide_eq_true (Int32.not_lt.mp c33)]; rfl
        refine sv_iconst (nI 1) dX3_asksCopy_36 (by decide +kernel) ?_
        refine sv_goto (tgt := 41) dX3_asksCopy_37 (by decide) ?_
        refine sv_topI hji ?_
        refine sv_istore dX3_asksCopy_41 (by decide) ?_
        exact tail2 s k l b
  refine sx_body (by decide) (Nat.le_of_ble_eq_true rfl) ?_
  refine sv_aload_n dX3_asksCopy_0 rfl ?_
  refine sv_iload_n dX3_asksCopy_1 rfl ?_
  refine sv_iload_n dX3_asksCopy_2 rfl ?_
  refine sv_iload_n dX3_asksCopy_3 rfl ?_
  refine sv_cvR _ (ct_areEntries hn hE hw) okX3_areEntries kv_X3_206 (sx_rd_c (m_S_0 hn)) rfl dX3_asksCopy_4 rfl rfl (by decide) (Nat.le_of_ble_eq_true rfl) ?_
  refine sv_if_eqB (tgt := 23) dX3_asksCopy_7 (by decide) (fun c7 => ?_) (fun c7 => ?_)
  · have hjn : nI 0 = b_I (a_X V s k l b) := by unfold a_X; rw [show a_are V s k l = false from c7]; rfl
    refine sv_iconst (nI 0) dX3_asksCopy_23 (by decide +kernel) ?_
    refine sv_topI hjn ?_
    refine sv_istore dX3_asksCopy_24 (by decide) ?_
    exact sx_loc [some (.ref h), some (.int s), some (.int k), some (.int l), some (.int b), some (.int (b_I can)), some (.int (b_I (a_X V s k l b))), none] ⟨rfl, rfl, rfl, rfl, rfl, rfl, rfl, trivial⟩ (tail1 s k l b)
  · refine sv_aload_n dX3_asksCopy_10 rfl ?_
    refine sv_iload dX3_asksCopy_11 rfl ?_
    refine sv_cvR _ (ct_isBox hn hE.1 hw.1) okX3_isBox kv_X3_189 (sx_rd_c (m_S_0 hn)) rfl dX3_asksCopy_13 rfl rfl (by decide) (Nat.le_of_ble_eq_true rfl) ?_
    refine sv_if_eqB (tgt := 23) dX3_asksCopy_16 (by decide) (fun c16 => ?_) (fun c16 => ?_)
    · have hjn : nI 0 = b_I (a_X V s k l b) := by unfold a_X; rw [c16, Bool.and_false]; rfl
      refine sv_iconst (nI 0) dX3_asksCopy_23 (by decide +kernel) ?_
      refine sv_topI hjn ?_
      refine sv_istore dX3_asksCopy_24 (by decide) ?_
      exact sx_loc [some (.ref h), some (.int s), some (.int k), some (.int l), some (.int b), some (.int (b_I can)), some (.int (b_I (a_X V s k l b))), none] ⟨rfl, rfl, rfl, rfl, rfl, rfl, rfl, trivial⟩ (tail1 s k l b)
    · have hjn : nI 1 = b_I (a_X V s k l b) := by unfold a_X; rw [show a_are V s k l = true from c7, c16]; rfl
      refine sv_iconst (nI 1) dX3_asksCopy_19 (by decide +kernel) ?_
      refine sv_goto (tgt := 24) dX3_asksCopy_20 (by decide) ?_
      refine sv_topI hjn ?_
      refine sv_istore dX3_asksCopy_24 (by decide) ?_
      exact sx_loc [some (.ref h), some (.int s), some (.int k), some (.int l), some (.int b), some (.int (b_I can)), some (.int (b_I (a_X V s k l b))), none] ⟨rfl, rfl, rfl, rfl, rfl, rfl, rfl, trivial⟩ (tail1 s k l b)
end MRQ
