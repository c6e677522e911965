set_option maxRecDepth 100000
section MRP
variable {G : sx_G} {h : Nat} {M : m_M} {σ : sx_St} {V : a_V} {A : a_A} {r r' : Nat → Int64} {t : Nat}
/-- a box's messages and a session's entries become others -/
def v_2 (V : a_V) (b : Nat) (L : List a_M) (s : Nat) (E : List a_E) : a_V := a_us (v_bm V b L) s (S_es (a_s V s) E)
theorem v_2_ms {b s : Nat} {L : List a_M} {E : List a_E} (hb : b < V.2.1.length) : a_ms (v_2 V b L s E) b = L := v_bm_ms hb
theorem v_2_es {b s : Nat} {L : List a_M} {E : List a_E} (hs : s < V.2.2.length) : a_es (v_2 V b L s E) s = E := by
  show a_es (a_us (v_bm V b L) s _) s = E
  rw [a_us_es (V := v_bm V b L) hs]
  rfl
theorem v_2_bx {b s : Nat} {L : List a_M} {E : List a_E} (hs : s < V.2.2.length) : a_bx (v_2 V b L s E) s = a_bx V s := by
  show a_bx (a_us (v_bm V b L) s _) s = _
  rw [a_us_bx (V := v_bm V b L) hs]
  rfl
theorem v_2_n {b s : Nat} {L : List a_M} {E : List a_E} : (v_2 V b L s E).2.2.length = V.2.2.length := a_us_n _ _ _
theorem v_2_m {b s : Nat} {L : List a_M} {E : List a_E} : (v_2 V b L s E).2.1.length = V.2.1.length := v_bm_n
theorem us_us {s : Nat} {S S' : a_S} : a_us (a_us V s S) s S' = a_us V s S' := by
  unfold a_us
  simp
theorem v_2_fl {b s m : Nat} {L : List a_M} {E : List a_E} {f : Int32} (hb : b < V.2.1.length) : v_fl (v_2 V b L s E) b m f = v_2 V b (L.set m ((L.getD m (0, 0, 0)).1, (L.getD m (0, 0, 0)).2.1, f)) s E := by
  have h1 : a_ms (v_2 V b L s E) b = L := v_2_ms hb
  unfold v_fl
  rw [show a_m (v_2 V b L s E) b m = L.getD m (0, 0, 0) from by unfold a_m; rw [h1], h1]
  have := v_bm_bm (V := V) (ms := L) (ms' := L.set m ((L.getD m (0, 0, 0)).1, (L.getD m (0, 0, 0)).2.1, f)) hb
  unfold v_2
  rw [← this]
  rfl
theorem v_2_to {b s k : Nat} {L : List a_M} {E : List a_E} {f : Int32} (hs : s < V.2.2.length) : v_to (v_2 V b L s E) s k f = v_2 V b L s (E.set k ((E.getD k (0, 0)).1, f)) := by
  have h1 : a_es (v_2 V b L s E) s = E := v_2_es hs
  unfold v_to
  rw [show a_e (v_2 V b L s E) s k = E.getD k (0, 0) from by unfold a_e; rw [h1], h1]
  unfold v_2
  rw [us_us, a_us_s (V := v_bm V b L) _ hs]
  rfl
theorem v_2_id {b s : Nat} (hb : b < V.2.1.length) (hs : s < V.2.2.length) : v_2 V b (a_ms V b) s (a_es V s) = V := by
  unfold v_2
  rw [v_bm_id hb]
  show a_us V s (a_s V s) = V
  unfold a_us a_s
  rw [List.getD_eq_getElem?_getD, List.getElem?_eq_getElem hs]
  simp
/-- the entries of a range are told -/
def e_g (ms : List a_M) (f k : Nat) (g : Int32 → Int32) (i : Nat) (e : a_E) : a_E := if f ≤ i ∧ i < k then (match a_find ms e.1 with
    | some m => (e.1, g (ms.getD m (0, 0, 0)).2.2)
    | none => e) else e
def e_st (sil : Bool) (es : List a_E) (ms : List a_M) (f k : Nat) (g : Int32 → Int32) : List a_E := if sil then es.mapIdx (e_g ms f k g) else es
theorem e_st_l {sil : Bool} {es : List a_E} {ms : List a_M} {f k : Nat} {g : Int32 → Int32} : (e_st sil es ms f k g).length = es.length := by
  unfold e_st
  split
  · exact List.length_mapIdx
  · rfl
theorem e_g_1 {ms : List a_M} {f k i : Nat} {g : Int32 → Int32} (e : a_E) : (e_g ms f k g i e).1 = e.1 := by
  unfold e_g
  split
  · split <;> rfl
  · rfl
theorem e_st_1 {sil : Bool} {es : List a_E} {ms : List a_M} {f k i : Nat} {g : Int32 → Int32} : ((e_st sil es ms f k g).getD i (0, 0)).1 = (es.getD i (0, 0)).1 := by
  unfold e_st
  split
  · by_cases hi : i < es.length
    · rw [List.getD_eq_getElem?_getD, List.getD_eq_getElem?_getD, List.getElem?_mapIdx, List.getElem?_eq_getElem hi]
      exact e_g_1 _
    · rw [List.getD_eq_getElem?_getD, List.getD_eq_getElem?_getD, List.getElem?_mapIdx, List.getElem?_eq_none (by omega)]
      rfl
  · rfl
theorem e_st_0 {sil : Bool} {es : List a_E} {ms : List a_M} {f : Nat} {g : Int32 → Int32} : e_st sil es ms f f g = es := by
  unfold e_st
  split
  · apply List.ext_getElem?
    intro i
    rw [List.getElem?_mapIdx]
    cases es[i]? with
    | none => rfl
    | some e => exact congrArg some (if_neg (by omega))
  · rfl
theorem e_st_n {sil : Bool} {es : List a_E} {ms : List a_M} {f k : Nat} {g : Int32 → Int32} (hn : a_find ms (es.getD k (0, 0)).1 = none) : e_st sil es ms f (k + 1) g = e_st sil es ms f k g := by
  unfold e_st
  split
  · apply List.ext_getElem?
    intro i
    rw [List.getElem?_mapIdx, List.getElem?_mapIdx]
    by_cases hi : i < es.length
    · rw [List.getElem?_eq_getElem hi]
      refine congrArg some ?_
      unfold e_g
      by_cases hik : i = k
      · subst hik
        rw [List.getD_eq_getElem?_getD, List.getElem?_eq_getElem hi] at hn
        have hn : a_find ms es[i].1 = none := hn
        rw [hn, ite_self, ite_self]
      · by_cases hc : f ≤ i ∧ i < k
        · rw [if_pos hc, if_pos (by omega)]
        · rw [if_neg hc, if_neg (by omega)]
    · rw [List.getElem?_eq_none (by omega)]
      rfl
  · rfl
theorem e_st_s {es : List a_E} {ms : List a_M} {f k m : Nat} {g : Int32 → Int32} (hf : f ≤ k) (hk : k < es.length) (hn : a_find ms (es.getD k (0, 0)).1 = some m) : e_st true es ms f (k + 1) g = (e_st true es ms f k g).set k ((es.getD k (0, 0)).1, g (ms.getD m (0, 0, 0)).2.2) := by
  unfold e_st
  rw [if_pos rfl, if_pos rfl]
  apply List.ext_getElem?
  intro i
  by_cases hik : i = k
  · subst hik
    rw [List.getElem?_set_self (by rw [List.length_mapIdx]; exact hk), List.getElem?_mapIdx, List.getElem?_eq_getElem hk]
    rw [List.getD_eq_getElem?_getD, List.getElem?_eq_getElem hk] at hn ⊢
    have hn : a_find ms es[i].1 = some m := hn
    refine congrArg some ?_
    unfold e_g
    rw [if_pos (by omega), hn]
    rfl
  · rw [List.getElem?_set_ne (Ne.symm hik), List.getElem?_mapIdx, List.getElem?_mapIdx]
    by_cases hi : i < es.length
    · rw [List.getElem?_eq_getElem hi]
      refine congrArg some ?_
      unfold e_g
      by_cases hc : f ≤ i ∧ i < k
      · rw [if_pos hc, if_pos (by omega)]
      · rw [if_neg hc, if_neg (by omega)]
    · rw [List.getElem?_eq_none (by omega)]
      rfl
theorem a_mo_2 {b s i : Nat} {E : List a_E} {φ : a_M → a_M} (hs : s < V.2.2.length) (hb : b < V.2.1.length) (hbx : a_bx V s = some b) (hφ : ∀ m, (φ m).1 = m.1) (hE : (E.getD i (0, 0)).1 = ((a_es V s).getD i (0, 0)).1) : a_mo (v_2 V b ((a_ms V b).map φ) s E) s i = a_mo V s i := by
  unfold a_mo
  rw [v_2_bx hs, hbx]
  show a_find (a_ms _ b) (a_e _ s i).1 = _
  rw [v_2_ms hb, a_find_map hφ]
  unfold a_e
  rw [v_2_es hs, hE]
def v_st (V : a_V) (s b f k : Nat) (md fl : Int32) (sil : Bool) : a_V := v_2 V b ((a_ms V b).map (f_m (a_es V s) f k (fun x => a_fb x md fl))) s (e_st sil (a_es V s) (a_ms V b) f k (fun x => a_fb x md fl))
def n_st (V : a_V) (s b f k : Nat) (md fl : Int32) : Nat := (a_ms V b).countP (fun m => r_g (a_es V s) f k m && !(decide (a_fb m.2.2 md fl = m.2.2)))
def x_sto (A : a_A) (s f k : Nat) (md fl : Int32) (sil : Bool) : Int32 × a_A := (nI (n_st (A_v (s_be A s)) s (a_bs (A_v (s_be A s)) s) f k md fl), s_en (A_sv (s_be A s) (v_st (A_v (s_be A s)) s (a_bs (A_v (s_be A s)) s) f k md fl sil)) s false)
def sp_sto (A : a_A) (s k l md fl : Int32) (sil : Bool) : Int32 × a_A := g_3 (a_are (A_v A) s k l) (decide (k ≤ l) && (a_in md 0 2 && a_in fl 0 31)) (a_chg (A_v A) s) A (x_sto (A_st A 0) s.toNatClampNeg (k.toNatClampNeg - 1) l.toNatClampNeg md fl sil)
theorem ct_store (hn : h + 11 < sx_n σ) (hJ : m_J M A) (ho : o_V t (A_v A)) {s k l md fl : Int32} {sil : Bool} : sx_Cp G 12 YX3_store [.ref h, .int s, .int k, .int l, .int md, .int fl, .int (b_I sil)] (m_S G h M σ) (fun v τ => v = some (.int ((sp_sto A s k l md fl sil).1)) ∧ ∃ M2, τ = m_S G h M2 σ ∧ m_J M2 ((sp_sto A s k l md fl sil).2)) := by
  have loop : ∀ (s b f t u0 : Nat) A, o_V u0 (A_v A) → s < (A_v A).2.2.length → a_bx (A_v A) s = some b → t ≤ (a_es (A_v A) s).length → (A_n A).length + 700 ≤ 1000 → ∀ q i M, m_J M (A_sv A (v_st (A_v A) s b f i md fl sil)) → f ≤ i → i ≤ t → t + 1 ≤ i + q → sx_V G 12 YX3_store 62 [some (.ref h), some (.int (nI s)), some (.int (nI (f + 1))), some (.int (nI t)), some (.int md), some (.int fl), some (.int (b_I sil)), none, some (.int (nI (n_st (A_v A) s b f i md fl))), some (.int (nI (i + 1))), none] [] (m_S G h M σ) (fun o τ => ∃ v, o = .inl v ∧ v = some (.int (nI (n_st (A_v A) s b f t md fl))) ∧ ∃ M2, τ = m_S G h M2 σ ∧ m_J M2 (s_en (A_sv A (v_st (A_v A) s b f t md fl sil)) s false)) := by
    intro s b f t u0 A ho hs hbx ht hnl q
    induction q with
    | zero => intro i M hJ g1 g2 g3; exact absurd g3 (by omega)
    | succ q ih =>
    intro i M hJ g1 g2 g3
    have hsV : s < (A_v (A_sv A (v_st (A_v A) s b f i md fl sil))).2.2.length := Nat.lt_of_lt_of_eq hs v_2_n.symm
    have hbxV : a_bx (A_v (A_sv A (v_st (A_v A) s b f i md fl sil))) s = some b := (v_2_bx hs).trans hbx
    have hb : b < (A_v A).2.1.length := Nat.lt_of_lt_of_eq (hJ.2.2.1.2.2.1 s b hsV hbxV) v_2_m
    have hbV : b < (A_v (A_sv A (v_st (A_v A) s b f i md fl sil))).2.1.length := Nat.lt_of_lt_of_eq hb v_2_m.symm
    have hs4 := hJ.2.2.1.1.2.1
    have hb3 := hJ.2.2.1.1.1
    have hl := hJ.2.2.1.1.2.2 b hbV
    have hesV : a_es (A_v (A_sv A (v_st (A_v A) s b f i md fl sil))) s = e_st sil (a_es (A_v A) s) (a_ms (A_v A) b) f i (fun x => a_fb x md fl) := v_2_es hs
    have hlV : (a_es (A_v (A_sv A (v_st (A_v A) s b f i md fl sil))) s).length = (a_es (A_v A) s).length := by rw [hesV, e_st_l]
    have hel := hJ.2.2.1.2.1 s hsV
    have hE : E_lt (a_es (A_v A) s) := (ho.2.2 s hs).1.2.1
    have hL : L_lt (a_ms (A_v A) b) := (ho.2.1 b hb).2.2.1
    have hms : a_ms (A_v (A_sv A (v_st (A_v A) s b f i md fl sil))) b = (a_ms (A_v A) b).map (f_m (a_es (A_v A) s) f i (fun x => a_fb x md fl)) := v_2_ms hb
    have hmoV : a_mo (A_v (A_sv A (v_st (A_v A) s b f i md fl sil))) s i = a_mo (A_v A) s i := a_mo_2 hs hb hbx (fun m => f_m_1 m) e_st_1
    refine sv_iload dX3_store_62 rfl ?_
    refine sv_iload_n dX3_store_64 rfl ?_
    refine sv_icmp_gtN (tgt := 146) dX3_store_65 (by decide) (by omega) (by omega) (fun c65 => ?_) (fun c65 => ?_)
    · have hi : i = t := by omega
      subst hi
      refine sv_aload_n dX3_store_146 rfl ?_
      refine sv_iload_n dX3_store_147 rfl ?_
      refine sv_iconst (nI 0) dX3_store_148 (by decide +kernel) ?_
      refine sv_topI (y := b_I false) rfl ?_
      refine sv_iload dX3_store_149 rfl ?_
      refine sv_cvP _ (ct_done_f hn hJ hsV hnl) okX3_done kv_X3_214 (sx_rd_c (m_S_0 hn)) rfl dX3_store_151 rfl rfl (by decide) (Nat.le_of_ble_eq_true rfl) ?_
      intro v3 t3 hp3
      obtain ⟨rfl, M3, rfl, hJ4⟩ := hp3
      refine sv_iret rfl rfl dX3_store_154 ?_
      exact ⟨_, rfl, rfl, M3, rfl, hJ4⟩
    · refine sv_aload_n dX3_store_68 rfl ?_
      refine sv_iload_n dX3_store_69 rfl ?_
      refine sv_iload dX3_store_70 rfl ?_
      refine sv_cvR _ (ct_messageOf hn (m_J_e hJ) hJ.2.2.1 hsV hbxV (show i < (a_es (A_v (A_sv A (v_st (A_v A) s b f i md fl sil))) s).length by omega)) okX3_messageOf kv_X3_113 (sx_rd_c (m_S_0 hn)) rfl dX3_store_72 rfl rfl (by decide) (Nat.le_of_ble_eq_true rfl) ?_
      rw [hmoV]
      refine sv_istore dX3_store_75 (by decide) ?_
      refine sv_iload dX3_store_77 rfl ?_
      refine sv_iconst (-1) dX3_store_79 (by decide +kernel) ?_
      refine sv_icmp_ne (tgt := 86) dX3_store_80 (by decide) (fun c80 => ?_) (fun c80 => ?_)
      · obtain ⟨m, hmo⟩ : ∃ m, a_mo (A_v A) s i = some m := by cases hmo : a_mo (A_v A) s i with | some m => exact ⟨m, rfl⟩ | none => rw [hmo] at c80; exact absurd rfl c80
        rw [hmo]
        have hfn : a_find (a_ms (A_v A) b) ((a_es (A_v A) s).getD i (0, 0)).1 = some m := (a_mo_e hbx).symm.trans hmo
        have hm0 : m < (a_ms (A_v A) b).length := a_find_lt hfn
        have hm : m < (a_ms (A_v (A_sv A (v_st (A_v A) s b f i md fl sil))) b).length := by rw [hms, List.length_map]; exact hm0
        obtain ⟨q1, q2⟩ := f_m_some (g := (fun x => a_fb x md fl)) hE hL g1 (show i < (a_es (A_v A) s).length by omega) hfn
        have hxm : a_m (A_v (A_sv A (v_st (A_v A) s b f i md fl sil))) b m = a_m (A_v A) b m := by show (a_ms _ b).getD m _ = _; rw [hms, q1]; rfl
        have hcn := cn_some (c := fun m => !(decide (a_fb m.2.2 md fl = m.2.2))) hE hL g1 (show i < (a_es (A_v A) s).length by omega) hfn
        obtain ⟨L1, hL1⟩ : ∃ L1, L1 = (a_ms (A_v A) b).map (f_m (a_es (A_v A) s) f (i + 1) (fun x => a_fb x md fl)) := ⟨_, rfl⟩
        obtain ⟨E0, hE0⟩ : ∃ E0, E0 = e_st sil (a_es (A_v A) s) (a_ms (A_v A) b) f i (fun x => a_fb x md fl) := ⟨_, rfl⟩
        show sx_V G 12 _ _ [_, _, _, _, _, _, _, _, _, _, some (.int (nI m))] _ _ _
        refine sv_iload dX3_store_86 rfl ?_
        refine sv_aload_n dX3_store_88 rfl ?_
        refine sv_aload_n dX3_store_89 rfl ?_
        refine sv_iload_n dX3_store_90 rfl ?_
        refine sv_cvR _ (ct_boxOf hn (m_J_e hJ) hJ.2.2.1 hsV) okX3_boxOf kv_X3_87 (sx_rd_c (m_S_0 hn)) rfl dX3_store_91 rfl rfl (by decide) (Nat.le_of_ble_eq_true rfl) ?_
        rw [hbxV]
        show sx_V G 12 _ _ _ (.int (nI b) :: _) _ _
        refine sv_iload dX3_store_94 rfl ?_
        refine sv_iload dX3_store_96 rfl ?_
        refine sv_iload dX3_store_98 rfl ?_
        refine sv_cvR _ (ct_sets hn hJ hbV hm) okX3_sets kv_X3_234 (sx_rd_c (m_S_0 hn)) rfl dX3_store_100 rfl rfl (by decide) (Nat.le_of_ble_eq_true rfl) ?_
        have hJ3 := m_J_a hJ (e_V_pf (f := a_fb (a_m (A_v (A_sv A (v_st (A_v A) s b f i md fl sil))) b m).2.2 md fl) hJ.2.2.1 hbV hm hJ.2.1) (w_V_pf hJ.2.2.1 hbV)
        rw [show v_fl (A_v (A_sv A (v_st (A_v A) s b f i md fl sil))) b m (a_fb (a_m (A_v (A_sv A (v_st (A_v A) s b f i md fl sil))) b m).2.2 md fl) = v_2 (A_v A) b L1 s E0 from by rw [hxm]; show v_fl (v_2 _ b _ s _) b m _ = _; rw [v_2_fl hb, q1, hL1, q2, hE0]; rfl] at hJ3
        have hJ3 : m_J _ (A_sv A (v_2 (A_v A) b L1 s E0)) := hJ3
        have hs3 : s < (A_v (A_sv A (v_2 (A_v A) b L1 s E0))).2.2.length := Nat.lt_of_lt_of_eq hs v_2_n.symm
        have hbx3 : a_bx (A_v (A_sv A (v_2 (A_v A) b L1 s E0))) s = some b := (v_2_bx hs).trans hbx
        have hes3 : (a_es (A_v (A_sv A (v_2 (A_v A) b L1 s E0))) s).length = (a_es (A_v A) s).length := by rw [show a_es (A_v (A_sv A (v_2 (A_v A) b L1 s E0))) s = E0 from v_2_es hs, hE0, e_st_l]
        have hmo3 : a_mo (A_v (A_sv A (v_2 (A_v A) b L1 s E0))) s i = some m := by rw [hL1, hE0]; exact (a_mo_2 hs hb hbx (fun m => f_m_1 m) e_st_1).trans hmo
        have hgo3 : a_go (A_v (A_sv A (v_2 (A_v A) b L1 s E0))) s i = false := by unfold a_go; rw [hmo3]; rfl
        have hfl3 : a_fl (A_v (A_sv A (v_2 (A_v A) b L1 s E0))) s i = a_fb (a_m (A_v A) b m).2.2 md fl := by unfold a_fl; rw [hmo3, hbx3]; show ((a_ms (v_2 _ b _ s _) b).getD m (0, 0, 0)).2.2 = _; rw [v_2_ms hb, hL1, q2, gd_setM _ _ _ _ (by rw [List.length_map]; exact hm0), if_pos rfl]; rfl
        rw [hxm] at hJ3 ⊢
        refine sv_if_eqB (tgt := 110) dX3_store_103 (by decide) (fun c103 => ?_) (fun c103 => ?_)
        · have hn1 : n_st (A_v A) s b f (i + 1) md fl = n_st (A_v A) s b f i md fl + 0 := by show List.countP _ _ = _; rw [hcn, show (!(decide (a_fb ((a_ms (A_v A) b).getD m (0, 0, 0)).2.2 md fl = ((a_ms (A_v A) b).getD m (0, 0, 0)).2.2))) = false from c103]; rfl
          refine sv_iconst (nI 0) dX3_store_110 (by decide +kernel) ?_
          refine sv_iaddN dX3_store_111 ?_
          refine sv_istore dX3_store_112 (by decide) ?_
          refine sv_iload dX3_store_114 rfl ?_
          refine sv_if_eqB (tgt := 140) dX3_store_116 (by decide) (fun c116 => ?_) (fun c116 => ?_)
          · have hv : v_2 (A_v A) b L1 s E0 = v_st (A_v A) s b f (i + 1) md fl sil := by unfold v_st; rw [hL1, hE0, c116]; rfl
            rw [hv] at hJ3
            have hih := ih (i + 1) _ hJ3 (by omega) (by omega) (by omega)
            rw [hn1] at hih
            refine sv_iincN dX3_store_140 rfl (by decide) ?_
            refine sv_goto (tgt := 62) dX3_store_143 (by decide) ?_
            exact sx_loc [some (.ref h), some (.int (nI s)), some (.int (nI (f + 1))), some (.int (nI t)), some (.int md), some (.int fl), some (.int (b_I sil)), none, some (.int _), some (.int (nI (i + 1 + 1))), none] ⟨rfl, rfl, rfl, rfl, rfl, rfl, rfl, rfl, rfl, trivial⟩ hih
          · have hJ5 := m_J_a hJ3 (e_V_to (k := i) (f := a_fb (a_m (A_v A) b m).2.2 md fl) hJ3.2.2.1 hs3 (by rw [hes3]; omega) hJ3.2.1) (w_V_to hJ3.2.2.1 hs3)
            have hv : v_to (A_v (A_sv A (v_2 (A_v A) b L1 s E0))) s i (a_fb (a_m (A_v A) b m).2.2 md fl) = v_st (A_v A) s b f (i + 1) md fl sil := by show v_to (v_2 _ b _ s _) s i _ = _; rw [v_2_to hs]; unfold v_st; rw [hL1, hE0, c116, e_st_s g1 (by omega) hfn, e_st_1]; rfl
            rw [hv] at hJ5
            have hih := ih (i + 1) _ hJ5 (by omega) (by omega) (by omega)
            rw [hn1] at hih
            refine sv_aload_n dX3_store_119 rfl ?_
            refine sm_get hn fg_X3_17 dX3_store_120 rfl ?_
            refine sv_iload_n dX3_store_123 rfl ?_
            refine sv_iload dX3_store_124 rfl ?_
            refine sv_csR _ ct_entryAt okX3_entryAt ks_X3_90 dX3_store_126 rfl rfl (by decide) (Nat.le_of_ble_eq_true rfl) ?_
            refine sv_iconst (nI 1) dX3_store_129 (by decide +kernel) ?_
            refine sv_iaddN dX3_store_130 ?_
            refine sv_aload_n dX3_store_131 rfl ?_
            refine sv_iload_n dX3_store_132 rfl ?_
            refine sv_iload dX3_store_133 rfl ?_
            refine sv_cvR _ (ct_flagsOf hn (m_J_e hJ3) hJ3.2.2.1 hs3 hbx3 (show i < (a_es (A_v (A_sv A (v_2 (A_v A) b L1 s E0))) s).length by rw [hes3]; omega) hgo3) okX3_flagsOf kv_X3_120 (sx_rd_c (m_S_0 hn)) rfl dX3_store_135 rfl rfl (by decide) (Nat.le_of_ble_eq_true rfl) ?_
            refine sv_topI (y := a_fb (a_m (A_v A) b m).2.2 md fl) hfl3 ?_
            refine sv_i2l dX3_store_138 ?_
            refine sm_nst hn dX3_store_139 (by omega) ?_
            refine sv_iincN dX3_store_140 rfl (by decide) ?_
            refine sv_goto (tgt := 62) dX3_store_143 (by decide) ?_
            exact sx_loc [some (.ref h), some (.int (nI s)), some (.int (nI (f + 1))), some (.int (nI t)), some (.int md), some (.int fl), some (.int (b_I sil)), none, some (.int _), some (.int (nI (i + 1 + 1))), none] ⟨rfl, rfl, rfl, rfl, rfl, rfl, rfl, rfl, rfl, trivial⟩ hih
        · have hn1 : n_st (A_v A) s b f (i + 1) md fl = n_st (A_v A) s b f i md fl + 1 := by show List.countP _ _ = _; rw [hcn, show (!(decide (a_fb ((a_ms (A_v A) b).getD m (0, 0, 0)).2.2 md fl = ((a_ms (A_v A) b).getD m (0, 0, 0)).2.2))) = true from c103]; rfl
          refine sv_iconst (nI 1) dX3_store_106 (by decide +kernel) ?_
          refine sv_goto (tgt := 111) dX3_store_107 (by decide) ?_
          refine sv_iaddN dX3_store_111 ?_
          refine sv_istore dX3_store_112 (by decide) ?_
          refine sv_iload dX3_store_114 rfl ?_
          refine sv_if_eqB (tgt := 140) dX3_store_116 (by decide) (fun c116 => ?_) (fun c116 => ?_)
          · have hv : v_2 (A_v A) b L1 s E0 = v_st (A_v A) s b f (i + 1) md fl sil := by unfold v_st; rw [hL1, hE0, c116]; rfl
            rw [hv] at hJ3
            have hih := ih (i + 1) _ hJ3 (by omega) (by omega) (by omega)
            rw [hn1] at hih
            refine sv_iincN dX3_store_140 rfl (by decide) ?_
            refine sv_goto (tgt := 62) dX3_store_143 (by decide) ?_
            exact sx_loc [some (.ref h), some (.int (nI s)), some (.int (nI (f + 1))), some (.int (nI t)), some (.int md), some (.int fl), some (.int (b_I sil)), none, some (.int _), some (.int (nI (i + 1 + 1))), none] ⟨rfl, rfl, rfl, rfl, rfl, rfl, rfl, rfl, rfl, trivial⟩ hih
          · have hJ5 := m_J_a hJ3 (e_V_to (k := i) (f := a_fb (a_m (A_v A) b m).2.2 md fl) hJ3.2.2.1 hs3 (by rw [hes3]; omega) hJ3.2.1) (w_V_to hJ3.2.2.1 hs3)
            have hv : v_to (A_v (A_sv A (v_2 (A_v A) b L1 s E0))) s i (a_fb (a_m (A_v A) b m).2.2 md fl) = v_st (A_v A) s b f (i + 1) md fl sil := by show v_to (v_2 _ b _ s _) s i _ = _; rw [v_2_to hs]; unfold v_st; rw [hL1, hE0, c116, e_st_s g1 (by omega) hfn, e_st_1]; rfl
            rw [hv] at hJ5
            have hih := ih (i + 1) _ hJ5 (by omega) (by omega) (by omega)
            rw [hn1] at hih
            refine sv_aload_n dX3_store_119 rfl ?_
            refine sm_get hn fg_X3_17 dX3_store_120 rfl ?_
            refine sv_iload_n dX3_store_123 rfl ?_
            refine sv_iload dX3_store_124 rfl ?_
            refine sv_csR _ ct_entryAt okX3_entryAt ks_X3_90 dX3_store_126 rfl rfl (by decide) (Nat.le_of_ble_eq_true rfl) ?_
            refine sv_iconst (nI 1) dX3_store_129 (by decide +kernel) ?_
            refine sv_iaddN dX3_store_130 ?_
            refine sv_aload_n dX3_store_131 rfl ?_
            refine sv_iload_n dX3_store_132 rfl ?_
            refine sv_iload dX3_store_133 rfl ?_
            refine sv_cvR _ (ct_flagsOf hn (m_J_e hJ3) hJ3.2.2.1 hs3 hbx3 (show i < (a_es (A_v (A_sv A (v_2 (A_v A) b L1 s E0))) s).length by rw [hes3]; omega) hgo3) okX3_flagsOf kv_X3_120 (sx_rd_c (m_S_0 hn)) rfl dX3_store_135 rfl rfl (by decide) (Nat.le_of_ble_eq_true rfl) ?_
            refine sv_topI (y := a_fb (a_m (A_v A) b m).2.2 md fl) hfl3 ?_
            refine sv_i2l dX3_store_138 ?_
            refine sm_nst hn dX3_store_139 (by omega) ?_
            refine sv_iincN dX3_store_140 rfl (by decide) ?_
            refine sv_goto (tgt := 62) dX3_store_143 (by decide) ?_
            exact sx_loc [some (.ref h), some (.int (nI s)), some (.int (nI (f + 1))), some (.int (nI t)), some (.int md), some (.int fl), some (.int (b_I sil)), none, some (.int _), some (.int (nI (i + 1 + 1))), none] ⟨rfl, rfl, rfl, rfl, rfl, rfl, rfl, rfl, rfl, trivial⟩ hih
      · have hmo : a_mo (A_v A) s i = none := by cases hmo : a_mo (A_v A) s i with | none => rfl | some m => rw [hmo] at c80; have := (o_I_m1 (some m) (fun k hk => by cases hk; exact a_mo_lt hJ.2.2.1 hsV _ (hmoV.trans hmo))).mp c80; cases this
        have hfn : a_find (a_ms (A_v A) b) ((a_es (A_v A) s).getD i (0, 0)).1 = none := (a_mo_e hbx).symm.trans hmo
        rw [show v_st (A_v A) s b f i md fl sil = v_st (A_v A) s b f (i + 1) md fl sil from by unfold v_st; rw [f_m_none hE hfn, e_st_n hfn]] at hJ
        have hih := ih (i + 1) M hJ (by omega) (by omega) (by omega)
        rw [show n_st (A_v A) s b f (i + 1) md fl = n_st (A_v A) s b f i md fl from cn_none hE hfn] at hih
        refine sv_goto (tgt := 140) dX3_store_83 (by decide) ?_
        refine sv_iincN dX3_store_140 rfl (by decide) ?_
        refine sv_goto (tgt := 62) dX3_store_143 (by decide) ?_
        exact sx_loc [some (.ref h), some (.int (nI s)), some (.int (nI (f + 1))), some (.int (nI t)), some (.int md), some (.int fl), some (.int (b_I sil)), none, some (.int _), some (.int (nI (i + 1 + 1))), none] ⟨rfl, rfl, rfl, rfl, rfl, rfl, rfl, rfl, rfl, trivial⟩ hih
  refine sx_body (by decide) (Nat.le_of_ble_eq_true rfl) ?_
  refine sv_iload_n dX3_store_0 rfl ?_
  refine sv_iload_n dX3_store_1 rfl ?_
  refine sv_icmp_lt (tgt := 25) dX3_store_2 (by decide) (fun c2 => ?_) (fun c2 => ?_)
  · have hjn : nI 0 = b_I (decide (k ≤ l) && (a_in md 0 2 && a_in fl 0 31)) := by rw [decide_eq_false (Int32.not_le.mpr c2)]; rfl
    refine sv_iconst (nI 0) dX3_store_25 (by decide +kernel) ?_
    refine sv_topI hjn ?_
    refine sv_istore dX3_store_26 (by decide) ?_
    refine sv_aload_n dX3_store_28 rfl ?_
    refine sv_aload_n dX3_store_29 rfl ?_
    refine sv_iload_n dX3_store_30 rfl ?_
    refine sv_iload_n dX3_store_31 rfl ?_
    refine sv_iload_n dX3_store_32 rfl ?_
    refine sv_cvR _ (ct_areEntries hn (m_J_e hJ) hJ.2.2.1) okX3_areEntries kv_X3_206 (sx_rd_c (m_S_0 hn)) rfl dX3_store_33 rfl rfl (by decide) (Nat.le_of_ble_eq_true rfl) ?_
    refine sv_iload dX3_store_36 rfl ?_
    refine sv_aload_n dX3_store_38 rfl ?_
    refine sv_iload_n dX3_store_39 rfl ?_
    refine sv_cvR _ (ct_canChange hn (m_J_e hJ) hJ.2.2.1) okX3_canChange kv_X3_231 (sx_rd_c (m_S_0 hn)) rfl dX3_store_40 rfl rfl (by decide) (Nat.le_of_ble_eq_true rfl) ?_
    refine sv_cvR _ (ct_passes3 (a := (a_are (A_v A) s k l)) hn) okX3_passes3 kv_X3_7 (sx_rd_c (m_S_0 hn)) rfl dX3_store_43 rfl rfl (by decide) (Nat.le_of_ble_eq_true rfl) ?_
    refine sv_if_neB (tgt := 51) dX3_store_46 (by decide) (fun c46 => ?_) (fun c46 => ?_)
    · have hA := c46
      simp only [Bool.and_eq_true] at hA
      obtain ⟨j, f, u, hj, hf, hu, rfl, rfl, rfl, ej, ek, el⟩ := a_are_of hJ.2.2.1 hA.1
      obtain ⟨j2, b, _, e2, ej2, hbx, hb, hid, hrd⟩ := a_chg_of hJ.2.2.1 hA.2.2
      rw [ej] at ej2
      subst ej2
      have hel := hJ.2.2.1.2.1 j hj
      have hfu : f ≤ u := by have := of_decide_eq_true hA.2.1.1; rw [nI_leI (by omega) (by omega)] at this; omega
      have hsp : sp_sto A (nI j) (nI (f + 1)) (nI (u + 1)) md fl sil = x_sto (A_st A 0) j f (u + 1) md fl sil := by unfold sp_sto; rw [g_3t c46, ej, ek, el]; rfl
      rw [hsp]
      rw [t_hr_3 c46]
      have hJ0 := m_J_t hJ 0
      have hs4 := hJ.2.2.1.1.2.1
      have hb3 := hJ.2.2.1.1.1
      have hbl := hJ.2.2.1.1.2.2 b hb
      refine sv_aload_n dX3_store_51 rfl ?_
      refine sv_iload_n dX3_store_52 rfl ?_
      refine sv_cvP _ (ct_begins hn hJ0 hj) okX3_begins kv_X3_196 (sx_rd_c (m_S_0 hn)) rfl dX3_store_53 rfl rfl (by decide) (Nat.le_of_ble_eq_true rfl) ?_
      intro v1 t1 hp1
      obtain ⟨rfl, M1, rfl, hJ1⟩ := hp1
      have hj1 : j < (A_v (s_be (A_st A 0) j)).2.2.length := by rw [be_len]; exact hj
      have hbx1 : a_bx (A_v (s_be (A_st A 0) j)) j = some b := (be_bx _ _ hj).trans hbx
      have hbs := a_bs_e hbx1
      refine sv_iconst (nI 0) dX3_store_56 (by decide +kernel) ?_
      refine sv_istore dX3_store_57 (by decide) ?_
      refine sv_iload_n dX3_store_59 rfl ?_
      refine sv_istore dX3_store_60 (by decide) ?_
      have hlo := loop j b f (u + 1) t (s_be (A_st A 0) j) (be_o (A := A_st A 0) ho j hj) hj1 hbx1 (by rw [show a_es (A_v (s_be (A_st A 0) j)) j = a_es (A_v A) j from v_ac_es hj]; omega) (by show 0 + 700 ≤ 1000; omega) 62 f M1 (by rw [show v_st (A_v (s_be (A_st A 0) j)) j b f f md fl sil = A_v (s_be (A_st A 0) j) from by unfold v_st; rw [f_m_0, e_st_0]; exact v_2_id hb hj1]; exact hJ1) (by omega) (by omega) (by omega)
      rw [show n_st (A_v (s_be (A_st A 0) j)) j b f f md fl = 0 from by unfold n_st; rw [List.countP_eq_zero]; intro m _; rw [r_g_0, Bool.false_and]; decide] at hlo
      unfold x_sto
      rw [hbs]
      exact sx_loc [some (.ref h), some (.int _), some (.int _), some (.int _), some (.int md), some (.int fl), some (.int (b_I sil)), none, some (.int _), some (.int (nI (f + 1))), none] ⟨rfl, rfl, rfl, rfl, rfl, rfl, rfl, rfl, rfl, trivial⟩ hlo
    · unfold sp_sto
      rw [g_3f c46]
      refine sv_iconst (nI 0) dX3_store_49 (by decide +kernel) ?_
      refine sv_iret rfl rfl dX3_store_50 ?_
      exact ⟨_, rfl, r_I nI_0, _, rfl, m_J_t hJ _⟩
  · refine sv_iload dX3_store_5 rfl ?_
    refine sv_csR _ ct_isMode okX3_isMode ks_X3_225 dX3_store_7 rfl rfl (by decide) (Nat.le_of_ble_eq_true rfl) ?_
    refine sv_if_eqB (tgt := 25) dX3_store_10 (by decide) (fun c10 => ?_) (fun c10 => ?_)
    · have hjn : nI 0 = b_I (decide (k ≤ l) && (a_in md 0 2 && a_in fl 0 31)) := by rw [c10, Bool.false_and, Bool.and_false]; rfl
      refine sv_iconst (nI 0) dX3_store_25 (by decide +kernel) ?_
      refine sv_topI hjn ?_
      refine sv_istore dX3_store_26 (by decide) ?_
      refine sv_aload_n dX3_store_28 rfl ?_
      refine sv_aload_n dX3_store_29 rfl ?_
      refine sv_iload_n dX3_store_30 rfl ?_
      refine sv_iload_n dX3_store_31 rfl ?_
      refine sv_iload_n dX3_store_32 rfl ?_
      refine sv_cvR _ (ct_areEntries hn (m_J_e hJ) hJ.2.2.1) okX3_areEntries kv_X3_206 (sx_rd_c (m_S_0 hn)) rfl dX3_store_33 rfl rfl (by decide) (Nat.le_of_ble_eq_true rfl) ?_
      refine sv_iload dX3_store_36 rfl ?_
      refine sv_aload_n dX3_store_38 rfl ?_
      refine sv_iload_n dX3_store_39 rfl ?_
      refine sv_cvR _ (ct_canChange hn (m_J_e hJ) hJ.2.2.1) okX3_canChange kv_X3_231 (sx_rd_c (m_S_0 hn)) rfl dX3_store_40 rfl rfl (by decide) (Nat.le_of_ble_eq_true rfl) ?_
      refine sv_cvR _ (ct_passes3 (a := (a_are (A_v A) s k l)) hn) okX3_passes3 kv_X3_7 (sx_rd_c (m_S_0 hn)) rfl dX3_store_43 rfl rfl (by decide) (Nat.le_of_ble_eq_true rfl) ?_
      refine sv_if_neB (tgt := 51) dX3_store_46 (by decide) (fun c46 => ?_) (fun c46 => ?_)
      · have hA := c46
        simp only [Bool.and_eq_true] at hA
        obtain ⟨j, f, u, hj, hf, hu, rfl, rfl, rfl, ej, ek, el⟩ := a_are_of hJ.2.2.1 hA.1
        obtain ⟨j2, b, _, e2, ej2, hbx, hb, hid, hrd⟩ := a_chg_of hJ.2.2.1 hA.2.2
        rw [ej] at ej2
        subst ej2
        have hel := hJ.2.2.1.2.1 j hj
        have hfu : f ≤ u := by have := of_decide_eq_true hA.2.1.1; rw [nI_leI (by omega) (by omega)] at this; omega
        have hsp : sp_sto A (nI j) (nI (f + 1)) (nI (u + 1)) md fl sil = x_sto (A_st A 0) j f (u + 1) md fl sil := by unfold sp_sto; rw [g_3t c46, ej, ek, el]; rfl
        rw [hsp]
        rw [t_hr_3 c46]
        have hJ0 := m_J_t hJ 0
        have hs4 := hJ.2.2.1.1.2.1
        have hb3 := hJ.2.2.1.1.1
        have hbl := hJ.2.2.1.1.2.2 b hb
        refine sv_aload_n dX3_store_51 rfl ?_
        refine sv_iload_n dX3_store_52 rfl ?_
        refine sv_cvP _ (ct_begins hn hJ0 hj) okX3_begins kv_X3_196 (sx_rd_c (m_S_0 hn)) rfl dX3_store_53 rfl rfl (by decide) (Nat.le_of_ble_eq_true rfl) ?_
        intro v1 t1 hp1
        obtain ⟨rfl, M1, rfl, hJ1⟩ := hp1
        have hj1 : j < (A_v (s_be (A_st A 0) j)).2.2.length := by rw [be_len]; exact hj
        have hbx1 : a_bx (A_v (s_be (A_st A 0) j)) j = some b := (be_bx _ _ hj).trans hbx
        have hbs := a_bs_e hbx1
        refine sv_iconst (nI 0) dX3_store_56 (by decide +kernel) ?_
        refine sv_istore dX3_store_57 (by decide) ?_
        refine sv_iload_n dX3_store_59 rfl ?_
        refine sv_istore dX3_store_60 (by decide) ?_
        have hlo := loop j b f (u + 1) t (s_be (A_st A 0) j) (be_o (A := A_st A 0) ho j hj) hj1 hbx1 (by rw [show a_es (A_v (s_be (A_st A 0) j)) j = a_es (A_v A) j from v_ac_es hj]; omega) (by show 0 + 700 ≤ 1000; omega) 62 f M1 (by rw [show v_st (A_v (s_be (A_st A 0) j)) j b f f md fl sil = A_v (s_be (A_st A 0) j) from by unfold v_st; rw [f_m_0, e_st_0]; exact v_2_id hb hj1]; exact hJ1) (by omega) (by omega) (by omega)
        rw [show n_st (A_v (s_be (A_st A 0) j)) j b f f md fl = 0 from by unfold n_st; rw [List.countP_eq_zero]; intro m _; rw [r_g_0, Bool.false_and]; decide] at hlo
        unfold x_sto
        rw [hbs]
        exact sx_loc [some (.ref h), some (.int _), some (.int _), some (.int _), some (.int md), some (.int fl), some (.int (b_I sil)), none, some (.int _), some (.int (nI (f + 1))), none] ⟨rfl, rfl, rfl, rfl, rfl, rfl, rfl, rfl, rfl, trivial⟩ hlo
      · unfold sp_sto
        rw [g_3f c46]
        refine sv_iconst (nI 0) dX3_store_49 (by decide +kernel) ?_
        refine sv_iret rfl rfl dX3_store_50 ?_
        exact ⟨_, rfl, r_I nI_0, _, rfl, m_J_t hJ _⟩
    · refine sv_iload dX3_store_13 rfl ?_
      refine sv_csR _ ct_isSet okX3_isSet ks_X3_228 dX3_store_15 rfl rfl (by decide) (Nat.le_of_ble_eq_true rfl) ?_
      refine sv_if_eqB (tgt := 25) dX3_store_18 (by decide) (fun c18 => ?_) (fun c18 => ?_)
      · have hjn : nI 0 = b_I (decide (k ≤ l) && (a_in md 0 2 && a_in fl 0 31)) := by rw [c18, Bool.and_false, Bool.and_false]; rfl
        refine sv_iconst (nI 0) dX3_store_25 (by decide +kernel) ?_
        refine sv_topI hjn ?_
        refine sv_istore dX3_store_26 (by decide) ?_
        refine sv_aload_n dX3_store_28 rfl ?_
        refine sv_aload_n dX3_store_29 rfl ?_
        refine sv_iload_n dX3_store_30 rfl ?_
        refine sv_iload_n dX3_store_31 rfl ?_
        refine sv_iload_n dX3_store_32 rfl ?_
        refine sv_cvR _ (ct_areEntries hn (m_J_e hJ) hJ.2.2.1) okX3_areEntries kv_X3_206 (sx_rd_c (m_S_0 hn)) rfl dX3_store_33 rfl rfl (by decide) (Nat.le_of_ble_eq_true rfl) ?_
        refine sv_iload dX3_store_36 rfl ?_
        refine sv_aload_n dX3_store_38 rfl ?_
        refine sv_iload_n dX3_store_39 rfl ?_
        refine sv_cvR _ (ct_canChange hn (m_J_e hJ) hJ.2.2.1) okX3_canChange kv_X3_231 (sx_rd_c (m_S_0 hn)) rfl dX3_store_40 rfl rfl (by decide) (Nat.le_of_ble_eq_true rfl) ?_
        refine sv_cvR _ (ct_passes3 (a := (a_are (A_v A) s k l)) hn) okX3_passes3 kv_X3_7 (sx_rd_c (m_S_0 hn)) rfl dX3_store_43 rfl rfl (by decide) (Nat.le_of_ble_eq_true rfl) ?_
        refine sv_if_neB (tgt := 51) dX3_store_46 (by decide) (fun c46 => ?_) (fun c46 => ?_)
        · have hA := c46
          simp only [Bool.and_eq_true] at hA
          obtain ⟨j, f, u, hj, hf, hu, rfl, rfl, rfl, ej, ek, el⟩ := a_are_of hJ.2.2.1 hA.1
          obtain ⟨j2, b, _, e2, ej2, hbx, hb, hid, hrd⟩ := a_chg_of hJ.2.2.1 hA.2.2
          rw [ej] at ej2
          subst ej2
          have hel := hJ.2.2.1.2.1 j hj
          have hfu : f ≤ u := by have := of_decide_eq_true hA.2.1.1; rw [nI_leI (by omega) (by omega)] at this; omega
          have hsp : sp_sto A (nI j) (nI (f + 1)) (nI (u + 1)) md fl sil = x_sto (A_st A 0) j f (u + 1) md fl sil := by unfold sp_sto; rw [g_3t c46, ej, ek, el]; rfl
          rw [hsp]
          rw [t_hr_3 c46]
          have hJ0 := m_J_t hJ 0
          have hs4 := hJ.2.2.1.1.2.1
          have hb3 := hJ.2.2.1.1.1
          have hbl := hJ.2.2.1.1.2.2 b hb
          refine sv_aload_n dX3_store_51 rfl ?_
          refine sv_iload_n dX3_store_52 rfl ?_
          refine sv_cvP _ (ct_begins hn hJ0 hj) okX3_begins kv_X3_196 (sx_rd_c (m_S_0 hn)) rfl dX3_store_53 rfl rfl (by decide) (Nat.le_of_ble_eq_true rfl) ?_
          intro v1 t1 hp1
          obtain ⟨rfl, M1, rfl, hJ1⟩ := hp1
          have hj1 : j < (A_v (s_be (A_st A 0) j)).2.2.length := by rw [be_len]; exact hj
          have hbx1 : a_bx (A_v (s_be (A_st A 0) j)) j = some b := (be_bx _ _ hj).trans hbx
          have hbs := a_bs_e hbx1
          refine sv_iconst (nI 0) dX3_store_56 (by decide +kernel) ?_
          refine sv_istore dX3_store_57 (by decide) ?_
          refine sv_iload_n dX3_store_59 rfl ?_
          refine sv_istore dX3_store_60 (by decide) ?_
          have hlo := loop j b f (u + 1) t (s_be (A_st A 0) j) (be_o (A := A_st A 0) ho j hj) hj1 hbx1 (by rw [show a_es (A_v (s_be (A_st A 0) j)) j = a_es (A_v A) j from v_ac_es hj]; omega) (by show 0 + 700 ≤ 1000; omega) 62 f M1 (by rw [show v_st (A_v (s_be (A_st A 0) j)) j b f f md fl sil = A_v (s_be (A_st A 0) j) from by unfold v_st; rw [f_m_0, e_st_0]; exact v_2_id hb hj1]; exact hJ1) (by omega) (by omega) (by omega)
          rw [show n_st (A_v (s_be (A_st A 0) j)) j b f f md fl = 0 from by unfold n_st; rw [List.countP_eq_zero]; intro m _; rw [r_g_0, Bool.false_and]; decide] at hlo
          unfold x_sto
          rw [hbs]
          exact sx_loc [some (.ref h), some (.int _), some (.int _), some (.int _), some (.int md), some (.int fl), some (.int (b_I sil)), none, some (.int _), some (.int (nI (f + 1))), none] ⟨rfl, rfl, rfl, rfl, rfl, rfl, rfl, rfl, rfl, trivial⟩ hlo
        · unfold sp_sto
          rw [g_3f c46]
          refine sv_iconst (nI 0) dX3_store_49 (by decide +kernel) ?_
          refine sv_iret rfl rfl dX3_store_50 ?_
          exact ⟨_, rfl, r_I nI_0, _, rfl, m_J_t hJ _⟩
      · have hjn : nI 1 = b_I (decide (k ≤ l) && (a_in md 0 2 && a_in fl 0 31)) := by rw [decide_eq_true (Int32.not_lt.mp c2), c10, c18]; rfl
        refine sv_iconst (nI 1) dX3_store_21 (by decide +kernel) ?_
        refine sv_goto (tgt := 26) dX3_store_22 (by decide) ?_
        refine sv_topI hjn ?_
        refine sv_istore dX3_store_26 (by decide) ?_
        refine sv_aload_n dX3_store_28 rfl ?_
        refine sv_aload_n dX3_store_29 rfl ?_
        refine sv_iload_n dX3_store_30 rfl ?_
        refine sv_iload_n dX3_store_31 rfl ?_
        refine sv_iload_n dX3_store_32 rfl ?_
        refine sv_cvR _ (ct_areEntries hn (m_J_e hJ) hJ.2.2.1) okX3_areEntries kv_X3_206 (sx_rd_c (m_S_0 hn)) rfl dX3_store_33 rfl rfl (by decide) (Nat.le_of_ble_eq_true rfl) ?_
        refine sv_iload dX3_store_36 rfl ?_
        refine sv_aload_n dX3_store_38 rfl ?_
        refine sv_iload_n dX3_store_39 rfl ?_
        refine sv_cvR _ (ct_canChange hn (m_J_e hJ) hJ.2.2.1) okX3_canChange kv_X3_231 (sx_rd_c (m_S_0 hn)) rfl dX3_store_40 rfl rfl (by decide) (Nat.le_of_ble_eq_true rfl) ?_
        refine sv_cvR _ (ct_passes3 (a := (a_are (A_v A) s k l)) hn) okX3_passes3 kv_X3_7 (sx_rd_c (m_S_0 hn)) rfl dX3_store_43 rfl rfl (by decide) (Nat.le_of_ble_eq_true rfl) ?_
        refine sv_if_neB (tgt := 51) dX3_store_46 (by decide) (fun c46 => ?_) (fun c46 => ?_)
        · have hA := c46
          simp only [Bool.and_eq_true] at hA
          obtain ⟨j, f, u, hj, hf, hu, rfl, rfl, rfl, ej, ek, el⟩ := a_are_of hJ.2.2.1 hA.1
          obtain ⟨j2, b, _, e2, ej2, hbx, hb, hid, hrd⟩ := a_chg_of hJ.2.2.1 hA.2.2
          rw [ej] at ej2
          subst ej2
          have hel := hJ.2.2.1.2.1 j hj
          have hfu : f ≤ u := by have := of_decide_eq_true hA.2.1.1; rw [nI_leI (by omega) (by omega)] at this; omega
          have hsp : sp_sto A (nI j) (nI (f + 1)) (nI (u + 1)) md fl sil = x_sto (A_st A 0) j f (u + 1) md fl sil := by unfold sp_sto; rw [g_3t c46, ej, ek, el]; rfl
          rw [hsp]
          rw [t_hr_3 c46]
          have hJ0 := m_J_t hJ 0
          have hs4 := hJ.2.2.1.1.2.1
          have hb3 := hJ.2.2.1.1.1
          have hbl := hJ.2.2.1.1.2.2 b hb
          refine sv_aload_n dX3_store_51 rfl ?_
          refine sv_iload_n dX3_store_52 rfl ?_
          refine sv_cvP _ (ct_begins hn hJ0 hj) okX3_begins kv_X3_196 (sx_rd_c (m_S_0 hn)) rfl dX3_store_53 rfl rfl (by decide) (Nat.le_of_ble_eq_true rfl) ?_
          intro v1 t1 hp1
          obtain ⟨rfl, M1, rfl, hJ1⟩ := hp1
          have hj1 : j < (A_v (s_be (A_st A 0) j)).2.2.length := by rw [be_len]; exact hj
          have hbx1 : a_bx (A_v (s_be (A_st A 0) j)) j = some b := (be_bx _ _ hj).trans hbx
          have hbs := a_bs_e hbx1
          refine sv_iconst (nI 0) dX3_store_56 (by decide +kernel) ?_
          refine sv_istore dX3_store_57 (by decide) ?_
          refine sv_iload_n dX3_store_59 rfl ?_
          refine sv_istore dX3_store_60 (by decide) ?_
          have hlo := loop j b f (u + 1) t (s_be (A_st A 0) j) (be_o (A := A_st A 0) ho j hj) hj1 hbx1 (by rw [show a_es (A_v (s_be (A_st A 0) j)) j = a_es (A_v A) j from v_ac_es hj]; omega) (by show 0 + 700 ≤ 1000; omega) 62 f M1 (by rw [show v_st (A_v (s_be (A_st A 0) j)) j b f f md fl sil = A_v (s_be (A_st A 0) j) from by unfold v_st; rw [f_m_0, e_st_0]; exact v_2_id hb hj1]; exact hJ1) (by omega) (by omega) (by omega)
          rw [show n_st (A_v (s_be (A_st A 0) j)) j b f f md fl = 0 from by unfold n_st; rw [List.countP_eq_zero]; intro m _; rw [r_g_0, Bool.false_and]; decide] at hlo
          unfold x_sto
          rw [hbs]
          exact sx_loc [some (.ref h), some (.int _), some (.int _), some (.int _), some (.int md), some (.int fl), some (.int (b_I sil)), none, some (.int _), some (.int (nI (f + 1))), none] ⟨rfl, rfl, rfl, rfl, rfl, rfl, rfl, rfl, rfl, trivial⟩ hlo
        · unfold sp_sto
          rw [g_3f c46]
          refine sv_iconst (nI 0) dX3_store_49 (by decide +kernel) ?_
          refine sv_iret rfl rfl dX3_store_50 ?_
          exact ⟨_, rfl, r_I nI_0, _, rfl, m_J_t hJ _⟩
end MRP
