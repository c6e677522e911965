set_option maxRecDepth 100000
section CLS
variable {G : sx_G} {d : Nat} {Y : sx_Y} {pc : Nat} {L : List (Option Value)} {st : List Value} {σ : sx_St} {Q : sx_O → sx_St → Prop}
/-- the lambdas that hold nothing, and their one objects -/
def g_M (G : sx_G) : Prop := ∀ i, sx_lc i = true → sg_k G (sg_m G i) = some (.inr (17 + i, []))
/-- a lambda's object goes into an array of its interface -/
theorem sv_aastL {a n v i0 pc0 ix0 : Nat} {x0 : MethodName} {sh : Lambda.Shape} {f : Nat → Option Nat} {i : Int32} (t : Nat) {cA : ClassId} {caps : List Value} (ht : (sx_tys G)[t]? = some (cA, .object sh.iface)) (hi : sx_ls[i0]? = some (.lambdaSite x0 pc0 ix0 sh)) (hv : sx_rd G σ v (.inr (17 + i0, caps))) (hd : decode Y.2.1 pc = .ok (.aastore, 1)) (ha : sx_c σ a = some (.inl (cA, n, .inr (.inr (.inr (.inr f)))))) (hin : vp_in i n) (k : sx_V G d Y (pc + 1) L st (sx_up σ a (.inl (cA, n, .inr (.inr (.inr (.inr (va_up f i.toNatClampNeg (some v)))))))) Q) : sx_V G d Y pc L (.ref v :: .int i :: .ref a :: st) σ Q :=
  sx_wrS ha k (fun p e R s m args below meth c H locs cells slots ls Qf C hat hR hL hS kk2 => by
    have hlt : i.toNatClampNeg < n := Nat.not_le.mp fun q => hin (Or.inr q)
    have h0 : ¬ i < 0 := fun q => hin (Or.inl q)
    have hE := C.2.2.2.2.2.2.2.2.2
    obtain ⟨r, h1, cellV, g1, g2, g3, -⟩ := sx_rd_at hE hR hS hv
    have g2 : cellV.cls = (sg_D G).1 (17 + i0) := g2
    have hlat : s.lambdaAt? x0 pc0 ix0 sh = some ((sg_D G).1 (17 + i0), if sx_lc i0 then some (sg_m G i0) else none) := hE.2.2.2.2.2.2.2.1 i0 _ hi
    obtain ⟨mD, kD, cfD, i9, p9, lk, hmD, hkD, -, -, -, -, hmade, hcan, -⟩ := State.lambdaAt?_spec hlat
    obtain ⟨dk', kC, ok, tk, file, cf, object, iface, t9, lay, methods, target, found, hd', hkC, -⟩ := Lambda.isMade_spec hmade
    obtain ⟨i2, hi2, hasg2, -⟩ := State.lambdaCallable_spec hcan
    obtain ⟨kA, comp, k1, k2, k3, -⟩ := (hE.1.2 t _ ht).2
    obtain ⟨kE, hkE, -⟩ := Vm.findClass_spec k3
    have hasg : s.vm.assignable cellV.cls comp = true := by
      rw [g2]
      have : i2 = comp := Option.some.inj (hi2.symm.trans k3)
      rw [← this]
      exact hasg2
    refine W.aast C.1 C.2.1 hat (fun q h => by cases h) (fun h => by cases h) k1 k2 rfl hkE ⟨h0, by show _ < (arrV _ _ _).slots.size; rw [arrV_size]; exact hlt⟩ g1 (fun q h => by rw [h] at g3; cases g3) (by rw [g2]; exact hkC) hasg rfl rfl hd fun H1 e1 z oq => ?_
    refine kk2 H1 _ ?_ z oq (fun l hl => by rw [List.mem_singleton.mp hl])
    show H1[a]? = some (vp_cell _ _)
    rw [e1]
    rw [vp_cell_q, vp_cell_q, arrV_store]
    congr 2
    funext q
    by_cases hq : q = i.toNatClampNeg
    · subst hq
      simp [updV, va_up, va_rf]
    · simp [updV, va_up, hq])
end CLS
