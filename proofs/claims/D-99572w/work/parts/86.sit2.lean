set_option maxRecDepth 100000
/-- an op by its two ends -/
theorem op_mix {X M : tS → (Int32 → tS → Prop) → Prop} (h : ∀ S, Rel S → ∃ (r : Int32) (S1 S2 : tS), Rel S2 ∧ (∀ K : Int32 → tS → Prop, K r S1 → X S K) ∧ (∀ K : Int32 → tS → Prop, K r S2 → M S1 K)) : OpI Rel X M := fun S hR => by
  obtain ⟨r, S1, S2, h1, h2, h3⟩ := h S hR
  exact ⟨r, fun T => T = S1, fun K hK => h2 K (hK _ rfl), fun T K e hK => by rw [e]; exact h3 K (hK _ h1)⟩
theorem AgW.sitX {S S1 : tS} (h : AgW S S1) (p : Nat) (F : Nat → Nat) : AgW S (sitX S1 1222 p F) := ((h.sI _ (.inr (.inr ⟨by omega, by omega⟩))).sI _ (.inr (.inr ⟨by omega, by omega⟩))).sI _ (.inr (.inr ⟨by omega, by omega⟩))
theorem AgW.sitM {S S1 : tS} (h : AgW S S1) {p : Nat} (hp : p < 6) : AgW S (sitM S1 p) := ((h.sI _ (.inr (.inl ⟨rfl, by omega, by omega⟩))).sI _ (.inr (.inl ⟨rfl, by omega, by omega⟩))).sI _ (.inr (.inl ⟨rfl, by omega, by omega⟩))
theorem sitX_gn {S : tS} {p : Nat} {F : Nat → Nat} : gn (sitX S 1222 p F) 48 = gn S 48 := by
  unfold sitX
  rw [gn_ne _ (by decide), gn_ne _ (by decide), gn_ne _ (by decide)]
theorem CR_sI {S : tS} {c a k m : Nat} {x : Int32} {F : Nat → Nat} (hC : CR S c F) (hW : CW S c) (hV : V m F) (ha : a < 1222) (hc : 1222 ≤ c) : CR (sI S a k x) c F := CR_c hC hV.1.2.2.1 (fun b hb => AgT_sI (by
  simp only [cRows, List.mem_cons, List.not_mem_nil, or_false] at hb
  omega)) (fun r y _ hy => AgT_sI (by have := (hW.2.2.2.2.2.2.2.2.2.2.2.2 r y hy).2.2; omega)) (fun _ _ => rfl)
theorem op17_ok : op17 Rel := fun a1 _ _ _ _ => op_mix fun S hR => by
  have hV := hR.V.1
  have h1 := hR.c.2.2.2.1
  have h7 := hR.c.2.2.2.2.2.2.2
  cases c : okN a1 (gn S 48 3)
  · refine ⟨-1, sI S 1025 7 (nI 1), _, rel_st hR (st := 1) (by omega), fun K h => ?_, fun K h => ?_⟩
    · simp (disch := omega) only [X_sit, X_sit_b32, X_isPerson_ok h1, c, forall_eq, forall_eq', st7, gn7, nz, bN_0, bN_1, nI_add, pk_mul, cl_nI, vp_nI, eq_nI, le_nI, lt_nI, m1_nI, nI_m1, Bool.true_eq_false, Bool.false_eq_true, reduceCtorEq, not_true_eq_false, not_false_eq_true, false_implies, true_implies, implies_true, forall_const, and_true, true_and, and_self, if_true, if_false, reduceIte, Nat.reduceEqDiff, Nat.reduceLeDiff, Nat.reduceLT, Nat.lt_irrefl, Nat.le_refl, gI_sI, gI_sL, gI_sR, gL_sI, gL_sL, gR_sI, gN_sI, M_refuse_ok, M_gives_ok, M_is_ok, decide_true, decide_false, Nat.not_lt_zero, X_at, X_isIn0, M_isFrom0, Nat.reduceAdd, Nat.reduceMul, Nat.reduceSub, Nat.add_zero, Nat.zero_add]
      exact h
    · have w := hR.w (nI 1)
      simp (disch := omega) only [M_sit, M_isPerson_ok, c, forall_eq, forall_eq', st7, gn7, nz, bN_0, bN_1, nI_add, pk_mul, cl_nI, vp_nI, eq_nI, le_nI, lt_nI, m1_nI, nI_m1, Bool.true_eq_false, Bool.false_eq_true, reduceCtorEq, not_true_eq_false, not_false_eq_true, false_implies, true_implies, implies_true, forall_const, and_true, true_and, and_self, if_true, if_false, reduceIte, Nat.reduceEqDiff, Nat.reduceLeDiff, Nat.reduceLT, Nat.lt_irrefl, Nat.le_refl, gI_sI, gI_sL, gI_sR, gL_sI, gL_sL, gR_sI, gN_sI, M_refuse_ok, M_gives_ok, M_is_ok, decide_true, decide_false, Nat.not_lt_zero, X_at, X_isIn0, M_isFrom0, Nat.reduceAdd, Nat.reduceMul, Nat.reduceSub, Nat.add_zero, Nat.zero_add]
      exact h
  · obtain ⟨j, hj, rfl⟩ := okN_5 (by omega) c
    have hj6 : j < 6 := by omega
    by_cases z : gn S 48 7 = 9999
    · refine ⟨-1, sI S 1025 7 (nI 4), _, rel_st hR (st := 4) (by omega), fun K h => ?_, fun K h => ?_⟩
      · simp (disch := omega) only [X_sit, X_sit_b32, X_isPerson_ok h1, c, h7, z, forall_eq, forall_eq', st7, gn7, nz, bN_0, bN_1, nI_add, pk_mul, cl_nI, vp_nI, eq_nI, le_nI, lt_nI, m1_nI, nI_m1, Bool.true_eq_false, Bool.false_eq_true, reduceCtorEq, not_true_eq_false, not_false_eq_true, false_implies, true_implies, implies_true, forall_const, and_true, true_and, and_self, if_true, if_false, reduceIte, Nat.reduceEqDiff, Nat.reduceLeDiff, Nat.reduceLT, Nat.lt_irrefl, Nat.le_refl, gI_sI, gI_sL, gI_sR, gL_sI, gL_sL, gR_sI, gN_sI, M_refuse_ok, M_gives_ok, M_is_ok, decide_true, decide_false, Nat.not_lt_zero, X_at, X_isIn0, M_isFrom0, Nat.reduceAdd, Nat.reduceMul, Nat.reduceSub, Nat.add_zero, Nat.zero_add]
        exact h
      · have w := hR.w (nI 4)
        simp (disch := omega) only [M_sit, M_isPerson_ok, c, gI48, z, forall_eq, forall_eq', st7, gn7, nz, bN_0, bN_1, nI_add, pk_mul, cl_nI, vp_nI, eq_nI, le_nI, lt_nI, m1_nI, nI_m1, Bool.true_eq_false, Bool.false_eq_true, reduceCtorEq, not_true_eq_false, not_false_eq_true, false_implies, true_implies, implies_true, forall_const, and_true, true_and, and_self, if_true, if_false, reduceIte, Nat.reduceEqDiff, Nat.reduceLeDiff, Nat.reduceLT, Nat.lt_irrefl, Nat.le_refl, gI_sI, gI_sL, gI_sR, gL_sI, gL_sL, gR_sI, gN_sI, M_refuse_ok, M_gives_ok, M_is_ok, decide_true, decide_false, Nat.not_lt_zero, X_at, X_isIn0, M_isFrom0, Nat.reduceAdd, Nat.reduceMul, Nat.reduceSub, Nat.add_zero, Nat.zero_add]
        exact h
    · have hT : gn (sitX (sI S 1025 7 (nI 0)) 1222 j (gn S 48)) 48 = gn S 48 := by rw [sitX_gn, gn7]
      have hVT : V 9999 (gn (sitX (sI S 1025 7 (nI 0)) 1222 j (gn S 48)) 48) := by rw [hT]; exact hR.V
      have hG : gn (sitM (sitX (sI S 1025 7 (nI 0)) 1222 j (gn S 48)) j) 48 = sitF (gn S 48) j := by rw [sitM_gn hVT hj6 (by omega), hT]
      have hVF : V 9999 (sitF (gn S 48) j) := sitF_V hR.V hj6 (by omega)
      have hE : gn (sI (sitM (sitX (sI S 1025 7 (nI 0)) 1222 j (gn S 48)) j) 0 2 (nI 0)) 48 = sitF (gn S 48) j := by rw [gn_ne _ (by decide), hG]
      have hCX := sitX_CR (hR.C7 (nI 0)) (hR.W7 (nI 0)) hR.V hj6 (.inl (by omega))
      have hWX : CW (sitX (sI S 1025 7 (nI 0)) 1222 j (gn S 48)) 1222 := CW_sI (CW_sI (CW_sI (hR.W7 (nI 0))))
      have sF : ∀ k : Nat, k < 6 → sitF (gn S 48) j k = gn S 48 k := fun k hk => by
        unfold sitF
        rw [upN_ne (by omega), upN_ne (by omega), upN_ne (by omega)]
      have hRel : Rel (sI (sitM (sitX (sI S 1025 7 (nI 0)) 1222 j (gn S 48)) j) 0 2 (nI 0)) := by
        refine rel_w hR ((((AgW.rf.sI _ (.inl (by decide))).sitX j _).sitM hj6).sI _ (.inl (by decide))) (by rw [hE]; exact hVF) ?_ (by rw [hE]; exact ⟨sF 0 (by omega), sF 1 (by omega), sF 3 (by omega), sF 4 (by omega)⟩) (CW_sI (CW_sI (CW_sI (CW_sI hWX)))) ⟨0, by omega, ?_, ?_⟩ (fun r => rfl)
        · rw [hE]
          exact CR_sI (CR_sI (CR_sI (CR_sI hCX hWX hVF (by omega) (by omega)) (CW_sI hWX) hVF (by omega) (by omega)) (CW_sI (CW_sI hWX)) hVF (by omega) (by omega)) (CW_sI (CW_sI (CW_sI hWX))) hVF (by omega) (by omega)
        · rw [gI_sI, if_pos rfl, if_pos rfl]
        · rfl
      refine ⟨nI (shp (gn S 48) j (gn S 48 6)), sitX (sI S 1025 7 (nI 0)) 1222 j (gn S 48), _, hRel, fun K h => ?_, fun K h => ?_⟩
      · simp (disch := omega) only [X_sit, X_sit_b32, X_isPerson_ok h1, c, h7, z, forall_eq, forall_eq', st7, gn7, nz, bN_0, bN_1, nI_add, pk_mul, cl_nI, vp_nI, eq_nI, le_nI, lt_nI, m1_nI, nI_m1, Bool.true_eq_false, Bool.false_eq_true, reduceCtorEq, not_true_eq_false, not_false_eq_true, false_implies, true_implies, implies_true, forall_const, and_true, true_and, and_self, if_true, if_false, reduceIte, Nat.reduceEqDiff, Nat.reduceLeDiff, Nat.reduceLT, Nat.lt_irrefl, Nat.le_refl, gI_sI, gI_sL, gI_sR, gL_sI, gL_sL, gR_sI, gN_sI, M_refuse_ok, M_gives_ok, M_is_ok, decide_true, decide_false, Nat.not_lt_zero, X_at, X_isIn0, M_isFrom0, Nat.reduceAdd, Nat.reduceMul, Nat.reduceSub, Nat.add_zero, Nat.zero_add]
        rw [Co_sits_ok (hR.C7 _) (hR.W7 _) hR.V hj6]
        exact h
      · generalize hQ : sitX (sI S 1025 7 (nI 0)) 1222 j (gn S 48) = T at h hT hVT hG ⊢
        have w := hVT.1
        have e1 : gI (sitM T j) 48 1 = nI (gn S 48 1) := by rw [gI48, hG, sF 1 (by omega)]
        simp (disch := omega) only [M_sit, M_sit_b56, M_isPerson_ok, hT, c, gI48, z, M_sits_ok hVT, M_gives_ok, hG, sF, forall_eq, forall_eq', st7, gn7, nz, bN_0, bN_1, nI_add, pk_mul, cl_nI, vp_nI, eq_nI, le_nI, lt_nI, m1_nI, nI_m1, Bool.true_eq_false, Bool.false_eq_true, reduceCtorEq, not_true_eq_false, not_false_eq_true, false_implies, true_implies, implies_true, forall_const, and_true, true_and, and_self, if_true, if_false, reduceIte, Nat.reduceEqDiff, Nat.reduceLeDiff, Nat.reduceLT, Nat.lt_irrefl, Nat.le_refl, gI_sI, gI_sL, gI_sR, gL_sI, gL_sL, gR_sI, gN_sI, M_refuse_ok, M_gives_ok, M_is_ok, decide_true, decide_false, Nat.not_lt_zero, X_at, X_isIn0, M_isFrom0, Nat.reduceAdd, Nat.reduceMul, Nat.reduceSub, Nat.add_zero, Nat.zero_add]
        rcases shw_lt hR.V (g := gn S 48 (75 + 5 * j)) (fed := gn S 48 (72 + 5 * j)) (warm := gn S 48 6) (set := gn S 48 (73 + 5 * j)) with q | q
        · have q : shp (gn S 48) j (gn S 48 6) < gn S 48 1 := q
          rw [oN_lt q]
          refine ⟨fun z2 => absurd z2 (m1_nI (by omega)), fun _ => h⟩
        · have q : shp (gn S 48) j (gn S 48 6) = gn S 48 1 := q.1
          rw [q, oN_eq]
          rw [q] at h
          exact ⟨fun _ => h, fun z2 => absurd rfl z2⟩
