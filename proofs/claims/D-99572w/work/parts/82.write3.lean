set_option maxRecDepth 100000
theorem sI_same {S : tS} {t k : Nat} {x : Int32} (h : gI S t k = x) : sI S t k x = S := by
  unfold sI up2
  refine Prod.ext (funext fun a => funext fun b => ?_) rfl
  by_cases h1 : a = t
  · by_cases h2 : b = k
    · subst h1; subst h2; simp; exact h.symm
    · simp [h1, h2]
  · simp [h1]
theorem op24_ok : op24 Rel := fun a1 a2 _ _ _ => op_w1 fun S hR => by
  have hV := hR.V.1
  have h1 := hR.c.2.1
  cases c : okN a1 (gn S 48 1)
  · refine .inl ⟨nI 0, 1, by omega, fun K h => ?_, fun K h => ?_⟩
    · simp (disch := omega) only [X_reread, X_reread_b25, X_reread_b26, X_reread_b46, X_isCue_ok h1, c, forall_eq, forall_eq', st7, gn7, nz, bN_0, bN_1, nI_add, pk_mul, cl_nI, vp_nI, eq_nI, le_nI, lt_nI, m1_nI, nI_m1, Bool.true_eq_false, Bool.false_eq_true, reduceCtorEq, not_true_eq_false, not_false_eq_true, false_implies, true_implies, implies_true, forall_const, and_true, true_and, and_self, if_true, if_false, reduceIte, Nat.reduceEqDiff, Nat.reduceLeDiff, Nat.reduceLT, Nat.lt_irrefl, Nat.le_refl, gI_sI, gI_sL, gI_sR, gL_sI, gL_sL, gR_sI, gN_sI, M_refuse_ok, M_gives_ok, M_is_ok, decide_true, decide_false, Nat.not_lt_zero, X_at, X_isIn0, M_isFrom0, Nat.reduceAdd, Nat.reduceMul, Nat.reduceSub, Nat.add_zero, Nat.zero_add]
      exact h
    · have w := hR.w (nI 1)
      simp (disch := omega) only [M_reread, M_reread_b20, M_isCue_ok, c, bN, forall_eq, forall_eq', st7, gn7, nz, bN_0, bN_1, nI_add, pk_mul, cl_nI, vp_nI, eq_nI, le_nI, lt_nI, m1_nI, nI_m1, Bool.true_eq_false, Bool.false_eq_true, reduceCtorEq, not_true_eq_false, not_false_eq_true, false_implies, true_implies, implies_true, forall_const, and_true, true_and, and_self, if_true, if_false, reduceIte, Nat.reduceEqDiff, Nat.reduceLeDiff, Nat.reduceLT, Nat.lt_irrefl, Nat.le_refl, gI_sI, gI_sL, gI_sR, gL_sI, gL_sL, gR_sI, gN_sI, M_refuse_ok, M_gives_ok, M_is_ok, decide_true, decide_false, Nat.not_lt_zero, X_at, X_isIn0, M_isFrom0, Nat.reduceAdd, Nat.reduceMul, Nat.reduceSub, Nat.add_zero, Nat.zero_add]
      exact h
  · obtain ⟨j, hj, rfl⟩ := okN_5 (by omega) c
    cases c2 : okN a2 3
    · refine .inl ⟨nI 0, 1, by omega, fun K h => ?_, fun K h => ?_⟩
      · simp (disch := omega) only [X_reread, X_reread_b25, X_reread_b26, X_reread_b46, X_isCue_ok h1, c, c2, forall_eq, forall_eq', st7, gn7, nz, bN_0, bN_1, nI_add, pk_mul, cl_nI, vp_nI, eq_nI, le_nI, lt_nI, m1_nI, nI_m1, Bool.true_eq_false, Bool.false_eq_true, reduceCtorEq, not_true_eq_false, not_false_eq_true, false_implies, true_implies, implies_true, forall_const, and_true, true_and, and_self, if_true, if_false, reduceIte, Nat.reduceEqDiff, Nat.reduceLeDiff, Nat.reduceLT, Nat.lt_irrefl, Nat.le_refl, gI_sI, gI_sL, gI_sR, gL_sI, gL_sL, gR_sI, gN_sI, M_refuse_ok, M_gives_ok, M_is_ok, decide_true, decide_false, Nat.not_lt_zero, X_at, X_isIn0, M_isFrom0, Nat.reduceAdd, Nat.reduceMul, Nat.reduceSub, Nat.add_zero, Nat.zero_add]
        exact h
      · have w := hR.w (nI 1)
        simp (disch := omega) only [M_reread, M_reread_b20, M_isCue_ok, c, c2, bN, forall_eq, forall_eq', st7, gn7, nz, bN_0, bN_1, nI_add, pk_mul, cl_nI, vp_nI, eq_nI, le_nI, lt_nI, m1_nI, nI_m1, Bool.true_eq_false, Bool.false_eq_true, reduceCtorEq, not_true_eq_false, not_false_eq_true, false_implies, true_implies, implies_true, forall_const, and_true, true_and, and_self, if_true, if_false, reduceIte, Nat.reduceEqDiff, Nat.reduceLeDiff, Nat.reduceLT, Nat.lt_irrefl, Nat.le_refl, gI_sI, gI_sL, gI_sR, gL_sI, gL_sL, gR_sI, gN_sI, M_refuse_ok, M_gives_ok, M_is_ok, decide_true, decide_false, Nat.not_lt_zero, X_at, X_isIn0, M_isFrom0, Nat.reduceAdd, Nat.reduceMul, Nat.reduceSub, Nat.add_zero, Nat.zero_add]
        exact h
    · obtain ⟨q, hq, rfl⟩ := okN_5 (by omega) c2
      refine .inr ⟨nI 1, 1392, j, 10 + j, q, rel_w1 hR (by omega) (.inr (.inl ⟨j, by omega, rfl, by omega⟩)) (.inr (.inl ⟨rfl, by omega, by omega⟩)), fun K h => ?_, fun K h => ?_⟩
      · simp (disch := omega) only [X_reread, X_reread_b25, X_reread_b26, X_reread_b46, X_isCue_ok h1, c, c2, forall_eq, forall_eq', st7, gn7, nz, bN_0, bN_1, nI_add, pk_mul, cl_nI, vp_nI, eq_nI, le_nI, lt_nI, m1_nI, nI_m1, Bool.true_eq_false, Bool.false_eq_true, reduceCtorEq, not_true_eq_false, not_false_eq_true, false_implies, true_implies, implies_true, forall_const, and_true, true_and, and_self, if_true, if_false, reduceIte, Nat.reduceEqDiff, Nat.reduceLeDiff, Nat.reduceLT, Nat.lt_irrefl, Nat.le_refl, gI_sI, gI_sL, gI_sR, gL_sI, gL_sL, gR_sI, gN_sI, M_refuse_ok, M_gives_ok, M_is_ok, decide_true, decide_false, Nat.not_lt_zero, X_at, X_isIn0, M_isFrom0, Nat.reduceAdd, Nat.reduceMul, Nat.reduceSub, Nat.add_zero, Nat.zero_add]
        exact ⟨by omega, h⟩
      · generalize hT : sI (sI S 1025 7 (nI 0)) 1392 j (nI q) = T at h ⊢
        have eT : gn T 48 = gn S 48 := by rw [← hT, gn_ne _ (by decide), gn7]
        have w : gn T 48 1 ≤ 6 := by rw [eT]; exact hV.2.1
        have hj1 : 10 + j < 3548 := by omega
        simp (disch := omega) only [M_reread, M_reread_b20, M_isCue_ok, eT, c, c2, hj1, bN, forall_eq, forall_eq', st7, gn7, nz, bN_0, bN_1, nI_add, pk_mul, cl_nI, vp_nI, eq_nI, le_nI, lt_nI, m1_nI, nI_m1, Bool.true_eq_false, Bool.false_eq_true, reduceCtorEq, not_true_eq_false, not_false_eq_true, false_implies, true_implies, implies_true, forall_const, and_true, true_and, and_self, if_true, if_false, reduceIte, Nat.reduceEqDiff, Nat.reduceLeDiff, Nat.reduceLT, Nat.lt_irrefl, Nat.le_refl, gI_sI, gI_sL, gI_sR, gL_sI, gL_sL, gR_sI, gN_sI, M_refuse_ok, M_gives_ok, M_is_ok, decide_true, decide_false, Nat.not_lt_zero, X_at, X_isIn0, M_isFrom0, Nat.reduceAdd, Nat.reduceMul, Nat.reduceSub, Nat.add_zero, Nat.zero_add]
        exact h
theorem op27_ok : op27 Rel := fun a1 a2 _ _ _ => op_w1 fun S hR => by
  have hV := hR.V.1
  have h1 := hR.c.2.2.2.2.1
  cases c : okN a1 (gn S 48 4)
  · refine .inl ⟨nI 0, 1, by omega, fun K h => ?_, fun K h => ?_⟩
    · simp (disch := omega) only [X_strain, X_strain_b25, X_strain_b26, X_strain_b46, X_isReader_ok h1, c, forall_eq, forall_eq', st7, gn7, nz, bN_0, bN_1, nI_add, pk_mul, cl_nI, vp_nI, eq_nI, le_nI, lt_nI, m1_nI, nI_m1, Bool.true_eq_false, Bool.false_eq_true, reduceCtorEq, not_true_eq_false, not_false_eq_true, false_implies, true_implies, implies_true, forall_const, and_true, true_and, and_self, if_true, if_false, reduceIte, Nat.reduceEqDiff, Nat.reduceLeDiff, Nat.reduceLT, Nat.lt_irrefl, Nat.le_refl, gI_sI, gI_sL, gI_sR, gL_sI, gL_sL, gR_sI, gN_sI, M_refuse_ok, M_gives_ok, M_is_ok, decide_true, decide_false, Nat.not_lt_zero, X_at, X_isIn0, M_isFrom0, Nat.reduceAdd, Nat.reduceMul, Nat.reduceSub, Nat.add_zero, Nat.zero_add]
      exact h
    · have w := hR.w (nI 1)
      simp (disch := omega) only [M_strain, M_strain_b20, M_isReader_ok, c, bN, forall_eq, forall_eq', st7, gn7, nz, bN_0, bN_1, nI_add, pk_mul, cl_nI, vp_nI, eq_nI, le_nI, lt_nI, m1_nI, nI_m1, Bool.true_eq_false, Bool.false_eq_true, reduceCtorEq, not_true_eq_false, not_false_eq_true, false_implies, true_implies, implies_true, forall_const, and_true, true_and, and_self, if_true, if_false, reduceIte, Nat.reduceEqDiff, Nat.reduceLeDiff, Nat.reduceLT, Nat.lt_irrefl, Nat.le_refl, gI_sI, gI_sL, gI_sR, gL_sI, gL_sL, gR_sI, gN_sI, M_refuse_ok, M_gives_ok, M_is_ok, decide_true, decide_false, Nat.not_lt_zero, X_at, X_isIn0, M_isFrom0, Nat.reduceAdd, Nat.reduceMul, Nat.reduceSub, Nat.add_zero, Nat.zero_add]
      exact h
  · obtain ⟨j, hj, rfl⟩ := okN_5 (by omega) c
    cases c2 : okN a2 17
    · refine .inl ⟨nI 0, 1, by omega, fun K h => ?_, fun K h => ?_⟩
      · simp (disch := omega) only [X_strain, X_strain_b25, X_strain_b26, X_strain_b46, X_isReader_ok h1, c, c2, forall_eq, forall_eq', st7, gn7, nz, bN_0, bN_1, nI_add, pk_mul, cl_nI, vp_nI, eq_nI, le_nI, lt_nI, m1_nI, nI_m1, Bool.true_eq_false, Bool.false_eq_true, reduceCtorEq, not_true_eq_false, not_false_eq_true, false_implies, true_implies, implies_true, forall_const, and_true, true_and, and_self, if_true, if_false, reduceIte, Nat.reduceEqDiff, Nat.reduceLeDiff, Nat.reduceLT, Nat.lt_irrefl, Nat.le_refl, gI_sI, gI_sL, gI_sR, gL_sI, gL_sL, gR_sI, gN_sI, M_refuse_ok, M_gives_ok, M_is_ok, decide_true, decide_false, Nat.not_lt_zero, X_at, X_isIn0, M_isFrom0, Nat.reduceAdd, Nat.reduceMul, Nat.reduceSub, Nat.add_zero, Nat.zero_add]
        exact h
      · have w := hR.w (nI 1)
        simp (disch := omega) only [M_strain, M_strain_b20, M_isReader_ok, c, c2, bN, forall_eq, forall_eq', st7, gn7, nz, bN_0, bN_1, nI_add, pk_mul, cl_nI, vp_nI, eq_nI, le_nI, lt_nI, m1_nI, nI_m1, Bool.true_eq_false, Bool.false_eq_true, reduceCtorEq, not_true_eq_false, not_false_eq_true, false_implies, true_implies, implies_true, forall_const, and_true, true_and, and_self, if_true, if_false, reduceIte, Nat.reduceEqDiff, Nat.reduceLeDiff, Nat.reduceLT, Nat.lt_irrefl, Nat.le_refl, gI_sI, gI_sL, gI_sR, gL_sI, gL_sL, gR_sI, gN_sI, M_refuse_ok, M_gives_ok, M_is_ok, decide_true, decide_false, Nat.not_lt_zero, X_at, X_isIn0, M_isFrom0, Nat.reduceAdd, Nat.reduceMul, Nat.reduceSub, Nat.add_zero, Nat.zero_add]
        exact h
    · obtain ⟨q, hq, rfl⟩ := okN_5 (by omega) c2
      refine .inr ⟨nI 1, 1584, j, 102 + 2 * j, q, rel_w1 hR (by omega) (.inr (.inr (.inr ⟨j, by omega, rfl, by omega⟩))) (.inr (.inr (.inr (.inr (.inr (.inr (.inr (.inl ⟨rfl, by omega, by omega⟩)))))))), fun K h => ?_, fun K h => ?_⟩
      · simp (disch := omega) only [X_strain, X_strain_b25, X_strain_b26, X_strain_b46, X_isReader_ok h1, c, c2, forall_eq, forall_eq', st7, gn7, nz, bN_0, bN_1, nI_add, pk_mul, cl_nI, vp_nI, eq_nI, le_nI, lt_nI, m1_nI, nI_m1, Bool.true_eq_false, Bool.false_eq_true, reduceCtorEq, not_true_eq_false, not_false_eq_true, false_implies, true_implies, implies_true, forall_const, and_true, true_and, and_self, if_true, if_false, reduceIte, Nat.reduceEqDiff, Nat.reduceLeDiff, Nat.reduceLT, Nat.lt_irrefl, Nat.le_refl, gI_sI, gI_sL, gI_sR, gL_sI, gL_sL, gR_sI, gN_sI, M_refuse_ok, M_gives_ok, M_is_ok, decide_true, decide_false, Nat.not_lt_zero, X_at, X_isIn0, M_isFrom0, Nat.reduceAdd, Nat.reduceMul, Nat.reduceSub, Nat.add_zero, Nat.zero_add]
        exact ⟨by omega, h⟩
      · generalize hT : sI (sI S 1025 7 (nI 0)) 1584 j (nI q) = T at h ⊢
        have eT : gn T 48 = gn S 48 := by rw [← hT, gn_ne _ (by decide), gn7]
        have w : gn T 48 4 ≤ 6 := by rw [eT]; exact hV.2.2.2.2.1
        have hj1 : 102 + 2 * j < 3548 := by omega
        simp (disch := omega) only [M_strain, M_strain_b20, M_isReader_ok, eT, c, c2, hj1, bN, forall_eq, forall_eq', st7, gn7, nz, bN_0, bN_1, nI_add, pk_mul, cl_nI, vp_nI, eq_nI, le_nI, lt_nI, m1_nI, nI_m1, Bool.true_eq_false, Bool.false_eq_true, reduceCtorEq, not_true_eq_false, not_false_eq_true, false_implies, true_implies, implies_true, forall_const, and_true, true_and, and_self, if_true, if_false, reduceIte, Nat.reduceEqDiff, Nat.reduceLeDiff, Nat.reduceLT, Nat.lt_irrefl, Nat.le_refl, gI_sI, gI_sL, gI_sR, gL_sI, gL_sL, gR_sI, gN_sI, M_refuse_ok, M_gives_ok, M_is_ok, decide_true, decide_false, Nat.not_lt_zero, X_at, X_isIn0, M_isFrom0, Nat.reduceAdd, Nat.reduceMul, Nat.reduceSub, Nat.add_zero, Nat.zero_add]
        exact h
theorem op22_ok : op22 Rel := fun a1 _ _ _ _ => op_w1 fun S hR => by
  have hV := hR.V.1
  have h1 := hR.c.2.2.2.1
  cases c : okN a1 (gn S 48 3)
  · refine .inl ⟨-1, 1, by omega, fun K h => ?_, fun K h => ?_⟩
    · simp (disch := omega) only [X_appeal, X_appeal_b32, X_isPerson_ok h1, c, forall_eq, forall_eq', st7, gn7, nz, bN_0, bN_1, nI_add, pk_mul, cl_nI, vp_nI, eq_nI, le_nI, lt_nI, m1_nI, nI_m1, Bool.true_eq_false, Bool.false_eq_true, reduceCtorEq, not_true_eq_false, not_false_eq_true, false_implies, true_implies, implies_true, forall_const, and_true, true_and, and_self, if_true, if_false, reduceIte, Nat.reduceEqDiff, Nat.reduceLeDiff, Nat.reduceLT, Nat.lt_irrefl, Nat.le_refl, gI_sI, gI_sL, gI_sR, gL_sI, gL_sL, gR_sI, gN_sI, M_refuse_ok, M_gives_ok, M_is_ok, decide_true, decide_false, Nat.not_lt_zero, X_at, X_isIn0, M_isFrom0, Nat.reduceAdd, Nat.reduceMul, Nat.reduceSub, Nat.add_zero, Nat.zero_add]
      exact h
    · have w := hR.w (nI 1)
      simp (disch := omega) only [M_appeal, M_isPerson_ok, c, forall_eq, forall_eq', st7, gn7, nz, bN_0, bN_1, nI_add, pk_mul, cl_nI, vp_nI, eq_nI, le_nI, lt_nI, m1_nI, nI_m1, Bool.true_eq_false, Bool.false_eq_true, reduceCtorEq, not_true_eq_false, not_false_eq_true, false_implies, true_implies, implies_true, forall_const, and_true, true_and, and_self, if_true, if_false, reduceIte, Nat.reduceEqDiff, Nat.reduceLeDiff, Nat.reduceLT, Nat.lt_irrefl, Nat.le_refl, gI_sI, gI_sL, gI_sR, gL_sI, gL_sL, gR_sI, gN_sI, M_refuse_ok, M_gives_ok, M_is_ok, decide_true, decide_false, Nat.not_lt_zero, X_at, X_isIn0, M_isFrom0, Nat.reduceAdd, Nat.reduceMul, Nat.reduceSub, Nat.add_zero, Nat.zero_add]
      exact h
  · obtain ⟨j, hj, rfl⟩ := okN_5 (by omega) c
    have e2 : gI S 1488 j = _ := hR.C.2.2.2.2.1 j (by omega)
    have v2 := (hR.V.p (show j < 6 by omega)).2.2.1
    have hj6 : j < 6 := by omega
    by_cases z : gn S 48 (74 + 5 * j) = 0
    · refine .inl ⟨-1, 7, by omega, fun K h => ?_, fun K h => ?_⟩
      · simp (disch := omega) only [X_appeal, X_appeal_b32, X_isPerson_ok h1, c, e2, z, hj6, forall_eq, forall_eq', st7, gn7, nz, bN_0, bN_1, nI_add, pk_mul, cl_nI, vp_nI, eq_nI, le_nI, lt_nI, m1_nI, nI_m1, Bool.true_eq_false, Bool.false_eq_true, reduceCtorEq, not_true_eq_false, not_false_eq_true, false_implies, true_implies, implies_true, forall_const, and_true, true_and, and_self, if_true, if_false, reduceIte, Nat.reduceEqDiff, Nat.reduceLeDiff, Nat.reduceLT, Nat.lt_irrefl, Nat.le_refl, gI_sI, gI_sL, gI_sR, gL_sI, gL_sL, gR_sI, gN_sI, M_refuse_ok, M_gives_ok, M_is_ok, decide_true, decide_false, Nat.not_lt_zero, X_at, X_isIn0, M_isFrom0, Nat.reduceAdd, Nat.reduceMul, Nat.reduceSub, Nat.add_zero, Nat.zero_add]
        exact h
      · have w := hR.w (nI 7)
        simp (disch := omega) only [M_appeal, M_isPerson_ok, M_personOf_ok, c, z, forall_eq, forall_eq', st7, gn7, nz, bN_0, bN_1, nI_add, pk_mul, cl_nI, vp_nI, eq_nI, le_nI, lt_nI, m1_nI, nI_m1, Bool.true_eq_false, Bool.false_eq_true, reduceCtorEq, not_true_eq_false, not_false_eq_true, false_implies, true_implies, implies_true, forall_const, and_true, true_and, and_self, if_true, if_false, reduceIte, Nat.reduceEqDiff, Nat.reduceLeDiff, Nat.reduceLT, Nat.lt_irrefl, Nat.le_refl, gI_sI, gI_sL, gI_sR, gL_sI, gL_sL, gR_sI, gN_sI, M_refuse_ok, M_gives_ok, M_is_ok, decide_true, decide_false, Nat.not_lt_zero, X_at, X_isIn0, M_isFrom0, Nat.reduceAdd, Nat.reduceMul, Nat.reduceSub, Nat.add_zero, Nat.zero_add]
        exact h
    · refine .inr ⟨nI (gn S 48 (74 + 5 * j)), 1488, j, 74 + 5 * j, 0, rel_w1 hR (by omega) (.inr (.inr (.inl ⟨j, by omega, .inr (.inr (.inl ⟨rfl, by omega⟩))⟩))) (.inr (.inr (.inr (.inr (.inl ⟨rfl, by omega, by omega⟩))))), fun K h => ?_, fun K h => ?_⟩
      · simp (disch := omega) only [X_appeal, X_appeal_b32, X_isPerson_ok h1, c, e2, z, hj6, forall_eq, forall_eq', st7, gn7, nz, bN_0, bN_1, nI_add, pk_mul, cl_nI, vp_nI, eq_nI, le_nI, lt_nI, m1_nI, nI_m1, Bool.true_eq_false, Bool.false_eq_true, reduceCtorEq, not_true_eq_false, not_false_eq_true, false_implies, true_implies, implies_true, forall_const, and_true, true_and, and_self, if_true, if_false, reduceIte, Nat.reduceEqDiff, Nat.reduceLeDiff, Nat.reduceLT, Nat.lt_irrefl, Nat.le_refl, gI_sI, gI_sL, gI_sR, gL_sI, gL_sL, gR_sI, gN_sI, M_refuse_ok, M_gives_ok, M_is_ok, decide_true, decide_false, Nat.not_lt_zero, X_at, X_isIn0, M_isFrom0, Nat.reduceAdd, Nat.reduceMul, Nat.reduceSub, Nat.add_zero, Nat.zero_add]
        exact h
      · generalize hT : sI (sI S 1025 7 (nI 0)) 1488 j (nI 0) = T at h ⊢
        have eT : gn T 48 = gn S 48 := by rw [← hT, gn_ne _ (by decide), gn7]
        have w : gn T 48 3 ≤ 6 := by rw [eT]; exact hV.2.2.2.1
        have hj1 : 74 + 5 * j < 3548 := by omega
        simp (disch := omega) only [M_appeal, M_isPerson_ok, M_personOf_ok, M_personRow, eT, c, z, forall_eq, forall_eq', st7, gn7, nz, bN_0, bN_1, nI_add, pk_mul, cl_nI, vp_nI, eq_nI, le_nI, lt_nI, m1_nI, nI_m1, Bool.true_eq_false, Bool.false_eq_true, reduceCtorEq, not_true_eq_false, not_false_eq_true, false_implies, true_implies, implies_true, forall_const, and_true, true_and, and_self, if_true, if_false, reduceIte, Nat.reduceEqDiff, Nat.reduceLeDiff, Nat.reduceLT, Nat.lt_irrefl, Nat.le_refl, gI_sI, gI_sL, gI_sR, gL_sI, gL_sL, gR_sI, gN_sI, M_refuse_ok, M_gives_ok, M_is_ok, decide_true, decide_false, Nat.not_lt_zero, X_at, X_isIn0, M_isFrom0, Nat.reduceAdd, Nat.reduceMul, Nat.reduceSub, Nat.add_zero, Nat.zero_add]
        rw [show 72 + 5 * j + 2 = 74 + 5 * j by omega]
        exact ⟨hj1, h⟩
theorem op23_ok : op23 Rel := fun a1 _ _ _ _ b hb => op_w1 fun S hR => by
  have hV := hR.V.1
  have h1 := hR.c.2.2.2.1
  cases c : okN a1 (gn S 48 3)
  · refine .inl ⟨nI 0, 1, by omega, fun K h => ?_, fun K h => ?_⟩
    · simp (disch := omega) only [X_blame, X_blame_b42, X_blame_b70, X_isPerson_ok h1, c, forall_eq, forall_eq', st7, gn7, nz, bN_0, bN_1, nI_add, pk_mul, cl_nI, vp_nI, eq_nI, le_nI, lt_nI, m1_nI, nI_m1, Bool.true_eq_false, Bool.false_eq_true, reduceCtorEq, not_true_eq_false, not_false_eq_true, false_implies, true_implies, implies_true, forall_const, and_true, true_and, and_self, if_true, if_false, reduceIte, Nat.reduceEqDiff, Nat.reduceLeDiff, Nat.reduceLT, Nat.lt_irrefl, Nat.le_refl, gI_sI, gI_sL, gI_sR, gL_sI, gL_sL, gR_sI, gN_sI, M_refuse_ok, M_gives_ok, M_is_ok, decide_true, decide_false, Nat.not_lt_zero, X_at, X_isIn0, M_isFrom0, Nat.reduceAdd, Nat.reduceMul, Nat.reduceSub, Nat.add_zero, Nat.zero_add]
      exact h
    · have w := hR.w (nI 1)
      simp (disch := omega) only [M_blame, M_isPerson_ok, c, bN, forall_eq, forall_eq', st7, gn7, nz, bN_0, bN_1, nI_add, pk_mul, cl_nI, vp_nI, eq_nI, le_nI, lt_nI, m1_nI, nI_m1, Bool.true_eq_false, Bool.false_eq_true, reduceCtorEq, not_true_eq_false, not_false_eq_true, false_implies, true_implies, implies_true, forall_const, and_true, true_and, and_self, if_true, if_false, reduceIte, Nat.reduceEqDiff, Nat.reduceLeDiff, Nat.reduceLT, Nat.lt_irrefl, Nat.le_refl, gI_sI, gI_sL, gI_sR, gL_sI, gL_sL, gR_sI, gN_sI, M_refuse_ok, M_gives_ok, M_is_ok, decide_true, decide_false, Nat.not_lt_zero, X_at, X_isIn0, M_isFrom0, Nat.reduceAdd, Nat.reduceMul, Nat.reduceSub, Nat.add_zero, Nat.zero_add]
      exact h
  · obtain ⟨j, hj, rfl⟩ := okN_5 (by omega) c
    have e2 : gI S 1520 j = _ := hR.C.2.2.2.2.2.1 j (by omega)
    have v2 := (hR.V.p (show j < 6 by omega)).2.2.2.1
    have hj6 : j < 6 := by omega
    obtain ⟨q, hq, rfl⟩ : ∃ q : Nat, q < 2 ∧ b = nI q := by
      rcases hb with rfl | rfl
      · exact ⟨0, by omega, rfl⟩
      · exact ⟨1, by omega, rfl⟩
    have hg : gn S 48 (75 + 5 * j) = 0 ∨ gn S 48 (75 + 5 * j) = 1 := by omega
    have hq2 : q = 0 ∨ q = 1 := by omega
    by_cases z : gn S 48 (75 + 5 * j) = q
    · refine .inl ⟨nI 0, 7, by omega, fun K h => ?_, fun K h => ?_⟩
      · rcases hq2 with rfl | rfl <;> simp (disch := omega) only [X_blame, X_blame_b32, X_blame_b42, X_blame_b69, X_blame_b70, X_isPerson_ok h1, c, e2, z, hj6, forall_eq, forall_eq', st7, gn7, nz, bN_0, bN_1, nI_add, pk_mul, cl_nI, vp_nI, eq_nI, le_nI, lt_nI, m1_nI, nI_m1, Bool.true_eq_false, Bool.false_eq_true, reduceCtorEq, not_true_eq_false, not_false_eq_true, false_implies, true_implies, implies_true, forall_const, and_true, true_and, and_self, if_true, if_false, reduceIte, Nat.reduceEqDiff, Nat.reduceLeDiff, Nat.reduceLT, Nat.lt_irrefl, Nat.le_refl, gI_sI, gI_sL, gI_sR, gL_sI, gL_sL, gR_sI, gN_sI, M_refuse_ok, M_gives_ok, M_is_ok, decide_true, decide_false, Nat.not_lt_zero, X_at, X_isIn0, M_isFrom0, Nat.reduceAdd, Nat.reduceMul, Nat.reduceSub, Nat.add_zero, Nat.zero_add] <;> exact h
      · have w := hR.w (nI 7)
        rcases hq2 with rfl | rfl <;> simp (disch := omega) only [M_blame, M_blame_b24, M_isPerson_ok, M_personOf_ok, c, z, bN, forall_eq, forall_eq', st7, gn7, nz, bN_0, bN_1, nI_add, pk_mul, cl_nI, vp_nI, eq_nI, le_nI, lt_nI, m1_nI, nI_m1, Bool.true_eq_false, Bool.false_eq_true, reduceCtorEq, not_true_eq_false, not_false_eq_true, false_implies, true_implies, implies_true, forall_const, and_true, true_and, and_self, if_true, if_false, reduceIte, Nat.reduceEqDiff, Nat.reduceLeDiff, Nat.reduceLT, Nat.lt_irrefl, Nat.le_refl, gI_sI, gI_sL, gI_sR, gL_sI, gL_sL, gR_sI, gN_sI, M_refuse_ok, M_gives_ok, M_is_ok, decide_true, decide_false, Nat.not_lt_zero, X_at, X_isIn0, M_isFrom0, Nat.reduceAdd, Nat.reduceMul, Nat.reduceSub, Nat.add_zero, Nat.zero_add] <;> exact h
    · refine .inr ⟨nI 1, 1520, j, 75 + 5 * j, q, rel_w1 hR (by omega) (.inr (.inr (.inl ⟨j, by omega, .inr (.inr (.inr ⟨rfl, by omega⟩))⟩))) (.inr (.inr (.inr (.inr (.inr (.inl ⟨rfl, by omega, by omega⟩)))))), fun K h => ?_, fun K h => ?_⟩
      · rcases hq2 with rfl | rfl <;> rcases hg with g | g <;> first | exact absurd g z | (simp (disch := omega) only [X_blame, X_blame_b32, X_blame_b42, X_blame_b69, X_blame_b70, X_isPerson_ok h1, c, e2, g, hj6, forall_eq, forall_eq', st7, gn7, nz, bN_0, bN_1, nI_add, pk_mul, cl_nI, vp_nI, eq_nI, le_nI, lt_nI, m1_nI, nI_m1, Bool.true_eq_false, Bool.false_eq_true, reduceCtorEq, not_true_eq_false, not_false_eq_true, false_implies, true_implies, implies_true, forall_const, and_true, true_and, and_self, if_true, if_false, reduceIte, Nat.reduceEqDiff, Nat.reduceLeDiff, Nat.reduceLT, Nat.lt_irrefl, Nat.le_refl, gI_sI, gI_sL, gI_sR, gL_sI, gL_sL, gR_sI, gN_sI, M_refuse_ok, M_gives_ok, M_is_ok, decide_true, decide_false, Nat.not_lt_zero, X_at, X_isIn0, M_isFrom0, Nat.reduceAdd, Nat.reduceMul, Nat.reduceSub, Nat.add_zero, Nat.zero_add]; exact h)
      · generalize hT : sI (sI S 1025 7 (nI 0)) 1520 j (nI q) = T at h ⊢
        have eT : gn T 48 = gn S 48 := by rw [← hT, gn_ne _ (by decide), gn7]
        have w : gn T 48 3 ≤ 6 := by rw [eT]; exact hV.2.2.2.1
        have hj1 : 72 + 5 * j + 3 < 3548 := by omega
        have hx : 75 + 5 * j = 72 + 5 * j + 3 := by omega
        rcases hq2 with rfl | rfl <;> rcases hg with g | g <;> first | exact absurd g z | (simp (disch := omega) only [M_blame, M_blame_b24, M_isPerson_ok, M_personOf_ok, M_personRow, eT, c, g, hj1, bN, forall_eq, forall_eq', st7, gn7, nz, bN_0, bN_1, nI_add, pk_mul, cl_nI, vp_nI, eq_nI, le_nI, lt_nI, m1_nI, nI_m1, Bool.true_eq_false, Bool.false_eq_true, reduceCtorEq, not_true_eq_false, not_false_eq_true, false_implies, true_implies, implies_true, forall_const, and_true, true_and, and_self, if_true, if_false, reduceIte, Nat.reduceEqDiff, Nat.reduceLeDiff, Nat.reduceLT, Nat.lt_irrefl, Nat.le_refl, gI_sI, gI_sL, gI_sR, gL_sI, gL_sL, gR_sI, gN_sI, M_refuse_ok, M_gives_ok, M_is_ok, decide_true, decide_false, Nat.not_lt_zero, X_at, X_isIn0, M_isFrom0, Nat.reduceAdd, Nat.reduceMul, Nat.reduceSub, Nat.add_zero, Nat.zero_add]; rw [hx] at h; exact h)
