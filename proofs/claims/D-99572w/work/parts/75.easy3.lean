set_option maxRecDepth 100000
theorem X_isInN {x : Int32} {n : Nat} {S : tS} {K : Int32 → tS → Prop} (hn : n < 1000000) : X_isIn x.toInt64 (lN 0) (nI n - nI 1).toInt64 S K ↔ K (nI (bN (okN x n))) S := by rw [X_isIn_ok, inN hn]
theorem ck_bad {x : Int32} {n : Nat} {P Q : Prop} (hn : n < 1000000) (c : okN x n = false) : ((x < nI 0 → Q) ∧ (¬ x < nI 0 → (nI n ≤ x → Q) ∧ (¬ nI n ≤ x → P))) ↔ Q := by
  rw [lt_z, nN_le _ (by omega), ck_ok, c]
  simp
/-- the numbers of the now court -/
theorem Rel.c {S : tS} (h : Rel S) : gI S 1222 0 = nI (gn S 48 0) ∧ gI S 1222 1 = nI (gn S 48 1) ∧ gI S 1222 2 = nI (gn S 48 2) ∧ gI S 1222 3 = nI (gn S 48 3) ∧ gI S 1222 4 = nI (gn S 48 4) ∧ gI S 1222 5 = nI (gn S 48 5) ∧ gI S 1222 6 = nI (gn S 48 6) ∧ gI S 1222 7 = nI (gn S 48 7) := ⟨h.C.1 0 (by omega), h.C.1 1 (by omega), h.C.1 2 (by omega), h.C.1 3 (by omega), h.C.1 4 (by omega), h.C.1 5 (by omega), h.C.1 6 (by omega), h.C.1 7 (by omega)⟩
theorem op15_ok : op15 Rel := fun a1 a2 _ _ _ => op_st fun S hR => by
  have hV := hR.V.1
  have hC := hR.C
  have h3 := hR.c.2.2.2.2.1
  have w0 := hR.w (nI 0); have w1 := hR.w (nI 1); have w6 := hR.w (nI 6); have w7 := hR.w (nI 7); have w4 := hR.w (nI 4)
  cases c : okN a1 (gn S 48 4)
  · refine ⟨-1, 1, by omega, fun K h => ?_, fun K h => ?_⟩
    · simp (disch := omega) only [X_reader, X_reader_b23, X_reader_b24, X_isReader_ok h3, c, forall_eq, forall_eq', st7, gn7, nz, bN_0, bN_1, nI_add, pk_mul, cl_nI, vp_nI, eq_nI, le_nI, lt_nI, m1_nI, nI_m1, Bool.true_eq_false, Bool.false_eq_true, reduceCtorEq, not_true_eq_false, not_false_eq_true, false_implies, true_implies, implies_true, forall_const, and_true, true_and, and_self, if_true, if_false, reduceIte, Nat.reduceEqDiff, Nat.reduceLeDiff, Nat.reduceLT, Nat.lt_irrefl, Nat.le_refl, gI_sI, gI_sL, gI_sR, gL_sI, gL_sL, gR_sI, gN_sI, M_refuse_ok, M_gives_ok, M_is_ok, decide_true, decide_false, Nat.not_lt_zero, X_at, X_isIn0, M_isFrom0, Nat.reduceAdd, Nat.reduceMul, Nat.reduceSub, Nat.add_zero, Nat.zero_add]
      exact h
    · simp (disch := omega) only [M_reader, M_reader_b17, M_isReader_ok, c, forall_eq, forall_eq', st7, gn7, nz, bN_0, bN_1, nI_add, pk_mul, cl_nI, vp_nI, eq_nI, le_nI, lt_nI, m1_nI, nI_m1, Bool.true_eq_false, Bool.false_eq_true, reduceCtorEq, not_true_eq_false, not_false_eq_true, false_implies, true_implies, implies_true, forall_const, and_true, true_and, and_self, if_true, if_false, reduceIte, Nat.reduceEqDiff, Nat.reduceLeDiff, Nat.reduceLT, Nat.lt_irrefl, Nat.le_refl, gI_sI, gI_sL, gI_sR, gL_sI, gL_sL, gR_sI, gN_sI, M_refuse_ok, M_gives_ok, M_is_ok, decide_true, decide_false, Nat.not_lt_zero, X_at, X_isIn0, M_isFrom0, Nat.reduceAdd, Nat.reduceMul, Nat.reduceSub, Nat.add_zero, Nat.zero_add]
      exact h
  · obtain ⟨j, hj, rfl⟩ := okN_5 (by omega) c
    cases c2 : okN a2 2
    · refine ⟨-1, 1, by omega, fun K h => ?_, fun K h => ?_⟩
      · simp (disch := omega) only [X_reader, X_reader_b23, X_reader_b24, X_isReader_ok h3, c, c2, forall_eq, forall_eq', st7, gn7, nz, bN_0, bN_1, nI_add, pk_mul, cl_nI, vp_nI, eq_nI, le_nI, lt_nI, m1_nI, nI_m1, Bool.true_eq_false, Bool.false_eq_true, reduceCtorEq, not_true_eq_false, not_false_eq_true, false_implies, true_implies, implies_true, forall_const, and_true, true_and, and_self, if_true, if_false, reduceIte, Nat.reduceEqDiff, Nat.reduceLeDiff, Nat.reduceLT, Nat.lt_irrefl, Nat.le_refl, gI_sI, gI_sL, gI_sR, gL_sI, gL_sL, gR_sI, gN_sI, M_refuse_ok, M_gives_ok, M_is_ok, decide_true, decide_false, Nat.not_lt_zero, X_at, X_isIn0, M_isFrom0, Nat.reduceAdd, Nat.reduceMul, Nat.reduceSub, Nat.add_zero, Nat.zero_add]
        exact h
      · simp (disch := omega) only [M_reader, M_reader_b17, M_isReader_ok, c, bad_le (show 1 < 1000000 by decide) c2, forall_eq, forall_eq', st7, gn7, nz, bN_0, bN_1, nI_add, pk_mul, cl_nI, vp_nI, eq_nI, le_nI, lt_nI, m1_nI, nI_m1, Bool.true_eq_false, Bool.false_eq_true, reduceCtorEq, not_true_eq_false, not_false_eq_true, false_implies, true_implies, implies_true, forall_const, and_true, true_and, and_self, if_true, if_false, reduceIte, Nat.reduceEqDiff, Nat.reduceLeDiff, Nat.reduceLT, Nat.lt_irrefl, Nat.le_refl, gI_sI, gI_sL, gI_sR, gL_sI, gL_sL, gR_sI, gN_sI, M_refuse_ok, M_gives_ok, M_is_ok, decide_true, decide_false, Nat.not_lt_zero, X_at, X_isIn0, M_isFrom0, Nat.reduceAdd, Nat.reduceMul, Nat.reduceSub, Nat.add_zero, Nat.zero_add]
        exact h
    · obtain ⟨q, hq, rfl⟩ := okN_5 (by omega) c2
      have e0 : gI S 1584 j = _ := hC.2.2.2.2.2.2.2.1 j (by omega)
      have e1 : gI S 1616 j = _ := hC.2.2.2.2.2.2.2.2.1 j (by omega)
      refine ⟨nI (gn S 48 (102 + q + 2 * j)), 0, by omega, fun K h => ?_, fun K h => ?_⟩
      · have hq : q = 0 ∨ q = 1 := by omega
        rcases hq with rfl | rfl <;> simp (disch := omega) only [X_reader, X_reader_b23, X_reader_b24, X_isReader_ok h3, c, c2, e0, e1, forall_eq, forall_eq', st7, gn7, nz, bN_0, bN_1, nI_add, pk_mul, cl_nI, vp_nI, eq_nI, le_nI, lt_nI, m1_nI, nI_m1, Bool.true_eq_false, Bool.false_eq_true, reduceCtorEq, not_true_eq_false, not_false_eq_true, false_implies, true_implies, implies_true, forall_const, and_true, true_and, and_self, if_true, if_false, reduceIte, Nat.reduceEqDiff, Nat.reduceLeDiff, Nat.reduceLT, Nat.lt_irrefl, Nat.le_refl, gI_sI, gI_sL, gI_sR, gL_sI, gL_sL, gR_sI, gN_sI, M_refuse_ok, M_gives_ok, M_is_ok, decide_true, decide_false, Nat.not_lt_zero, X_at, X_isIn0, M_isFrom0, Nat.reduceAdd, Nat.reduceMul, Nat.reduceSub, Nat.add_zero, Nat.zero_add] <;> exact ⟨by omega, h⟩
      · have hq : q = 0 ∨ q = 1 := by omega
        rcases hq with rfl | rfl <;> simp (disch := omega) only [M_reader, M_reader_b17, M_reader_b41, M_isReader_ok, M_slipOf, M_votesOf, c, gI48, forall_eq, forall_eq', st7, gn7, nz, bN_0, bN_1, nI_add, pk_mul, cl_nI, vp_nI, eq_nI, le_nI, lt_nI, m1_nI, nI_m1, Bool.true_eq_false, Bool.false_eq_true, reduceCtorEq, not_true_eq_false, not_false_eq_true, false_implies, true_implies, implies_true, forall_const, and_true, true_and, and_self, if_true, if_false, reduceIte, Nat.reduceEqDiff, Nat.reduceLeDiff, Nat.reduceLT, Nat.lt_irrefl, Nat.le_refl, gI_sI, gI_sL, gI_sR, gL_sI, gL_sL, gR_sI, gN_sI, M_refuse_ok, M_gives_ok, M_is_ok, decide_true, decide_false, Nat.not_lt_zero, X_at, X_isIn0, M_isFrom0, Nat.reduceAdd, Nat.reduceMul, Nat.reduceSub, Nat.add_zero, Nat.zero_add]
        · exact ⟨by omega, h⟩
        · rw [show 102 + 2 * j + 1 = 102 + 1 + 2 * j by omega]; exact ⟨by omega, h⟩
theorem op16_ok : op16 Rel := fun a1 a2 _ _ _ => op_st fun S hR => by
  have hV := hR.V.1
  have hC := hR.C
  have h3 := hR.c.2.2.2.2.2.1
  have w0 := hR.w (nI 0); have w1 := hR.w (nI 1); have w6 := hR.w (nI 6); have w7 := hR.w (nI 7); have w4 := hR.w (nI 4)
  cases c : okN a1 (gn S 48 5)
  · refine ⟨-1, 1, by omega, fun K h => ?_, fun K h => ?_⟩
    · simp (disch := omega) only [X_word, X_word_b34, X_word_b35, h3, X_isInN, c, forall_eq, forall_eq', st7, gn7, nz, bN_0, bN_1, nI_add, pk_mul, cl_nI, vp_nI, eq_nI, le_nI, lt_nI, m1_nI, nI_m1, Bool.true_eq_false, Bool.false_eq_true, reduceCtorEq, not_true_eq_false, not_false_eq_true, false_implies, true_implies, implies_true, forall_const, and_true, true_and, and_self, if_true, if_false, reduceIte, Nat.reduceEqDiff, Nat.reduceLeDiff, Nat.reduceLT, Nat.lt_irrefl, Nat.le_refl, gI_sI, gI_sL, gI_sR, gL_sI, gL_sL, gR_sI, gN_sI, M_refuse_ok, M_gives_ok, M_is_ok, decide_true, decide_false, Nat.not_lt_zero, X_at, X_isIn0, M_isFrom0, Nat.reduceAdd, Nat.reduceMul, Nat.reduceSub, Nat.add_zero, Nat.zero_add]
      exact h
    · simp (disch := omega) only [M_word, M_word_b23, gI48, gn7, ck_bad (show gn S 48 5 < 1000000 by omega) c, M_refuse_ok]
      exact h
  · obtain ⟨j, hj, rfl⟩ := okN_5 (by omega) c
    have hj2 : ¬ gn S 48 5 ≤ j := by omega
    cases c2 : okN a2 2
    · refine ⟨-1, 1, by omega, fun K h => ?_, fun K h => ?_⟩
      · simp (disch := omega) only [X_word, X_word_b34, X_word_b35, h3, X_isInN, c, c2, forall_eq, forall_eq', st7, gn7, nz, bN_0, bN_1, nI_add, pk_mul, cl_nI, vp_nI, eq_nI, le_nI, lt_nI, m1_nI, nI_m1, Bool.true_eq_false, Bool.false_eq_true, reduceCtorEq, not_true_eq_false, not_false_eq_true, false_implies, true_implies, implies_true, forall_const, and_true, true_and, and_self, if_true, if_false, reduceIte, Nat.reduceEqDiff, Nat.reduceLeDiff, Nat.reduceLT, Nat.lt_irrefl, Nat.le_refl, gI_sI, gI_sL, gI_sR, gL_sI, gL_sL, gR_sI, gN_sI, M_refuse_ok, M_gives_ok, M_is_ok, decide_true, decide_false, Nat.not_lt_zero, X_at, X_isIn0, M_isFrom0, Nat.reduceAdd, Nat.reduceMul, Nat.reduceSub, Nat.add_zero, Nat.zero_add]
        exact h
      · simp (disch := omega) only [M_word, M_word_b23, gI48, hj2, c, bad_le (show 1 < 1000000 by decide) c2, forall_eq, forall_eq', st7, gn7, nz, bN_0, bN_1, nI_add, pk_mul, cl_nI, vp_nI, eq_nI, le_nI, lt_nI, m1_nI, nI_m1, Bool.true_eq_false, Bool.false_eq_true, reduceCtorEq, not_true_eq_false, not_false_eq_true, false_implies, true_implies, implies_true, forall_const, and_true, true_and, and_self, if_true, if_false, reduceIte, Nat.reduceEqDiff, Nat.reduceLeDiff, Nat.reduceLT, Nat.lt_irrefl, Nat.le_refl, gI_sI, gI_sL, gI_sR, gL_sI, gL_sL, gR_sI, gN_sI, M_refuse_ok, M_gives_ok, M_is_ok, decide_true, decide_false, Nat.not_lt_zero, X_at, X_isIn0, M_isFrom0, Nat.reduceAdd, Nat.reduceMul, Nat.reduceSub, Nat.add_zero, Nat.zero_add]
        exact h
    · obtain ⟨q, hq, rfl⟩ := okN_5 (by omega) c2
      have e0 : gI S 1648 j = _ := hC.2.2.2.2.2.2.2.2.2.1 j (by omega)
      have e1 : gI S 1680 j = _ := hC.2.2.2.2.2.2.2.2.2.2.1 j (by omega)
      have hq1 : q ≤ 1 := by omega
      refine ⟨nI (gn S 48 (114 + q + 2 * j)), 0, by omega, fun K h => ?_, fun K h => ?_⟩
      · have hq : q = 0 ∨ q = 1 := by omega
        rcases hq with rfl | rfl <;> simp (disch := omega) only [X_word, X_word_b34, X_word_b35, h3, X_isInN, c, c2, e0, e1, forall_eq, forall_eq', st7, gn7, nz, bN_0, bN_1, nI_add, pk_mul, cl_nI, vp_nI, eq_nI, le_nI, lt_nI, m1_nI, nI_m1, Bool.true_eq_false, Bool.false_eq_true, reduceCtorEq, not_true_eq_false, not_false_eq_true, false_implies, true_implies, implies_true, forall_const, and_true, true_and, and_self, if_true, if_false, reduceIte, Nat.reduceEqDiff, Nat.reduceLeDiff, Nat.reduceLT, Nat.lt_irrefl, Nat.le_refl, gI_sI, gI_sL, gI_sR, gL_sI, gL_sL, gR_sI, gN_sI, M_refuse_ok, M_gives_ok, M_is_ok, decide_true, decide_false, Nat.not_lt_zero, X_at, X_isIn0, M_isFrom0, Nat.reduceAdd, Nat.reduceMul, Nat.reduceSub, Nat.add_zero, Nat.zero_add] <;> exact ⟨by omega, h⟩
      · simp (disch := omega) only [M_word, M_word_b23, gI48, hj2, hq1, c, forall_eq, forall_eq', st7, gn7, nz, bN_0, bN_1, nI_add, pk_mul, cl_nI, vp_nI, eq_nI, le_nI, lt_nI, m1_nI, nI_m1, Bool.true_eq_false, Bool.false_eq_true, reduceCtorEq, not_true_eq_false, not_false_eq_true, false_implies, true_implies, implies_true, forall_const, and_true, true_and, and_self, if_true, if_false, reduceIte, Nat.reduceEqDiff, Nat.reduceLeDiff, Nat.reduceLT, Nat.lt_irrefl, Nat.le_refl, gI_sI, gI_sL, gI_sR, gL_sI, gL_sL, gR_sI, gN_sI, M_refuse_ok, M_gives_ok, M_is_ok, decide_true, decide_false, Nat.not_lt_zero, X_at, X_isIn0, M_isFrom0, Nat.reduceAdd, Nat.reduceMul, Nat.reduceSub, Nat.add_zero, Nat.zero_add]
        rw [show 114 + 2 * j + q = 114 + q + 2 * j by omega]; exact ⟨by omega, h⟩
theorem op57_ok : op57 Rel := fun a1 _ _ _ _ => op_st fun S hR => by
  obtain ⟨⟨o, h⟩, _⟩ := hR
  have e1 := h.2.2.2.2.2.2.2.2.1.1
  have e2 := h.2.2.2.2.2.2.2.2.1.2
  have e3 := h.2.2.2.2.2.2.2.2.2
  cases c : okN a1 5
  · refine ⟨-1, 1, by omega, fun K h => ?_, fun K h => ?_⟩
    · simp (disch := omega) only [X_lived, X_lived_b30, c, forall_eq, forall_eq', st7, gn7, nz, bN_0, bN_1, nI_add, pk_mul, cl_nI, vp_nI, eq_nI, le_nI, lt_nI, m1_nI, nI_m1, Bool.true_eq_false, Bool.false_eq_true, reduceCtorEq, not_true_eq_false, not_false_eq_true, false_implies, true_implies, implies_true, forall_const, and_true, true_and, and_self, if_true, if_false, reduceIte, Nat.reduceEqDiff, Nat.reduceLeDiff, Nat.reduceLT, Nat.lt_irrefl, Nat.le_refl, gI_sI, gI_sL, gI_sR, gL_sI, gL_sL, gR_sI, gN_sI, M_refuse_ok, M_gives_ok, M_is_ok, decide_true, decide_false, Nat.not_lt_zero, X_at, X_isIn0, M_isFrom0, Nat.reduceAdd, Nat.reduceMul, Nat.reduceSub, Nat.add_zero, Nat.zero_add]
      exact h
    · simp (disch := omega) only [M_lived, M_lived_b9, bad_le (show 4 < 1000000 by decide) c, forall_eq, forall_eq', st7, gn7, nz, bN_0, bN_1, nI_add, pk_mul, cl_nI, vp_nI, eq_nI, le_nI, lt_nI, m1_nI, nI_m1, Bool.true_eq_false, Bool.false_eq_true, reduceCtorEq, not_true_eq_false, not_false_eq_true, false_implies, true_implies, implies_true, forall_const, and_true, true_and, and_self, if_true, if_false, reduceIte, Nat.reduceEqDiff, Nat.reduceLeDiff, Nat.reduceLT, Nat.lt_irrefl, Nat.le_refl, gI_sI, gI_sL, gI_sR, gL_sI, gL_sL, gR_sI, gN_sI, M_refuse_ok, M_gives_ok, M_is_ok, decide_true, decide_false, Nat.not_lt_zero, X_at, X_isIn0, M_isFrom0, Nat.reduceAdd, Nat.reduceMul, Nat.reduceSub, Nat.add_zero, Nat.zero_add]
      exact h
  · obtain ⟨j, hj, rfl⟩ := okN_5 (by omega) c
    have hj4 : j ≤ 4 := by omega
    rcases e2 with e2 | e2
    · refine ⟨-1, 6, by omega, fun K h => ?_, fun K h => ?_⟩
      · simp (disch := omega) only [X_lived, X_lived_b30, e1, e2, c, forall_eq, forall_eq', st7, gn7, nz, bN_0, bN_1, nI_add, pk_mul, cl_nI, vp_nI, eq_nI, le_nI, lt_nI, m1_nI, nI_m1, Bool.true_eq_false, Bool.false_eq_true, reduceCtorEq, not_true_eq_false, not_false_eq_true, false_implies, true_implies, implies_true, forall_const, and_true, true_and, and_self, if_true, if_false, reduceIte, Nat.reduceEqDiff, Nat.reduceLeDiff, Nat.reduceLT, Nat.lt_irrefl, Nat.le_refl, gI_sI, gI_sL, gI_sR, gL_sI, gL_sL, gR_sI, gN_sI, M_refuse_ok, M_gives_ok, M_is_ok, decide_true, decide_false, Nat.not_lt_zero, X_at, X_isIn0, M_isFrom0, Nat.reduceAdd, Nat.reduceMul, Nat.reduceSub, Nat.add_zero, Nat.zero_add]
        exact h
      · simp (disch := omega) only [M_lived, M_lived_b9, hj4, e2, forall_eq, forall_eq', st7, gn7, nz, bN_0, bN_1, nI_add, pk_mul, cl_nI, vp_nI, eq_nI, le_nI, lt_nI, m1_nI, nI_m1, Bool.true_eq_false, Bool.false_eq_true, reduceCtorEq, not_true_eq_false, not_false_eq_true, false_implies, true_implies, implies_true, forall_const, and_true, true_and, and_self, if_true, if_false, reduceIte, Nat.reduceEqDiff, Nat.reduceLeDiff, Nat.reduceLT, Nat.lt_irrefl, Nat.le_refl, gI_sI, gI_sL, gI_sR, gL_sI, gL_sL, gR_sI, gN_sI, M_refuse_ok, M_gives_ok, M_is_ok, decide_true, decide_false, Nat.not_lt_zero, X_at, X_isIn0, M_isFrom0, Nat.reduceAdd, Nat.reduceMul, Nat.reduceSub, Nat.add_zero, Nat.zero_add]
        exact h
    · refine ⟨gI S 624 j, 0, by omega, fun K h => ?_, fun K h => ?_⟩
      · simp (disch := omega) only [X_lived, X_lived_b30, e1, e2, e3 j hj, c, forall_eq, forall_eq', st7, gn7, nz, bN_0, bN_1, nI_add, pk_mul, cl_nI, vp_nI, eq_nI, le_nI, lt_nI, m1_nI, nI_m1, Bool.true_eq_false, Bool.false_eq_true, reduceCtorEq, not_true_eq_false, not_false_eq_true, false_implies, true_implies, implies_true, forall_const, and_true, true_and, and_self, if_true, if_false, reduceIte, Nat.reduceEqDiff, Nat.reduceLeDiff, Nat.reduceLT, Nat.lt_irrefl, Nat.le_refl, gI_sI, gI_sL, gI_sR, gL_sI, gL_sL, gR_sI, gN_sI, M_refuse_ok, M_gives_ok, M_is_ok, decide_true, decide_false, Nat.not_lt_zero, X_at, X_isIn0, M_isFrom0, Nat.reduceAdd, Nat.reduceMul, Nat.reduceSub, Nat.add_zero, Nat.zero_add]
        exact ⟨hj, h⟩
      · simp (disch := omega) only [M_lived, M_lived_b9, hj4, e2, forall_eq, forall_eq', st7, gn7, nz, bN_0, bN_1, nI_add, pk_mul, cl_nI, vp_nI, eq_nI, le_nI, lt_nI, m1_nI, nI_m1, Bool.true_eq_false, Bool.false_eq_true, reduceCtorEq, not_true_eq_false, not_false_eq_true, false_implies, true_implies, implies_true, forall_const, and_true, true_and, and_self, if_true, if_false, reduceIte, Nat.reduceEqDiff, Nat.reduceLeDiff, Nat.reduceLT, Nat.lt_irrefl, Nat.le_refl, gI_sI, gI_sL, gI_sR, gL_sI, gL_sL, gR_sI, gN_sI, M_refuse_ok, M_gives_ok, M_is_ok, decide_true, decide_false, Nat.not_lt_zero, X_at, X_isIn0, M_isFrom0, Nat.reduceAdd, Nat.reduceMul, Nat.reduceSub, Nat.add_zero, Nat.zero_add]
        exact ⟨hj, h⟩
theorem sI_sI (S : tS) (t k : Nat) (x y : Int32) : sI (sI S t k x) t k y = sI S t k y := by
  unfold sI up2
  refine Prod.ext (funext fun a => funext fun b => ?_) rfl
  by_cases h1 : a = t
  · by_cases h2 : b = k <;> simp [h1, h2]
  · simp [h1]
theorem X_ans_n {n : Nat} {S : tS} {K : Int32 → tS → Prop} (hn : n < 2147483648) : X_answer (nI n) S K ↔ K (nI n) (sI S 1025 7 (nI 0)) := by
  unfold X_answer X_answer_b11
  simp only [forall_eq]
  rw [le_nI (by omega) hn]
  simp
theorem X_ans_m {S : tS} {K : Int32 → tS → Prop} : X_answer (-1) S K ↔ K (-1) (sI S 1025 7 (nI 6)) := by
  unfold X_answer X_answer_b11
  simp only [forall_eq]
  simp [show ¬ nI 0 ≤ (-1 : Int32) by decide]
theorem M_orN_n {n : Nat} {S : tS} {K : Int32 → tS → Prop} (hn : n < 2147483648) : M_orNone (nI n) S K ↔ K (nI n) (sI S 0 2 (nI 0)) := by
  unfold M_orNone
  simp only [M_gives_ok, M_refuse_ok]
  simp [m1_nI hn]
theorem M_orN_m {S : tS} {K : Int32 → tS → Prop} : M_orNone (-1) S K ↔ K (-1) (sI S 0 2 (nI 6)) := by
  unfold M_orNone
  simp only [M_gives_ok, M_refuse_ok]
  simp
set_option maxHeartbeats 4000000 in
theorem op13_ok : op13 Rel := fun a1 a2 _ _ _ => op_st fun S hR => by
  have hV := hR.V.1
  have hC := hR.C
  have hW := hR.W
  have h3 := hR.c.2.2.1
  have w0 := (hR.w (nI 0)).2.2.1
  have w1 := (hR.w (nI 1)).2.2.1
  have w6 := (hR.w (nI 6)).2.2.1
  cases c : okN a1 (gn S 48 2)
  · refine ⟨-1, 1, by omega, fun K h => ?_, fun K h => ?_⟩
    · simp (disch := omega) only [X_rule, X_rule_b25, X_rule_b26, X_isRule_ok h3, c, forall_eq, forall_eq', st7, gn7, nz, bN_0, bN_1, nI_add, pk_mul, cl_nI, vp_nI, eq_nI, le_nI, lt_nI, m1_nI, nI_m1, Bool.true_eq_false, Bool.false_eq_true, reduceCtorEq, not_true_eq_false, not_false_eq_true, false_implies, true_implies, implies_true, forall_const, and_true, true_and, and_self, if_true, if_false, reduceIte, Nat.reduceEqDiff, Nat.reduceLeDiff, Nat.reduceLT, Nat.lt_irrefl, Nat.le_refl, gI_sI, gI_sL, gI_sR, gL_sI, gL_sL, gR_sI, gN_sI, M_refuse_ok, M_gives_ok, M_is_ok, decide_true, decide_false, Nat.not_lt_zero, X_at, X_isIn0, M_isFrom0, Nat.reduceAdd, Nat.reduceMul, Nat.reduceSub, Nat.add_zero, Nat.zero_add]
      exact h
    · simp (disch := omega) only [M_rule, M_rule_b17, M_isRule_ok, c, forall_eq, forall_eq', st7, gn7, nz, bN_0, bN_1, nI_add, pk_mul, cl_nI, vp_nI, eq_nI, le_nI, lt_nI, m1_nI, nI_m1, Bool.true_eq_false, Bool.false_eq_true, reduceCtorEq, not_true_eq_false, not_false_eq_true, false_implies, true_implies, implies_true, forall_const, and_true, true_and, and_self, if_true, if_false, reduceIte, Nat.reduceEqDiff, Nat.reduceLeDiff, Nat.reduceLT, Nat.lt_irrefl, Nat.le_refl, gI_sI, gI_sL, gI_sR, gL_sI, gL_sL, gR_sI, gN_sI, M_refuse_ok, M_gives_ok, M_is_ok, decide_true, decide_false, Nat.not_lt_zero, X_at, X_isIn0, M_isFrom0, Nat.reduceAdd, Nat.reduceMul, Nat.reduceSub, Nat.add_zero, Nat.zero_add]
      exact h
  · obtain ⟨j, hj, rfl⟩ := okN_5 (by omega) c
    cases c2 : okN a2 5
    · refine ⟨-1, 1, by omega, fun K h => ?_, fun K h => ?_⟩
      · simp (disch := omega) only [X_rule, X_rule_b25, X_rule_b26, X_isRule_ok h3, c, c2, forall_eq, forall_eq', st7, gn7, nz, bN_0, bN_1, nI_add, pk_mul, cl_nI, vp_nI, eq_nI, le_nI, lt_nI, m1_nI, nI_m1, Bool.true_eq_false, Bool.false_eq_true, reduceCtorEq, not_true_eq_false, not_false_eq_true, false_implies, true_implies, implies_true, forall_const, and_true, true_and, and_self, if_true, if_false, reduceIte, Nat.reduceEqDiff, Nat.reduceLeDiff, Nat.reduceLT, Nat.lt_irrefl, Nat.le_refl, gI_sI, gI_sL, gI_sR, gL_sI, gL_sL, gR_sI, gN_sI, M_refuse_ok, M_gives_ok, M_is_ok, decide_true, decide_false, Nat.not_lt_zero, X_at, X_isIn0, M_isFrom0, Nat.reduceAdd, Nat.reduceMul, Nat.reduceSub, Nat.add_zero, Nat.zero_add]
        exact h
      · simp (disch := omega) only [M_rule, M_rule_b17, M_isRule_ok, c, bad_le (show 4 < 1000000 by decide) c2, forall_eq, forall_eq', st7, gn7, nz, bN_0, bN_1, nI_add, pk_mul, cl_nI, vp_nI, eq_nI, le_nI, lt_nI, m1_nI, nI_m1, Bool.true_eq_false, Bool.false_eq_true, reduceCtorEq, not_true_eq_false, not_false_eq_true, false_implies, true_implies, implies_true, forall_const, and_true, true_and, and_self, if_true, if_false, reduceIte, Nat.reduceEqDiff, Nat.reduceLeDiff, Nat.reduceLT, Nat.lt_irrefl, Nat.le_refl, gI_sI, gI_sL, gI_sR, gL_sI, gL_sL, gR_sI, gN_sI, M_refuse_ok, M_gives_ok, M_is_ok, decide_true, decide_false, Nat.not_lt_zero, X_at, X_isIn0, M_isFrom0, Nat.reduceAdd, Nat.reduceMul, Nat.reduceSub, Nat.add_zero, Nat.zero_add]
        exact h
    · obtain ⟨q, hq, rfl⟩ := okN_5 (by omega) c2
      obtain ⟨t, t1, t2⟩ := hC.2.2.2.2.2.2.2.2.2.2.2 j hj
      have t1 : gR S 1719 j = some t := t1
      obtain ⟨t3, t4, t5⟩ := hW.2.2.2.2.2.2.2.2.2.2.2.2 j t t1
      have b6 : gn S 48 (22 + 7 * j) = 4294967295 ∨ gn S 48 (22 + 7 * j) < 5 := by
        rcases (hR.V.2.2.1 j hj).2.2.2.2.2.2 with q | q
        · have := hR.V.1.1; omega
        · exact .inl q
      have b0 : gn S 48 (16 + 7 * j) < 10 := by have := (hR.V.2.2.1 j hj).1; omega
      have b2 : gn S 48 (18 + 7 * j) < 100 := by have := (hR.V.2.2.1 j hj).2.2.1; omega
      have b3 : gn S 48 (19 + 7 * j) < 100 := by have := (hR.V.2.2.1 j hj).2.2.2.1; omega
      have b4 : gn S 48 (20 + 7 * j) < 100 := by have := (hR.V.2.2.1 j hj).2.2.2.2.1; omega
      have b5 : gn S 48 (21 + 7 * j) < 100 := by have := (hR.V.2.2.1 j hj).2.2.2.2.2.1; omega
      have bV : gn S 48 2 ≤ 8 := hV.2.2.1
      clear hV
      have hq4 : q ≤ 4 := by omega
      have ht0 : t ≠ 1025 := by omega
      have g0 := t2 0 (by omega)
      have g1 := t2 1 (by omega)
      have g2 := t2 2 (by omega)
      have g3 := t2 3 (by omega)
      have g4 := t2 4 (by omega)
      have g5 := t2 5 (by omega)
      have g6 := t2 6 (by omega)
      simp only [Nat.add_zero] at g0
      rw [show 16 + 7 * j + 1 = 17 + 7 * j by omega] at g1
      rw [show 16 + 7 * j + 2 = 18 + 7 * j by omega] at g2
      rw [show 16 + 7 * j + 3 = 19 + 7 * j by omega] at g3
      rw [show 16 + 7 * j + 4 = 20 + 7 * j by omega] at g4
      rw [show 16 + 7 * j + 5 = 21 + 7 * j by omega] at g5
      rw [show 16 + 7 * j + 6 = 22 + 7 * j by omega] at g6
      have hq : q = 0 ∨ q = 1 ∨ q = 2 ∨ q = 3 ∨ q = 4 := by omega
      rcases hq with rfl | rfl | rfl | rfl | rfl
      · refine ⟨nI (gn S 48 (16 + 7 * j)), 0, by omega, fun K h => ?_, fun K h => ?_⟩
        · simp (disch := omega) only [X_rule, X_rule_b25, X_rule_b26, X_isRule_ok h3, c, c2, forall_eq, forall_eq', st7, gn7, nz, bN_0, bN_1, nI_add, pk_mul, cl_nI, vp_nI, eq_nI, le_nI, lt_nI, m1_nI, nI_m1, Bool.true_eq_false, Bool.false_eq_true, reduceCtorEq, not_true_eq_false, not_false_eq_true, false_implies, true_implies, implies_true, forall_const, and_true, true_and, and_self, if_true, if_false, reduceIte, Nat.reduceEqDiff, Nat.reduceLeDiff, Nat.reduceLT, Nat.lt_irrefl, Nat.le_refl, gI_sI, gI_sL, gI_sR, gL_sI, gL_sL, gR_sI, gN_sI, M_refuse_ok, M_gives_ok, M_is_ok, decide_true, decide_false, Nat.not_lt_zero, X_at, X_isIn0, M_isFrom0, Nat.reduceAdd, Nat.reduceMul, Nat.reduceSub, Nat.add_zero, Nat.zero_add]
          exact ⟨by omega, t, t1, ⟨t3, t4⟩, by rw [if_neg ht0, g0]; exact h⟩
        · simp (disch := omega) only [M_rule, M_rule_b17, M_isRule_ok, M_ruleOf, M_ruleRow, gI48, c, forall_eq, forall_eq', st7, gn7, nz, bN_0, bN_1, nI_add, pk_mul, cl_nI, vp_nI, eq_nI, le_nI, lt_nI, m1_nI, nI_m1, Bool.true_eq_false, Bool.false_eq_true, reduceCtorEq, not_true_eq_false, not_false_eq_true, false_implies, true_implies, implies_true, forall_const, and_true, true_and, and_self, if_true, if_false, reduceIte, Nat.reduceEqDiff, Nat.reduceLeDiff, Nat.reduceLT, Nat.lt_irrefl, Nat.le_refl, gI_sI, gI_sL, gI_sR, gL_sI, gL_sL, gR_sI, gN_sI, M_refuse_ok, M_gives_ok, M_is_ok, decide_true, decide_false, Nat.not_lt_zero, X_at, X_isIn0, M_isFrom0, Nat.reduceAdd, Nat.reduceMul, Nat.reduceSub, Nat.add_zero, Nat.zero_add]
          exact ⟨by omega, h⟩
      · refine ⟨nI (gn S 48 (17 + 7 * j)), 0, by omega, fun K h => ?_, fun K h => ?_⟩
        · simp (disch := omega) only [X_rule, X_rule_b25, X_rule_b26, X_isRule_ok h3, c, c2, forall_eq, forall_eq', st7, gn7, nz, bN_0, bN_1, nI_add, pk_mul, cl_nI, vp_nI, eq_nI, le_nI, lt_nI, m1_nI, nI_m1, Bool.true_eq_false, Bool.false_eq_true, reduceCtorEq, not_true_eq_false, not_false_eq_true, false_implies, true_implies, implies_true, forall_const, and_true, true_and, and_self, if_true, if_false, reduceIte, Nat.reduceEqDiff, Nat.reduceLeDiff, Nat.reduceLT, Nat.lt_irrefl, Nat.le_refl, gI_sI, gI_sL, gI_sR, gL_sI, gL_sL, gR_sI, gN_sI, M_refuse_ok, M_gives_ok, M_is_ok, decide_true, decide_false, Nat.not_lt_zero, X_at, X_isIn0, M_isFrom0, Nat.reduceAdd, Nat.reduceMul, Nat.reduceSub, Nat.add_zero, Nat.zero_add]
          exact ⟨by omega, t, t1, ⟨t3, t4⟩, by rw [if_neg ht0, g1]; exact h⟩
        · simp (disch := omega) only [M_rule, M_rule_b17, M_isRule_ok, M_ruleOf, M_ruleRow, gI48, c, forall_eq, forall_eq', st7, gn7, nz, bN_0, bN_1, nI_add, pk_mul, cl_nI, vp_nI, eq_nI, le_nI, lt_nI, m1_nI, nI_m1, Bool.true_eq_false, Bool.false_eq_true, reduceCtorEq, not_true_eq_false, not_false_eq_true, false_implies, true_implies, implies_true, forall_const, and_true, true_and, and_self, if_true, if_false, reduceIte, Nat.reduceEqDiff, Nat.reduceLeDiff, Nat.reduceLT, Nat.lt_irrefl, Nat.le_refl, gI_sI, gI_sL, gI_sR, gL_sI, gL_sL, gR_sI, gN_sI, M_refuse_ok, M_gives_ok, M_is_ok, decide_true, decide_false, Nat.not_lt_zero, X_at, X_isIn0, M_isFrom0, Nat.reduceAdd, Nat.reduceMul, Nat.reduceSub, Nat.add_zero, Nat.zero_add]
          rw [show 16 + 7 * j + 1 = 17 + 7 * j by omega]
          exact ⟨by omega, h⟩
      · by_cases z : gn S 48 (18 + 7 * j) = 0
        · refine ⟨-1, 6, by omega, fun K h => ?_, fun K h => ?_⟩
          · simp (disch := omega) only [X_rule, X_rule_b25, X_rule_b26, X_isRule_ok h3, c, c2, forall_eq, forall_eq', st7, gn7, nz, bN_0, bN_1, nI_add, pk_mul, cl_nI, vp_nI, eq_nI, le_nI, lt_nI, m1_nI, nI_m1, Bool.true_eq_false, Bool.false_eq_true, reduceCtorEq, not_true_eq_false, not_false_eq_true, false_implies, true_implies, implies_true, forall_const, and_true, true_and, and_self, if_true, if_false, reduceIte, Nat.reduceEqDiff, Nat.reduceLeDiff, Nat.reduceLT, Nat.lt_irrefl, Nat.le_refl, gI_sI, gI_sL, gI_sR, gL_sI, gL_sL, gR_sI, gN_sI, M_refuse_ok, M_gives_ok, M_is_ok, decide_true, decide_false, Nat.not_lt_zero, X_at, X_isIn0, M_isFrom0, Nat.reduceAdd, Nat.reduceMul, Nat.reduceSub, Nat.add_zero, Nat.zero_add]
            refine ⟨by omega, t, t1, ⟨t3, t4⟩, ?_⟩
            simp (disch := omega) only [if_neg ht0, g2, z, X_rule_b106, X_ans_m, sI_sI, forall_eq, forall_eq', st7, gn7, nz, bN_0, bN_1, nI_add, pk_mul, cl_nI, vp_nI, eq_nI, le_nI, lt_nI, m1_nI, nI_m1, Bool.true_eq_false, Bool.false_eq_true, reduceCtorEq, not_true_eq_false, not_false_eq_true, false_implies, true_implies, implies_true, forall_const, and_true, true_and, and_self, if_true, if_false, reduceIte, Nat.reduceEqDiff, Nat.reduceLeDiff, Nat.reduceLT, Nat.lt_irrefl, Nat.le_refl, gI_sI, gI_sL, gI_sR, gL_sI, gL_sL, gR_sI, gN_sI, M_refuse_ok, M_gives_ok, M_is_ok, decide_true, decide_false, Nat.not_lt_zero, X_at, X_isIn0, M_isFrom0, Nat.reduceAdd, Nat.reduceMul, Nat.reduceSub, Nat.add_zero, Nat.zero_add]
            exact h
          · simp (disch := omega) only [M_rule, M_rule_b17, M_isRule_ok, M_ruleOf, M_ruleRow, gI48, c, forall_eq, forall_eq', st7, gn7, nz, bN_0, bN_1, nI_add, pk_mul, cl_nI, vp_nI, eq_nI, le_nI, lt_nI, m1_nI, nI_m1, Bool.true_eq_false, Bool.false_eq_true, reduceCtorEq, not_true_eq_false, not_false_eq_true, false_implies, true_implies, implies_true, forall_const, and_true, true_and, and_self, if_true, if_false, reduceIte, Nat.reduceEqDiff, Nat.reduceLeDiff, Nat.reduceLT, Nat.lt_irrefl, Nat.le_refl, gI_sI, gI_sL, gI_sR, gL_sI, gL_sL, gR_sI, gN_sI, M_refuse_ok, M_gives_ok, M_is_ok, decide_true, decide_false, Nat.not_lt_zero, X_at, X_isIn0, M_isFrom0, Nat.reduceAdd, Nat.reduceMul, Nat.reduceSub, Nat.add_zero, Nat.zero_add]
            rw [show 16 + 7 * j + 2 = 18 + 7 * j by omega, z]
            simp (disch := omega) only [forall_eq, forall_eq', st7, gn7, nz, bN_0, bN_1, nI_add, pk_mul, cl_nI, vp_nI, eq_nI, le_nI, lt_nI, m1_nI, nI_m1, Bool.true_eq_false, Bool.false_eq_true, reduceCtorEq, not_true_eq_false, not_false_eq_true, false_implies, true_implies, implies_true, forall_const, and_true, true_and, and_self, if_true, if_false, reduceIte, Nat.reduceEqDiff, Nat.reduceLeDiff, Nat.reduceLT, Nat.lt_irrefl, Nat.le_refl, gI_sI, gI_sL, gI_sR, gL_sI, gL_sL, gR_sI, gN_sI, M_refuse_ok, M_gives_ok, M_is_ok, decide_true, decide_false, Nat.not_lt_zero, X_at, X_isIn0, M_isFrom0, Nat.reduceAdd, Nat.reduceMul, Nat.reduceSub, Nat.add_zero, Nat.zero_add]
            exact ⟨by omega, h⟩
        · refine ⟨nI (gn S 48 (19 + 7 * j)), 0, by omega, fun K h => ?_, fun K h => ?_⟩
          · simp (disch := omega) only [X_rule, X_rule_b25, X_rule_b26, X_isRule_ok h3, c, c2, forall_eq, forall_eq', st7, gn7, nz, bN_0, bN_1, nI_add, pk_mul, cl_nI, vp_nI, eq_nI, le_nI, lt_nI, m1_nI, nI_m1, Bool.true_eq_false, Bool.false_eq_true, reduceCtorEq, not_true_eq_false, not_false_eq_true, false_implies, true_implies, implies_true, forall_const, and_true, true_and, and_self, if_true, if_false, reduceIte, Nat.reduceEqDiff, Nat.reduceLeDiff, Nat.reduceLT, Nat.lt_irrefl, Nat.le_refl, gI_sI, gI_sL, gI_sR, gL_sI, gL_sL, gR_sI, gN_sI, M_refuse_ok, M_gives_ok, M_is_ok, decide_true, decide_false, Nat.not_lt_zero, X_at, X_isIn0, M_isFrom0, Nat.reduceAdd, Nat.reduceMul, Nat.reduceSub, Nat.add_zero, Nat.zero_add]
            refine ⟨by omega, t, t1, ⟨t3, t4⟩, ?_⟩
            simp (disch := omega) only [if_neg ht0, g2, g3, z, X_rule_b106, X_ans_n, sI_sI, forall_eq, forall_eq', st7, gn7, nz, bN_0, bN_1, nI_add, pk_mul, cl_nI, vp_nI, eq_nI, le_nI, lt_nI, m1_nI, nI_m1, Bool.true_eq_false, Bool.false_eq_true, reduceCtorEq, not_true_eq_false, not_false_eq_true, false_implies, true_implies, implies_true, forall_const, and_true, true_and, and_self, if_true, if_false, reduceIte, Nat.reduceEqDiff, Nat.reduceLeDiff, Nat.reduceLT, Nat.lt_irrefl, Nat.le_refl, gI_sI, gI_sL, gI_sR, gL_sI, gL_sL, gR_sI, gN_sI, M_refuse_ok, M_gives_ok, M_is_ok, decide_true, decide_false, Nat.not_lt_zero, X_at, X_isIn0, M_isFrom0, Nat.reduceAdd, Nat.reduceMul, Nat.reduceSub, Nat.add_zero, Nat.zero_add]
            exact h
          · simp (disch := omega) only [M_rule, M_rule_b17, M_isRule_ok, M_ruleOf, M_ruleRow, gI48, c, forall_eq, forall_eq', st7, gn7, nz, bN_0, bN_1, nI_add, pk_mul, cl_nI, vp_nI, eq_nI, le_nI, lt_nI, m1_nI, nI_m1, Bool.true_eq_false, Bool.false_eq_true, reduceCtorEq, not_true_eq_false, not_false_eq_true, false_implies, true_implies, implies_true, forall_const, and_true, true_and, and_self, if_true, if_false, reduceIte, Nat.reduceEqDiff, Nat.reduceLeDiff, Nat.reduceLT, Nat.lt_irrefl, Nat.le_refl, gI_sI, gI_sL, gI_sR, gL_sI, gL_sL, gR_sI, gN_sI, M_refuse_ok, M_gives_ok, M_is_ok, decide_true, decide_false, Nat.not_lt_zero, X_at, X_isIn0, M_isFrom0, Nat.reduceAdd, Nat.reduceMul, Nat.reduceSub, Nat.add_zero, Nat.zero_add]
            rw [show 16 + 7 * j + 2 = 18 + 7 * j by omega, show 16 + 7 * j + 3 = 19 + 7 * j by omega]
            simp (disch := omega) only [z, forall_eq, forall_eq', st7, gn7, nz, bN_0, bN_1, nI_add, pk_mul, cl_nI, vp_nI, eq_nI, le_nI, lt_nI, m1_nI, nI_m1, Bool.true_eq_false, Bool.false_eq_true, reduceCtorEq, not_true_eq_false, not_false_eq_true, false_implies, true_implies, implies_true, forall_const, and_true, true_and, and_self, if_true, if_false, reduceIte, Nat.reduceEqDiff, Nat.reduceLeDiff, Nat.reduceLT, Nat.lt_irrefl, Nat.le_refl, gI_sI, gI_sL, gI_sR, gL_sI, gL_sL, gR_sI, gN_sI, M_refuse_ok, M_gives_ok, M_is_ok, decide_true, decide_false, Nat.not_lt_zero, X_at, X_isIn0, M_isFrom0, Nat.reduceAdd, Nat.reduceMul, Nat.reduceSub, Nat.add_zero, Nat.zero_add]
            exact ⟨by omega, by omega, h⟩
      · by_cases z : gn S 48 (20 + 7 * j) = 0
        · refine ⟨-1, 6, by omega, fun K h => ?_, fun K h => ?_⟩
          · simp (disch := omega) only [X_rule, X_rule_b25, X_rule_b26, X_isRule_ok h3, c, c2, forall_eq, forall_eq', st7, gn7, nz, bN_0, bN_1, nI_add, pk_mul, cl_nI, vp_nI, eq_nI, le_nI, lt_nI, m1_nI, nI_m1, Bool.true_eq_false, Bool.false_eq_true, reduceCtorEq, not_true_eq_false, not_false_eq_true, false_implies, true_implies, implies_true, forall_const, and_true, true_and, and_self, if_true, if_false, reduceIte, Nat.reduceEqDiff, Nat.reduceLeDiff, Nat.reduceLT, Nat.lt_irrefl, Nat.le_refl, gI_sI, gI_sL, gI_sR, gL_sI, gL_sL, gR_sI, gN_sI, M_refuse_ok, M_gives_ok, M_is_ok, decide_true, decide_false, Nat.not_lt_zero, X_at, X_isIn0, M_isFrom0, Nat.reduceAdd, Nat.reduceMul, Nat.reduceSub, Nat.add_zero, Nat.zero_add]
            refine ⟨by omega, t, t1, ⟨t3, t4⟩, ?_⟩
            simp (disch := omega) only [if_neg ht0, g4, z, X_rule_b126, X_ans_m, sI_sI, forall_eq, forall_eq', st7, gn7, nz, bN_0, bN_1, nI_add, pk_mul, cl_nI, vp_nI, eq_nI, le_nI, lt_nI, m1_nI, nI_m1, Bool.true_eq_false, Bool.false_eq_true, reduceCtorEq, not_true_eq_false, not_false_eq_true, false_implies, true_implies, implies_true, forall_const, and_true, true_and, and_self, if_true, if_false, reduceIte, Nat.reduceEqDiff, Nat.reduceLeDiff, Nat.reduceLT, Nat.lt_irrefl, Nat.le_refl, gI_sI, gI_sL, gI_sR, gL_sI, gL_sL, gR_sI, gN_sI, M_refuse_ok, M_gives_ok, M_is_ok, decide_true, decide_false, Nat.not_lt_zero, X_at, X_isIn0, M_isFrom0, Nat.reduceAdd, Nat.reduceMul, Nat.reduceSub, Nat.add_zero, Nat.zero_add]
            exact h
          · simp (disch := omega) only [M_rule, M_rule_b17, M_isRule_ok, M_ruleOf, M_ruleRow, gI48, c, forall_eq, forall_eq', st7, gn7, nz, bN_0, bN_1, nI_add, pk_mul, cl_nI, vp_nI, eq_nI, le_nI, lt_nI, m1_nI, nI_m1, Bool.true_eq_false, Bool.false_eq_true, reduceCtorEq, not_true_eq_false, not_false_eq_true, false_implies, true_implies, implies_true, forall_const, and_true, true_and, and_self, if_true, if_false, reduceIte, Nat.reduceEqDiff, Nat.reduceLeDiff, Nat.reduceLT, Nat.lt_irrefl, Nat.le_refl, gI_sI, gI_sL, gI_sR, gL_sI, gL_sL, gR_sI, gN_sI, M_refuse_ok, M_gives_ok, M_is_ok, decide_true, decide_false, Nat.not_lt_zero, X_at, X_isIn0, M_isFrom0, Nat.reduceAdd, Nat.reduceMul, Nat.reduceSub, Nat.add_zero, Nat.zero_add]
            rw [show 16 + 7 * j + 4 = 20 + 7 * j by omega, z]
            simp (disch := omega) only [forall_eq, forall_eq', st7, gn7, nz, bN_0, bN_1, nI_add, pk_mul, cl_nI, vp_nI, eq_nI, le_nI, lt_nI, m1_nI, nI_m1, Bool.true_eq_false, Bool.false_eq_true, reduceCtorEq, not_true_eq_false, not_false_eq_true, false_implies, true_implies, implies_true, forall_const, and_true, true_and, and_self, if_true, if_false, reduceIte, Nat.reduceEqDiff, Nat.reduceLeDiff, Nat.reduceLT, Nat.lt_irrefl, Nat.le_refl, gI_sI, gI_sL, gI_sR, gL_sI, gL_sL, gR_sI, gN_sI, M_refuse_ok, M_gives_ok, M_is_ok, decide_true, decide_false, Nat.not_lt_zero, X_at, X_isIn0, M_isFrom0, Nat.reduceAdd, Nat.reduceMul, Nat.reduceSub, Nat.add_zero, Nat.zero_add]
            exact ⟨by omega, h⟩
        · refine ⟨nI (gn S 48 (21 + 7 * j)), 0, by omega, fun K h => ?_, fun K h => ?_⟩
          · simp (disch := omega) only [X_rule, X_rule_b25, X_rule_b26, X_isRule_ok h3, c, c2, forall_eq, forall_eq', st7, gn7, nz, bN_0, bN_1, nI_add, pk_mul, cl_nI, vp_nI, eq_nI, le_nI, lt_nI, m1_nI, nI_m1, Bool.true_eq_false, Bool.false_eq_true, reduceCtorEq, not_true_eq_false, not_false_eq_true, false_implies, true_implies, implies_true, forall_const, and_true, true_and, and_self, if_true, if_false, reduceIte, Nat.reduceEqDiff, Nat.reduceLeDiff, Nat.reduceLT, Nat.lt_irrefl, Nat.le_refl, gI_sI, gI_sL, gI_sR, gL_sI, gL_sL, gR_sI, gN_sI, M_refuse_ok, M_gives_ok, M_is_ok, decide_true, decide_false, Nat.not_lt_zero, X_at, X_isIn0, M_isFrom0, Nat.reduceAdd, Nat.reduceMul, Nat.reduceSub, Nat.add_zero, Nat.zero_add]
            refine ⟨by omega, t, t1, ⟨t3, t4⟩, ?_⟩
            simp (disch := omega) only [if_neg ht0, g4, g5, z, X_rule_b126, X_ans_n, sI_sI, forall_eq, forall_eq', st7, gn7, nz, bN_0, bN_1, nI_add, pk_mul, cl_nI, vp_nI, eq_nI, le_nI, lt_nI, m1_nI, nI_m1, Bool.true_eq_false, Bool.false_eq_true, reduceCtorEq, not_true_eq_false, not_false_eq_true, false_implies, true_implies, implies_true, forall_const, and_true, true_and, and_self, if_true, if_false, reduceIte, Nat.reduceEqDiff, Nat.reduceLeDiff, Nat.reduceLT, Nat.lt_irrefl, Nat.le_refl, gI_sI, gI_sL, gI_sR, gL_sI, gL_sL, gR_sI, gN_sI, M_refuse_ok, M_gives_ok, M_is_ok, decide_true, decide_false, Nat.not_lt_zero, X_at, X_isIn0, M_isFrom0, Nat.reduceAdd, Nat.reduceMul, Nat.reduceSub, Nat.add_zero, Nat.zero_add]
            exact h
          · simp (disch := omega) only [M_rule, M_rule_b17, M_isRule_ok, M_ruleOf, M_ruleRow, gI48, c, forall_eq, forall_eq', st7, gn7, nz, bN_0, bN_1, nI_add, pk_mul, cl_nI, vp_nI, eq_nI, le_nI, lt_nI, m1_nI, nI_m1, Bool.true_eq_false, Bool.false_eq_true, reduceCtorEq, not_true_eq_false, not_false_eq_true, false_implies, true_implies, implies_true, forall_const, and_true, true_and, and_self, if_true, if_false, reduceIte, Nat.reduceEqDiff, Nat.reduceLeDiff, Nat.reduceLT, Nat.lt_irrefl, Nat.le_refl, gI_sI, gI_sL, gI_sR, gL_sI, gL_sL, gR_sI, gN_sI, M_refuse_ok, M_gives_ok, M_is_ok, decide_true, decide_false, Nat.not_lt_zero, X_at, X_isIn0, M_isFrom0, Nat.reduceAdd, Nat.reduceMul, Nat.reduceSub, Nat.add_zero, Nat.zero_add]
            rw [show 16 + 7 * j + 4 = 20 + 7 * j by omega, show 16 + 7 * j + 5 = 21 + 7 * j by omega]
            simp (disch := omega) only [z, forall_eq, forall_eq', st7, gn7, nz, bN_0, bN_1, nI_add, pk_mul, cl_nI, vp_nI, eq_nI, le_nI, lt_nI, m1_nI, nI_m1, Bool.true_eq_false, Bool.false_eq_true, reduceCtorEq, not_true_eq_false, not_false_eq_true, false_implies, true_implies, implies_true, forall_const, and_true, true_and, and_self, if_true, if_false, reduceIte, Nat.reduceEqDiff, Nat.reduceLeDiff, Nat.reduceLT, Nat.lt_irrefl, Nat.le_refl, gI_sI, gI_sL, gI_sR, gL_sI, gL_sL, gR_sI, gN_sI, M_refuse_ok, M_gives_ok, M_is_ok, decide_true, decide_false, Nat.not_lt_zero, X_at, X_isIn0, M_isFrom0, Nat.reduceAdd, Nat.reduceMul, Nat.reduceSub, Nat.add_zero, Nat.zero_add]
            exact ⟨by omega, by omega, h⟩
      · by_cases z : gn S 48 (22 + 7 * j) = 4294967295
        · refine ⟨-1, 6, by omega, fun K h => ?_, fun K h => ?_⟩
          · simp (disch := omega) only [X_rule, X_rule_b25, X_rule_b26, X_isRule_ok h3, c, c2, forall_eq, forall_eq', st7, gn7, nz, bN_0, bN_1, nI_add, pk_mul, cl_nI, vp_nI, eq_nI, le_nI, lt_nI, m1_nI, nI_m1, Bool.true_eq_false, Bool.false_eq_true, reduceCtorEq, not_true_eq_false, not_false_eq_true, false_implies, true_implies, implies_true, forall_const, and_true, true_and, and_self, if_true, if_false, reduceIte, Nat.reduceEqDiff, Nat.reduceLeDiff, Nat.reduceLT, Nat.lt_irrefl, Nat.le_refl, gI_sI, gI_sL, gI_sR, gL_sI, gL_sL, gR_sI, gN_sI, M_refuse_ok, M_gives_ok, M_is_ok, decide_true, decide_false, Nat.not_lt_zero, X_at, X_isIn0, M_isFrom0, Nat.reduceAdd, Nat.reduceMul, Nat.reduceSub, Nat.add_zero, Nat.zero_add]
            refine ⟨by omega, t, t1, ⟨t3, t4⟩, ?_⟩
            simp (disch := omega) only [if_neg ht0, g6, z, ← neg1, X_ans_m, sI_sI, forall_eq, forall_eq', st7, gn7, nz, bN_0, bN_1, nI_add, pk_mul, cl_nI, vp_nI, eq_nI, le_nI, lt_nI, m1_nI, nI_m1, Bool.true_eq_false, Bool.false_eq_true, reduceCtorEq, not_true_eq_false, not_false_eq_true, false_implies, true_implies, implies_true, forall_const, and_true, true_and, and_self, if_true, if_false, reduceIte, Nat.reduceEqDiff, Nat.reduceLeDiff, Nat.reduceLT, Nat.lt_irrefl, Nat.le_refl, gI_sI, gI_sL, gI_sR, gL_sI, gL_sL, gR_sI, gN_sI, M_refuse_ok, M_gives_ok, M_is_ok, decide_true, decide_false, Nat.not_lt_zero, X_at, X_isIn0, M_isFrom0, Nat.reduceAdd, Nat.reduceMul, Nat.reduceSub, Nat.add_zero, Nat.zero_add]
            exact h
          · simp (disch := omega) only [M_rule, M_rule_b17, M_isRule_ok, M_ruleOf, M_ruleRow, gI48, c, forall_eq, forall_eq', st7, gn7, nz, bN_0, bN_1, nI_add, pk_mul, cl_nI, vp_nI, eq_nI, le_nI, lt_nI, m1_nI, nI_m1, Bool.true_eq_false, Bool.false_eq_true, reduceCtorEq, not_true_eq_false, not_false_eq_true, false_implies, true_implies, implies_true, forall_const, and_true, true_and, and_self, if_true, if_false, reduceIte, Nat.reduceEqDiff, Nat.reduceLeDiff, Nat.reduceLT, Nat.lt_irrefl, Nat.le_refl, gI_sI, gI_sL, gI_sR, gL_sI, gL_sL, gR_sI, gN_sI, M_refuse_ok, M_gives_ok, M_is_ok, decide_true, decide_false, Nat.not_lt_zero, X_at, X_isIn0, M_isFrom0, Nat.reduceAdd, Nat.reduceMul, Nat.reduceSub, Nat.add_zero, Nat.zero_add]
            rw [show 16 + 7 * j + 6 = 22 + 7 * j by omega, z, ← neg1]
            simp (disch := omega) only [M_orN_m, forall_eq, forall_eq', st7, gn7, nz, bN_0, bN_1, nI_add, pk_mul, cl_nI, vp_nI, eq_nI, le_nI, lt_nI, m1_nI, nI_m1, Bool.true_eq_false, Bool.false_eq_true, reduceCtorEq, not_true_eq_false, not_false_eq_true, false_implies, true_implies, implies_true, forall_const, and_true, true_and, and_self, if_true, if_false, reduceIte, Nat.reduceEqDiff, Nat.reduceLeDiff, Nat.reduceLT, Nat.lt_irrefl, Nat.le_refl, gI_sI, gI_sL, gI_sR, gL_sI, gL_sL, gR_sI, gN_sI, M_refuse_ok, M_gives_ok, M_is_ok, decide_true, decide_false, Nat.not_lt_zero, X_at, X_isIn0, M_isFrom0, Nat.reduceAdd, Nat.reduceMul, Nat.reduceSub, Nat.add_zero, Nat.zero_add]
            exact ⟨by omega, h⟩
        · refine ⟨nI (gn S 48 (22 + 7 * j)), 0, by omega, fun K h => ?_, fun K h => ?_⟩
          · simp (disch := omega) only [X_rule, X_rule_b25, X_rule_b26, X_isRule_ok h3, c, c2, forall_eq, forall_eq', st7, gn7, nz, bN_0, bN_1, nI_add, pk_mul, cl_nI, vp_nI, eq_nI, le_nI, lt_nI, m1_nI, nI_m1, Bool.true_eq_false, Bool.false_eq_true, reduceCtorEq, not_true_eq_false, not_false_eq_true, false_implies, true_implies, implies_true, forall_const, and_true, true_and, and_self, if_true, if_false, reduceIte, Nat.reduceEqDiff, Nat.reduceLeDiff, Nat.reduceLT, Nat.lt_irrefl, Nat.le_refl, gI_sI, gI_sL, gI_sR, gL_sI, gL_sL, gR_sI, gN_sI, M_refuse_ok, M_gives_ok, M_is_ok, decide_true, decide_false, Nat.not_lt_zero, X_at, X_isIn0, M_isFrom0, Nat.reduceAdd, Nat.reduceMul, Nat.reduceSub, Nat.add_zero, Nat.zero_add]
            refine ⟨by omega, t, t1, ⟨t3, t4⟩, ?_⟩
            simp (disch := omega) only [if_neg ht0, g6, X_ans_n, sI_sI, forall_eq, forall_eq', st7, gn7, nz, bN_0, bN_1, nI_add, pk_mul, cl_nI, vp_nI, eq_nI, le_nI, lt_nI, m1_nI, nI_m1, Bool.true_eq_false, Bool.false_eq_true, reduceCtorEq, not_true_eq_false, not_false_eq_true, false_implies, true_implies, implies_true, forall_const, and_true, true_and, and_self, if_true, if_false, reduceIte, Nat.reduceEqDiff, Nat.reduceLeDiff, Nat.reduceLT, Nat.lt_irrefl, Nat.le_refl, gI_sI, gI_sL, gI_sR, gL_sI, gL_sL, gR_sI, gN_sI, M_refuse_ok, M_gives_ok, M_is_ok, decide_true, decide_false, Nat.not_lt_zero, X_at, X_isIn0, M_isFrom0, Nat.reduceAdd, Nat.reduceMul, Nat.reduceSub, Nat.add_zero, Nat.zero_add]
            exact h
          · simp (disch := omega) only [M_rule, M_rule_b17, M_isRule_ok, M_ruleOf, M_ruleRow, gI48, c, forall_eq, forall_eq', st7, gn7, nz, bN_0, bN_1, nI_add, pk_mul, cl_nI, vp_nI, eq_nI, le_nI, lt_nI, m1_nI, nI_m1, Bool.true_eq_false, Bool.false_eq_true, reduceCtorEq, not_true_eq_false, not_false_eq_true, false_implies, true_implies, implies_true, forall_const, and_true, true_and, and_self, if_true, if_false, reduceIte, Nat.reduceEqDiff, Nat.reduceLeDiff, Nat.reduceLT, Nat.lt_irrefl, Nat.le_refl, gI_sI, gI_sL, gI_sR, gL_sI, gL_sL, gR_sI, gN_sI, M_refuse_ok, M_gives_ok, M_is_ok, decide_true, decide_false, Nat.not_lt_zero, X_at, X_isIn0, M_isFrom0, Nat.reduceAdd, Nat.reduceMul, Nat.reduceSub, Nat.add_zero, Nat.zero_add]
            rw [show 16 + 7 * j + 6 = 22 + 7 * j by omega]
            simp (disch := omega) only [M_orN_n, forall_eq, forall_eq', st7, gn7, nz, bN_0, bN_1, nI_add, pk_mul, cl_nI, vp_nI, eq_nI, le_nI, lt_nI, m1_nI, nI_m1, Bool.true_eq_false, Bool.false_eq_true, reduceCtorEq, not_true_eq_false, not_false_eq_true, false_implies, true_implies, implies_true, forall_const, and_true, true_and, and_self, if_true, if_false, reduceIte, Nat.reduceEqDiff, Nat.reduceLeDiff, Nat.reduceLT, Nat.lt_irrefl, Nat.le_refl, gI_sI, gI_sL, gI_sR, gL_sI, gL_sL, gR_sI, gN_sI, M_refuse_ok, M_gives_ok, M_is_ok, decide_true, decide_false, Nat.not_lt_zero, X_at, X_isIn0, M_isFrom0, Nat.reduceAdd, Nat.reduceMul, Nat.reduceSub, Nat.add_zero, Nat.zero_add]
            exact ⟨by omega, h⟩
