set_option maxRecDepth 100000
theorem Rel.w {S : tS} (h : Rel S) (x : Int32) : gn (sI S 1025 7 x) 48 0 ≤ 5 ∧ gn (sI S 1025 7 x) 48 1 ≤ 6 ∧ gn (sI S 1025 7 x) 48 2 ≤ 8 ∧ gn (sI S 1025 7 x) 48 3 ≤ 6 ∧ gn (sI S 1025 7 x) 48 4 ≤ 6 ∧ gn (sI S 1025 7 x) 48 5 ≤ 10 ∧ gn (sI S 1025 7 x) 48 6 ≤ 9 ∧ gn (sI S 1025 7 x) 48 7 ≤ 9999 := h.V.1
theorem bad_le {x : Int32} {n : Nat} {P Q : Prop} (hn : n < 1000000) (c : okN x (n + 1) = false) : ((x < nI 0 → Q) ∧ (¬ x < nI 0 → (x ≤ nI n → P) ∧ (¬ x ≤ nI n → Q))) ↔ Q := by
  rw [lt_z, le_nN _ (by omega)]
  rcases okN_f.mp c with q | q
  · simp [q]
  · simp [show ¬ x.toInt < 0 by omega, show ¬ x.toInt ≤ n by omega]
theorem good_le {j n : Nat} {P Q : Prop} (hn : n < 1000000) (c : j < n + 1) : ((nI j < nI 0 → Q) ∧ (¬ nI j < nI 0 → (nI j ≤ nI n → P) ∧ (¬ nI j ≤ nI n → Q))) ↔ P := by
  rw [lt_nI (by omega) (by omega), le_nI (by omega) (by omega)]
  simp [show j ≤ n by omega]
theorem okN_5 {x : Int32} {n : Nat} (hn : n ≤ 1000000) (c : okN x n = true) : ∃ j : Nat, j < n ∧ x = nI j := (okN_iff (by omega)).mp c
theorem op14_ok : op14 Rel := fun a1 a2 _ _ _ => op_st fun S hR => by
  have hV := hR.V.1
  have hC := hR.C
  have h3 := hC.1 3 (by omega)
  have w0 := hR.w (nI 0); have w1 := hR.w (nI 1); have w6 := hR.w (nI 6); have w7 := hR.w (nI 7); have w4 := hR.w (nI 4)
  cases c : okN a1 (gn S 48 3)
  · refine ⟨-1, 1, by omega, fun K h => ?_, fun K h => ?_⟩
    · simp (disch := omega) only [X_person, X_person_b26, X_person_b27, X_isPerson_ok h3, c, forall_eq, forall_eq', st7, gn7, nz, bN_0, bN_1, nI_add, pk_mul, cl_nI, vp_nI, eq_nI, le_nI, lt_nI, m1_nI, nI_m1, Bool.true_eq_false, Bool.false_eq_true, reduceCtorEq, not_true_eq_false, not_false_eq_true, false_implies, true_implies, implies_true, forall_const, and_true, true_and, and_self, if_true, if_false, reduceIte, Nat.reduceEqDiff, Nat.reduceLeDiff, Nat.reduceLT, Nat.lt_irrefl, Nat.le_refl, gI_sI, gI_sL, gI_sR, gL_sI, gL_sL, gR_sI, gN_sI, M_refuse_ok, M_gives_ok, M_is_ok, decide_true, decide_false, Nat.not_lt_zero, X_at, X_isIn0, M_isFrom0, Nat.reduceAdd, Nat.reduceMul, Nat.reduceSub, Nat.add_zero, Nat.zero_add]
      exact h
    · simp (disch := omega) only [M_person, M_person_b18, M_isPerson_ok, c, forall_eq, forall_eq', st7, gn7, nz, bN_0, bN_1, nI_add, pk_mul, cl_nI, vp_nI, eq_nI, le_nI, lt_nI, m1_nI, nI_m1, Bool.true_eq_false, Bool.false_eq_true, reduceCtorEq, not_true_eq_false, not_false_eq_true, false_implies, true_implies, implies_true, forall_const, and_true, true_and, and_self, if_true, if_false, reduceIte, Nat.reduceEqDiff, Nat.reduceLeDiff, Nat.reduceLT, Nat.lt_irrefl, Nat.le_refl, gI_sI, gI_sL, gI_sR, gL_sI, gL_sL, gR_sI, gN_sI, M_refuse_ok, M_gives_ok, M_is_ok, decide_true, decide_false, Nat.not_lt_zero, X_at, X_isIn0, M_isFrom0, Nat.reduceAdd, Nat.reduceMul, Nat.reduceSub, Nat.add_zero, Nat.zero_add]
      exact h
  · obtain ⟨j, hj, rfl⟩ := okN_5 (by omega) c
    cases c2 : okN a2 5
    · refine ⟨-1, 1, by omega, fun K h => ?_, fun K h => ?_⟩
      · simp (disch := omega) only [X_person, X_person_b26, X_person_b27, X_isPerson_ok h3, c, c2, forall_eq, forall_eq', st7, gn7, nz, bN_0, bN_1, nI_add, pk_mul, cl_nI, vp_nI, eq_nI, le_nI, lt_nI, m1_nI, nI_m1, Bool.true_eq_false, Bool.false_eq_true, reduceCtorEq, not_true_eq_false, not_false_eq_true, false_implies, true_implies, implies_true, forall_const, and_true, true_and, and_self, if_true, if_false, reduceIte, Nat.reduceEqDiff, Nat.reduceLeDiff, Nat.reduceLT, Nat.lt_irrefl, Nat.le_refl, gI_sI, gI_sL, gI_sR, gL_sI, gL_sL, gR_sI, gN_sI, M_refuse_ok, M_gives_ok, M_is_ok, decide_true, decide_false, Nat.not_lt_zero, X_at, X_isIn0, M_isFrom0, Nat.reduceAdd, Nat.reduceMul, Nat.reduceSub, Nat.add_zero, Nat.zero_add]
        exact h
      · simp (disch := omega) only [M_person, M_person_b18, M_isPerson_ok, c, bad_le (show 4 < 1000000 by decide) c2, forall_eq, forall_eq', st7, gn7, nz, bN_0, bN_1, nI_add, pk_mul, cl_nI, vp_nI, eq_nI, le_nI, lt_nI, m1_nI, nI_m1, Bool.true_eq_false, Bool.false_eq_true, reduceCtorEq, not_true_eq_false, not_false_eq_true, false_implies, true_implies, implies_true, forall_const, and_true, true_and, and_self, if_true, if_false, reduceIte, Nat.reduceEqDiff, Nat.reduceLeDiff, Nat.reduceLT, Nat.lt_irrefl, Nat.le_refl, gI_sI, gI_sL, gI_sR, gL_sI, gL_sL, gR_sI, gN_sI, M_refuse_ok, M_gives_ok, M_is_ok, decide_true, decide_false, Nat.not_lt_zero, X_at, X_isIn0, M_isFrom0, Nat.reduceAdd, Nat.reduceMul, Nat.reduceSub, Nat.add_zero, Nat.zero_add]
        exact h
    · obtain ⟨q, hq, rfl⟩ := okN_5 (by omega) c2
      have e0 : gI S 1424 j = _ := hC.2.2.1 j (by omega)
      have e1 : gI S 1456 j = _ := hC.2.2.2.1 j (by omega)
      have e2 : gI S 1488 j = _ := hC.2.2.2.2.1 j (by omega)
      have e3 : gI S 1520 j = _ := hC.2.2.2.2.2.1 j (by omega)
      have e4 : gI S 1552 j = _ := hC.2.2.2.2.2.2.1 j (by omega)
      refine ⟨nI (gn S 48 (72 + q + 5 * j)), 0, by omega, fun K h => ?_, fun K h => ?_⟩
      · have hq : q = 0 ∨ q = 1 ∨ q = 2 ∨ q = 3 ∨ q = 4 := by omega
        rcases hq with rfl | rfl | rfl | rfl | rfl <;> simp (disch := omega) only [X_person, X_person_b26, X_person_b27, X_isPerson_ok h3, c, c2, e0, e1, e2, e3, e4, forall_eq, forall_eq', st7, gn7, nz, bN_0, bN_1, nI_add, pk_mul, cl_nI, vp_nI, eq_nI, le_nI, lt_nI, m1_nI, nI_m1, Bool.true_eq_false, Bool.false_eq_true, reduceCtorEq, not_true_eq_false, not_false_eq_true, false_implies, true_implies, implies_true, forall_const, and_true, true_and, and_self, if_true, if_false, reduceIte, Nat.reduceEqDiff, Nat.reduceLeDiff, Nat.reduceLT, Nat.lt_irrefl, Nat.le_refl, gI_sI, gI_sL, gI_sR, gL_sI, gL_sL, gR_sI, gN_sI, M_refuse_ok, M_gives_ok, M_is_ok, decide_true, decide_false, Nat.not_lt_zero, X_at, X_isIn0, M_isFrom0, Nat.reduceAdd, Nat.reduceMul, Nat.reduceSub, Nat.add_zero, Nat.zero_add] <;> exact ⟨by omega, h⟩
      · have hq4 : q ≤ 4 := by omega
        simp (disch := omega) only [M_person, M_person_b18, M_isPerson_ok, M_personOf, M_personRow, c, hq4, forall_eq, forall_eq', st7, gn7, nz, bN_0, bN_1, nI_add, pk_mul, cl_nI, vp_nI, eq_nI, le_nI, lt_nI, m1_nI, nI_m1, Bool.true_eq_false, Bool.false_eq_true, reduceCtorEq, not_true_eq_false, not_false_eq_true, false_implies, true_implies, implies_true, forall_const, and_true, true_and, and_self, if_true, if_false, reduceIte, Nat.reduceEqDiff, Nat.reduceLeDiff, Nat.reduceLT, Nat.lt_irrefl, Nat.le_refl, gI_sI, gI_sL, gI_sR, gL_sI, gL_sL, gR_sI, gN_sI, M_refuse_ok, M_gives_ok, M_is_ok, decide_true, decide_false, Nat.not_lt_zero, X_at, X_isIn0, M_isFrom0, Nat.reduceAdd, Nat.reduceMul, Nat.reduceSub, Nat.add_zero, Nat.zero_add]
        rw [show 72 + 5 * j + q = 72 + q + 5 * j by omega, gI48]
        exact ⟨by omega, h⟩
