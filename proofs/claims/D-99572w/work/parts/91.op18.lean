set_option maxRecDepth 100000
theorem waitS_lt {m : Nat} {F : Nat → Nat} (hV : V m F) (B : Nat → Bool) : setB B (F 3) < 64 := Nat.lt_of_lt_of_le (setB_lt _ _) (Nat.le_trans (Nat.pow_le_pow_right (by decide) hV.1.2.2.2.1) (by decide))
theorem M_isTooMuch_ok {m : Nat} {S : tS} {K : Int32 → tS → Prop} (hV : V m (gn S 48)) (hm : m < 1000000) : M_isTooMuch S K ↔ K (nI (bN (decide (9999 < gn S 48 7 + bc (setB (fun p => decide (gn S 48 (74 + 5 * p) = 0)) (gn S 48 3)))))) S := by
  have hw := waitS_lt hV (fun p => decide (gn S 48 (74 + 5 * p) = 0))
  have hb := bc_lt _ (Nat.lt_trans hw (by decide))
  have h7 := hV.1.2.2.2.2.2.2.2
  unfold M_isTooMuch
  rw [M_peopleThat_ok hV (by omega), M_bits_ok (by omega), gI48, nI_add, le_nI (by omega) (by omega)]
  by_cases z : 9999 < gn S 48 7 + bc (setB (fun p => decide (gn S 48 (74 + 5 * p) = 0)) (gn S 48 3))
  · simp [z, bN, show ¬ gn S 48 7 + bc (setB (fun p => decide (gn S 48 (74 + 5 * p) = 0)) (gn S 48 3)) ≤ 9999 by omega]
  · simp [z, bN, show gn S 48 7 + bc (setB (fun p => decide (gn S 48 (74 + 5 * p) = 0)) (gn S 48 3)) ≤ 9999 by omega]
theorem op18_ok : op18 Rel := fun _ _ _ _ _ => op_mix fun S hR => by
  have hV := hR.V.1
  have h7 := hR.c.2.2.2.2.2.2.2
  have hw := waitS_lt hR.V (fun p => decide (gn S 48 (74 + 5 * p) = 0))
  have hb := bc_lt _ (Nat.lt_trans hw (by decide))
  by_cases z : 9999 < gn S 48 7 + bc (setB (fun p => decide (gn S 48 (74 + 5 * p) = 0)) (gn S 48 3))
  · have z' : ¬ gn S 48 7 + bc (setB (fun p => decide (gn S 48 (74 + 5 * p) = 0)) (gn S 48 3)) ≤ 9999 := by omega
    refine ⟨-1, sI S 1025 7 (nI 4), _, rel_st hR (st := 4) (by omega), fun K h => ?_, fun K h => ?_⟩
    · simp (disch := omega) only [X_term, X_term_b42, Co_are_ok hR.C hR.V, In_bitCount_ok, h7, z', forall_eq, forall_eq', st7, gn7, nz, bN_0, bN_1, nI_add, pk_mul, cl_nI, vp_nI, eq_nI, le_nI, lt_nI, m1_nI, nI_m1, Bool.true_eq_false, Bool.false_eq_true, reduceCtorEq, not_true_eq_false, not_false_eq_true, false_implies, true_implies, implies_true, forall_const, and_true, true_and, and_self, if_true, if_false, reduceIte, Nat.reduceEqDiff, Nat.reduceLeDiff, Nat.reduceLT, Nat.lt_irrefl, Nat.le_refl, gI_sI, gI_sL, gI_sR, gL_sI, gL_sL, gR_sI, gN_sI, M_refuse_ok, M_gives_ok, M_is_ok, decide_true, decide_false, Nat.not_lt_zero, X_at, X_isIn0, M_isFrom0, Nat.reduceAdd, Nat.reduceMul, Nat.reduceSub, Nat.add_zero, Nat.zero_add]
      exact h
    · generalize hQ : sI S 1025 7 (nI 4) = T at h ⊢
      have hTg : gn T 48 = gn S 48 := by rw [← hQ, gn7]
      have hVx : V 9999 (gn T 48) := by rw [hTg]; exact hR.V
      simp (disch := omega) only [M_term, M_isTooMuch_ok hVx, hTg, z, forall_eq, forall_eq', st7, gn7, nz, bN_0, bN_1, nI_add, pk_mul, cl_nI, vp_nI, eq_nI, le_nI, lt_nI, m1_nI, nI_m1, Bool.true_eq_false, Bool.false_eq_true, reduceCtorEq, not_true_eq_false, not_false_eq_true, false_implies, true_implies, implies_true, forall_const, and_true, true_and, and_self, if_true, if_false, reduceIte, Nat.reduceEqDiff, Nat.reduceLeDiff, Nat.reduceLT, Nat.lt_irrefl, Nat.le_refl, gI_sI, gI_sL, gI_sR, gL_sI, gL_sL, gR_sI, gN_sI, M_refuse_ok, M_gives_ok, M_is_ok, decide_true, decide_false, Nat.not_lt_zero, X_at, X_isIn0, M_isFrom0, Nat.reduceAdd, Nat.reduceMul, Nat.reduceSub, Nat.add_zero, Nat.zero_add]
      exact h
  · have z' : gn S 48 7 + bc (setB (fun p => decide (gn S 48 (74 + 5 * p) = 0)) (gn S 48 3)) ≤ 9999 := by omega
    by_cases y : setB (fun p => decide (gn S 48 (74 + 5 * p) = 0)) (gn S 48 3) = 0
    · refine ⟨-1, sI S 1025 7 (nI 7), _, rel_st hR (st := 7) (by omega), fun K h => ?_, fun K h => ?_⟩
      · simp (disch := omega) only [X_term, X_term_b42, Co_are_ok hR.C hR.V, In_bitCount_ok, h7, z', forall_eq, forall_eq', st7, gn7, nz, bN_0, bN_1, nI_add, pk_mul, cl_nI, vp_nI, eq_nI, le_nI, lt_nI, m1_nI, nI_m1, Bool.true_eq_false, Bool.false_eq_true, reduceCtorEq, not_true_eq_false, not_false_eq_true, false_implies, true_implies, implies_true, forall_const, and_true, true_and, and_self, if_true, if_false, reduceIte, Nat.reduceEqDiff, Nat.reduceLeDiff, Nat.reduceLT, Nat.lt_irrefl, Nat.le_refl, gI_sI, gI_sL, gI_sR, gL_sI, gL_sL, gR_sI, gN_sI, M_refuse_ok, M_gives_ok, M_is_ok, decide_true, decide_false, Nat.not_lt_zero, X_at, X_isIn0, M_isFrom0, Nat.reduceAdd, Nat.reduceMul, Nat.reduceSub, Nat.add_zero, Nat.zero_add]
        simp (disch := omega) only [y, forall_eq, forall_eq', st7, gn7, nz, bN_0, bN_1, nI_add, pk_mul, cl_nI, vp_nI, eq_nI, le_nI, lt_nI, m1_nI, nI_m1, Bool.true_eq_false, Bool.false_eq_true, reduceCtorEq, not_true_eq_false, not_false_eq_true, false_implies, true_implies, implies_true, forall_const, and_true, true_and, and_self, if_true, if_false, reduceIte, Nat.reduceEqDiff, Nat.reduceLeDiff, Nat.reduceLT, Nat.lt_irrefl, Nat.le_refl, gI_sI, gI_sL, gI_sR, gL_sI, gL_sL, gR_sI, gN_sI, M_refuse_ok, M_gives_ok, M_is_ok, decide_true, decide_false, Nat.not_lt_zero, X_at, X_isIn0, M_isFrom0, Nat.reduceAdd, Nat.reduceMul, Nat.reduceSub, Nat.add_zero, Nat.zero_add]
        exact h
      · generalize hQ : sI S 1025 7 (nI 7) = T at h ⊢
        have hTg : gn T 48 = gn S 48 := by rw [← hQ, gn7]
        have hVx : V 9999 (gn T 48) := by rw [hTg]; exact hR.V
        have z2 : ¬ 9999 < gn S 48 7 + bc 0 := by rw [← y]; exact z
        simp (disch := omega) only [M_term, M_isTooMuch_ok hVx, M_peopleThat_ok hVx, hTg, z2, y, forall_eq, forall_eq', st7, gn7, nz, bN_0, bN_1, nI_add, pk_mul, cl_nI, vp_nI, eq_nI, le_nI, lt_nI, m1_nI, nI_m1, Bool.true_eq_false, Bool.false_eq_true, reduceCtorEq, not_true_eq_false, not_false_eq_true, false_implies, true_implies, implies_true, forall_const, and_true, true_and, and_self, if_true, if_false, reduceIte, Nat.reduceEqDiff, Nat.reduceLeDiff, Nat.reduceLT, Nat.lt_irrefl, Nat.le_refl, gI_sI, gI_sL, gI_sR, gL_sI, gL_sL, gR_sI, gN_sI, M_refuse_ok, M_gives_ok, M_is_ok, decide_true, decide_false, Nat.not_lt_zero, X_at, X_isIn0, M_isFrom0, Nat.reduceAdd, Nat.reduceMul, Nat.reduceSub, Nat.add_zero, Nat.zero_add]
        exact h
    · have hV2 : V 10010 (gn S 48) := V_m hR.V (by omega)
      have hV27 : V 10010 (gn (sI S 1025 7 (nI 0)) 48) := hV2
      have hr6 : gn S 48 3 ≤ 6 := hV.2.2.2.1
      have hTg : gn (terX (sI S 1025 7 (nI 0)) 1222 (gn S 48) (gn S 48 3)) 48 = gn S 48 := by rw [terX_gn, gn7]
      have hVT : V 10010 (gn (terX (sI S 1025 7 (nI 0)) 1222 (gn S 48) (gn S 48 3)) 48) := by rw [hTg]; exact hV2
      have hG := terM_gn hVT (by omega) (by rw [hTg]; omega) (gn S 48 3) hr6
      rw [hTg] at hG
      have hE : gn (sI (terM (terX (sI S 1025 7 (nI 0)) 1222 (gn S 48) (gn S 48 3)) (gn S 48 3)) 0 2 (nI 0)) 48 = terF (gn S 48) (gn S 48 3) := by rw [gn_ne _ (by decide), hG]
      have hVF : V 9999 (terF (gn S 48) (gn S 48 3)) := by
        refine V_m (terF_V hV2 (gn S 48 3) hr6 (by omega)).1 ?_
        rw [terF_7, ← bc_setB (by omega)]
        exact z'
      have hCX := terX_CR (hR.C7 (nI 0)) (hR.W7 (nI 0)) hV2 (.inl (by omega)) (gn S 48 3) hr6 (by omega)
      have hWX := terX_W (F := gn S 48) (hR.W7 (nI 0)) (gn S 48 3)
      have hM := CR_M hCX hWX hVF (by omega) (gn S 48 3)
      have hRel : Rel (sI (terM (terX (sI S 1025 7 (nI 0)) 1222 (gn S 48) (gn S 48 3)) (gn S 48 3)) 0 2 (nI 0)) := by
        refine rel_w hR ((AgW_terM (AgW_terX (AgW.rf.sI _ (.inl (by decide))) _ _) _ hr6).sI _ (.inl (by decide))) (by rw [hE]; exact hVF) ?_ (by rw [hE]; exact ⟨terF_lo (by omega) _, terF_lo (by omega) _, terF_lo (by omega) _, terF_lo (by omega) _⟩) (CW_sI hM.2) ⟨0, by omega, ?_, ?_⟩ (fun r => ?_)
        · rw [hE]
          exact CR_sI hM.1 hM.2 hVF (by omega) (by omega)
        · rw [gI_sI, if_pos rfl, if_pos rfl]
        · rw [gI_sI, if_neg (by decide), terM_o (by decide), terX_o (by decide), st7]
        · rw [gR_sI, terM_R, terX_R]
          rfl
      refine ⟨nI (setB (frB (gn S 48)) (gn S 48 3)), terX (sI S 1025 7 (nI 0)) 1222 (gn S 48) (gn S 48 3), _, hRel, fun K h => ?_, fun K h => ?_⟩
      · simp (disch := omega) only [X_term, X_term_b42, Co_are_ok hR.C hR.V, In_bitCount_ok, h7, z', y, forall_eq, forall_eq', st7, gn7, nz, bN_0, bN_1, nI_add, pk_mul, cl_nI, vp_nI, eq_nI, le_nI, lt_nI, m1_nI, nI_m1, Bool.true_eq_false, Bool.false_eq_true, reduceCtorEq, not_true_eq_false, not_false_eq_true, false_implies, true_implies, implies_true, forall_const, and_true, true_and, and_self, if_true, if_false, reduceIte, Nat.reduceEqDiff, Nat.reduceLeDiff, Nat.reduceLT, Nat.lt_irrefl, Nat.le_refl, gI_sI, gI_sL, gI_sR, gL_sI, gL_sL, gR_sI, gN_sI, M_refuse_ok, M_gives_ok, M_is_ok, decide_true, decide_false, Nat.not_lt_zero, X_at, X_isIn0, M_isFrom0, Nat.reduceAdd, Nat.reduceMul, Nat.reduceSub, Nat.add_zero, Nat.zero_add]
        rw [Co_term_ok (hR.C7 _) (hR.W7 _) hV2 (by omega) (.inl (by omega))]
        exact h
      · generalize hQ : terX (sI S 1025 7 (nI 0)) 1222 (gn S 48) (gn S 48 3) = T at h hTg hVT ⊢
        have hT7 : gn T 48 7 + 6 ≤ 10010 := by rw [hTg]; omega
        have hVT9 : V 9999 (gn T 48) := by rw [hTg]; exact hR.V
        simp (disch := omega) only [M_term, M_isTooMuch_ok hVT9, M_peopleThat_ok hVT9, M_terms_ok hVT (by omega) hT7, hTg, z, y, forall_eq, forall_eq', st7, gn7, nz, bN_0, bN_1, nI_add, pk_mul, cl_nI, vp_nI, eq_nI, le_nI, lt_nI, m1_nI, nI_m1, Bool.true_eq_false, Bool.false_eq_true, reduceCtorEq, not_true_eq_false, not_false_eq_true, false_implies, true_implies, implies_true, forall_const, and_true, true_and, and_self, if_true, if_false, reduceIte, Nat.reduceEqDiff, Nat.reduceLeDiff, Nat.reduceLT, Nat.lt_irrefl, Nat.le_refl, gI_sI, gI_sL, gI_sR, gL_sI, gL_sL, gR_sI, gN_sI, M_refuse_ok, M_gives_ok, M_is_ok, decide_true, decide_false, Nat.not_lt_zero, X_at, X_isIn0, M_isFrom0, Nat.reduceAdd, Nat.reduceMul, Nat.reduceSub, Nat.add_zero, Nat.zero_add]
        exact h
