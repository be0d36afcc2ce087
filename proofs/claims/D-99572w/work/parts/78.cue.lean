set_option maxRecDepth 100000
theorem AgT_sI {S : tS} {a k t : Nat} {x : Int32} (h : t ≠ a) : AgT S (sI S a k x) t := ⟨fun j => by rw [gI_sI, if_neg h], fun _ => rfl, fun _ => rfl, rfl⟩
theorem CR7 {S : tS} {c m : Nat} {F : Nat → Nat} (x : Int32) (hC : CR S c F) (hW : CW S c) (hV : V m F) (hc : ∀ a ∈ cRows c, a ≠ 1025) : CR (sI S 1025 7 x) c F := CR_c hC hV.1.2.2.1 (fun a ha => AgT_sI (hc a ha)) (fun r y _ hy => AgT_sI (by have := (hW.2.2.2.2.2.2.2.2.2.2.2.2 r y hy).2.2; omega)) (fun _ _ => rfl)
theorem CW7 {S : tS} {c : Nat} (x : Int32) (hW : CW S c) (hc : ∀ a ∈ cRows c, a ≠ 1025) : CW (sI S 1025 7 x) c := CW_c hW (fun a ha => AgT_sI (hc a ha)) (fun _ _ _ => rfl)
theorem now_ne {a : Nat} (ha : a ∈ cRows 1222) : a ≠ 1025 := by have := cRows_now ha; omega
theorem Rel.C7 {S : tS} (h : Rel S) (x : Int32) : CR (sI S 1025 7 x) 1222 (gn S 48) := CR7 x h.C h.W h.V (fun _ => now_ne)
theorem Rel.W7 {S : tS} (h : Rel S) (x : Int32) : CW (sI S 1025 7 x) 1222 := CW7 x h.W (fun _ => now_ne)
/-- an answer that may be none, as status and number -/
theorem X_ans_o {n k : Nat} {S : tS} {K : Int32 → tS → Prop} (hk : k < 1000000) : X_answer (oN n k) S K ↔ K (oN n k) (sI S 1025 7 (nI (if n < k then 0 else 6))) := by
  unfold oN
  by_cases h : n < k
  · rw [if_pos h, if_pos h, X_ans_n (by omega)]
  · rw [if_neg h, if_neg h, X_ans_m]
theorem M_orN_o {n k : Nat} {S : tS} {K : Int32 → tS → Prop} (hk : k < 1000000) : M_orNone (oN n k) S K ↔ K (oN n k) (sI S 0 2 (nI (if n < k then 0 else 6))) := by
  unfold oN
  by_cases h : n < k
  · rw [if_pos h, if_pos h, M_orN_n (by omega)]
  · rw [if_neg h, if_neg h, M_orN_m]
theorem X_answerCue_ok {q n : Nat} {S : tS} {K : Int32 → tS → Prop} (h1 : gI S 1222 1 = nI n) (hn : n < 1000000) (hq : q ≤ n) : X_answerCue (nI q) S K ↔ K (oN q n) (sI S 1025 7 (nI (if q < n then 0 else 6))) := by
  unfold X_answerCue X_answerCue_b17
  simp only [X_at]
  have e := X_ans_o (n := q) (k := n) (S := S) (K := K) hn
  rw [h1, eq_nI (by omega) (by omega), ← e]
  by_cases h : q = n
  · rw [h, oN_eq]; simp
  · rw [oN_lt (by omega)]; simp [h]
theorem op28_ok : op28 Rel := fun a1 _ _ _ _ => op_st fun S hR => by
  have hV := hR.V.1
  have h3 := hR.c.2.2.2.1
  have h1 := hR.c.2.1
  cases c : okN a1 (gn S 48 3)
  · refine ⟨-1, 1, by omega, fun K h => ?_, fun K h => ?_⟩
    · simp (disch := omega) only [X_cue, X_cue_b15, X_isPerson_ok h3, c, forall_eq, forall_eq', st7, gn7, nz, bN_0, bN_1, nI_add, pk_mul, cl_nI, vp_nI, eq_nI, le_nI, lt_nI, m1_nI, nI_m1, Bool.true_eq_false, Bool.false_eq_true, reduceCtorEq, not_true_eq_false, not_false_eq_true, false_implies, true_implies, implies_true, forall_const, and_true, true_and, and_self, if_true, if_false, reduceIte, Nat.reduceEqDiff, Nat.reduceLeDiff, Nat.reduceLT, Nat.lt_irrefl, Nat.le_refl, gI_sI, gI_sL, gI_sR, gL_sI, gL_sL, gR_sI, gN_sI, M_refuse_ok, M_gives_ok, M_is_ok, decide_true, decide_false, Nat.not_lt_zero, X_at, X_isIn0, M_isFrom0, Nat.reduceAdd, Nat.reduceMul, Nat.reduceSub, Nat.add_zero, Nat.zero_add]
      exact h
    · have w := hR.w (nI 1)
      simp (disch := omega) only [M_cue, M_isPerson_ok, c, forall_eq, forall_eq', st7, gn7, nz, bN_0, bN_1, nI_add, pk_mul, cl_nI, vp_nI, eq_nI, le_nI, lt_nI, m1_nI, nI_m1, Bool.true_eq_false, Bool.false_eq_true, reduceCtorEq, not_true_eq_false, not_false_eq_true, false_implies, true_implies, implies_true, forall_const, and_true, true_and, and_self, if_true, if_false, reduceIte, Nat.reduceEqDiff, Nat.reduceLeDiff, Nat.reduceLT, Nat.lt_irrefl, Nat.le_refl, gI_sI, gI_sL, gI_sR, gL_sI, gL_sL, gR_sI, gN_sI, M_refuse_ok, M_gives_ok, M_is_ok, decide_true, decide_false, Nat.not_lt_zero, X_at, X_isIn0, M_isFrom0, Nat.reduceAdd, Nat.reduceMul, Nat.reduceSub, Nat.add_zero, Nat.zero_add]
      exact h
  · obtain ⟨j, hj, rfl⟩ := okN_5 (by omega) c
    have hq : shp (gn S 48) j (gn S 48 6) ≤ gn S 48 1 := by
      rcases shw_lt hR.V (g := gn S 48 (75 + 5 * j)) (fed := gn S 48 (72 + 5 * j)) (warm := gn S 48 6) (set := gn S 48 (73 + 5 * j)) with h | h
      · exact Nat.le_of_lt h
      · exact Nat.le_of_eq h.1
    refine ⟨oN (shp (gn S 48) j (gn S 48 6)) (gn S 48 1), if shp (gn S 48) j (gn S 48 6) < gn S 48 1 then 0 else 6, by split <;> omega, fun K h => ?_, fun K h => ?_⟩
    · simp (disch := omega) only [X_cue, X_cue_b15, X_isPerson_ok h3, c, forall_eq, forall_eq', st7, gn7, nz, bN_0, bN_1, nI_add, pk_mul, cl_nI, vp_nI, eq_nI, le_nI, lt_nI, m1_nI, nI_m1, Bool.true_eq_false, Bool.false_eq_true, reduceCtorEq, not_true_eq_false, not_false_eq_true, false_implies, true_implies, implies_true, forall_const, and_true, true_and, and_self, if_true, if_false, reduceIte, Nat.reduceEqDiff, Nat.reduceLeDiff, Nat.reduceLT, Nat.lt_irrefl, Nat.le_refl, gI_sI, gI_sL, gI_sR, gL_sI, gL_sL, gR_sI, gN_sI, M_refuse_ok, M_gives_ok, M_is_ok, decide_true, decide_false, Nat.not_lt_zero, X_at, X_isIn0, M_isFrom0, Nat.reduceAdd, Nat.reduceMul, Nat.reduceSub, Nat.add_zero, Nat.zero_add]
      rw [Co_showsNow_ok (hR.C7 _) (hR.W7 _) hR.V (by omega), X_answerCue_ok (n := gn S 48 1) (by rw [gI7 _ _ _ (by decide), h1]) (by omega) hq, sI_sI]
      exact h
    · generalize hx : nI (if shp (gn S 48) j (gn S 48 6) < gn S 48 1 then 0 else 6) = x at h ⊢
      have w := hR.w x
      have hVx : V 9999 (gn (sI S 1025 7 x) 48) := hR.V
      simp (disch := omega) only [M_cue, M_isPerson_ok, c, gI48, M_cueFor_ok hVx, M_orN_o, forall_eq, forall_eq', st7, gn7, nz, bN_0, bN_1, nI_add, pk_mul, cl_nI, vp_nI, eq_nI, le_nI, lt_nI, m1_nI, nI_m1, Bool.true_eq_false, Bool.false_eq_true, reduceCtorEq, not_true_eq_false, not_false_eq_true, false_implies, true_implies, implies_true, forall_const, and_true, true_and, and_self, if_true, if_false, reduceIte, Nat.reduceEqDiff, Nat.reduceLeDiff, Nat.reduceLT, Nat.lt_irrefl, Nat.le_refl, gI_sI, gI_sL, gI_sR, gL_sI, gL_sL, gR_sI, gN_sI, M_refuse_ok, M_gives_ok, M_is_ok, decide_true, decide_false, Nat.not_lt_zero, X_at, X_isIn0, M_isFrom0, Nat.reduceAdd, Nat.reduceMul, Nat.reduceSub, Nat.add_zero, Nat.zero_add]
      rw [hx]
      exact h
theorem op29_ok : op29 Rel := fun a1 a2 _ _ _ => op_st fun S hR => by
  have hV := hR.V.1
  have h3 := hR.c.2.2.2.1
  have h1 := hR.c.2.1
  cases c : okN a1 (gn S 48 3)
  · refine ⟨-1, 1, by omega, fun K h => ?_, fun K h => ?_⟩
    · simp (disch := omega) only [X_cueAt, X_cueAt_b26, X_cueAt_b27, X_isPerson_ok h3, c, forall_eq, forall_eq', st7, gn7, nz, bN_0, bN_1, nI_add, pk_mul, cl_nI, vp_nI, eq_nI, le_nI, lt_nI, m1_nI, nI_m1, Bool.true_eq_false, Bool.false_eq_true, reduceCtorEq, not_true_eq_false, not_false_eq_true, false_implies, true_implies, implies_true, forall_const, and_true, true_and, and_self, if_true, if_false, reduceIte, Nat.reduceEqDiff, Nat.reduceLeDiff, Nat.reduceLT, Nat.lt_irrefl, Nat.le_refl, gI_sI, gI_sL, gI_sR, gL_sI, gL_sL, gR_sI, gN_sI, M_refuse_ok, M_gives_ok, M_is_ok, decide_true, decide_false, Nat.not_lt_zero, X_at, X_isIn0, M_isFrom0, Nat.reduceAdd, Nat.reduceMul, Nat.reduceSub, Nat.add_zero, Nat.zero_add]
      exact h
    · have w := hR.w (nI 1)
      simp (disch := omega) only [M_cueAt, M_cueAt_b34, M_isPerson_ok, c, forall_eq, forall_eq', st7, gn7, nz, bN_0, bN_1, nI_add, pk_mul, cl_nI, vp_nI, eq_nI, le_nI, lt_nI, m1_nI, nI_m1, Bool.true_eq_false, Bool.false_eq_true, reduceCtorEq, not_true_eq_false, not_false_eq_true, false_implies, true_implies, implies_true, forall_const, and_true, true_and, and_self, if_true, if_false, reduceIte, Nat.reduceEqDiff, Nat.reduceLeDiff, Nat.reduceLT, Nat.lt_irrefl, Nat.le_refl, gI_sI, gI_sL, gI_sR, gL_sI, gL_sL, gR_sI, gN_sI, M_refuse_ok, M_gives_ok, M_is_ok, decide_true, decide_false, Nat.not_lt_zero, X_at, X_isIn0, M_isFrom0, Nat.reduceAdd, Nat.reduceMul, Nat.reduceSub, Nat.add_zero, Nat.zero_add]
      exact h
  · obtain ⟨j, hj, rfl⟩ := okN_5 (by omega) c
    cases c2 : okN a2 10
    · refine ⟨-1, 1, by omega, fun K h => ?_, fun K h => ?_⟩
      · simp (disch := omega) only [X_cueAt, X_cueAt_b26, X_cueAt_b27, X_isPerson_ok h3, c, c2, forall_eq, forall_eq', st7, gn7, nz, bN_0, bN_1, nI_add, pk_mul, cl_nI, vp_nI, eq_nI, le_nI, lt_nI, m1_nI, nI_m1, Bool.true_eq_false, Bool.false_eq_true, reduceCtorEq, not_true_eq_false, not_false_eq_true, false_implies, true_implies, implies_true, forall_const, and_true, true_and, and_self, if_true, if_false, reduceIte, Nat.reduceEqDiff, Nat.reduceLeDiff, Nat.reduceLT, Nat.lt_irrefl, Nat.le_refl, gI_sI, gI_sL, gI_sR, gL_sI, gL_sL, gR_sI, gN_sI, M_refuse_ok, M_gives_ok, M_is_ok, decide_true, decide_false, Nat.not_lt_zero, X_at, X_isIn0, M_isFrom0, Nat.reduceAdd, Nat.reduceMul, Nat.reduceSub, Nat.add_zero, Nat.zero_add]
        exact h
      · have w := hR.w (nI 1)
        simp (disch := omega) only [M_cueAt, M_cueAt_b34, M_isPerson_ok, c, c2, forall_eq, forall_eq', st7, gn7, nz, bN_0, bN_1, nI_add, pk_mul, cl_nI, vp_nI, eq_nI, le_nI, lt_nI, m1_nI, nI_m1, Bool.true_eq_false, Bool.false_eq_true, reduceCtorEq, not_true_eq_false, not_false_eq_true, false_implies, true_implies, implies_true, forall_const, and_true, true_and, and_self, if_true, if_false, reduceIte, Nat.reduceEqDiff, Nat.reduceLeDiff, Nat.reduceLT, Nat.lt_irrefl, Nat.le_refl, gI_sI, gI_sL, gI_sR, gL_sI, gL_sL, gR_sI, gN_sI, M_refuse_ok, M_gives_ok, M_is_ok, decide_true, decide_false, Nat.not_lt_zero, X_at, X_isIn0, M_isFrom0, Nat.reduceAdd, Nat.reduceMul, Nat.reduceSub, Nat.add_zero, Nat.zero_add]
        exact h
    · obtain ⟨q, hq9, rfl⟩ := okN_5 (by omega) c2
      have hq : shp (gn S 48) j q ≤ gn S 48 1 := by
        rcases shw_lt hR.V (g := gn S 48 (75 + 5 * j)) (fed := gn S 48 (72 + 5 * j)) (warm := q) (set := gn S 48 (73 + 5 * j)) with h | h
        · exact Nat.le_of_lt h
        · exact Nat.le_of_eq h.1
      refine ⟨oN (shp (gn S 48) j q) (gn S 48 1), if shp (gn S 48) j q < gn S 48 1 then 0 else 6, by split <;> omega, fun K h => ?_, fun K h => ?_⟩
      · simp (disch := omega) only [X_cueAt, X_cueAt_b26, X_cueAt_b27, X_isPerson_ok h3, c, c2, forall_eq, forall_eq', st7, gn7, nz, bN_0, bN_1, nI_add, pk_mul, cl_nI, vp_nI, eq_nI, le_nI, lt_nI, m1_nI, nI_m1, Bool.true_eq_false, Bool.false_eq_true, reduceCtorEq, not_true_eq_false, not_false_eq_true, false_implies, true_implies, implies_true, forall_const, and_true, true_and, and_self, if_true, if_false, reduceIte, Nat.reduceEqDiff, Nat.reduceLeDiff, Nat.reduceLT, Nat.lt_irrefl, Nat.le_refl, gI_sI, gI_sL, gI_sR, gL_sI, gL_sL, gR_sI, gN_sI, M_refuse_ok, M_gives_ok, M_is_ok, decide_true, decide_false, Nat.not_lt_zero, X_at, X_isIn0, M_isFrom0, Nat.reduceAdd, Nat.reduceMul, Nat.reduceSub, Nat.add_zero, Nat.zero_add]
        rw [Co_showsAt_ok (hR.C7 _) (hR.W7 _) hR.V (by omega) (by omega), X_answerCue_ok (n := gn S 48 1) (by rw [gI7 _ _ _ (by decide), h1]) (by omega) hq, sI_sI]
        exact h
      · generalize hx : nI (if shp (gn S 48) j q < gn S 48 1 then 0 else 6) = x at h ⊢
        have w := hR.w x
        have hVx : V 9999 (gn (sI S 1025 7 x) 48) := hR.V
        simp (disch := omega) only [M_cueAt, M_cueAt_b34, M_isPerson_ok, c, c2, gI48, M_cueFor_ok hVx, M_orN_o, forall_eq, forall_eq', st7, gn7, nz, bN_0, bN_1, nI_add, pk_mul, cl_nI, vp_nI, eq_nI, le_nI, lt_nI, m1_nI, nI_m1, Bool.true_eq_false, Bool.false_eq_true, reduceCtorEq, not_true_eq_false, not_false_eq_true, false_implies, true_implies, implies_true, forall_const, and_true, true_and, and_self, if_true, if_false, reduceIte, Nat.reduceEqDiff, Nat.reduceLeDiff, Nat.reduceLT, Nat.lt_irrefl, Nat.le_refl, gI_sI, gI_sL, gI_sR, gL_sI, gL_sL, gR_sI, gN_sI, M_refuse_ok, M_gives_ok, M_is_ok, decide_true, decide_false, Nat.not_lt_zero, X_at, X_isIn0, M_isFrom0, Nat.reduceAdd, Nat.reduceMul, Nat.reduceSub, Nat.add_zero, Nat.zero_add]
        rw [hx]
        exact h
theorem op30_ok : op30 Rel := fun a1 _ _ _ _ => op_st fun S hR => by
  have hV := hR.V.1
  have h3 := hR.c.2.2.2.1
  have hC := hR.C
  cases c : okN a1 (gn S 48 3)
  · refine ⟨-1, 1, by omega, fun K h => ?_, fun K h => ?_⟩
    · simp (disch := omega) only [X_bears, X_bears_b15, X_isPerson_ok h3, c, forall_eq, forall_eq', st7, gn7, nz, bN_0, bN_1, nI_add, pk_mul, cl_nI, vp_nI, eq_nI, le_nI, lt_nI, m1_nI, nI_m1, Bool.true_eq_false, Bool.false_eq_true, reduceCtorEq, not_true_eq_false, not_false_eq_true, false_implies, true_implies, implies_true, forall_const, and_true, true_and, and_self, if_true, if_false, reduceIte, Nat.reduceEqDiff, Nat.reduceLeDiff, Nat.reduceLT, Nat.lt_irrefl, Nat.le_refl, gI_sI, gI_sL, gI_sR, gL_sI, gL_sL, gR_sI, gN_sI, M_refuse_ok, M_gives_ok, M_is_ok, decide_true, decide_false, Nat.not_lt_zero, X_at, X_isIn0, M_isFrom0, Nat.reduceAdd, Nat.reduceMul, Nat.reduceSub, Nat.add_zero, Nat.zero_add]
      exact h
    · have w := hR.w (nI 1)
      simp (disch := omega) only [M_bears, M_isPerson_ok, c, forall_eq, forall_eq', st7, gn7, nz, bN_0, bN_1, nI_add, pk_mul, cl_nI, vp_nI, eq_nI, le_nI, lt_nI, m1_nI, nI_m1, Bool.true_eq_false, Bool.false_eq_true, reduceCtorEq, not_true_eq_false, not_false_eq_true, false_implies, true_implies, implies_true, forall_const, and_true, true_and, and_self, if_true, if_false, reduceIte, Nat.reduceEqDiff, Nat.reduceLeDiff, Nat.reduceLT, Nat.lt_irrefl, Nat.le_refl, gI_sI, gI_sL, gI_sR, gL_sI, gL_sL, gR_sI, gN_sI, M_refuse_ok, M_gives_ok, M_is_ok, decide_true, decide_false, Nat.not_lt_zero, X_at, X_isIn0, M_isFrom0, Nat.reduceAdd, Nat.reduceMul, Nat.reduceSub, Nat.add_zero, Nat.zero_add]
      exact h
  · obtain ⟨j, hj, rfl⟩ := okN_5 (by omega) c
    obtain ⟨v0, v1, v2, v3, v4⟩ := hR.V.p (show j < 6 by omega)
    have e0 : gI S 1424 j = _ := hC.2.2.1 j (by omega)
    have e1 : gI S 1456 j = _ := hC.2.2.2.1 j (by omega)
    have e3 : gI S 1520 j = _ := hC.2.2.2.2.2.1 j (by omega)
    have e6 := hR.c.2.2.2.2.2.2.1
    refine ⟨oN (firp (gn S 48) j (gn S 48 6)) (gn S 48 2), if firp (gn S 48) j (gn S 48 6) < gn S 48 2 then 0 else 6, by split <;> omega, fun K h => ?_, fun K h => ?_⟩
    · have k0 : gn S 48 (75 + 5 * j) = 0 ∨ gn S 48 (75 + 5 * j) = 1 := by omega
      unfold firp at h
      rcases k0 with k | k
      · simp (disch := omega) only [X_bears, X_bears_b15, X_bears_b52, X_isPerson_ok h3, c, e0, e1, e3, e6, k, Co_first_ok (hR.C7 _) (hR.W7 _) hR.V, X_ans_o, sI_sI, forall_eq, forall_eq', st7, gn7, nz, bN_0, bN_1, nI_add, pk_mul, cl_nI, vp_nI, eq_nI, le_nI, lt_nI, m1_nI, nI_m1, Bool.true_eq_false, Bool.false_eq_true, reduceCtorEq, not_true_eq_false, not_false_eq_true, false_implies, true_implies, implies_true, forall_const, and_true, true_and, and_self, if_true, if_false, reduceIte, Nat.reduceEqDiff, Nat.reduceLeDiff, Nat.reduceLT, Nat.lt_irrefl, Nat.le_refl, gI_sI, gI_sL, gI_sR, gL_sI, gL_sL, gR_sI, gN_sI, M_refuse_ok, M_gives_ok, M_is_ok, decide_true, decide_false, Nat.not_lt_zero, X_at, X_isIn0, M_isFrom0, Nat.reduceAdd, Nat.reduceMul, Nat.reduceSub, Nat.add_zero, Nat.zero_add]
        rw [k] at h
        exact ⟨by omega, by omega, by omega, h⟩
      · simp (disch := omega) only [X_bears, X_bears_b15, X_bears_b52, X_isPerson_ok h3, c, e0, e1, e3, e6, k, Co_first_ok (hR.C7 _) (hR.W7 _) hR.V, X_ans_o, sI_sI, forall_eq, forall_eq', st7, gn7, nz, bN_0, bN_1, nI_add, pk_mul, cl_nI, vp_nI, eq_nI, le_nI, lt_nI, m1_nI, nI_m1, Bool.true_eq_false, Bool.false_eq_true, reduceCtorEq, not_true_eq_false, not_false_eq_true, false_implies, true_implies, implies_true, forall_const, and_true, true_and, and_self, if_true, if_false, reduceIte, Nat.reduceEqDiff, Nat.reduceLeDiff, Nat.reduceLT, Nat.lt_irrefl, Nat.le_refl, gI_sI, gI_sL, gI_sR, gL_sI, gL_sL, gR_sI, gN_sI, M_refuse_ok, M_gives_ok, M_is_ok, decide_true, decide_false, Nat.not_lt_zero, X_at, X_isIn0, M_isFrom0, Nat.reduceAdd, Nat.reduceMul, Nat.reduceSub, Nat.add_zero, Nat.zero_add]
        rw [k] at h
        exact ⟨by omega, by omega, by omega, h⟩
    · generalize hx : nI (if firp (gn S 48) j (gn S 48 6) < gn S 48 2 then 0 else 6) = x at h ⊢
      have w := hR.w x
      have hVx : V 9999 (gn (sI S 1025 7 x) 48) := hR.V
      simp (disch := omega) only [M_bears, M_isPerson_ok, c, gI48, M_ruleFor_ok hVx, M_orN_o, forall_eq, forall_eq', st7, gn7, nz, bN_0, bN_1, nI_add, pk_mul, cl_nI, vp_nI, eq_nI, le_nI, lt_nI, m1_nI, nI_m1, Bool.true_eq_false, Bool.false_eq_true, reduceCtorEq, not_true_eq_false, not_false_eq_true, false_implies, true_implies, implies_true, forall_const, and_true, true_and, and_self, if_true, if_false, reduceIte, Nat.reduceEqDiff, Nat.reduceLeDiff, Nat.reduceLT, Nat.lt_irrefl, Nat.le_refl, gI_sI, gI_sL, gI_sR, gL_sI, gL_sL, gR_sI, gN_sI, M_refuse_ok, M_gives_ok, M_is_ok, decide_true, decide_false, Nat.not_lt_zero, X_at, X_isIn0, M_isFrom0, Nat.reduceAdd, Nat.reduceMul, Nat.reduceSub, Nat.add_zero, Nat.zero_add]
      rw [hx]
      exact h
