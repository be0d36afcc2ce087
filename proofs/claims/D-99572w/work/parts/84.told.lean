set_option maxRecDepth 100000
theorem op21_ok : op21 Rel := fun _ _ _ _ _ => op_w1 fun S hR => by
  have hV := hR.V.1
  have h6 := hR.c.2.2.2.2.2.2.1
  by_cases z : gn S 48 6 = 0
  · refine .inl ⟨-1, 7, by omega, fun K h => ?_, fun K h => ?_⟩
    · have e : gI (sI S 1025 7 (nI 7)) 1222 6 = nI 0 := by rw [gI7 _ _ _ (by decide), h6, z]
      simp (disch := omega) only [X_night, X_night_b19, h6, z, forall_eq, forall_eq', st7, gn7, nz, bN_0, bN_1, nI_add, pk_mul, cl_nI, vp_nI, eq_nI, le_nI, lt_nI, m1_nI, nI_m1, Bool.true_eq_false, Bool.false_eq_true, reduceCtorEq, not_true_eq_false, not_false_eq_true, false_implies, true_implies, implies_true, forall_const, and_true, true_and, and_self, if_true, if_false, reduceIte, Nat.reduceEqDiff, Nat.reduceLeDiff, Nat.reduceLT, Nat.lt_irrefl, Nat.le_refl, gI_sI, gI_sL, gI_sR, gL_sI, gL_sL, gR_sI, gN_sI, M_refuse_ok, M_gives_ok, M_is_ok, decide_true, decide_false, Nat.not_lt_zero, X_at, X_isIn0, M_isFrom0, Nat.reduceAdd, Nat.reduceMul, Nat.reduceSub, Nat.add_zero, Nat.zero_add]
      rw [sI_same e]
      exact h
    · have e : gI (sI S 1025 7 (nI 7)) 48 6 = nI 0 := by rw [gI48, gn7, z]
      unfold M_night M_nights M_nights_b15
      simp only [e, forall_eq, sI_same e, M_refuse_ok, M_gives_ok]
      simp [b0_1, show (nI 0 : Int32) ≤ nI 0 by decide]
      exact h
  · refine .inr ⟨nI (gn S 48 6), 1222, 6, 6, 0, rel_w1 hR (by omega) (.inl ⟨rfl, by omega⟩) (.inl ⟨rfl, by omega, rfl⟩), fun K h => ?_, fun K h => ?_⟩
    · simp (disch := omega) only [X_night, X_night_b19, h6, z, forall_eq, forall_eq', st7, gn7, nz, bN_0, bN_1, nI_add, pk_mul, cl_nI, vp_nI, eq_nI, le_nI, lt_nI, m1_nI, nI_m1, Bool.true_eq_false, Bool.false_eq_true, reduceCtorEq, not_true_eq_false, not_false_eq_true, false_implies, true_implies, implies_true, forall_const, and_true, true_and, and_self, if_true, if_false, reduceIte, Nat.reduceEqDiff, Nat.reduceLeDiff, Nat.reduceLT, Nat.lt_irrefl, Nat.le_refl, gI_sI, gI_sL, gI_sR, gL_sI, gL_sL, gR_sI, gN_sI, M_refuse_ok, M_gives_ok, M_is_ok, decide_true, decide_false, Nat.not_lt_zero, X_at, X_isIn0, M_isFrom0, Nat.reduceAdd, Nat.reduceMul, Nat.reduceSub, Nat.add_zero, Nat.zero_add]
      exact h
    · have e : gI (sI (sI S 1025 7 (nI 0)) 1222 6 (nI 0)) 48 6 = nI (gn S 48 6) := by rw [gI_sI, if_neg (by decide), gI48, gn7]
      unfold M_night M_nights M_nights_b15
      simp only [e, forall_eq, M_refuse_ok, M_gives_ok]
      rw [le_nI (by omega) (by omega)]
      simp [b1_1, show ¬ gn S 48 6 ≤ 0 by omega, show ¬ nI 1 = nI 0 by decide]
      exact h
/-- f 0 + .. + f (n - 1) -/
def sumN (f : Nat → Nat) : Nat → Nat
  | 0 => 0
  | n + 1 => sumN f n + f n
theorem sumN_le {f : Nat → Nat} {b : Nat} : ∀ n : Nat, (∀ k : Nat, k < n → f k ≤ b) → sumN f n ≤ n * b := by
  intro n
  induction n with
  | zero => intro _; simp [sumN]
  | succ n ih =>
    intro h
    have h1 := ih (fun k hk => h k (by omega))
    have h2 := h n (by omega)
    unfold sumN
    rw [Nat.succ_mul]
    omega
theorem Co_allVotes_ok {m c : Nat} {F : Nat → Nat} {S : tS} {K : Int32 → tS → Prop} (hC : CR S c F) (hV : V m F) : Co_allVotes c S K ↔ K (nI (sumN (fun r => F (103 + 2 * r)) (F 4))) S := by
  have h6 : F 4 ≤ 6 := hV.1.2.2.2.2.1
  have h4 := hC.1 4 (by omega)
  unfold Co_allVotes
  refine loop_for (W := fun n r => Co_allVotes_l4 c K n (nI (sumN (fun r => F (103 + 2 * r)) r)) (nI r) S) (F 4) (fun r h => h) (fun n => ?_) (fun n r hr => ?_)
  · rw [Co_allVotes_l4]
    simp (disch := omega) only [h4, le_nI]
    simp
  · have e := hC.2.2.2.2.2.2.2.2.1 r (by omega)
    have hr8 : ¬ F 4 ≤ r := by omega
    have hr6 : r < 6 := by omega
    rw [Co_allVotes_l4]
    simp (disch := omega) only [h4, le_nI, hr8, vp_nI, cl_nI, e, forall_eq, nI_add, hr6]
    simp [sumN]
theorem M_votesOf_ok {r : Nat} {S : tS} {K : Int32 → tS → Prop} (hr : r < 6) : M_votesOf (nI r) S K ↔ K (nI (gn S 48 (103 + 2 * r))) S := by
  unfold M_votesOf
  simp (disch := omega) only [nI_add, pk_mul, vp_nI, cl_nI, gI48]
  rw [show 102 + 2 * r + 1 = 103 + 2 * r by omega]
  simp [show 103 + 2 * r < 3548 by omega]
theorem M_slipOf_ok {r : Nat} {S : tS} {K : Int32 → tS → Prop} (hr : r < 6) : M_slipOf (nI r) S K ↔ K (nI (gn S 48 (102 + 2 * r))) S := by
  unfold M_slipOf
  simp (disch := omega) only [nI_add, pk_mul, vp_nI, cl_nI, gI48]
  simp [show 102 + 2 * r < 3548 by omega]
theorem M_allVotes_ok {m : Nat} {S : tS} {K : Int32 → tS → Prop} (hV : V m (gn S 48)) : M_allVotes S K ↔ K (nI (sumN (fun r => gn S 48 (103 + 2 * r)) (gn S 48 4))) S := by
  have h6 : gn S 48 4 ≤ 6 := hV.1.2.2.2.2.1
  unfold M_allVotes
  refine loop_for (W := fun n r => M_allVotes_l4 K n (nI (sumN (fun r => gn S 48 (103 + 2 * r)) r)) (nI r) S) (gn S 48 4) (fun r h => h) (fun n => ?_) (fun n r hr => ?_)
  · rw [M_allVotes_l4]
    simp (disch := omega) only [gI48, le_nI]
    simp
  · have hr8 : ¬ gn S 48 4 ≤ r := by omega
    rw [M_allVotes_l4]
    simp (disch := omega) only [gI48, le_nI, hr8, M_votesOf_ok, forall_eq, nI_add]
    simp [sumN]
theorem X_guilties_ok {m : Nat} {F : Nat → Nat} {S : tS} {K : Int32 → tS → Prop} (hC : CR S 1222 F) (hV : V m F) : X_guilties S K ↔ K (nI (setB (fun p => decide (F (75 + 5 * p) = 1)) (F 3))) S := by
  have h6 : F 3 ≤ 6 := hV.1.2.2.2.1
  have h3 := hC.1 3 (by omega)
  unfold X_guilties
  refine loop_for (W := fun n r => X_guilties_l4 K n (nI (setB (fun p => decide (F (75 + 5 * p) = 1)) r)) (nI r) S) (F 3) (fun r h => h) (fun n => ?_) (fun n r hr => ?_)
  · rw [X_guilties_l4]
    simp (disch := omega) only [X_at, h3, le_nI]
    simp
  · have e : gI S 1520 r = _ := hC.2.2.2.2.2.1 r (by omega)
    have v := (hV.p (show r < 6 by omega)).2.2.2.1
    have hr8 : ¬ F 3 ≤ r := by omega
    have hr6 : r < 6 := by omega
    have g : F (75 + 5 * r) = 0 ∨ F (75 + 5 * r) = 1 := by omega
    rw [X_guilties_l4]
    rcases g with g | g
    · rw [setB_f (by simp [g])]
      simp (disch := omega) only [X_at, h3, le_nI, hr8, vp_nI, cl_nI, e, g, forall_eq, shl_nI, or_nI, nI_add, hr6, Nat.zero_mul, or0]
      simp
    · rw [setB_t (by simp [g])]
      simp (disch := omega) only [X_at, h3, le_nI, hr8, vp_nI, cl_nI, e, g, forall_eq, shl1_nI, or_nI, nI_add, hr6]
      simp
theorem M_guilties_ok {m : Nat} {S : tS} {K : Int32 → tS → Prop} (hV : V m (gn S 48)) : M_peopleThat (nI 3) S K ↔ K (nI (setB (fun p => decide (gn S 48 (75 + 5 * p) = 1)) (gn S 48 3))) S := by
  have h6 : gn S 48 3 ≤ 6 := hV.1.2.2.2.1
  unfold M_peopleThat
  refine loop_for (W := fun n r => M_peopleThat_l4 (nI 3) K n (nI (setB (fun p => decide (gn S 48 (75 + 5 * p) = 1)) r)) (nI r) S) (gn S 48 3) (fun r h => h) (fun n => ?_) (fun n r hr => ?_)
  · rw [M_peopleThat_l4]
    simp (disch := omega) only [gI48, le_nI]
    simp
  · obtain ⟨v0, v1, v2, v3, v4⟩ := hV.p (show r < 6 by omega)
    have hr8 : ¬ gn S 48 3 ≤ r := by omega
    rw [M_peopleThat_l4]
    unfold M_peopleThat_b52 M_peopleThat_b67
    simp (disch := omega) only [gI48, le_nI, hr8, M_personOf_ok, Nat.reduceAdd, eq_nI, forall_eq, shl1_nI, or_nI, nI_add, or0]
    by_cases h : gn S 48 (75 + 5 * r) = 1
    · rw [setB_t (decide_eq_true h)]
      simp [h]
    · rw [setB_f (decide_eq_false h)]
      simp [h]
set_option maxHeartbeats 4000000 in
theorem op11_ok : op11 Rel := fun a1 _ _ _ _ => op_st fun S hR => by
  have hV := hR.V.1
  obtain ⟨k0, k1, k2, k3, k4, k5, k6, k7⟩ := hR.c
  cases c : okN a1 13
  · have ne : ∀ k : Nat, k < 13 → (a1 = nI k) = False := fun k hk => eq_false (fun e => by
      rw [e, okN_nI (by omega), decide_eq_true hk] at c
      cases c)
    refine ⟨-1, 1, by omega, fun K h => ?_, fun K h => ?_⟩
    · simp (disch := omega) only [X_told, X_told_b18, ne, c, forall_eq, forall_eq', st7, gn7, nz, bN_0, bN_1, nI_add, pk_mul, cl_nI, vp_nI, eq_nI, le_nI, lt_nI, m1_nI, nI_m1, Bool.true_eq_false, Bool.false_eq_true, reduceCtorEq, not_true_eq_false, not_false_eq_true, false_implies, true_implies, implies_true, forall_const, and_true, true_and, and_self, if_true, if_false, reduceIte, Nat.reduceEqDiff, Nat.reduceLeDiff, Nat.reduceLT, Nat.lt_irrefl, Nat.le_refl, gI_sI, gI_sL, gI_sR, gL_sI, gL_sL, gR_sI, gN_sI, M_refuse_ok, M_gives_ok, M_is_ok, decide_true, decide_false, Nat.not_lt_zero, X_at, X_isIn0, M_isFrom0, Nat.reduceAdd, Nat.reduceMul, Nat.reduceSub, Nat.add_zero, Nat.zero_add]
      exact h
    · unfold M_told M_told_b10
      rw [bad_le (by decide) c, M_refuse_ok]
      exact h
  · obtain ⟨j, hj, rfl⟩ := okN_5 (by omega) c
    have hVx : V 9999 (gn (sI S 1025 7 (nI 0)) 48) := hR.V
    have hC7 := hR.C7 (nI 0)
    have hj2 : j < 8 ∨ j = 8 ∨ j = 9 ∨ j = 10 ∨ j = 11 ∨ j = 12 := by omega
    rcases hj2 with q | rfl | rfl | rfl | rfl | rfl
    · refine ⟨nI (gn S 48 j), 0, by omega, fun K h => ?_, fun K h => ?_⟩
      · have hq : j = 0 ∨ j = 1 ∨ j = 2 ∨ j = 3 ∨ j = 4 ∨ j = 5 ∨ j = 6 ∨ j = 7 := by omega
        clear hV
        rcases hq with rfl | rfl | rfl | rfl | rfl | rfl | rfl | rfl <;> simp (disch := omega) only [X_told, X_told_b18, c, k0, k1, k2, k3, k4, k5, k6, k7, forall_eq, forall_eq', st7, gn7, nz, bN_0, bN_1, nI_add, pk_mul, cl_nI, vp_nI, eq_nI, le_nI, lt_nI, m1_nI, nI_m1, Bool.true_eq_false, Bool.false_eq_true, reduceCtorEq, not_true_eq_false, not_false_eq_true, false_implies, true_implies, implies_true, forall_const, and_true, true_and, and_self, if_true, if_false, reduceIte, Nat.reduceEqDiff, Nat.reduceLeDiff, Nat.reduceLT, Nat.lt_irrefl, Nat.le_refl, gI_sI, gI_sL, gI_sR, gL_sI, gL_sL, gR_sI, gN_sI, M_refuse_ok, M_gives_ok, M_is_ok, decide_true, decide_false, Nat.not_lt_zero, X_at, X_isIn0, M_isFrom0, Nat.reduceAdd, Nat.reduceMul, Nat.reduceSub, Nat.add_zero, Nat.zero_add] <;> exact h
      · have h1 : j ≤ 12 := by omega
        have h2 : ¬ 8 ≤ j := by omega
        have h3 : j < 3548 := by omega
        simp (disch := omega) only [M_told, M_told_b10, M_told_b55, h1, h2, h3, gI48, forall_eq, forall_eq', st7, gn7, nz, bN_0, bN_1, nI_add, pk_mul, cl_nI, vp_nI, eq_nI, le_nI, lt_nI, m1_nI, nI_m1, Bool.true_eq_false, Bool.false_eq_true, reduceCtorEq, not_true_eq_false, not_false_eq_true, false_implies, true_implies, implies_true, forall_const, and_true, true_and, and_self, if_true, if_false, reduceIte, Nat.reduceEqDiff, Nat.reduceLeDiff, Nat.reduceLT, Nat.lt_irrefl, Nat.le_refl, gI_sI, gI_sL, gI_sR, gL_sI, gL_sL, gR_sI, gN_sI, M_refuse_ok, M_gives_ok, M_is_ok, decide_true, decide_false, Nat.not_lt_zero, X_at, X_isIn0, M_isFrom0, Nat.reduceAdd, Nat.reduceMul, Nat.reduceSub, Nat.add_zero, Nat.zero_add]
        exact h
    · refine ⟨nI (setB (fun p => decide (gn S 48 (74 + 5 * p) = 0)) (gn S 48 3)), 0, by omega, fun K h => ?_, fun K h => ?_⟩
      · simp (disch := omega) only [X_told, X_told_b18, c, pk_sub, Co_are_ok hC7 hR.V, forall_eq, forall_eq', st7, gn7, nz, bN_0, bN_1, nI_add, pk_mul, cl_nI, vp_nI, eq_nI, le_nI, lt_nI, m1_nI, nI_m1, Bool.true_eq_false, Bool.false_eq_true, reduceCtorEq, not_true_eq_false, not_false_eq_true, false_implies, true_implies, implies_true, forall_const, and_true, true_and, and_self, if_true, if_false, reduceIte, Nat.reduceEqDiff, Nat.reduceLeDiff, Nat.reduceLT, Nat.lt_irrefl, Nat.le_refl, gI_sI, gI_sL, gI_sR, gL_sI, gL_sL, gR_sI, gN_sI, M_refuse_ok, M_gives_ok, M_is_ok, decide_true, decide_false, Nat.not_lt_zero, X_at, X_isIn0, M_isFrom0, Nat.reduceAdd, Nat.reduceMul, Nat.reduceSub, Nat.add_zero, Nat.zero_add]
        exact h
      · simp (disch := omega) only [M_told, M_told_b10, M_told_b55, pk_sub, M_peopleThat_ok hVx, forall_eq, forall_eq', st7, gn7, nz, bN_0, bN_1, nI_add, pk_mul, cl_nI, vp_nI, eq_nI, le_nI, lt_nI, m1_nI, nI_m1, Bool.true_eq_false, Bool.false_eq_true, reduceCtorEq, not_true_eq_false, not_false_eq_true, false_implies, true_implies, implies_true, forall_const, and_true, true_and, and_self, if_true, if_false, reduceIte, Nat.reduceEqDiff, Nat.reduceLeDiff, Nat.reduceLT, Nat.lt_irrefl, Nat.le_refl, gI_sI, gI_sL, gI_sR, gL_sI, gL_sL, gR_sI, gN_sI, M_refuse_ok, M_gives_ok, M_is_ok, decide_true, decide_false, Nat.not_lt_zero, X_at, X_isIn0, M_isFrom0, Nat.reduceAdd, Nat.reduceMul, Nat.reduceSub, Nat.add_zero, Nat.zero_add]
        exact h
    · refine ⟨nI (setB (fun p => decide (gn S 48 (74 + 5 * p) = 1)) (gn S 48 3)), 0, by omega, fun K h => ?_, fun K h => ?_⟩
      · simp (disch := omega) only [X_told, X_told_b18, c, pk_sub, Co_are_ok hC7 hR.V, forall_eq, forall_eq', st7, gn7, nz, bN_0, bN_1, nI_add, pk_mul, cl_nI, vp_nI, eq_nI, le_nI, lt_nI, m1_nI, nI_m1, Bool.true_eq_false, Bool.false_eq_true, reduceCtorEq, not_true_eq_false, not_false_eq_true, false_implies, true_implies, implies_true, forall_const, and_true, true_and, and_self, if_true, if_false, reduceIte, Nat.reduceEqDiff, Nat.reduceLeDiff, Nat.reduceLT, Nat.lt_irrefl, Nat.le_refl, gI_sI, gI_sL, gI_sR, gL_sI, gL_sL, gR_sI, gN_sI, M_refuse_ok, M_gives_ok, M_is_ok, decide_true, decide_false, Nat.not_lt_zero, X_at, X_isIn0, M_isFrom0, Nat.reduceAdd, Nat.reduceMul, Nat.reduceSub, Nat.add_zero, Nat.zero_add]
        exact h
      · simp (disch := omega) only [M_told, M_told_b10, M_told_b55, pk_sub, M_peopleThat_ok hVx, forall_eq, forall_eq', st7, gn7, nz, bN_0, bN_1, nI_add, pk_mul, cl_nI, vp_nI, eq_nI, le_nI, lt_nI, m1_nI, nI_m1, Bool.true_eq_false, Bool.false_eq_true, reduceCtorEq, not_true_eq_false, not_false_eq_true, false_implies, true_implies, implies_true, forall_const, and_true, true_and, and_self, if_true, if_false, reduceIte, Nat.reduceEqDiff, Nat.reduceLeDiff, Nat.reduceLT, Nat.lt_irrefl, Nat.le_refl, gI_sI, gI_sL, gI_sR, gL_sI, gL_sL, gR_sI, gN_sI, M_refuse_ok, M_gives_ok, M_is_ok, decide_true, decide_false, Nat.not_lt_zero, X_at, X_isIn0, M_isFrom0, Nat.reduceAdd, Nat.reduceMul, Nat.reduceSub, Nat.add_zero, Nat.zero_add]
        exact h
    · refine ⟨nI (setB (fun p => decide (gn S 48 (74 + 5 * p) = 2)) (gn S 48 3)), 0, by omega, fun K h => ?_, fun K h => ?_⟩
      · simp (disch := omega) only [X_told, X_told_b18, c, pk_sub, Co_are_ok hC7 hR.V, forall_eq, forall_eq', st7, gn7, nz, bN_0, bN_1, nI_add, pk_mul, cl_nI, vp_nI, eq_nI, le_nI, lt_nI, m1_nI, nI_m1, Bool.true_eq_false, Bool.false_eq_true, reduceCtorEq, not_true_eq_false, not_false_eq_true, false_implies, true_implies, implies_true, forall_const, and_true, true_and, and_self, if_true, if_false, reduceIte, Nat.reduceEqDiff, Nat.reduceLeDiff, Nat.reduceLT, Nat.lt_irrefl, Nat.le_refl, gI_sI, gI_sL, gI_sR, gL_sI, gL_sL, gR_sI, gN_sI, M_refuse_ok, M_gives_ok, M_is_ok, decide_true, decide_false, Nat.not_lt_zero, X_at, X_isIn0, M_isFrom0, Nat.reduceAdd, Nat.reduceMul, Nat.reduceSub, Nat.add_zero, Nat.zero_add]
        exact h
      · simp (disch := omega) only [M_told, M_told_b10, M_told_b55, pk_sub, M_peopleThat_ok hVx, forall_eq, forall_eq', st7, gn7, nz, bN_0, bN_1, nI_add, pk_mul, cl_nI, vp_nI, eq_nI, le_nI, lt_nI, m1_nI, nI_m1, Bool.true_eq_false, Bool.false_eq_true, reduceCtorEq, not_true_eq_false, not_false_eq_true, false_implies, true_implies, implies_true, forall_const, and_true, true_and, and_self, if_true, if_false, reduceIte, Nat.reduceEqDiff, Nat.reduceLeDiff, Nat.reduceLT, Nat.lt_irrefl, Nat.le_refl, gI_sI, gI_sL, gI_sR, gL_sI, gL_sL, gR_sI, gN_sI, M_refuse_ok, M_gives_ok, M_is_ok, decide_true, decide_false, Nat.not_lt_zero, X_at, X_isIn0, M_isFrom0, Nat.reduceAdd, Nat.reduceMul, Nat.reduceSub, Nat.add_zero, Nat.zero_add]
        exact h
    · refine ⟨nI (setB (fun p => decide (gn S 48 (75 + 5 * p) = 1)) (gn S 48 3)), 0, by omega, fun K h => ?_, fun K h => ?_⟩
      · simp (disch := omega) only [X_told, X_told_b18, c, X_guilties_ok hC7 hR.V, forall_eq, forall_eq', st7, gn7, nz, bN_0, bN_1, nI_add, pk_mul, cl_nI, vp_nI, eq_nI, le_nI, lt_nI, m1_nI, nI_m1, Bool.true_eq_false, Bool.false_eq_true, reduceCtorEq, not_true_eq_false, not_false_eq_true, false_implies, true_implies, implies_true, forall_const, and_true, true_and, and_self, if_true, if_false, reduceIte, Nat.reduceEqDiff, Nat.reduceLeDiff, Nat.reduceLT, Nat.lt_irrefl, Nat.le_refl, gI_sI, gI_sL, gI_sR, gL_sI, gL_sL, gR_sI, gN_sI, M_refuse_ok, M_gives_ok, M_is_ok, decide_true, decide_false, Nat.not_lt_zero, X_at, X_isIn0, M_isFrom0, Nat.reduceAdd, Nat.reduceMul, Nat.reduceSub, Nat.add_zero, Nat.zero_add]
        exact h
      · simp (disch := omega) only [M_told, M_told_b10, M_told_b55, pk_sub, M_guilties_ok hVx, forall_eq, forall_eq', st7, gn7, nz, bN_0, bN_1, nI_add, pk_mul, cl_nI, vp_nI, eq_nI, le_nI, lt_nI, m1_nI, nI_m1, Bool.true_eq_false, Bool.false_eq_true, reduceCtorEq, not_true_eq_false, not_false_eq_true, false_implies, true_implies, implies_true, forall_const, and_true, true_and, and_self, if_true, if_false, reduceIte, Nat.reduceEqDiff, Nat.reduceLeDiff, Nat.reduceLT, Nat.lt_irrefl, Nat.le_refl, gI_sI, gI_sL, gI_sR, gL_sI, gL_sL, gR_sI, gN_sI, M_refuse_ok, M_gives_ok, M_is_ok, decide_true, decide_false, Nat.not_lt_zero, X_at, X_isIn0, M_isFrom0, Nat.reduceAdd, Nat.reduceMul, Nat.reduceSub, Nat.add_zero, Nat.zero_add]
        exact h
    · refine ⟨nI (sumN (fun r => gn S 48 (103 + 2 * r)) (gn S 48 4)), 0, by omega, fun K h => ?_, fun K h => ?_⟩
      · simp (disch := omega) only [X_told, X_told_b18, c, Co_allVotes_ok hC7 hR.V, forall_eq, forall_eq', st7, gn7, nz, bN_0, bN_1, nI_add, pk_mul, cl_nI, vp_nI, eq_nI, le_nI, lt_nI, m1_nI, nI_m1, Bool.true_eq_false, Bool.false_eq_true, reduceCtorEq, not_true_eq_false, not_false_eq_true, false_implies, true_implies, implies_true, forall_const, and_true, true_and, and_self, if_true, if_false, reduceIte, Nat.reduceEqDiff, Nat.reduceLeDiff, Nat.reduceLT, Nat.lt_irrefl, Nat.le_refl, gI_sI, gI_sL, gI_sR, gL_sI, gL_sL, gR_sI, gN_sI, M_refuse_ok, M_gives_ok, M_is_ok, decide_true, decide_false, Nat.not_lt_zero, X_at, X_isIn0, M_isFrom0, Nat.reduceAdd, Nat.reduceMul, Nat.reduceSub, Nat.add_zero, Nat.zero_add]
        exact h
      · simp (disch := omega) only [M_told, M_told_b10, M_told_b55, M_allVotes_ok hVx, forall_eq, forall_eq', st7, gn7, nz, bN_0, bN_1, nI_add, pk_mul, cl_nI, vp_nI, eq_nI, le_nI, lt_nI, m1_nI, nI_m1, Bool.true_eq_false, Bool.false_eq_true, reduceCtorEq, not_true_eq_false, not_false_eq_true, false_implies, true_implies, implies_true, forall_const, and_true, true_and, and_self, if_true, if_false, reduceIte, Nat.reduceEqDiff, Nat.reduceLeDiff, Nat.reduceLT, Nat.lt_irrefl, Nat.le_refl, gI_sI, gI_sL, gI_sR, gL_sI, gL_sL, gR_sI, gN_sI, M_refuse_ok, M_gives_ok, M_is_ok, decide_true, decide_false, Nat.not_lt_zero, X_at, X_isIn0, M_isFrom0, Nat.reduceAdd, Nat.reduceMul, Nat.reduceSub, Nat.add_zero, Nat.zero_add]
        exact h
