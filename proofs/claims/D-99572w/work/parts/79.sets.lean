set_option maxRecDepth 100000
/-! SETS laid by a loop -/
/-- those of 0 .. n - 1 with B -/
def setB (B : Nat → Bool) : Nat → Nat
  | 0 => 0
  | n + 1 => setB B n ||| (if B n then 2 ^ n else 0)
theorem setB_lt (B : Nat → Bool) : ∀ n, setB B n < 2 ^ n := by
  intro n
  induction n with
  | zero => exact Nat.one_pos
  | succ n ih =>
    unfold setB
    apply Nat.or_lt_two_pow
    · exact Nat.lt_of_lt_of_le ih (Nat.pow_le_pow_right (by decide) (by omega))
    · split
      · exact Nat.pow_lt_pow_right (by decide) (by omega)
      · exact Nat.two_pow_pos _
theorem setB_t {B : Nat → Bool} {n : Nat} (h : B n = true) : setB B (n + 1) = setB B n ||| 2 ^ n := by simp [setB, h]
theorem setB_f {B : Nat → Bool} {n : Nat} (h : B n = false) : setB B (n + 1) = setB B n := by simp [setB, h]
theorem or0 (n : Nat) : n ||| 0 = n := by simp
/-- the component's people of a state -/
theorem Co_are_ok {m c st : Nat} {F : Nat → Nat} {S : tS} {K : Int32 → tS → Prop} (hC : CR S c F) (hV : V m F) (hst : st < 1000000) : Co_are c (nI st) S K ↔ K (nI (setB (fun p => decide (F (74 + 5 * p) = st)) (F 3))) S := by
  have h6 : F 3 ≤ 6 := hV.1.2.2.2.1
  have h3 := hC.1 3 (by omega)
  unfold Co_are
  refine loop_for (W := fun n r => Co_are_l4 c (nI st) K n (nI (setB (fun p => decide (F (74 + 5 * p) = st)) r)) (nI r) S) (F 3) (fun r h => h) (fun n => ?_) (fun n r hr => ?_)
  · rw [Co_are_l4]
    simp (disch := omega) only [h3, le_nI]
    simp
  · have e2 := hC.2.2.2.2.1 r (by omega)
    obtain ⟨v0, v1, v2, v3, v4⟩ := hV.p (show r < 6 by omega)
    have hr8 : ¬ F 3 ≤ r := by omega
    rw [Co_are_l4]
    unfold Co_are_b30
    simp (disch := omega) only [h3, le_nI, hr8, vp_nI, cl_nI, e2, eq_nI, forall_eq, shl1_nI, or_nI, nI_add, or0]
    by_cases h : F (74 + 5 * r) = st
    · rw [setB_t (decide_eq_true h)]
      simp [h]
      omega
    · rw [setB_f (decide_eq_false h)]
      simp [h]
      omega
theorem M_peopleThat_ok {m st : Nat} {S : tS} {K : Int32 → tS → Prop} (hV : V m (gn S 48)) (hst : st < 3) : M_peopleThat (nI st) S K ↔ K (nI (setB (fun p => decide (gn S 48 (74 + 5 * p) = st)) (gn S 48 3))) S := by
  have h6 : gn S 48 3 ≤ 6 := hV.1.2.2.2.1
  unfold M_peopleThat
  refine loop_for (W := fun n r => M_peopleThat_l4 (nI st) K n (nI (setB (fun p => decide (gn S 48 (74 + 5 * p) = st)) r)) (nI r) S) (gn S 48 3) (fun r h => h) (fun n => ?_) (fun n r hr => ?_)
  · rw [M_peopleThat_l4]
    simp (disch := omega) only [gI48, le_nI]
    simp
  · obtain ⟨v0, v1, v2, v3, v4⟩ := hV.p (show r < 6 by omega)
    have hr8 : ¬ gn S 48 3 ≤ r := by omega
    have hs3 : ¬ st = 3 := by omega
    rw [M_peopleThat_l4]
    unfold M_peopleThat_b52 M_peopleThat_b67
    simp (disch := omega) only [gI48, le_nI, hr8, hs3, M_personOf_ok, Nat.reduceAdd, eq_nI, forall_eq, shl1_nI, or_nI, nI_add, or0, Nat.reduceEqDiff]
    by_cases h : gn S 48 (74 + 5 * r) = st
    · rw [setB_t (decide_eq_true h)]
      simp [h]
    · rw [setB_f (decide_eq_false h)]
      simp [h]
theorem op32_ok : op32 Rel := fun a1 _ _ _ _ => op_st fun S hR => by
  have hV := hR.V.1
  have h3 := hR.c.2.2.2.1
  have h1 := hR.c.2.1
  cases c : okN a1 (gn S 48 1)
  · refine ⟨-1, 1, by omega, fun K h => ?_, fun K h => ?_⟩
    · simp (disch := omega) only [X_shown, X_shown_b14, X_isCue_ok h1, c, forall_eq, forall_eq', st7, gn7, nz, bN_0, bN_1, nI_add, pk_mul, cl_nI, vp_nI, eq_nI, le_nI, lt_nI, m1_nI, nI_m1, Bool.true_eq_false, Bool.false_eq_true, reduceCtorEq, not_true_eq_false, not_false_eq_true, false_implies, true_implies, implies_true, forall_const, and_true, true_and, and_self, if_true, if_false, reduceIte, Nat.reduceEqDiff, Nat.reduceLeDiff, Nat.reduceLT, Nat.lt_irrefl, Nat.le_refl, gI_sI, gI_sL, gI_sR, gL_sI, gL_sL, gR_sI, gN_sI, M_refuse_ok, M_gives_ok, M_is_ok, decide_true, decide_false, Nat.not_lt_zero, X_at, X_isIn0, M_isFrom0, Nat.reduceAdd, Nat.reduceMul, Nat.reduceSub, Nat.add_zero, Nat.zero_add]
      exact h
    · have w := hR.w (nI 1)
      simp (disch := omega) only [M_shown, M_isCue_ok, c, forall_eq, forall_eq', st7, gn7, nz, bN_0, bN_1, nI_add, pk_mul, cl_nI, vp_nI, eq_nI, le_nI, lt_nI, m1_nI, nI_m1, Bool.true_eq_false, Bool.false_eq_true, reduceCtorEq, not_true_eq_false, not_false_eq_true, false_implies, true_implies, implies_true, forall_const, and_true, true_and, and_self, if_true, if_false, reduceIte, Nat.reduceEqDiff, Nat.reduceLeDiff, Nat.reduceLT, Nat.lt_irrefl, Nat.le_refl, gI_sI, gI_sL, gI_sR, gL_sI, gL_sL, gR_sI, gN_sI, M_refuse_ok, M_gives_ok, M_is_ok, decide_true, decide_false, Nat.not_lt_zero, X_at, X_isIn0, M_isFrom0, Nat.reduceAdd, Nat.reduceMul, Nat.reduceSub, Nat.add_zero, Nat.zero_add]
      exact h
  · obtain ⟨j, hj, rfl⟩ := okN_5 (by omega) c
    refine ⟨nI (setB (fun p => decide (shp (gn S 48) p (gn S 48 6) = j)) (gn S 48 3)), 0, by omega, fun K h => ?_, fun K h => ?_⟩
    · simp (disch := omega) only [X_shown, X_shown_b14, X_isCue_ok h1, c, forall_eq, forall_eq', st7, gn7, nz, bN_0, bN_1, nI_add, pk_mul, cl_nI, vp_nI, eq_nI, le_nI, lt_nI, m1_nI, nI_m1, Bool.true_eq_false, Bool.false_eq_true, reduceCtorEq, not_true_eq_false, not_false_eq_true, false_implies, true_implies, implies_true, forall_const, and_true, true_and, and_self, if_true, if_false, reduceIte, Nat.reduceEqDiff, Nat.reduceLeDiff, Nat.reduceLT, Nat.lt_irrefl, Nat.le_refl, gI_sI, gI_sL, gI_sR, gL_sI, gL_sL, gR_sI, gN_sI, M_refuse_ok, M_gives_ok, M_is_ok, decide_true, decide_false, Nat.not_lt_zero, X_at, X_isIn0, M_isFrom0, Nat.reduceAdd, Nat.reduceMul, Nat.reduceSub, Nat.add_zero, Nat.zero_add]
      refine (loop_for (W := fun n r => X_shown_l30 (nI j) K n (nI (setB (fun p => decide (shp (gn S 48) p (gn S 48 6) = j)) r)) (nI r) (sI S 1025 7 (nI 0))) (P := K (nI (setB (fun p => decide (shp (gn S 48) p (gn S 48 6) = j)) (gn S 48 3))) (sI S 1025 7 (nI 0))) (gn S 48 3) (fun r h => h) (fun n => ?_) (fun n r hr => ?_)).mpr h
      · rw [X_shown_l30]
        simp (disch := omega) only [gI7, h3, forall_eq, forall_eq', st7, gn7, nz, bN_0, bN_1, nI_add, pk_mul, cl_nI, vp_nI, eq_nI, le_nI, lt_nI, m1_nI, nI_m1, Bool.true_eq_false, Bool.false_eq_true, reduceCtorEq, not_true_eq_false, not_false_eq_true, false_implies, true_implies, implies_true, forall_const, and_true, true_and, and_self, if_true, if_false, reduceIte, Nat.reduceEqDiff, Nat.reduceLeDiff, Nat.reduceLT, Nat.lt_irrefl, Nat.le_refl, gI_sI, gI_sL, gI_sR, gL_sI, gL_sL, gR_sI, gN_sI, M_refuse_ok, M_gives_ok, M_is_ok, decide_true, decide_false, Nat.not_lt_zero, X_at, X_isIn0, M_isFrom0, Nat.reduceAdd, Nat.reduceMul, Nat.reduceSub, Nat.add_zero, Nat.zero_add]
      · have hq : shp (gn S 48) r (gn S 48 6) ≤ gn S 48 1 := by
          rcases shw_lt hR.V (g := gn S 48 (75 + 5 * r)) (fed := gn S 48 (72 + 5 * r)) (warm := gn S 48 6) (set := gn S 48 (73 + 5 * r)) with h | h
          · exact Nat.le_of_lt h
          · exact Nat.le_of_eq h.1
        have hr8 : ¬ gn S 48 3 ≤ r := by omega
        rw [X_shown_l30]
        simp only [X_at, X_shown_b61]
        rw [Co_showsNow_ok (hR.C7 _) (hR.W7 _) hR.V (by omega), gI7 _ _ _ (by decide), h3]
        simp (disch := omega) only [le_nI, hr8, eq_nI, forall_eq, shl1_nI, or_nI, nI_add, or0]
        by_cases z : shp (gn S 48) r (gn S 48 6) = j
        · rw [setB_t (decide_eq_true z)]; simp [z]
        · rw [setB_f (decide_eq_false z)]; simp [z]
    · have w := hR.w (nI 0)
      have hVx : V 9999 (gn (sI S 1025 7 (nI 0)) 48) := hR.V
      simp (disch := omega) only [M_shown, M_isCue_ok, c, forall_eq, forall_eq', st7, gn7, nz, bN_0, bN_1, nI_add, pk_mul, cl_nI, vp_nI, eq_nI, le_nI, lt_nI, m1_nI, nI_m1, Bool.true_eq_false, Bool.false_eq_true, reduceCtorEq, not_true_eq_false, not_false_eq_true, false_implies, true_implies, implies_true, forall_const, and_true, true_and, and_self, if_true, if_false, reduceIte, Nat.reduceEqDiff, Nat.reduceLeDiff, Nat.reduceLT, Nat.lt_irrefl, Nat.le_refl, gI_sI, gI_sL, gI_sR, gL_sI, gL_sL, gR_sI, gN_sI, M_refuse_ok, M_gives_ok, M_is_ok, decide_true, decide_false, Nat.not_lt_zero, X_at, X_isIn0, M_isFrom0, Nat.reduceAdd, Nat.reduceMul, Nat.reduceSub, Nat.add_zero, Nat.zero_add]
      refine (loop_for (W := fun n r => M_shown_l18 (nI j) K n (nI (setB (fun p => decide (shp (gn S 48) p (gn S 48 6) = j)) r)) (nI r) (sI S 1025 7 (nI 0))) (P := K (nI (setB (fun p => decide (shp (gn S 48) p (gn S 48 6) = j)) (gn S 48 3))) (sI (sI S 1025 7 (nI 0)) 0 2 (nI 0))) (gn S 48 3) (fun r h => h) (fun n => ?_) (fun n r hr => ?_)).mpr h
      · rw [M_shown_l18]
        simp (disch := omega) only [gI48, forall_eq, forall_eq', st7, gn7, nz, bN_0, bN_1, nI_add, pk_mul, cl_nI, vp_nI, eq_nI, le_nI, lt_nI, m1_nI, nI_m1, Bool.true_eq_false, Bool.false_eq_true, reduceCtorEq, not_true_eq_false, not_false_eq_true, false_implies, true_implies, implies_true, forall_const, and_true, true_and, and_self, if_true, if_false, reduceIte, Nat.reduceEqDiff, Nat.reduceLeDiff, Nat.reduceLT, Nat.lt_irrefl, Nat.le_refl, gI_sI, gI_sL, gI_sR, gL_sI, gL_sL, gR_sI, gN_sI, M_refuse_ok, M_gives_ok, M_is_ok, decide_true, decide_false, Nat.not_lt_zero, X_at, X_isIn0, M_isFrom0, Nat.reduceAdd, Nat.reduceMul, Nat.reduceSub, Nat.add_zero, Nat.zero_add]
      · have hr8 : ¬ gn S 48 3 ≤ r := by omega
        rw [M_shown_l18]
        simp only [M_shown_b52]
        simp (disch := omega) only [gI48, gn7, M_cueFor_ok hVx]
        simp (disch := omega) only [le_nI, hr8, eq_nI, forall_eq, shl1_nI, or_nI, nI_add, or0]
        by_cases z : shp (gn S 48) r (gn S 48 6) = j
        · rw [setB_t (decide_eq_true z), z, oN_lt hj]; simp
        · have z2 : ¬ oN (shp (gn S 48) r (gn S 48 6)) (gn S 48 1) = nI j := by
            unfold oN
            split
            · rw [eq_nI (by omega) (by omega)]; exact z
            · exact nI_m1 (by omega)
          rw [setB_f (decide_eq_false z)]; simp [z2]
theorem op31_ok : op31 Rel := fun a1 _ _ _ _ => op_st fun S hR => by
  have hV := hR.V.1
  have h3 := hR.c.2.2.2.1
  have h2 := hR.c.2.2.1
  have e6 := hR.c.2.2.2.2.2.2.1
  have hC := hR.C
  cases c : okN a1 (gn S 48 3)
  · refine ⟨-1, 1, by omega, fun K h => ?_, fun K h => ?_⟩
    · simp (disch := omega) only [X_bearing, X_bearing_b15, X_isPerson_ok h3, c, forall_eq, forall_eq', st7, gn7, nz, bN_0, bN_1, nI_add, pk_mul, cl_nI, vp_nI, eq_nI, le_nI, lt_nI, m1_nI, nI_m1, Bool.true_eq_false, Bool.false_eq_true, reduceCtorEq, not_true_eq_false, not_false_eq_true, false_implies, true_implies, implies_true, forall_const, and_true, true_and, and_self, if_true, if_false, reduceIte, Nat.reduceEqDiff, Nat.reduceLeDiff, Nat.reduceLT, Nat.lt_irrefl, Nat.le_refl, gI_sI, gI_sL, gI_sR, gL_sI, gL_sL, gR_sI, gN_sI, M_refuse_ok, M_gives_ok, M_is_ok, decide_true, decide_false, Nat.not_lt_zero, X_at, X_isIn0, M_isFrom0, Nat.reduceAdd, Nat.reduceMul, Nat.reduceSub, Nat.add_zero, Nat.zero_add]
      exact h
    · have w := hR.w (nI 1)
      simp (disch := omega) only [M_bearing, M_isPerson_ok, c, forall_eq, forall_eq', st7, gn7, nz, bN_0, bN_1, nI_add, pk_mul, cl_nI, vp_nI, eq_nI, le_nI, lt_nI, m1_nI, nI_m1, Bool.true_eq_false, Bool.false_eq_true, reduceCtorEq, not_true_eq_false, not_false_eq_true, false_implies, true_implies, implies_true, forall_const, and_true, true_and, and_self, if_true, if_false, reduceIte, Nat.reduceEqDiff, Nat.reduceLeDiff, Nat.reduceLT, Nat.lt_irrefl, Nat.le_refl, gI_sI, gI_sL, gI_sR, gL_sI, gL_sL, gR_sI, gN_sI, M_refuse_ok, M_gives_ok, M_is_ok, decide_true, decide_false, Nat.not_lt_zero, X_at, X_isIn0, M_isFrom0, Nat.reduceAdd, Nat.reduceMul, Nat.reduceSub, Nat.add_zero, Nat.zero_add]
      exact h
  · obtain ⟨j, hj, rfl⟩ := okN_5 (by omega) c
    obtain ⟨v0, v1, v2, v3, v4⟩ := hR.V.p (show j < 6 by omega)
    have e0 : gI S 1424 j = _ := hC.2.2.1 j (by omega)
    have e1 : gI S 1456 j = _ := hC.2.2.2.1 j (by omega)
    have e3 : gI S 1520 j = _ := hC.2.2.2.2.2.1 j (by omega)
    refine ⟨nI (setB (bearN (gn S 48) (gn S 48 (75 + 5 * j)) (gn S 48 (72 + 5 * j)) (gn S 48 6) (gn S 48 (73 + 5 * j))) (gn S 48 2)), 0, by omega, fun K h => ?_, fun K h => ?_⟩
    · simp (disch := omega) only [X_bearing, X_bearing_b15, X_isPerson_ok h3, c, forall_eq, forall_eq', st7, gn7, nz, bN_0, bN_1, nI_add, pk_mul, cl_nI, vp_nI, eq_nI, le_nI, lt_nI, m1_nI, nI_m1, Bool.true_eq_false, Bool.false_eq_true, reduceCtorEq, not_true_eq_false, not_false_eq_true, false_implies, true_implies, implies_true, forall_const, and_true, true_and, and_self, if_true, if_false, reduceIte, Nat.reduceEqDiff, Nat.reduceLeDiff, Nat.reduceLT, Nat.lt_irrefl, Nat.le_refl, gI_sI, gI_sL, gI_sR, gL_sI, gL_sL, gR_sI, gN_sI, M_refuse_ok, M_gives_ok, M_is_ok, decide_true, decide_false, Nat.not_lt_zero, X_at, X_isIn0, M_isFrom0, Nat.reduceAdd, Nat.reduceMul, Nat.reduceSub, Nat.add_zero, Nat.zero_add]
      refine (loop_for (W := fun n r => X_bearing_l31 (nI j) K n (nI (setB (bearN (gn S 48) (gn S 48 (75 + 5 * j)) (gn S 48 (72 + 5 * j)) (gn S 48 6) (gn S 48 (73 + 5 * j))) r)) (nI r) (sI S 1025 7 (nI 0))) (P := K (nI (setB (bearN (gn S 48) (gn S 48 (75 + 5 * j)) (gn S 48 (72 + 5 * j)) (gn S 48 6) (gn S 48 (73 + 5 * j))) (gn S 48 2))) (sI S 1025 7 (nI 0))) (gn S 48 2) (fun r h => h) (fun n => ?_) (fun n r hr => ?_)).mpr h
      · rw [X_bearing_l31]
        simp (disch := omega) only [gI7, h2, forall_eq, forall_eq', st7, gn7, nz, bN_0, bN_1, nI_add, pk_mul, cl_nI, vp_nI, eq_nI, le_nI, lt_nI, m1_nI, nI_m1, Bool.true_eq_false, Bool.false_eq_true, reduceCtorEq, not_true_eq_false, not_false_eq_true, false_implies, true_implies, implies_true, forall_const, and_true, true_and, and_self, if_true, if_false, reduceIte, Nat.reduceEqDiff, Nat.reduceLeDiff, Nat.reduceLT, Nat.lt_irrefl, Nat.le_refl, gI_sI, gI_sL, gI_sR, gL_sI, gL_sL, gR_sI, gN_sI, M_refuse_ok, M_gives_ok, M_is_ok, decide_true, decide_false, Nat.not_lt_zero, X_at, X_isIn0, M_isFrom0, Nat.reduceAdd, Nat.reduceMul, Nat.reduceSub, Nat.add_zero, Nat.zero_add]
      · have hr8 : ¬ gn S 48 2 ≤ r := by omega
        obtain ⟨t, t1, t2⟩ := (hR.C7 (nI 0)).2.2.2.2.2.2.2.2.2.2.2 r hr
        obtain ⟨t3, t4, t5⟩ := (hR.W7 (nI 0)).2.2.2.2.2.2.2.2.2.2.2.2 r t t1
        have ex : ∀ P : Nat → Prop, (∃ t1 : Nat, gR (sI S 1025 7 (nI 0)) 1719 r = some t1 ∧ (gN (sI S 1025 7 (nI 0)) t1 ≠ 0 ∧ t1 % 32 = 7) ∧ P t1) ↔ P t := fun P => by
          constructor
          · rintro ⟨x, x1, _, x3⟩
            have t1 : gR (sI S 1025 7 (nI 0)) 1719 r = some t := t1
            rw [t1] at x1
            cases x1
            exact x3
          · exact fun h => ⟨t, t1, ⟨t3, t4⟩, h⟩
        rw [X_bearing_l31]
        simp only [X_at, X_bearing_b70, X_bearing_b108]
        have k0 : gn S 48 (75 + 5 * j) = 0 ∨ gn S 48 (75 + 5 * j) = 1 := by omega
        have sj : j < 6 := by omega
        have sr : r < 8 := by omega
        rcases k0 with k | k
        · simp (disch := omega) only [vp_nI, cl_nI, ex, gI7, h2, e0, e1, e3, e6, k, le_nI, hr8, Ru_bears_ok hR.V hr t2, nz, forall_eq, shl1_nI, or_nI, nI_add, or0, eq_nI, sj, sr]
          cases z : bearN (gn S 48) 0 (gn S 48 (72 + 5 * j)) (gn S 48 6) (gn S 48 (73 + 5 * j)) r
          · rw [setB_f z]; simp
          · rw [setB_t z]; simp
        · simp (disch := omega) only [vp_nI, cl_nI, ex, gI7, h2, e0, e1, e3, e6, k, le_nI, hr8, Ru_bears_ok hR.V hr t2, nz, forall_eq, shl1_nI, or_nI, nI_add, or0, eq_nI, sj, sr]
          cases z : bearN (gn S 48) 1 (gn S 48 (72 + 5 * j)) (gn S 48 6) (gn S 48 (73 + 5 * j)) r
          · rw [setB_f z]; simp
          · rw [setB_t z]; simp
    · have w := hR.w (nI 0)
      have hVx : V 9999 (gn (sI S 1025 7 (nI 0)) 48) := hR.V
      simp (disch := omega) only [M_bearing, M_isPerson_ok, c, forall_eq, forall_eq', st7, gn7, nz, bN_0, bN_1, nI_add, pk_mul, cl_nI, vp_nI, eq_nI, le_nI, lt_nI, m1_nI, nI_m1, Bool.true_eq_false, Bool.false_eq_true, reduceCtorEq, not_true_eq_false, not_false_eq_true, false_implies, true_implies, implies_true, forall_const, and_true, true_and, and_self, if_true, if_false, reduceIte, Nat.reduceEqDiff, Nat.reduceLeDiff, Nat.reduceLT, Nat.lt_irrefl, Nat.le_refl, gI_sI, gI_sL, gI_sR, gL_sI, gL_sL, gR_sI, gN_sI, M_refuse_ok, M_gives_ok, M_is_ok, decide_true, decide_false, Nat.not_lt_zero, X_at, X_isIn0, M_isFrom0, Nat.reduceAdd, Nat.reduceMul, Nat.reduceSub, Nat.add_zero, Nat.zero_add]
      refine (loop_for (W := fun n r => M_bearing_l19 (nI j) K n (nI (setB (bearN (gn S 48) (gn S 48 (75 + 5 * j)) (gn S 48 (72 + 5 * j)) (gn S 48 6) (gn S 48 (73 + 5 * j))) r)) (nI r) (sI S 1025 7 (nI 0))) (P := K (nI (setB (bearN (gn S 48) (gn S 48 (75 + 5 * j)) (gn S 48 (72 + 5 * j)) (gn S 48 6) (gn S 48 (73 + 5 * j))) (gn S 48 2))) (sI (sI S 1025 7 (nI 0)) 0 2 (nI 0))) (gn S 48 2) (fun r h => h) (fun n => ?_) (fun n r hr => ?_)).mpr h
      · rw [M_bearing_l19]
        simp (disch := omega) only [gI48, forall_eq, forall_eq', st7, gn7, nz, bN_0, bN_1, nI_add, pk_mul, cl_nI, vp_nI, eq_nI, le_nI, lt_nI, m1_nI, nI_m1, Bool.true_eq_false, Bool.false_eq_true, reduceCtorEq, not_true_eq_false, not_false_eq_true, false_implies, true_implies, implies_true, forall_const, and_true, true_and, and_self, if_true, if_false, reduceIte, Nat.reduceEqDiff, Nat.reduceLeDiff, Nat.reduceLT, Nat.lt_irrefl, Nat.le_refl, gI_sI, gI_sL, gI_sR, gL_sI, gL_sL, gR_sI, gN_sI, M_refuse_ok, M_gives_ok, M_is_ok, decide_true, decide_false, Nat.not_lt_zero, X_at, X_isIn0, M_isFrom0, Nat.reduceAdd, Nat.reduceMul, Nat.reduceSub, Nat.add_zero, Nat.zero_add]
      · have hr8 : ¬ gn S 48 2 ≤ r := by omega
        rw [M_bearing_l19]
        simp only [M_bearing_b68]
        simp (disch := omega) only [gI48, gn7, M_personOf_ok, Nat.reduceAdd, M_doesBear_ok hVx hr, nz, le_nI, hr8, forall_eq, shl1_nI, or_nI, nI_add, or0]
        cases z : bearN (gn S 48) (gn S 48 (75 + 5 * j)) (gn S 48 (72 + 5 * j)) (gn S 48 6) (gn S 48 (73 + 5 * j)) r
        · rw [setB_f z]; simp
        · rw [setB_t z]; simp
