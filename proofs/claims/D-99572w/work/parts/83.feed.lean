set_option maxRecDepth 100000
/-! feeding, rubbing: used by ops, by weeks, by games -/
theorem nz' (b : Bool) (q : Bool) : (nI (bN b) = nI (bN q)) = (b = q) := by cases b <;> cases q <;> simp [bN] <;> decide
theorem Co_feeds_ok {m c p n : Nat} {F : Nat → Nat} {S : tS} {K : Int32 → tS → Prop} (hC : CR S c F) (hV : V m F) (hp : p < 6) (hn : n < 1000000) : Co_feeds c (nI p) (nI n) S K ↔ (if n = 0 ∨ F (72 + 5 * p) = 99 then K (nI 0) S else K (nI 1) (sI S (c + 202) p (nI (min 99 (F (72 + 5 * p) + n))))) := by
  have e := hC.2.2.1 p hp
  have v := (hV.p hp).1
  unfold Co_feeds
  simp (disch := omega) only [vp_nI, cl_nI, e, eq_nI, nI_add, jmin_nI, forall_eq]
  by_cases h : n = 0
  · simp [h]
  · by_cases h2 : F (72 + 5 * p) = 99 <;> simp [h, h2, hp]
theorem M_meals_ok {m p n : Nat} {S : tS} {K : Int32 → tS → Prop} (hV : V m (gn S 48)) (hp : p < 6) (hn : n < 1000000) : M_meals (nI p) (nI n) S K ↔ (if gn S 48 (72 + 5 * p) = 99 then K (nI 0) S else K (nI 1) (sI S 48 (72 + 5 * p) (nI (min 99 (gn S 48 (72 + 5 * p) + n))))) := by
  have v := (hV.p hp).1
  have h1 : 72 + 5 * p < 3548 := by omega
  unfold M_meals M_personRow
  simp (disch := omega) only [pk_mul, nI_add, vp_nI, cl_nI, gI48, eq_nI, jmin_nI, forall_eq]
  by_cases h2 : gn S 48 (72 + 5 * p) = 99 <;> simp [h2, h1]
theorem Co_scents_ok {m c p k : Nat} {b : Bool} {F : Nat → Nat} {S : tS} {K : Int32 → tS → Prop} (hC : CR S c F) (hV : V m F) (hp : p < 6) (hk : k < 5) : Co_scents c (nI p) (nI k) (nI (bN b)) S K ↔ (if inS (F (73 + 5 * p)) k = b then K (nI 0) S else K (nI 1) (sI S (c + 234) p (nI (F (73 + 5 * p) ^^^ 2 ^ k)))) := by
  have e := hC.2.2.2.1 p hp
  have v := (hV.p hp).2.1
  unfold Co_scents
  simp (disch := omega) only [vp_nI, cl_nI, e, X_has_ok, nz', shl1_nI, xor_nI, forall_eq]
  by_cases h : inS (F (73 + 5 * p)) k = b <;> simp [h, hp]
theorem M_scents_ok {m p k : Nat} {b : Bool} {S : tS} {K : Int32 → tS → Prop} (hV : V m (gn S 48)) (hp : p < 6) (hk : k < 5) : M_scents (nI p) (nI k) (nI (bN b)) S K ↔ (if inS (gn S 48 (73 + 5 * p)) k = b then K (nI 0) S else K (nI 1) (sI S 48 (73 + 5 * p) (nI (gn S 48 (73 + 5 * p) ^^^ 2 ^ k)))) := by
  have v := (hV.p hp).2.1
  have h1 : 73 + 5 * p < 3548 := by omega
  unfold M_scents M_personRow
  simp (disch := omega) only [M_personOf_ok, Nat.reduceAdd, M_isIn_ok, nz', pk_mul, nI_add]
  rw [show 72 + 5 * p + 1 = 73 + 5 * p by omega]
  simp (disch := omega) only [vp_nI, cl_nI, gI48, shl1_nI, xor_nI, forall_eq]
  by_cases h : inS (gn S 48 (73 + 5 * p)) k = b <;> simp [h, h1]
theorem sI_comm {S : tS} {t t' k k' : Nat} {x y : Int32} (h : t ≠ t') : sI (sI S t k x) t' k' y = sI (sI S t' k' y) t k x := by
  have h' : ¬ t' = t := fun q => h q.symm
  unfold sI up2
  refine Prod.ext (funext fun a => funext fun b => ?_) rfl
  by_cases h1 : a = t
  · by_cases h2 : a = t'
    · exact absurd (h1.symm.trans h2) h
    · simp [h1, h]
  · by_cases h2 : a = t' <;> simp [h1, h2, h']
theorem in1 {x : Int32} {lo hi : Nat} (h1 : lo < 1000000) (h2 : hi < 1000000) : decide ((lN lo).toInt ≤ x.toInt64.toInt ∧ x.toInt64.toInt ≤ (lN hi).toInt) = (okN x (hi + 1) && !okN x lo) := by
  rw [tL_toInt, lN_ti (by omega), lN_ti (by omega)]
  unfold okN
  by_cases a : 0 ≤ x.toInt ∧ x.toInt < (hi + 1 : Nat) <;> by_cases b : 0 ≤ x.toInt ∧ x.toInt < (lo : Nat)
  · simp [a, b]; omega
  · simp only [decide_eq_true a, decide_eq_false b]; simp; omega
  · simp only [decide_eq_true b, decide_eq_false a]; simp; omega
  · simp only [decide_eq_false b, decide_eq_false a]; simp; omega
theorem X_isIn1 {x : Int32} {lo hi : Nat} {S : tS} {K : Int32 → tS → Prop} (h1 : lo < 1000000) (h2 : hi < 1000000) : X_isIn x.toInt64 (lN lo) (lN hi) S K ↔ K (nI (bN (okN x (hi + 1) && !okN x lo))) S := by rw [X_isIn_ok, in1 h1 h2]
theorem M_isFrom1 {x : Int32} {lo hi : Nat} {S : tS} {K : Int32 → tS → Prop} (h1 : lo < 1000000) (h2 : hi < 1000000) : M_isFrom x.toInt64 (lN lo) (lN hi) S K ↔ K (nI (bN (okN x (hi + 1) && !okN x lo))) S := by rw [M_isFrom_ok, in1 h1 h2]
theorem op19_ok : op19 Rel := fun a1 a2 _ _ _ => op_w1 fun S hR => by
  have hV := hR.V.1
  have h1 := hR.c.2.2.2.1
  cases c : okN a1 (gn S 48 3)
  · refine .inl ⟨-1, 1, by omega, fun K h => ?_, fun K h => ?_⟩
    · simp (disch := omega) only [X_meal, X_meal_b22, X_meal_b44, X_isPerson_ok h1, c, forall_eq, forall_eq', st7, gn7, nz, bN_0, bN_1, nI_add, pk_mul, cl_nI, vp_nI, eq_nI, le_nI, lt_nI, m1_nI, nI_m1, Bool.true_eq_false, Bool.false_eq_true, reduceCtorEq, not_true_eq_false, not_false_eq_true, false_implies, true_implies, implies_true, forall_const, and_true, true_and, and_self, if_true, if_false, reduceIte, Nat.reduceEqDiff, Nat.reduceLeDiff, Nat.reduceLT, Nat.lt_irrefl, Nat.le_refl, gI_sI, gI_sL, gI_sR, gL_sI, gL_sL, gR_sI, gN_sI, M_refuse_ok, M_gives_ok, M_is_ok, decide_true, decide_false, Nat.not_lt_zero, X_at, X_isIn0, M_isFrom0, Nat.reduceAdd, Nat.reduceMul, Nat.reduceSub, Nat.add_zero, Nat.zero_add]
      exact h
    · have w := hR.w (nI 1)
      simp (disch := omega) only [M_meal, M_meal_b21, M_isPerson_ok, c, forall_eq, forall_eq', st7, gn7, nz, bN_0, bN_1, nI_add, pk_mul, cl_nI, vp_nI, eq_nI, le_nI, lt_nI, m1_nI, nI_m1, Bool.true_eq_false, Bool.false_eq_true, reduceCtorEq, not_true_eq_false, not_false_eq_true, false_implies, true_implies, implies_true, forall_const, and_true, true_and, and_self, if_true, if_false, reduceIte, Nat.reduceEqDiff, Nat.reduceLeDiff, Nat.reduceLT, Nat.lt_irrefl, Nat.le_refl, gI_sI, gI_sL, gI_sR, gL_sI, gL_sL, gR_sI, gN_sI, M_refuse_ok, M_gives_ok, M_is_ok, decide_true, decide_false, Nat.not_lt_zero, X_at, X_isIn0, M_isFrom0, Nat.reduceAdd, Nat.reduceMul, Nat.reduceSub, Nat.add_zero, Nat.zero_add]
      exact h
  · obtain ⟨j, hj, rfl⟩ := okN_5 (by omega) c
    cases c2 : okN a2 100 && !okN a2 1
    · refine .inl ⟨-1, 1, by omega, fun K h => ?_, fun K h => ?_⟩
      · simp (disch := omega) only [X_meal, X_meal_b22, X_meal_b44, X_isPerson_ok h1, c, X_isIn1, c2, forall_eq, forall_eq', st7, gn7, nz, bN_0, bN_1, nI_add, pk_mul, cl_nI, vp_nI, eq_nI, le_nI, lt_nI, m1_nI, nI_m1, Bool.true_eq_false, Bool.false_eq_true, reduceCtorEq, not_true_eq_false, not_false_eq_true, false_implies, true_implies, implies_true, forall_const, and_true, true_and, and_self, if_true, if_false, reduceIte, Nat.reduceEqDiff, Nat.reduceLeDiff, Nat.reduceLT, Nat.lt_irrefl, Nat.le_refl, gI_sI, gI_sL, gI_sR, gL_sI, gL_sL, gR_sI, gN_sI, M_refuse_ok, M_gives_ok, M_is_ok, decide_true, decide_false, Nat.not_lt_zero, X_at, X_isIn0, M_isFrom0, Nat.reduceAdd, Nat.reduceMul, Nat.reduceSub, Nat.add_zero, Nat.zero_add]
        exact h
      · have w := hR.w (nI 1)
        simp (disch := omega) only [M_meal, M_meal_b21, M_isPerson_ok, c, M_isFrom1, c2, forall_eq, forall_eq', st7, gn7, nz, bN_0, bN_1, nI_add, pk_mul, cl_nI, vp_nI, eq_nI, le_nI, lt_nI, m1_nI, nI_m1, Bool.true_eq_false, Bool.false_eq_true, reduceCtorEq, not_true_eq_false, not_false_eq_true, false_implies, true_implies, implies_true, forall_const, and_true, true_and, and_self, if_true, if_false, reduceIte, Nat.reduceEqDiff, Nat.reduceLeDiff, Nat.reduceLT, Nat.lt_irrefl, Nat.le_refl, gI_sI, gI_sL, gI_sR, gL_sI, gL_sL, gR_sI, gN_sI, M_refuse_ok, M_gives_ok, M_is_ok, decide_true, decide_false, Nat.not_lt_zero, X_at, X_isIn0, M_isFrom0, Nat.reduceAdd, Nat.reduceMul, Nat.reduceSub, Nat.add_zero, Nat.zero_add]
        exact h
    · have c3 : okN a2 100 = true := by cases q : okN a2 100 <;> simp [q] at c2 ⊢
      obtain ⟨q, hq, rfl⟩ := okN_5 (by omega) c3
      have hq0 : ¬ q = 0 := by
        intro z
        subst z
        revert c2
        decide
      have hj6 : j < 6 := by omega
      have v := (hR.V.p hj6).1
      have e2 : gI S 1424 j = _ := hR.C.2.2.1 j (by omega)
      by_cases z : gn S 48 (72 + 5 * j) = 99
      · refine .inl ⟨-1, 7, by omega, fun K h => ?_, fun K h => ?_⟩
        · simp (disch := omega) only [X_meal, X_meal_b22, X_meal_b44, X_isPerson_ok h1, c, X_isIn1, c2, Co_feeds_ok hR.C hR.V, z, hq0, or_true, forall_eq, forall_eq', st7, gn7, nz, bN_0, bN_1, nI_add, pk_mul, cl_nI, vp_nI, eq_nI, le_nI, lt_nI, m1_nI, nI_m1, Bool.true_eq_false, Bool.false_eq_true, reduceCtorEq, not_true_eq_false, not_false_eq_true, false_implies, true_implies, implies_true, forall_const, and_true, true_and, and_self, if_true, if_false, reduceIte, Nat.reduceEqDiff, Nat.reduceLeDiff, Nat.reduceLT, Nat.lt_irrefl, Nat.le_refl, gI_sI, gI_sL, gI_sR, gL_sI, gL_sL, gR_sI, gN_sI, M_refuse_ok, M_gives_ok, M_is_ok, decide_true, decide_false, Nat.not_lt_zero, X_at, X_isIn0, M_isFrom0, Nat.reduceAdd, Nat.reduceMul, Nat.reduceSub, Nat.add_zero, Nat.zero_add]
          exact h
        · have w := hR.w (nI 7)
          have hVx : V 9999 (gn (sI S 1025 7 (nI 7)) 48) := hR.V
          simp (disch := omega) only [M_meal, M_meal_b21, M_isPerson_ok, c, M_isFrom1, c2, M_meals_ok hVx, z, forall_eq, forall_eq', st7, gn7, nz, bN_0, bN_1, nI_add, pk_mul, cl_nI, vp_nI, eq_nI, le_nI, lt_nI, m1_nI, nI_m1, Bool.true_eq_false, Bool.false_eq_true, reduceCtorEq, not_true_eq_false, not_false_eq_true, false_implies, true_implies, implies_true, forall_const, and_true, true_and, and_self, if_true, if_false, reduceIte, Nat.reduceEqDiff, Nat.reduceLeDiff, Nat.reduceLT, Nat.lt_irrefl, Nat.le_refl, gI_sI, gI_sL, gI_sR, gL_sI, gL_sL, gR_sI, gN_sI, M_refuse_ok, M_gives_ok, M_is_ok, decide_true, decide_false, Nat.not_lt_zero, X_at, X_isIn0, M_isFrom0, Nat.reduceAdd, Nat.reduceMul, Nat.reduceSub, Nat.add_zero, Nat.zero_add]
          exact h
      · have hw := rel_w1 (a := 1424) (j := j) (i := 72 + 5 * j) (v := min 99 (gn S 48 (72 + 5 * j) + q)) hR (by omega) (.inr (.inr (.inl ⟨j, by omega, .inl ⟨rfl, by omega⟩⟩))) (.inr (.inr (.inl ⟨rfl, by omega, by omega⟩)))
        refine .inr ⟨nI (min 99 (gn S 48 (72 + 5 * j) + q)), 1424, j, 72 + 5 * j, min 99 (gn S 48 (72 + 5 * j) + q), hw, fun K h => ?_, fun K h => ?_⟩
        · simp (disch := omega) only [X_meal, X_meal_b22, X_meal_b44, X_isPerson_ok h1, c, X_isIn1, c2, Co_feeds_ok hR.C hR.V, z, hq0, or_self, hj6, forall_eq, forall_eq', st7, gn7, nz, bN_0, bN_1, nI_add, pk_mul, cl_nI, vp_nI, eq_nI, le_nI, lt_nI, m1_nI, nI_m1, Bool.true_eq_false, Bool.false_eq_true, reduceCtorEq, not_true_eq_false, not_false_eq_true, false_implies, true_implies, implies_true, forall_const, and_true, true_and, and_self, if_true, if_false, reduceIte, Nat.reduceEqDiff, Nat.reduceLeDiff, Nat.reduceLT, Nat.lt_irrefl, Nat.le_refl, gI_sI, gI_sL, gI_sR, gL_sI, gL_sL, gR_sI, gN_sI, M_refuse_ok, M_gives_ok, M_is_ok, decide_true, decide_false, Nat.not_lt_zero, X_at, X_isIn0, M_isFrom0, Nat.reduceAdd, Nat.reduceMul, Nat.reduceSub, Nat.add_zero, Nat.zero_add]
          rw [sI_comm (by decide)]
          exact h
        · generalize hT : sI (sI S 1025 7 (nI 0)) 1424 j (nI (min 99 (gn S 48 (72 + 5 * j) + q))) = T at h ⊢
          have eT : gn T 48 = gn S 48 := by rw [← hT, gn_ne _ (by decide), gn7]
          have w : gn T 48 3 ≤ 6 := by rw [eT]; exact hV.2.2.2.1
          have hVT : V 9999 (gn T 48) := by rw [eT]; exact hR.V
          simp (disch := omega) only [M_meal, M_meal_b21, M_isPerson_ok, eT, c, M_isFrom1, c2, M_meals_ok hVT, z, M_personOf_ok, gn_up, forall_eq, forall_eq', st7, gn7, nz, bN_0, bN_1, nI_add, pk_mul, cl_nI, vp_nI, eq_nI, le_nI, lt_nI, m1_nI, nI_m1, Bool.true_eq_false, Bool.false_eq_true, reduceCtorEq, not_true_eq_false, not_false_eq_true, false_implies, true_implies, implies_true, forall_const, and_true, true_and, and_self, if_true, if_false, reduceIte, Nat.reduceEqDiff, Nat.reduceLeDiff, Nat.reduceLT, Nat.lt_irrefl, Nat.le_refl, gI_sI, gI_sL, gI_sR, gL_sI, gL_sL, gR_sI, gN_sI, M_refuse_ok, M_gives_ok, M_is_ok, decide_true, decide_false, Nat.not_lt_zero, X_at, X_isIn0, M_isFrom0, Nat.reduceAdd, Nat.reduceMul, Nat.reduceSub, Nat.add_zero, Nat.zero_add]
          rw [upN_eq]
          exact h
theorem op20_ok : op20 Rel := fun a1 a2 _ _ _ b hb => op_w1 fun S hR => by
  have hV := hR.V.1
  have h1 := hR.c.2.2.2.1
  have h0 := hR.c.1
  obtain ⟨b, rfl⟩ : ∃ q : Bool, b = nI (bN q) := by
    rcases hb with rfl | rfl
    · exact ⟨false, rfl⟩
    · exact ⟨true, rfl⟩
  cases c : okN a1 (gn S 48 3)
  · refine .inl ⟨nI 0, 1, by omega, fun K h => ?_, fun K h => ?_⟩
    · simp (disch := omega) only [X_scent, X_scent_b18, X_scent_b41, X_isPerson_ok h1, c, forall_eq, forall_eq', st7, gn7, nz, bN_0, bN_1, nI_add, pk_mul, cl_nI, vp_nI, eq_nI, le_nI, lt_nI, m1_nI, nI_m1, Bool.true_eq_false, Bool.false_eq_true, reduceCtorEq, not_true_eq_false, not_false_eq_true, false_implies, true_implies, implies_true, forall_const, and_true, true_and, and_self, if_true, if_false, reduceIte, Nat.reduceEqDiff, Nat.reduceLeDiff, Nat.reduceLT, Nat.lt_irrefl, Nat.le_refl, gI_sI, gI_sL, gI_sR, gL_sI, gL_sL, gR_sI, gN_sI, M_refuse_ok, M_gives_ok, M_is_ok, decide_true, decide_false, Nat.not_lt_zero, X_at, X_isIn0, M_isFrom0, Nat.reduceAdd, Nat.reduceMul, Nat.reduceSub, Nat.add_zero, Nat.zero_add]
      exact h
    · have w := hR.w (nI 1)
      simp (disch := omega) only [M_scent, M_scent_b17, M_isPerson_ok, c, bN, forall_eq, forall_eq', st7, gn7, nz, bN_0, bN_1, nI_add, pk_mul, cl_nI, vp_nI, eq_nI, le_nI, lt_nI, m1_nI, nI_m1, Bool.true_eq_false, Bool.false_eq_true, reduceCtorEq, not_true_eq_false, not_false_eq_true, false_implies, true_implies, implies_true, forall_const, and_true, true_and, and_self, if_true, if_false, reduceIte, Nat.reduceEqDiff, Nat.reduceLeDiff, Nat.reduceLT, Nat.lt_irrefl, Nat.le_refl, gI_sI, gI_sL, gI_sR, gL_sI, gL_sL, gR_sI, gN_sI, M_refuse_ok, M_gives_ok, M_is_ok, decide_true, decide_false, Nat.not_lt_zero, X_at, X_isIn0, M_isFrom0, Nat.reduceAdd, Nat.reduceMul, Nat.reduceSub, Nat.add_zero, Nat.zero_add]
      exact h
  · obtain ⟨j, hj, rfl⟩ := okN_5 (by omega) c
    cases c2 : okN a2 (gn S 48 0)
    · refine .inl ⟨nI 0, 1, by omega, fun K h => ?_, fun K h => ?_⟩
      · simp (disch := omega) only [X_scent, X_scent_b18, X_scent_b41, X_isPerson_ok h1, X_isSmell_ok h0, c, c2, forall_eq, forall_eq', st7, gn7, nz, bN_0, bN_1, nI_add, pk_mul, cl_nI, vp_nI, eq_nI, le_nI, lt_nI, m1_nI, nI_m1, Bool.true_eq_false, Bool.false_eq_true, reduceCtorEq, not_true_eq_false, not_false_eq_true, false_implies, true_implies, implies_true, forall_const, and_true, true_and, and_self, if_true, if_false, reduceIte, Nat.reduceEqDiff, Nat.reduceLeDiff, Nat.reduceLT, Nat.lt_irrefl, Nat.le_refl, gI_sI, gI_sL, gI_sR, gL_sI, gL_sL, gR_sI, gN_sI, M_refuse_ok, M_gives_ok, M_is_ok, decide_true, decide_false, Nat.not_lt_zero, X_at, X_isIn0, M_isFrom0, Nat.reduceAdd, Nat.reduceMul, Nat.reduceSub, Nat.add_zero, Nat.zero_add]
        exact h
      · have w := hR.w (nI 1)
        simp (disch := omega) only [M_scent, M_scent_b17, M_isPerson_ok, M_isSmell_ok, c, c2, bN, forall_eq, forall_eq', st7, gn7, nz, bN_0, bN_1, nI_add, pk_mul, cl_nI, vp_nI, eq_nI, le_nI, lt_nI, m1_nI, nI_m1, Bool.true_eq_false, Bool.false_eq_true, reduceCtorEq, not_true_eq_false, not_false_eq_true, false_implies, true_implies, implies_true, forall_const, and_true, true_and, and_self, if_true, if_false, reduceIte, Nat.reduceEqDiff, Nat.reduceLeDiff, Nat.reduceLT, Nat.lt_irrefl, Nat.le_refl, gI_sI, gI_sL, gI_sR, gL_sI, gL_sL, gR_sI, gN_sI, M_refuse_ok, M_gives_ok, M_is_ok, decide_true, decide_false, Nat.not_lt_zero, X_at, X_isIn0, M_isFrom0, Nat.reduceAdd, Nat.reduceMul, Nat.reduceSub, Nat.add_zero, Nat.zero_add]
        exact h
    · obtain ⟨k, hk, rfl⟩ := okN_5 (by omega) c2
      have hj6 : j < 6 := by omega
      have v := (hR.V.2.2.2.1 j hj6).2.1
      have v5 := (hR.V.p hj6).2.1
      by_cases z : inS (gn S 48 (73 + 5 * j)) k = b
      · refine .inl ⟨nI 0, 7, by omega, fun K h => ?_, fun K h => ?_⟩
        · simp (disch := omega) only [X_scent, X_scent_b18, X_scent_b41, X_isPerson_ok h1, X_isSmell_ok h0, c, c2, Co_scents_ok hR.C hR.V, z, forall_eq, forall_eq', st7, gn7, nz, bN_0, bN_1, nI_add, pk_mul, cl_nI, vp_nI, eq_nI, le_nI, lt_nI, m1_nI, nI_m1, Bool.true_eq_false, Bool.false_eq_true, reduceCtorEq, not_true_eq_false, not_false_eq_true, false_implies, true_implies, implies_true, forall_const, and_true, true_and, and_self, if_true, if_false, reduceIte, Nat.reduceEqDiff, Nat.reduceLeDiff, Nat.reduceLT, Nat.lt_irrefl, Nat.le_refl, gI_sI, gI_sL, gI_sR, gL_sI, gL_sL, gR_sI, gN_sI, M_refuse_ok, M_gives_ok, M_is_ok, decide_true, decide_false, Nat.not_lt_zero, X_at, X_isIn0, M_isFrom0, Nat.reduceAdd, Nat.reduceMul, Nat.reduceSub, Nat.add_zero, Nat.zero_add]
          exact h
        · have w := hR.w (nI 7)
          have hVx : V 9999 (gn (sI S 1025 7 (nI 7)) 48) := hR.V
          simp (disch := omega) only [M_scent, M_scent_b17, M_scent_b40, M_isPerson_ok, M_isSmell_ok, c, c2, M_scents_ok hVx, z, forall_eq, forall_eq', st7, gn7, nz, bN_0, bN_1, nI_add, pk_mul, cl_nI, vp_nI, eq_nI, le_nI, lt_nI, m1_nI, nI_m1, Bool.true_eq_false, Bool.false_eq_true, reduceCtorEq, not_true_eq_false, not_false_eq_true, false_implies, true_implies, implies_true, forall_const, and_true, true_and, and_self, if_true, if_false, reduceIte, Nat.reduceEqDiff, Nat.reduceLeDiff, Nat.reduceLT, Nat.lt_irrefl, Nat.le_refl, gI_sI, gI_sL, gI_sR, gL_sI, gL_sL, gR_sI, gN_sI, M_refuse_ok, M_gives_ok, M_is_ok, decide_true, decide_false, Nat.not_lt_zero, X_at, X_isIn0, M_isFrom0, Nat.reduceAdd, Nat.reduceMul, Nat.reduceSub, Nat.add_zero, Nat.zero_add]
          simp [bN]
          exact h
      · have hx : gn S 48 (73 + 5 * j) ^^^ 2 ^ k < 2 ^ gn S 48 0 := Nat.xor_lt_two_pow v (Nat.pow_lt_pow_right (by decide) hk)
        have hx2 : gn S 48 (73 + 5 * j) ^^^ 2 ^ k < 32 := Nat.lt_of_lt_of_le hx (Nat.le_trans (Nat.pow_le_pow_right (by decide) hV.1) (by decide))
        have hw := rel_w1 (a := 1456) (j := j) (i := 73 + 5 * j) (v := gn S 48 (73 + 5 * j) ^^^ 2 ^ k) hR (by omega) (.inr (.inr (.inl ⟨j, by omega, .inr (.inl ⟨rfl, hx⟩)⟩))) (.inr (.inr (.inr (.inl ⟨rfl, by omega, by omega⟩))))
        refine .inr ⟨nI 1, 1456, j, 73 + 5 * j, gn S 48 (73 + 5 * j) ^^^ 2 ^ k, hw, fun K h => ?_, fun K h => ?_⟩
        · simp (disch := omega) only [X_scent, X_scent_b18, X_scent_b41, X_isPerson_ok h1, X_isSmell_ok h0, c, c2, Co_scents_ok hR.C hR.V, z, forall_eq, forall_eq', st7, gn7, nz, bN_0, bN_1, nI_add, pk_mul, cl_nI, vp_nI, eq_nI, le_nI, lt_nI, m1_nI, nI_m1, Bool.true_eq_false, Bool.false_eq_true, reduceCtorEq, not_true_eq_false, not_false_eq_true, false_implies, true_implies, implies_true, forall_const, and_true, true_and, and_self, if_true, if_false, reduceIte, Nat.reduceEqDiff, Nat.reduceLeDiff, Nat.reduceLT, Nat.lt_irrefl, Nat.le_refl, gI_sI, gI_sL, gI_sR, gL_sI, gL_sL, gR_sI, gN_sI, M_refuse_ok, M_gives_ok, M_is_ok, decide_true, decide_false, Nat.not_lt_zero, X_at, X_isIn0, M_isFrom0, Nat.reduceAdd, Nat.reduceMul, Nat.reduceSub, Nat.add_zero, Nat.zero_add]
          rw [sI_comm (by decide)]
          exact h
        · generalize hT : sI (sI S 1025 7 (nI 0)) 1456 j (nI (gn S 48 (73 + 5 * j) ^^^ 2 ^ k)) = T at h ⊢
          have eT : gn T 48 = gn S 48 := by rw [← hT, gn_ne _ (by decide), gn7]
          have w : gn T 48 3 ≤ 6 := by rw [eT]; exact hV.2.2.2.1
          have w0 : gn T 48 0 ≤ 5 := by rw [eT]; exact hV.1
          have hVT : V 9999 (gn T 48) := by rw [eT]; exact hR.V
          simp (disch := omega) only [M_scent, M_scent_b17, M_scent_b40, M_isPerson_ok, M_isSmell_ok, eT, c, c2, M_scents_ok hVT, z, forall_eq, forall_eq', st7, gn7, nz, bN_0, bN_1, nI_add, pk_mul, cl_nI, vp_nI, eq_nI, le_nI, lt_nI, m1_nI, nI_m1, Bool.true_eq_false, Bool.false_eq_true, reduceCtorEq, not_true_eq_false, not_false_eq_true, false_implies, true_implies, implies_true, forall_const, and_true, true_and, and_self, if_true, if_false, reduceIte, Nat.reduceEqDiff, Nat.reduceLeDiff, Nat.reduceLT, Nat.lt_irrefl, Nat.le_refl, gI_sI, gI_sL, gI_sR, gL_sI, gL_sL, gR_sI, gN_sI, M_refuse_ok, M_gives_ok, M_is_ok, decide_true, decide_false, Nat.not_lt_zero, X_at, X_isIn0, M_isFrom0, Nat.reduceAdd, Nat.reduceMul, Nat.reduceSub, Nat.add_zero, Nat.zero_add]
          simp [bN]
          exact h
