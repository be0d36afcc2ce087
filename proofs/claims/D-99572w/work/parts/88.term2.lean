set_option maxRecDepth 100000
def judM (S : tS) (p : Nat) : tS := sI (sitM S p) 48 (74 + 5 * p) (nI (jst (gn S 48) p))
/-- the twin's world behind the sittings of 0 .. r - 1 of a term -/
def terM (S : tS) : Nat → tS
  | 0 => S
  | r + 1 => if gn (terM S r) 48 (74 + 5 * r) = 0 then judM (terM S r) r else terM S r
theorem judM_gn {m p : Nat} {S : tS} (hV : V m (gn S 48)) (hp : p < 6) (hm : m < 1000000) : gn (judM S p) 48 = judF (gn S 48) p := by
  have := jst_le hV p
  unfold judM judF
  rw [gn_up (by omega), sitM_gn hV hp hm]
theorem terM_gn {m : Nat} {S : tS} (hV : V m (gn S 48)) (hm : m < 1000000) (h7 : gn S 48 7 + 6 ≤ m) : ∀ r : Nat, r ≤ 6 → gn (terM S r) 48 = terF (gn S 48) r := by
  intro r
  induction r with
  | zero => intro _; rfl
  | succ r ih =>
    intro hr
    have e := ih (by omega)
    have v := (terF_V hV r (by omega) (by omega)).1
    have t1 : terM S (r + 1) = if gn (terM S r) 48 (74 + 5 * r) = 0 then judM (terM S r) r else terM S r := rfl
    have t2 : terF (gn S 48) (r + 1) = if terF (gn S 48) r (74 + 5 * r) = 0 then judF (terF (gn S 48) r) r else terF (gn S 48) r := rfl
    rw [t1, t2, e]
    by_cases z : terF (gn S 48) r (74 + 5 * r) = 0
    · rw [if_pos z, if_pos z, judM_gn (by rw [e]; exact v) (by omega) hm, e]
    · rw [if_neg z, if_neg z, e]
theorem M_terms_b59_ok {r s fr : Nat} {w : Int32} {K : Int32 → tS → Prop} {κ : Int32 → Int32 → Int32 → tS → Prop} {T : tS} (hr : r < 6) (hs : s ≤ 2) : M_terms_b59 K κ w (nI fr) (nI r) (nI s) T ↔ κ w (nI (fr ||| (if s = 2 then 2 ^ r else 0))) (nI (r + 1)) (sI T 48 (74 + 5 * r) (nI (if s = 0 then 0 else 3 - s))) := by
  have hb : 74 + 5 * r < 3548 := by omega
  have hx : 72 + 5 * r + 2 = 74 + 5 * r := by omega
  unfold M_terms_b59 M_terms_b84 M_terms_b99 M_terms_b101 M_personRow
  have q : s = 0 ∨ s = 1 ∨ s = 2 := by omega
  rcases q with rfl | rfl | rfl <;> simp (disch := omega) only [pk_mul, nI_add, pk_sub, eq_nI, forall_eq, hx, vp_nI, cl_nI, hb, shl1_nI, or_nI, Nat.reduceSub] <;> simp
theorem M_terms_ok {m : Nat} {S : tS} {K : Int32 → tS → Prop} (hV : V m (gn S 48)) (hm : m < 1000000) (h7 : gn S 48 7 + 6 ≤ m) : M_terms S K ↔ K (nI (setB (frB (gn S 48)) (gn S 48 3))) (terM S (gn S 48 3)) := by
  have h6 : gn S 48 3 ≤ 6 := hV.1.2.2.2.1
  have hW : setB (fun p => decide (gn S 48 (74 + 5 * p) = 0)) (gn S 48 3) < 1000000 := Nat.lt_of_lt_of_le (setB_lt _ _) (Nat.le_trans (Nat.pow_le_pow_right (by decide) h6) (by decide))
  unfold M_terms
  rw [M_peopleThat_ok hV (by omega)]
  refine loop_for (W := fun n r => M_terms_l10 K n (nI (setB (fun p => decide (gn S 48 (74 + 5 * p) = 0)) (gn S 48 3))) (nI (setB (frB (gn S 48)) r)) (nI r) (terM S r)) (gn S 48 3) (fun r h => h) (fun n => ?_) (fun n r hr => ?_)
  · have e := terM_gn hV hm h7 (gn S 48 3) h6
    rw [M_terms_l10, gI48, e, terF_lo (by omega), le_nI (by omega) (by omega)]
    simp
  · have e := terM_gn hV hm h7 r (by omega)
    have v := (terF_V hV r (by omega) (by omega)).1
    have hVr : V m (gn (terM S r) 48) := by rw [e]; exact v
    have hr8 : ¬ gn S 48 3 ≤ r := by omega
    have hr6 : r < 6 := by omega
    have st := terF_st (F := gn S 48) (p := r) r (Nat.le_refl _)
    have t1 : terM S (r + 1) = if gn (terM S r) 48 (74 + 5 * r) = 0 then judM (terM S r) r else terM S r := rfl
    rw [M_terms_l10, gI48, e, terF_lo (by omega), le_nI (by omega) (by omega), M_isIn_ok hW (by omega), inS_setB]
    by_cases z : gn S 48 (74 + 5 * r) = 0
    · have hgm : gn (sitM (terM S r) r) 48 = sitF (terF (gn S 48) r) r := by rw [sitM_gn hVr hr6 hm, e]
      have l1 : terF (gn S 48) r 1 = gn S 48 1 := terF_lo (by omega) r
      have h1 : gn S 48 1 ≤ 6 := hV.1.2.1
      have hx := shw_lt v (g := terF (gn S 48) r (75 + 5 * r)) (fed := terF (gn S 48) r (72 + 5 * r)) (warm := terF (gn S 48) r 6) (set := terF (gn S 48) r (73 + 5 * r))
      have hx : shp (terF (gn S 48) r) r (terF (gn S 48) r 6) < terF (gn S 48) r 1 ∨ shp (terF (gn S 48) r) r (terF (gn S 48) r 6) = terF (gn S 48) r 1 := by
        rcases hx with q | q
        · exact .inl q
        · exact .inr q.1
      have hs2 : sns (terF (gn S 48) r) (shp (terF (gn S 48) r) r (terF (gn S 48) r 6)) ≤ 2 := sns_le v
      have hj : sI (sitM (terM S r) r) 48 (74 + 5 * r) (nI (if sns (terF (gn S 48) r) (shp (terF (gn S 48) r) r (terF (gn S 48) r 6)) = 0 then 0 else 3 - sns (terF (gn S 48) r) (shp (terF (gn S 48) r) r (terF (gn S 48) r 6)))) = terM S (r + 1) := by
        rw [t1, e, st, if_pos z]
        unfold judM jst
        rw [e]
      have hf : setB (frB (gn S 48)) r ||| (if sns (terF (gn S 48) r) (shp (terF (gn S 48) r) r (terF (gn S 48) r 6)) = 2 then 2 ^ r else 0) = setB (frB (gn S 48)) (r + 1) := by
        have fb : frB (gn S 48) r = decide (sns (terF (gn S 48) r) (shp (terF (gn S 48) r) r (terF (gn S 48) r 6)) = 2) := by
          unfold frB jst
          rw [st, z]
          generalize sns (terF (gn S 48) r) (shp (terF (gn S 48) r) r (terF (gn S 48) r 6)) = s at hs2
          have q : s = 0 ∨ s = 1 ∨ s = 2 := by omega
          rcases q with rfl | rfl | rfl <;> rfl
        show _ = setB (frB (gn S 48)) r ||| (if frB (gn S 48) r = true then 2 ^ r else 0)
        rw [fb]
        simp
      simp only [hr, z, decide_true, Bool.and_self, nz, Bool.true_eq_false, false_implies, not_false_eq_true, true_implies, true_and, hr8]
      rw [M_sits_ok hVr hr6 hm, e]
      rcases hx with q | q
      · have sv : sns (terF (gn S 48) r) (shp (terF (gn S 48) r) r (terF (gn S 48) r 6)) = terF (gn S 48) r (10 + shp (terF (gn S 48) r) r (terF (gn S 48) r 6)) := if_pos q
        rw [oN_lt q]
        simp (disch := omega) only [m1_nI, nI_add, vp_nI, cl_nI, gI48, hgm]
        rw [sitF_lo (by omega), ← sv, M_terms_b59_ok hr6 hs2, hf, hj]
        simp
        omega
      · have sv : sns (terF (gn S 48) r) (shp (terF (gn S 48) r) r (terF (gn S 48) r 6)) = 0 := if_neg (by omega)
        rw [q, oN_eq]
        rw [sv] at hf hj
        have b := M_terms_b59_ok (r := r) (s := 0) (fr := setB (frB (gn S 48)) r) (w := nI (setB (fun p => decide (gn S 48 (74 + 5 * p) = 0)) (gn S 48 3))) (K := K) (κ := M_terms_l10 K n) (T := sitM (terM S r) r) hr6 (by omega)
        rw [hf, hj] at b
        simp only [b]
        simp
    · have fb : frB (gn S 48) r = false := by
        unfold frB
        rw [st, decide_eq_false z]
        rfl
      have te : terM S (r + 1) = terM S r := by rw [t1, e, st, if_neg z]
      rw [setB_f fb, te]
      simp only [hr, z, decide_false, Bool.and_false, nz, true_implies, not_true_eq_false, false_implies, and_true, hr8, not_false_eq_true, true_and]
      unfold M_terms_b101
      simp only [forall_eq, nI_add]
