set_option maxRecDepth 100000
/-! A TERM -/
/-- what becomes of p by a sitting -/
def jst (F : Nat → Nat) (p : Nat) : Nat := if sns F (shp F p (F 6)) = 0 then 0 else 3 - sns F (shp F p (F 6))
def judF (F : Nat → Nat) (p : Nat) : Nat → Nat := upN (sitF F p) (74 + 5 * p) (jst F p)
/-- the slot behind the sittings of 0 .. r - 1 of a term -/
def terF (F : Nat → Nat) : Nat → Nat → Nat
  | 0 => F
  | r + 1 => if terF F r (74 + 5 * r) = 0 then judF (terF F r) r else terF F r
def frB (F : Nat → Nat) (p : Nat) : Bool := decide (terF F p (74 + 5 * p) = 0) && decide (jst (terF F p) p = 1)
theorem sns_le {m : Nat} {F : Nat → Nat} (hV : V m F) {q : Nat} : sns F q ≤ 2 := by
  have h1 : F 1 ≤ 6 := hV.1.2.1
  unfold sns
  split
  · exact hV.2.1 q (by omega)
  · omega
theorem shp_le {m : Nat} {F : Nat → Nat} (hV : V m F) (p w : Nat) : shp F p w ≤ F 1 := by
  rcases shw_lt hV (g := F (75 + 5 * p)) (fed := F (72 + 5 * p)) (warm := w) (set := F (73 + 5 * p)) with h | h
  · exact Nat.le_of_lt h
  · exact Nat.le_of_eq h.1
theorem jst_le {m : Nat} {F : Nat → Nat} (hV : V m F) (p : Nat) : jst F p ≤ 2 := by
  unfold jst
  split
  · omega
  · omega
theorem sitF_lo {F : Nat → Nat} {p k : Nat} (h : k < 6 ∨ 7 < k ∧ k < 76) : sitF F p k = F k := by
  unfold sitF
  rw [upN_ne (by omega), upN_ne (by omega), upN_ne (by omega)]
theorem judF_V {m p : Nat} {F : Nat → Nat} (hV : V m F) (hp : p < 6) (hm : F 7 < m) : V m (judF F p) := V_up (sitF_V hV hp hm) (.inr (.inr (.inl ⟨p, hp, .inr (.inr (.inl ⟨rfl, jst_le hV p⟩))⟩)))
theorem judF_7 {F : Nat → Nat} {p : Nat} : judF F p 7 = F 7 + 1 := by
  unfold judF sitF
  rw [upN_ne (by omega), upN_ne (by omega), upN_eq]
theorem judF_lo {F : Nat → Nat} {p k : Nat} (h : k < 6 ∨ 7 < k ∧ k < 74) : judF F p k = F k := by
  unfold judF
  rw [upN_ne (by omega), sitF_lo (by omega)]
theorem judF_hi {F : Nat → Nat} {p k : Nat} (h : 102 ≤ k) (hp : p < 6) : judF F p k = F k := by
  unfold judF sitF
  rw [upN_ne (by omega), upN_ne (by omega), upN_ne (by omega), upN_ne (by omega)]
theorem terF_V {m : Nat} {F : Nat → Nat} (hV : V m F) : ∀ r : Nat, r ≤ 6 → F 7 + r ≤ m → V m (terF F r) ∧ terF F r 7 ≤ F 7 + r := by
  intro r
  induction r with
  | zero => intro _ _; exact ⟨hV, Nat.le_refl _⟩
  | succ r ih =>
    intro h1 h2
    obtain ⟨a, b⟩ := ih (by omega) (by omega)
    unfold terF
    split
    · exact ⟨judF_V a (by omega) (by omega), by rw [judF_7]; omega⟩
    · exact ⟨a, by omega⟩
theorem terF_lo {F : Nat → Nat} {k : Nat} (h : k < 6 ∨ 7 < k ∧ k < 74) : ∀ r : Nat, terF F r k = F k := by
  intro r
  induction r with
  | zero => rfl
  | succ r ih =>
    unfold terF
    split
    · rw [judF_lo h, ih]
    · exact ih
theorem terF_hi {F : Nat → Nat} {k : Nat} (h : 102 ≤ k) : ∀ r : Nat, r ≤ 6 → terF F r k = F k := by
  intro r
  induction r with
  | zero => intro _; rfl
  | succ r ih =>
    intro hr
    unfold terF
    split
    · rw [judF_hi h (by omega), ih (by omega)]
    · exact ih (by omega)
/-- a term does not touch the state of those who come later -/
theorem terF_st {F : Nat → Nat} {p : Nat} : ∀ r : Nat, r ≤ p → terF F r (74 + 5 * p) = F (74 + 5 * p) := by
  intro r
  induction r with
  | zero => intro _; rfl
  | succ r ih =>
    intro hr
    unfold terF
    split
    · unfold judF sitF
      rw [upN_ne (by omega), upN_ne (by omega), upN_ne (by omega), upN_ne (by omega), ih (by omega)]
    · exact ih (by omega)
def judX (S : tS) (c p : Nat) (F : Nat → Nat) : tS := sI (sitX S c p F) (c + 266) p (nI (jst F p))
theorem sns_c {F G : Nat → Nat} {m q : Nat} (hV : V m F) (h1 : G 1 = F 1) (h : ∀ k : Nat, 10 ≤ k → k < 16 → G k = F k) : sns G q = sns F q := by
  have : F 1 ≤ 6 := hV.1.2.1
  unfold sns
  rw [h1]
  split
  · exact h _ (by omega) (by omega)
  · rfl
theorem judX_CR {m c p : Nat} {F : Nat → Nat} {S : tS} (hC : CR S c F) (hW : CW S c) (hV : V m F) (hp : p < 6) (hc : c < 2000 ∨ c % 32 = 6) : CR (judX S c p F) c (judF F p) := by
  have h8 : F 2 ≤ 8 := hV.1.2.2.1
  exact CR_w (a := c + 266) (j := p) (i := 74 + 5 * p) (v := jst F p) (sitX_CR hC hW hV hp hc) (CW_sI (CW_sI (CW_sI hW))) (by rw [sitF_lo (by omega)]; exact h8) (by omega) (by omega) (by omega) (by omega) (by omega) (by omega)
theorem Co_judges_ok {m c p : Nat} {F : Nat → Nat} {S : tS} {K : Int32 → tS → Prop} (hC : CR S c F) (hW : CW S c) (hV : V m F) (hp : p < 6) (hm : F 7 < m) (hc : c < 2000 ∨ c % 32 = 6) : Co_judges c (nI p) S K ↔ K (nI (jst F p)) (judX S c p F) := by
  have hs := sns_le hV (q := shp F p (F 6))
  have e : sns (sitF F p) (shp F p (F 6)) = sns F (shp F p (F 6)) := sns_c hV (sitF_lo (by omega)) (fun k h1 h2 => sitF_lo (by omega))
  unfold Co_judges Co_judges_b34
  rw [Co_sits_ok hC hW hV hp, Co_senseOf_ok (sitX_CR hC hW hV hp hc) (sitF_V hV hp hm) (by rw [sitF_lo (by omega)]; exact shp_le hV p _), e]
  unfold judX jst
  have q : sns F (shp F p (F 6)) = 0 ∨ sns F (shp F p (F 6)) = 1 ∨ sns F (shp F p (F 6)) = 2 := by omega
  rcases q with q | q | q <;> simp (disch := omega) only [q, eq_nI, vp_nI, cl_nI, forall_eq, gI_sI] <;> simp [hp]
/-- the component's world behind the sittings of 0 .. r - 1 of a term -/
def terX (S : tS) (c : Nat) (F : Nat → Nat) : Nat → tS
  | 0 => S
  | r + 1 => if terF F r (74 + 5 * r) = 0 then judX (terX S c F r) c r (terF F r) else terX S c F r
theorem terX_W {S : tS} {c : Nat} {F : Nat → Nat} (hW : CW S c) : ∀ r : Nat, CW (terX S c F r) c := by
  intro r
  induction r with
  | zero => exact hW
  | succ r ih =>
    unfold terX
    split
    · exact CW_sI (CW_sI (CW_sI (CW_sI ih)))
    · exact ih
theorem terX_CR {m c : Nat} {F : Nat → Nat} {S : tS} (hC : CR S c F) (hW : CW S c) (hV : V m F) (hc : c < 2000 ∨ c % 32 = 6) : ∀ r : Nat, r ≤ 6 → F 7 + r ≤ m → CR (terX S c F r) c (terF F r) := by
  intro r
  induction r with
  | zero => intro _ _; exact hC
  | succ r ih =>
    intro h1 h2
    have t1 : terX S c F (r + 1) = if terF F r (74 + 5 * r) = 0 then judX (terX S c F r) c r (terF F r) else terX S c F r := rfl
    have t2 : terF F (r + 1) = if terF F r (74 + 5 * r) = 0 then judF (terF F r) r else terF F r := rfl
    rw [t1, t2]
    by_cases z : terF F r (74 + 5 * r) = 0
    · rw [if_pos z, if_pos z]
      exact judX_CR (ih (by omega) (by omega)) (terX_W hW r) (terF_V hV r (by omega) (by omega)).1 (by omega) hc
    · rw [if_neg z, if_neg z]
      exact ih (by omega) (by omega)
theorem Co_term_ok {m c : Nat} {F : Nat → Nat} {S : tS} {K : Int32 → tS → Prop} (hC : CR S c F) (hW : CW S c) (hV : V m F) (hm : F 7 + 6 ≤ m) (hc : c < 2000 ∨ c % 32 = 6) : Co_term c S K ↔ K (nI (setB (frB F) (F 3))) (terX S c F (F 3)) := by
  have h6 : F 3 ≤ 6 := hV.1.2.2.2.1
  unfold Co_term
  refine loop_for (W := fun n r => Co_term_l4 c K n (nI (setB (frB F) r)) (nI r) (terX S c F r)) (F 3) (fun r h => h) (fun n => ?_) (fun n r hr => ?_)
  · have h3 := (terX_CR hC hW hV hc (F 3) (by omega) (by omega)).1 3 (by omega)
    rw [terF_lo (by omega)] at h3
    rw [Co_term_l4]
    simp (disch := omega) only [h3, le_nI]
    simp
  · have hCr := terX_CR hC hW hV hc r (by omega) (by omega)
    have hVr := terF_V hV r (by omega) (by omega)
    have h3 := hCr.1 3 (by omega)
    rw [terF_lo (by omega)] at h3
    have e2 := hCr.2.2.2.2.1 r (by omega)
    have v2 := (hVr.1.p (show r < 6 by omega)).2.2.1
    have hr8 : ¬ F 3 ≤ r := by omega
    have hr6 : r < 6 := by omega
    rw [Co_term_l4]
    unfold Co_term_b38 Co_term_b37 Co_term_b38
    simp (disch := omega) only [h3, le_nI, hr8, vp_nI, cl_nI, e2, eq_nI, hr6, Co_judges_ok hCr (terX_W hW r) hVr.1 hr6 (by omega) hc, forall_eq, shl1_nI, or_nI, nI_add, or0]
    rw [terX]
    have jl := jst_le hVr.1 r
    by_cases z : terF F r (74 + 5 * r) = 0
    · by_cases y : jst (terF F r) r = 1
      · rw [setB_t (by simp [frB, z, y])]
        simp [z, y]
      · rw [setB_f (by simp [frB, z, y])]
        simp (disch := omega) only [eq_nI]
        simp [z, y]
    · rw [setB_f (by simp [frB, z])]
      simp [z]
/-! the twin's term -/
theorem bit_lt {a b k : Nat} (h : a < 2 ^ k) (hb : b = 0 ∨ b = 2 ^ k) : inS (a ||| b) k = decide (b = 2 ^ k) := by
  unfold inS
  have hp := Nat.two_pow_pos k
  rcases hb with rfl | rfl
  · rw [or0, Nat.div_eq_of_lt h]
    simp [show ¬ 0 = 2 ^ k by omega]
  · have e : a ||| 2 ^ k = 2 ^ k * 1 + a := by
      rw [Nat.or_comm]
      have := Nat.two_pow_add_eq_or_of_lt h 1
      rw [Nat.mul_one] at this
      rw [Nat.mul_one]
      exact this.symm
    rw [e, Nat.mul_add_div hp, Nat.div_eq_of_lt h]
    simp
theorem inS_or {a b k : Nat} : inS (a ||| b) k = (inS a k || inS b k) := by
  have e : ∀ x : Nat, inS x k = x.testBit k := fun x => by
    unfold inS
    rw [Nat.testBit_eq_decide_div_mod_eq]
  rw [e, e, e, Nat.testBit_or]
theorem inS_pow {j k : Nat} : inS (2 ^ j) k = decide (j = k) := by
  have e : ∀ x : Nat, inS x k = x.testBit k := fun x => by
    unfold inS
    rw [Nat.testBit_eq_decide_div_mod_eq]
  rw [e, Nat.testBit_two_pow]
theorem inS_0 {k : Nat} : inS 0 k = false := by simp [inS]
theorem inS_setB {B : Nat → Bool} : ∀ n k : Nat, inS (setB B n) k = (decide (k < n) && B k) := by
  intro n
  induction n with
  | zero => intro k; simp [setB, inS_0]
  | succ n ih =>
    intro k
    unfold setB
    rw [inS_or, ih]
    by_cases h : B n = true
    · rw [if_pos h, inS_pow]
      by_cases q : n = k
      · subst q; simp [h]
      · by_cases w : k < n
        · simp [w, q, show k < n + 1 by omega]
        · simp [w, q, show ¬ k < n + 1 by omega]
    · rw [if_neg h, inS_0]
      by_cases q : n = k
      · subst q; simp [h]
      · by_cases w : k < n
        · simp [w, show k < n + 1 by omega]
        · simp [w, show ¬ k < n + 1 by omega]
