set_option maxRecDepth 100000
theorem V_m {m m' : Nat} {F : Nat → Nat} (h : V m F) (h7 : F 7 ≤ m') : V m' F := ⟨⟨h.1.1, h.1.2.1, h.1.2.2.1, h.1.2.2.2.1, h.1.2.2.2.2.1, h.1.2.2.2.2.2.1, h.1.2.2.2.2.2.2.1, h7⟩, h.2⟩
theorem sumN_c {f g : Nat → Nat} : ∀ n : Nat, (∀ k : Nat, k < n → f k = g k) → sumN f n = sumN g n := by
  intro n
  induction n with
  | zero => intro _; rfl
  | succ n ih =>
    intro h
    unfold sumN
    rw [ih (fun k hk => h k (by omega)), h n (by omega)]
theorem sumN_0 {f : Nat → Nat} : ∀ d n : Nat, (∀ k : Nat, n ≤ k → f k = 0) → sumN f (n + d) = sumN f n := by
  intro d
  induction d with
  | zero => intro n _; rfl
  | succ d ih =>
    intro n h
    show sumN f (n + d) + f (n + d) = _
    rw [ih n h, h (n + d) (by omega)]
    rfl
theorem bc_setB {B : Nat → Bool} {n : Nat} (hn : n ≤ 10) : bc (setB B n) = sumN (fun k => bN (B k)) n := by
  unfold bc
  have e : ∀ k : Nat, bN (inS (setB B n) k) = bN (decide (k < n) && B k) := fun k => by rw [inS_setB]
  rw [sumN_c 10 (fun k _ => e k)]
  obtain ⟨d, hd⟩ : ∃ d : Nat, 10 = n + d := ⟨10 - n, by omega⟩
  rw [hd, sumN_0 d n (fun k hk => by simp [show ¬ k < n by omega, bN])]
  exact sumN_c n (fun k hk => by simp [hk])
theorem terF_7 {F : Nat → Nat} : ∀ r : Nat, terF F r 7 = F 7 + sumN (fun p => bN (decide (F (74 + 5 * p) = 0))) r := by
  intro r
  induction r with
  | zero => rfl
  | succ r ih =>
    have st := terF_st (F := F) (p := r) r (Nat.le_refl _)
    have t2 : terF F (r + 1) = if terF F r (74 + 5 * r) = 0 then judF (terF F r) r else terF F r := rfl
    have t3 : sumN (fun p => bN (decide (F (74 + 5 * p) = 0))) (r + 1) = sumN (fun p => bN (decide (F (74 + 5 * p) = 0))) r + bN (decide (F (74 + 5 * r) = 0)) := rfl
    rw [t2, t3, st]
    by_cases z : F (74 + 5 * r) = 0
    · rw [if_pos z, judF_7, ih, decide_eq_true z]
      simp [bN]
      omega
    · rw [if_neg z, ih, decide_eq_false z]
      simp [bN]
theorem AgW_terX {S S1 : tS} (h : AgW S S1) (F : Nat → Nat) : ∀ r : Nat, AgW S (terX S1 1222 F r) := by
  intro r
  induction r with
  | zero => exact h
  | succ r ih =>
    have t1 : terX S1 1222 F (r + 1) = if terF F r (74 + 5 * r) = 0 then judX (terX S1 1222 F r) 1222 r (terF F r) else terX S1 1222 F r := rfl
    rw [t1]
    split
    · exact (ih.sitX _ _).sI _ (.inr (.inr ⟨by omega, by omega⟩))
    · exact ih
theorem AgW_terM {S S1 : tS} (h : AgW S S1) : ∀ r : Nat, r ≤ 6 → AgW S (terM S1 r) := by
  intro r
  induction r with
  | zero => intro _; exact h
  | succ r ih =>
    intro hr
    have t1 : terM S1 (r + 1) = if gn (terM S1 r) 48 (74 + 5 * r) = 0 then judM (terM S1 r) r else terM S1 r := rfl
    rw [t1]
    split
    · exact ((ih (by omega)).sitM (by omega)).sI _ (.inr (.inl ⟨rfl, by omega, by omega⟩))
    · exact ih (by omega)
theorem terX_gn {S : tS} {F : Nat → Nat} : ∀ r : Nat, gn (terX S 1222 F r) 48 = gn S 48 := by
  intro r
  induction r with
  | zero => rfl
  | succ r ih =>
    have t1 : terX S 1222 F (r + 1) = if terF F r (74 + 5 * r) = 0 then judX (terX S 1222 F r) 1222 r (terF F r) else terX S 1222 F r := rfl
    rw [t1]
    split
    · unfold judX
      rw [gn_ne _ (by decide), sitX_gn, ih]
    · exact ih
theorem CR_M {S : tS} {c m : Nat} {F : Nat → Nat} (hC : CR S c F) (hW : CW S c) (hV : V m F) (hc : 1222 ≤ c) : ∀ r : Nat, CR (terM S r) c F ∧ CW (terM S r) c := by
  intro r
  induction r with
  | zero => exact ⟨hC, hW⟩
  | succ r ih =>
    have t1 : terM S (r + 1) = if gn (terM S r) 48 (74 + 5 * r) = 0 then judM (terM S r) r else terM S r := rfl
    rw [t1]
    split
    · obtain ⟨a, b⟩ := ih
      have w1 := CW_sI (a := 48) (k := 6) (x := nI (min 9 (gn (terM S r) 48 6 + 1))) b
      have w2 := CW_sI (a := 48) (k := 7) (x := nI (gn (terM S r) 48 7 + 1)) w1
      have w3 := CW_sI (a := 48) (k := 76 + 5 * r) (x := nI (gn (terM S r) 48 (76 + 5 * r) + 1)) w2
      exact ⟨CR_sI (CR_sI (CR_sI (CR_sI a b hV (by omega) hc) w1 hV (by omega) hc) w2 hV (by omega) hc) w3 hV (by omega) hc, CW_sI w3⟩
    · exact ih
theorem terX_o {S : tS} {c : Nat} {F : Nat → Nat} {t k : Nat} (ht : t ≠ c ∧ t ≠ c + 330 ∧ t ≠ c + 266) : ∀ r : Nat, gI (terX S c F r) t k = gI S t k := by
  intro r
  induction r with
  | zero => rfl
  | succ r ih =>
    have t1 : terX S c F (r + 1) = if terF F r (74 + 5 * r) = 0 then judX (terX S c F r) c r (terF F r) else terX S c F r := rfl
    rw [t1]
    split
    · unfold judX sitX
      rw [gI_sI, if_neg ht.2.2, gI_sI, if_neg ht.1, gI_sI, if_neg ht.2.1, gI_sI, if_neg ht.1, ih]
    · exact ih
theorem terX_R {S : tS} {c : Nat} {F : Nat → Nat} : ∀ r : Nat, gR (terX S c F r) = gR S := by
  intro r
  induction r with
  | zero => rfl
  | succ r ih =>
    have t1 : terX S c F (r + 1) = if terF F r (74 + 5 * r) = 0 then judX (terX S c F r) c r (terF F r) else terX S c F r := rfl
    rw [t1]
    split
    · exact ih
    · exact ih
theorem terM_R {S : tS} : ∀ r : Nat, gR (terM S r) = gR S := by
  intro r
  induction r with
  | zero => rfl
  | succ r ih =>
    have t1 : terM S (r + 1) = if gn (terM S r) 48 (74 + 5 * r) = 0 then judM (terM S r) r else terM S r := rfl
    rw [t1]
    split
    · exact ih
    · exact ih
theorem terM_o {S : tS} {t k : Nat} (ht : t ≠ 48) : ∀ r : Nat, gI (terM S r) t k = gI S t k := by
  intro r
  induction r with
  | zero => rfl
  | succ r ih =>
    have t1 : terM S (r + 1) = if gn (terM S r) 48 (74 + 5 * r) = 0 then judM (terM S r) r else terM S r := rfl
    rw [t1]
    split
    · unfold judM sitM
      rw [gI_sI, if_neg ht, gI_sI, if_neg ht, gI_sI, if_neg ht, gI_sI, if_neg ht, ih]
    · exact ih
