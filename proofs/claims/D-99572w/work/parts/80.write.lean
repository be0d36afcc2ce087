set_option maxRecDepth 100000
/-! OPS THAT WRITE ONE NUMBER -/
/-- one number of the slot -/
def upN (F : Nat → Nat) (k v : Nat) : Nat → Nat := fun i => if i = k then v else F i
theorem cArr_w {S : tS} {a n b st j v : Nat} {F : Nat → Nat} (h : cArr S a n b st F) (hj : j < n) (hst : 0 < st) : ∀ k : Nat, k < n → gI (sI S a j (nI v)) a k = nI (upN F (b + st * j) v (b + st * k)) := fun k hk => by
  unfold upN
  rw [gI_sI, if_pos rfl]
  by_cases e : k = j
  · rw [if_pos e, if_pos (by rw [e])]
  · rw [if_neg e, if_neg (by
      intro q
      have : st * k = st * j := by omega
      exact e (Nat.eq_of_mul_eq_mul_left hst this))]
    exact h k hk
theorem gn_up {S : tS} {k v : Nat} (hv : v < 4294967296) : gn (sI S 48 k (nI v)) 48 = upN (gn S 48) k v := by
  funext i
  rw [gn_sI hv, if_pos rfl]
  rfl
theorem gn_ne {S : tS} {t k : Nat} (x : Int32) (h : t ≠ 48) : gn (sI S t k x) 48 = gn S 48 := by
  funext i
  exact gn_c (by rw [gI_sI, if_neg (fun q => h q.symm)])
/-- of a court's rows, one is written at j as the slot is at i -/
theorem CR_w {S : tS} {c i : Nat} {v : Nat} {F : Nat → Nat} {a j : Nat} (hC : CR S c F) (hW : CW S c) (h8 : F 2 ≤ 8) (h2 : i ≠ 2) (hi : i < 134) (hn : i < 8 ∨ 10 ≤ i) (hr : i < 16 ∨ 72 ≤ i) (hac : a < 3200 ∨ a % 32 ≠ 7)
    (hw : (a = c ∧ j < 8 ∧ i = j) ∨ (a = c + 170 ∧ j < 6 ∧ i = 10 + 1 * j) ∨ (a = c + 202 ∧ j < 6 ∧ i = 72 + 5 * j) ∨ (a = c + 234 ∧ j < 6 ∧ i = 73 + 5 * j) ∨ (a = c + 266 ∧ j < 6 ∧ i = 74 + 5 * j) ∨ (a = c + 298 ∧ j < 6 ∧ i = 75 + 5 * j) ∨ (a = c + 330 ∧ j < 6 ∧ i = 76 + 5 * j) ∨ (a = c + 362 ∧ j < 6 ∧ i = 102 + 2 * j) ∨ (a = c + 394 ∧ j < 6 ∧ i = 103 + 2 * j)) : CR (sI S a j (nI v)) c (upN F i v) := by
  have g : ∀ (a' n b st : Nat), a' ≠ a → cArr S a' n b st F → (∀ k : Nat, k < n → b + st * k ≠ i) → cArr (sI S a j (nI v)) a' n b st (upN F i v) := fun a' n b st h1 h2 h3 k hk => by
    rw [gI_sI, if_neg h1]
    unfold upN
    rw [if_neg (h3 k hk)]
    exact h2 k hk
  have gw : ∀ (n b st : Nat), cArr S a n b st F → j < n → 0 < st → i = b + st * j → cArr (sI S a j (nI v)) a n b st (upN F i v) := fun n b st h1 h2 h3 h4 => by
    rw [h4]
    exact cArr_w h1 h2 h3
  obtain ⟨h0, h1, h2', h3, h4, h5, h6, h7, h8', h9, h10, h11⟩ := hC
  have hrule : ∀ r : Nat, r < upN F i v 2 → ∃ t, gR (sI S a j (nI v)) (c + 497) r = some t ∧ ∀ q : Nat, q < 7 → gI (sI S a j (nI v)) t q = nI (upN F i v (16 + 7 * r + q)) := fun r hr2 => by
    have e2 : upN F i v 2 = F 2 := if_neg (fun q => h2 q.symm)
    rw [e2] at hr2
    obtain ⟨t, t1, t2⟩ := h11 r hr2
    have t3 := hW.2.2.2.2.2.2.2.2.2.2.2.2 r t t1
    refine ⟨t, t1, fun q hq => ?_⟩
    rw [gI_sI, if_neg (by omega)]
    unfold upN
    rw [if_neg (by omega)]
    exact t2 q hq
  rcases hw with ⟨w1, w2, w3⟩ | ⟨w1, w2, w3⟩ | ⟨w1, w2, w3⟩ | ⟨w1, w2, w3⟩ | ⟨w1, w2, w3⟩ | ⟨w1, w2, w3⟩ | ⟨w1, w2, w3⟩ | ⟨w1, w2, w3⟩ | ⟨w1, w2, w3⟩
  · refine ⟨fun q hq => ?_, g _ _ _ _ (by omega) h1 (by omega), g _ _ _ _ (by omega) h2' (by omega), g _ _ _ _ (by omega) h3 (by omega), g _ _ _ _ (by omega) h4 (by omega), g _ _ _ _ (by omega) h5 (by omega), g _ _ _ _ (by omega) h6 (by omega), g _ _ _ _ (by omega) h7 (by omega), g _ _ _ _ (by omega) h8' (by omega), g _ _ _ _ (by omega) h9 (by omega), g _ _ _ _ (by omega) h10 (by omega), hrule⟩
    rw [gI_sI, if_pos w1.symm]
    unfold upN
    by_cases e : q = j
    · rw [if_pos e, if_pos (by omega)]
    · rw [if_neg e, if_neg (by omega)]; exact h0 q hq
  all_goals
    subst w1
    refine ⟨fun q hq => ?_, ?_, ?_, ?_, ?_, ?_, ?_, ?_, ?_, ?_, ?_, hrule⟩
    · rw [gI_sI, if_neg (by omega)]
      unfold upN
      rw [if_neg (by omega)]
      exact h0 q hq
    · first | exact gw _ _ _ h1 (by omega) (by omega) w3 | exact g _ _ _ _ (by omega) h1 (by omega)
    · first | exact gw _ _ _ h2' (by omega) (by omega) w3 | exact g _ _ _ _ (by omega) h2' (by omega)
    · first | exact gw _ _ _ h3 (by omega) (by omega) w3 | exact g _ _ _ _ (by omega) h3 (by omega)
    · first | exact gw _ _ _ h4 (by omega) (by omega) w3 | exact g _ _ _ _ (by omega) h4 (by omega)
    · first | exact gw _ _ _ h5 (by omega) (by omega) w3 | exact g _ _ _ _ (by omega) h5 (by omega)
    · first | exact gw _ _ _ h6 (by omega) (by omega) w3 | exact g _ _ _ _ (by omega) h6 (by omega)
    · first | exact gw _ _ _ h7 (by omega) (by omega) w3 | exact g _ _ _ _ (by omega) h7 (by omega)
    · first | exact gw _ _ _ h8' (by omega) (by omega) w3 | exact g _ _ _ _ (by omega) h8' (by omega)
    · first | exact gw _ _ _ h9 (by omega) (by omega) w3 | exact g _ _ _ _ (by omega) h9 (by omega)
    · first | exact gw _ _ _ h10 (by omega) (by omega) w3 | exact g _ _ _ _ (by omega) h10 (by omega)
