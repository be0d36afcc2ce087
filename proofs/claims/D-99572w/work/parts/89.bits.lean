set_option maxRecDepth 100000
/-! HOW MANY ARE IN A SET -/
def bc (a : Nat) : Nat := sumN (fun k => bN (inS a k)) 10
theorem bc_step : ∀ a, a < 1024 → a ≠ 0 → bc (a &&& (a - 1)) + 1 = bc a ∧ a &&& (a - 1) < 1024 := by decide +kernel
theorem bc_lt : ∀ a, a < 1024 → bc a < 11 := by decide +kernel
theorem bc_0 : ∀ a, a < 1024 → (bc a = 0 ↔ a = 0) := by decide +kernel
def bcE (a0 : Int32) : Int32 :=
  let x1 := a0 - (((a0.toUInt32 >>> ((nI 1).toUInt32 &&& Int32.toUInt32 31)).toInt32) &&& (nI 1431655765))
  let x2 := (x1 &&& (nI 858993459)) + (((x1.toUInt32 >>> ((nI 2).toUInt32 &&& Int32.toUInt32 31)).toInt32) &&& (nI 858993459))
  let x3 := (x2 + ((x2.toUInt32 >>> ((nI 4).toUInt32 &&& Int32.toUInt32 31)).toInt32)) &&& (nI 252645135)
  let x4 := x3 + ((x3.toUInt32 >>> ((nI 8).toUInt32 &&& Int32.toUInt32 31)).toInt32)
  let x5 := x4 + ((x4.toUInt32 >>> ((nI 16).toUInt32 &&& Int32.toUInt32 31)).toInt32)
  x5 &&& (nI 63)
theorem bcE_ok : ∀ a, a < 1024 → bcE (nI a) = nI (bc a) := by decide +kernel
theorem In_bitCount_ok {a : Nat} {S : tS} {K : Int32 → tS → Prop} (ha : a < 1024) : In_bitCount (nI a) S K ↔ K (nI (bc a)) S := by
  rw [← bcE_ok a ha]
  unfold In_bitCount bcE
  simp only [forall_eq]
theorem M_bits_ok {a : Nat} {S : tS} {K : Int32 → tS → Prop} (ha : a < 1024) : M_bits (nI a) S K ↔ K (nI (bc a)) S := by
  have st : ∀ (n a c : Nat), a < 1024 → (M_bits_l4 (nI 0) K (n + 1) (nI c) (nI a) S ↔ if a = 0 then K (nI c) S else M_bits_l4 (nI 0) K n (nI (c + 1)) (nI (a &&& (a - 1))) S) := fun n a c h => by
    rw [M_bits_l4, eq_nI (by omega) (by omega)]
    by_cases z : a = 0
    · simp [z]
    · simp only [z, false_implies, not_false_eq_true, true_implies, true_and, forall_eq, nI_add, if_false]
      rw [pk_sub (by omega), and_nI]
  have any : ∀ a0 n x y, M_bits_l4 a0 K n x y S ↔ M_bits_l4 (nI 0) K n x y S := by
    intro a0 n
    induction n with
    | zero => intro x y; exact Iff.rfl
    | succ n ih =>
      intro x y
      rw [M_bits_l4, M_bits_l4]
      simp only [forall_eq, ih]
  have f : ∀ n a c, a < 1024 → M_bits_l4 (nI 0) K n (nI c) (nI a) S → K (nI (c + bc a)) S := by
    intro n
    induction n with
    | zero => intro a c _ h; exact absurd h (by rw [M_bits_l4]; exact id)
    | succ n ih =>
      intro a c h1 h2
      rw [st n a c h1] at h2
      by_cases z : a = 0
      · rw [if_pos z] at h2
        subst z
        exact h2
      · rw [if_neg z] at h2
        obtain ⟨b1, b2⟩ := bc_step a h1 z
        have := ih _ _ b2 h2
        rw [show c + 1 + bc (a &&& (a - 1)) = c + bc a by omega] at this
        exact this
  have g : ∀ d a c, a < 1024 → bc a ≤ d → K (nI (c + bc a)) S → M_bits_l4 (nI 0) K (d + 1) (nI c) (nI a) S := by
    intro d
    induction d with
    | zero =>
      intro a c h1 h2 h3
      have z : a = 0 := (bc_0 a h1).mp (by omega)
      rw [st 0 a c h1, if_pos z]
      subst z
      exact h3
    | succ d ih =>
      intro a c h1 h2 h3
      rw [st (d + 1) a c h1]
      by_cases z : a = 0
      · rw [if_pos z]
        subst z
        exact h3
      · rw [if_neg z]
        obtain ⟨b1, b2⟩ := bc_step a h1 z
        refine ih _ _ b2 (by omega) ?_
        rw [show c + 1 + bc (a &&& (a - 1)) = c + bc a by omega]
        exact h3
  unfold M_bits
  simp only [any]
  constructor
  · rintro ⟨k, h⟩
    have := f k a 0 ha h
    rw [Nat.zero_add] at this
    exact this
  · intro h
    exact ⟨bc a + 1, g (bc a) a 0 ha (Nat.le_refl _) (by rw [Nat.zero_add]; exact h)⟩
