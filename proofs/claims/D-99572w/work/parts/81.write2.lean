set_option maxRecDepth 100000
theorem upN_ne {F : Nat → Nat} {i v k : Nat} (h : k ≠ i) : upN F i v k = F k := if_neg h
theorem upN_eq {F : Nat → Nat} {i v : Nat} : upN F i v i = v := if_pos rfl
theorem V_up {m i v : Nat} {F : Nat → Nat} (h : V m F) (hv : (i = 6 ∧ v ≤ 9) ∨ (∃ k : Nat, k < 6 ∧ i = 10 + k ∧ v ≤ 2) ∨ (∃ p : Nat, p < 6 ∧ ((i = 72 + 5 * p ∧ v ≤ 99) ∨ (i = 73 + 5 * p ∧ v < 2 ^ F 0) ∨ (i = 74 + 5 * p ∧ v ≤ 2) ∨ (i = 75 + 5 * p ∧ v ≤ 1))) ∨ (∃ r : Nat, r < 6 ∧ i = 102 + 2 * r ∧ v ≤ 16)) : V m (upN F i v) := by
  obtain ⟨⟨a0, a1, a2, a3, a4, a5, a6, a7⟩, h1, h2, h3, h4, h5, h6⟩ := h
  have hi : i = 6 ∨ (10 ≤ i ∧ i < 16) ∨ (72 ≤ i ∧ i < 102 ∧ (i - 72) % 5 ≠ 4) ∨ (102 ≤ i ∧ i < 114 ∧ i % 2 = 0) := by
    rcases hv with ⟨q, _⟩ | ⟨k, k1, k2, _⟩ | ⟨p, p1, p2⟩ | ⟨r, r1, r2, _⟩
    · omega
    · omega
    · rcases p2 with ⟨q, _⟩ | ⟨q, _⟩ | ⟨q, _⟩ | ⟨q, _⟩ <;> omega
    · omega
  have e0 : upN F i v 0 = F 0 := upN_ne (by omega)
  have e1 : upN F i v 1 = F 1 := upN_ne (by omega)
  have e2 : upN F i v 2 = F 2 := upN_ne (by omega)
  have e3 : upN F i v 3 = F 3 := upN_ne (by omega)
  have e4 : upN F i v 4 = F 4 := upN_ne (by omega)
  have e5 : upN F i v 5 = F 5 := upN_ne (by omega)
  have e7 : upN F i v 7 = F 7 := upN_ne (by omega)
  unfold V
  rw [e0, e1, e2, e3, e4, e5, e7]
  refine ⟨⟨a0, a1, a2, a3, a4, a5, ?_, a7⟩, fun k hk => ?_, fun r hr => ?_, fun p hp => ?_, fun r hr => ?_, fun r hr => ?_, fun w hw => ?_⟩
  · by_cases q : 6 = i
    · subst q
      rw [upN_eq]
      rcases hv with ⟨_, q⟩ | ⟨k, k1, k2, _⟩ | ⟨p, p1, p2⟩ | ⟨r, r1, r2, _⟩
      · exact q
      · omega
      · rcases p2 with ⟨q, _⟩ | ⟨q, _⟩ | ⟨q, _⟩ | ⟨q, _⟩ <;> omega
      · omega
    · rw [upN_ne q]; exact a6
  · by_cases q : 10 + k = i
    · rw [q, upN_eq]
      rcases hv with ⟨q, _⟩ | ⟨k, k1, k2, k3⟩ | ⟨p, p1, p2⟩ | ⟨r, r1, r2, _⟩
      · omega
      · exact k3
      · rcases p2 with ⟨q, _⟩ | ⟨q, _⟩ | ⟨q, _⟩ | ⟨q, _⟩ <;> omega
      · omega
    · rw [upN_ne q]; exact h1 k hk
  · have : r < 8 := by omega
    rw [upN_ne (by omega), upN_ne (by omega), upN_ne (by omega), upN_ne (by omega), upN_ne (by omega), upN_ne (by omega), upN_ne (by omega)]
    exact h2 r hr
  · have := h3 p hp
    rw [upN_ne (k := 76 + 5 * p) (by omega)]
    obtain ⟨b0, b1, b2, b3, b4⟩ := this
    have key : ∀ (j : Nat) (P : Nat → Prop), P (F j) → (j = i → P v) → P (upN F i v j) := fun j P p1 p2 => by
      by_cases q : j = i
      · rw [q, upN_eq]; exact p2 q
      · rw [upN_ne q]; exact p1
    refine ⟨key _ (fun x => x ≤ 99) b0 (fun q => ?_), key _ (fun x => x < 2 ^ F 0) b1 (fun q => ?_), key _ (fun x => x ≤ 2) b2 (fun q => ?_), key _ (fun x => x ≤ 1) b3 (fun q => ?_), b4⟩
    all_goals
      rcases hv with ⟨z, _⟩ | ⟨k, k1, k2, k3⟩ | ⟨y, y1, y2⟩ | ⟨r, r1, r2, _⟩
      · omega
      · omega
      · rcases y2 with ⟨z, z2⟩ | ⟨z, z2⟩ | ⟨z, z2⟩ | ⟨z, z2⟩ <;> first | exact z2 | (exfalso; omega)
      · omega
  · rw [upN_ne (k := 103 + 2 * r) (by omega)]
    refine ⟨?_, (h4 r hr).2⟩
    by_cases q : 102 + 2 * r = i
    · rw [q, upN_eq]
      rcases hv with ⟨z, _⟩ | ⟨k, k1, k2, k3⟩ | ⟨y, y1, y2⟩ | ⟨r, r1, r2, z⟩
      · omega
      · omega
      · rcases y2 with ⟨z, z2⟩ | ⟨z, z2⟩ | ⟨z, z2⟩ | ⟨z, z2⟩ <;> omega
      · exact z
    · rw [upN_ne q]; exact (h4 r hr).1
  · rw [upN_ne (by omega)]; exact h5 r hr
  · rw [upN_ne (by omega), upN_ne (by omega)]; exact h6 w hw
/-- both sides have written one number of the court -/
theorem rel_w1 {S : tS} {a j i v : Nat} (hR : Rel S) (hv4 : v < 4294967296) (hv : (i = 6 ∧ v ≤ 9) ∨ (∃ k : Nat, k < 6 ∧ i = 10 + k ∧ v ≤ 2) ∨ (∃ p : Nat, p < 6 ∧ ((i = 72 + 5 * p ∧ v ≤ 99) ∨ (i = 73 + 5 * p ∧ v < 2 ^ gn S 48 0) ∨ (i = 74 + 5 * p ∧ v ≤ 2) ∨ (i = 75 + 5 * p ∧ v ≤ 1))) ∨ (∃ r : Nat, r < 6 ∧ i = 102 + 2 * r ∧ v ≤ 16))
    (hw : (a = 1222 ∧ j < 8 ∧ i = j) ∨ (a = 1222 + 170 ∧ j < 6 ∧ i = 10 + 1 * j) ∨ (a = 1222 + 202 ∧ j < 6 ∧ i = 72 + 5 * j) ∨ (a = 1222 + 234 ∧ j < 6 ∧ i = 73 + 5 * j) ∨ (a = 1222 + 266 ∧ j < 6 ∧ i = 74 + 5 * j) ∨ (a = 1222 + 298 ∧ j < 6 ∧ i = 75 + 5 * j) ∨ (a = 1222 + 330 ∧ j < 6 ∧ i = 76 + 5 * j) ∨ (a = 1222 + 362 ∧ j < 6 ∧ i = 102 + 2 * j) ∨ (a = 1222 + 394 ∧ j < 6 ∧ i = 103 + 2 * j)) : Rel (sI (sI (sI (sI S 1025 7 (nI 0)) a j (nI v)) 48 i (nI v)) 0 2 (nI 0)) := by
  have hi : i = 6 ∨ (10 ≤ i ∧ i < 16) ∨ (72 ≤ i ∧ i < 114) := by
    rcases hv with ⟨q, _⟩ | ⟨k, k1, k2, _⟩ | ⟨p, p1, p2⟩ | ⟨r, r1, r2, _⟩
    · omega
    · omega
    · rcases p2 with ⟨q, _⟩ | ⟨q, _⟩ | ⟨q, _⟩ | ⟨q, _⟩ <;> omega
    · omega
  have ha : 1222 ≤ a ∧ a < 1766 := by
    rcases hw with ⟨w, _⟩ | ⟨w, _⟩ | ⟨w, _⟩ | ⟨w, _⟩ | ⟨w, _⟩ | ⟨w, _⟩ | ⟨w, _⟩ | ⟨w, _⟩ | ⟨w, _⟩ <;> omega
  have eF : gn (sI (sI (sI (sI S 1025 7 (nI 0)) a j (nI v)) 48 i (nI v)) 0 2 (nI 0)) 48 = upN (gn S 48) i v := by
    rw [gn_ne _ (by decide), gn_up hv4, gn_ne _ (by omega), gn7]
  have hC : CR (sI (sI S 1025 7 (nI 0)) a j (nI v)) 1222 (upN (gn S 48) i v) := CR_w (hR.C7 _) (hR.W7 _) hR.V.1.2.2.1 (by omega) (by omega) (by omega) (by omega) (.inl (by omega)) hw
  have hW : CW (sI (sI S 1025 7 (nI 0)) a j (nI v)) 1222 := hR.W7 (nI 0)
  refine rel_w hR ((((AgW.rf.sI _ (.inl (by decide))).sI _ (.inr (.inr ha))).sI _ (.inr (.inl ⟨rfl, by omega, by omega⟩))).sI _ (.inl (by decide))) ?_ ?_ ?_ hW ⟨0, by omega, ?_, ?_⟩ (fun r => rfl)
  · rw [eF]; exact V_up hR.V hv
  · rw [eF]
    refine CR_c hC (by rw [upN_ne (by omega)]; exact hR.V.1.2.2.1) (fun x hx => ?_) (fun r y _ hy => ?_) (fun _ _ => rfl)
    · have := cRows_now hx
      refine ⟨fun q => ?_, fun _ => rfl, fun _ => rfl, rfl⟩
      rw [gI_sI, if_neg (by omega), gI_sI, if_neg (by omega)]
    · have := hW.2.2.2.2.2.2.2.2.2.2.2.2 r y hy
      refine ⟨fun q => ?_, fun _ => rfl, fun _ => rfl, rfl⟩
      rw [gI_sI, if_neg (by omega), gI_sI, if_neg (by omega)]
  · rw [eF]
    exact ⟨upN_ne (by omega), upN_ne (by omega), upN_ne (by omega), upN_ne (by omega)⟩
  · rw [gI_sI, if_pos rfl, if_pos rfl]
  · rw [gI_sI, if_neg (by decide), gI_sI, if_neg (by decide), gI_sI, if_neg (by omega), gI_sI, if_pos rfl, if_pos rfl]
/-- an op that may write one number of the court -/
theorem op_w1 {X M : tS → (Int32 → tS → Prop) → Prop} (h : ∀ S, Rel S → (∃ (r : Int32) (st : Nat), st ≤ 9 ∧ (∀ K : Int32 → tS → Prop, K r (sI S 1025 7 (nI st)) → X S K) ∧ (∀ K : Int32 → tS → Prop, K r (sI (sI S 1025 7 (nI st)) 0 2 (nI st)) → M (sI S 1025 7 (nI st)) K)) ∨ (∃ (r : Int32) (a j i v : Nat), Rel (sI (sI (sI (sI S 1025 7 (nI 0)) a j (nI v)) 48 i (nI v)) 0 2 (nI 0)) ∧ (∀ K : Int32 → tS → Prop, K r (sI (sI S 1025 7 (nI 0)) a j (nI v)) → X S K) ∧ (∀ K : Int32 → tS → Prop, K r (sI (sI (sI (sI S 1025 7 (nI 0)) a j (nI v)) 48 i (nI v)) 0 2 (nI 0)) → M (sI (sI S 1025 7 (nI 0)) a j (nI v)) K))) : OpI Rel X M := fun S hR => by
  rcases h S hR with ⟨r, st, h1, h2, h3⟩ | ⟨r, a, j, i, v, h1, h2, h3⟩
  · exact ⟨r, fun S1 => S1 = sI S 1025 7 (nI st), fun K hK => h2 K (hK _ rfl), fun S1 K e hK => by rw [e]; exact h3 K (hK _ (rel_st hR h1))⟩
  · exact ⟨r, fun S1 => S1 = sI (sI S 1025 7 (nI 0)) a j (nI v), fun K hK => h2 K (hK _ rfl), fun S1 K e hK => by rw [e]; exact h3 K (hK _ h1)⟩
