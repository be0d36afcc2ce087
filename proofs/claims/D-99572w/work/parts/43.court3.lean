set_option maxRecDepth 100000
/-- a Court made in a run, under the tag c -/
def mkC (S : tS) (c : Nat) : tS := sR (sR (sR (sR (mk (mk (mk (mk (mk (mk (mk (mk (mk (mk (mk (mk (mk (mk (mk (mk S c 1) (c + 43) 6) (c + 75) 7) (c + 107) 7) (c + 139) 7) (c + 170) 7) (c + 202) 7) (c + 234) 7) (c + 266) 7) (c + 298) 7) (c + 330) 7) (c + 362) 7) (c + 394) 7) (c + 426) 11) (c + 458) 11) (c + 497) 9) c 8 (some (c + 43))) c 9 (some (c + 75))) c 10 (some (c + 107))) c 11 (some (c + 139))
/-- its own tag and its arrays' -/
def cTags (c : Nat) : List Nat := [c, c + 43, c + 75, c + 107, c + 139, c + 170, c + 202, c + 234, c + 266, c + 298, c + 330, c + 362, c + 394, c + 426, c + 458, c + 497]
/-- a House with its Court -/
def mkH (S : tS) (h : Nat) : tS := mkC (mk S h 1) (h + 33)
theorem mkC_other (S : tS) (c a : Nat) (h : a ∉ cTags c) : (∀ j, gI (mkC S c) a j = gI S a j) ∧ (∀ j, gL (mkC S c) a j = gL S a j) ∧ (∀ j, gR (mkC S c) a j = gR S a j) ∧ gN (mkC S c) a = gN S a := by
  unfold mkC
  simp only [cTags, List.mem_cons, List.not_mem_nil, or_false, not_or] at h
  refine ⟨fun j => ?_, fun j => ?_, fun j => ?_, ?_⟩ <;> simp only [gI_sR, gL_sR, gR_sR, gN_sR, gI_mk, gL_mk, gR_mk, gN_mk, h, if_false]
theorem mkC_gN (S : tS) (c : Nat) : gN (mkC S c) c = 1 ∧ gN (mkC S c) (c + 43) = 6 ∧ gN (mkC S c) (c + 75) = 7 ∧ gN (mkC S c) (c + 107) = 7 ∧ gN (mkC S c) (c + 139) = 7 ∧ gN (mkC S c) (c + 170) = 7 ∧ gN (mkC S c) (c + 202) = 7 ∧ gN (mkC S c) (c + 234) = 7 ∧ gN (mkC S c) (c + 266) = 7 ∧ gN (mkC S c) (c + 298) = 7 ∧ gN (mkC S c) (c + 330) = 7 ∧ gN (mkC S c) (c + 362) = 7 ∧ gN (mkC S c) (c + 394) = 7 ∧ gN (mkC S c) (c + 426) = 11 ∧ gN (mkC S c) (c + 458) = 11 ∧ gN (mkC S c) (c + 497) = 9 := by
  unfold mkC
  refine ⟨?_, ?_, ?_, ?_, ?_, ?_, ?_, ?_, ?_, ?_, ?_, ?_, ?_, ?_, ?_, ?_⟩ <;> simp [gN_sR, gN_mk]
theorem mkC_gI (S : tS) (c a j : Nat) (h : a ∈ cTags c) : gI (mkC S c) a j = 0 := by
  unfold mkC
  simp only [cTags, List.mem_cons, List.not_mem_nil, or_false] at h
  simp only [gI_sR, gI_mk]
  rcases h with rfl | rfl | rfl | rfl | rfl | rfl | rfl | rfl | rfl | rfl | rfl | rfl | rfl | rfl | rfl | rfl <;> simp
theorem mkC_gL (S : tS) (c a j : Nat) (h : a ∈ cTags c) : gL (mkC S c) a j = 0 := by
  unfold mkC
  simp only [cTags, List.mem_cons, List.not_mem_nil, or_false] at h
  simp only [gL_sR, gL_mk]
  rcases h with rfl | rfl | rfl | rfl | rfl | rfl | rfl | rfl | rfl | rfl | rfl | rfl | rfl | rfl | rfl | rfl <;> simp
theorem mkC_gRc (S : tS) (c j : Nat) : gR (mkC S c) c j = if j = 11 then some (c + 139) else if j = 10 then some (c + 107) else if j = 9 then some (c + 75) else if j = 8 then some (c + 43) else none := by
  unfold mkC
  simp [gR_sR, gR_mk]
theorem mkC_gR (S : tS) (c a j : Nat) (h : a ∈ cTags c) (hc : a ≠ c) : gR (mkC S c) a j = none := by
  unfold mkC
  simp only [cTags, List.mem_cons, List.not_mem_nil, or_false] at h
  simp only [gR_sR, gR_mk, if_neg hc]
  rcases h with rfl | rfl | rfl | rfl | rfl | rfl | rfl | rfl | rfl | rfl | rfl | rfl | rfl | rfl | rfl | rfl <;> simp_all
theorem cTags_kind {c a : Nat} (hc : c % 32 = 6) (h : a ∈ cTags c) : a = c ∨ a % 32 = 16 ∨ a % 32 = 17 ∨ a % 32 = 23 := by
  simp only [cTags, List.mem_cons, List.not_mem_nil, or_false] at h
  omega
theorem cTags_nodup (c : Nat) : (cTags c).Nodup := by
  simp [cTags]
theorem mkC_wf {S : tS} {c : Nat} (h : tWf (gN S)) (hc : c % 32 = 6) (h3 : 3200 ≤ c) (hf : ∀ a ∈ cTags c, gN S a = 0) : tExt (gN S) (gN (mkC S c)) ∧ tWf (gN (mkC S c)) := by
  have hx : tExt (gN S) (gN (mkC S c)) := fun u hu => (mkC_other S c u (fun q => hu (hf u q))).2.2.2
  refine ⟨hx, ?_⟩
  have k : ∀ u n, n ≠ 0 → gN S u = n → gN (mkC S c) u = n := fun u n hz e => (hx u (by rw [e]; exact hz)).trans e
  have b : ∀ u, gN (mkC S c) u ≠ 0 → (u = 0 ∨ u = 1025 ∨ u % 32 = 5 ∨ u % 32 = 6) → u ≠ c → gN S u ≠ 0 := fun u h1 h2 h9 => by
    by_cases q : u ∈ cTags c
    · have := cTags_kind hc q
      have hge : u ∈ cTags c → c ≤ u := fun q => by simp only [cTags, List.mem_cons, List.not_mem_nil, or_false] at q; omega
      have := hge q
      omega
    · rw [(mkC_other S c u q).2.2.2] at h1; exact h1
  refine ⟨fun h0 => ?_, fun h0 => ?_, fun x hx h0 => ?_, fun x hx h0 => ?_⟩
  · have g := h.1 (b 0 h0 (Or.inl rfl) (by omega))
    repeat' apply And.intro
    all_goals (apply k _ _ (by decide); first | exact g.1 | simp only [g])
  · have g := h.2.1 (b 1025 h0 (Or.inr (Or.inl rfl)) (by omega))
    repeat' apply And.intro
    all_goals (apply k _ _ (by decide); first | exact g.1 | simp only [g])
  · exact k _ _ (by decide) (h.2.2.1 x hx (b x h0 (Or.inr (Or.inr (Or.inl hx))) (by omega)))
  · by_cases q : x = c
    · subst q
      have g := mkC_gN S x
      exact ⟨g.2.2.2.2.2.1, g.2.2.2.2.2.2⟩
    · have g := h.2.2.2 x hx (b x h0 (Or.inr (Or.inr (Or.inr hx))) q)
      repeat' apply And.intro
      all_goals (apply k _ _ (by decide); first | exact g.1 | simp only [g])
