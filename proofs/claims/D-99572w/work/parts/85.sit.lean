set_option maxRecDepth 100000
/-! A SITTING -/
def sitF (F : Nat → Nat) (p : Nat) : Nat → Nat := upN (upN (upN F 6 (min 9 (F 6 + 1))) 7 (F 7 + 1)) (76 + 5 * p) (F (76 + 5 * p) + 1)
theorem upN_comm {F : Nat → Nat} {i j v w : Nat} (h : i ≠ j) : upN (upN F i v) j w = upN (upN F j w) i v := by
  funext k
  unfold upN
  by_cases h1 : k = i <;> by_cases h2 : k = j <;> simp [h1, h2]
  · omega
  · intro q; exact absurd q h
  · intro q; exact absurd q.symm h
theorem CW_sI {S : tS} {c a k : Nat} {x : Int32} (h : CW S c) : CW (sI S a k x) c := CW_ro h rfl (fun _ => rfl)
/-- the component's world behind a sitting -/
def sitX (S : tS) (c p : Nat) (F : Nat → Nat) : tS := sI (sI (sI S c 6 (nI (min 9 (F 6 + 1)))) (c + 330) p (nI (F (76 + 5 * p) + 1))) c 7 (nI (F 7 + 1))
theorem Co_sits_ok {m c p : Nat} {F : Nat → Nat} {S : tS} {K : Int32 → tS → Prop} (hC : CR S c F) (hW : CW S c) (hV : V m F) (hp : p < 6) : Co_sits c (nI p) S K ↔ K (nI (shp F p (F 6))) (sitX S c p F) := by
  have h6 : F 6 ≤ 9 := hV.1.2.2.2.2.2.2.1
  have e6 := hC.1 6 (by omega)
  have e7 := hC.1 7 (by omega)
  have es := hC.2.2.2.2.2.2.1 p hp
  have n1 : ¬ c + 330 = c := by omega
  have n2 : ¬ c = c + 330 := by omega
  unfold Co_sits sitX
  rw [Co_showsNow_ok hC hW hV hp]
  simp (disch := omega) only [forall_eq, e6, nI_add, jmin_nI, vp_nI, cl_nI, gI_sI, n1, n2, if_false, es, if_true, Nat.reduceEqDiff, e7]
  simp [hp]
theorem sitX_CR {m c p : Nat} {F : Nat → Nat} {S : tS} (hC : CR S c F) (hW : CW S c) (hV : V m F) (hp : p < 6) (hc : c < 2000 ∨ c % 32 = 6) : CR (sitX S c p F) c (sitF F p) := by
  have h8 : F 2 ≤ 8 := hV.1.2.2.1
  have a1 := CR_w (a := c) (j := 6) (i := 6) (v := min 9 (F 6 + 1)) hC hW h8 (by omega) (by omega) (by omega) (by omega) (by omega) (.inl ⟨rfl, by omega, rfl⟩)
  have a2 := CR_w (a := c + 330) (j := p) (i := 76 + 5 * p) (v := F (76 + 5 * p) + 1) a1 (CW_sI hW) (by rw [upN_ne (by omega)]; exact h8) (by omega) (by omega) (by omega) (by omega) (by omega) (by omega)
  have a3 := CR_w (a := c) (j := 7) (i := 7) (v := F 7 + 1) a2 (CW_sI (CW_sI hW)) (by rw [upN_ne (by omega), upN_ne (by omega)]; exact h8) (by omega) (by omega) (by omega) (by omega) (by omega) (.inl ⟨rfl, by omega, rfl⟩)
  rw [upN_comm (by omega)] at a3
  exact a3
theorem sitF_V {m p : Nat} {F : Nat → Nat} (hV : V m F) (hp : p < 6) (hm : F 7 < m) : V m (sitF F p) := by
  have h1 := V_up (i := 6) (v := min 9 (F 6 + 1)) hV (.inl ⟨rfl, by omega⟩)
  obtain ⟨⟨a0, a1, a2, a3, a4, a5, a6, a7⟩, b1, b2, b3, b4, b5, b6⟩ := h1
  have e : ∀ k : Nat, k ≠ 7 → k ≠ 76 + 5 * p → sitF F p k = upN F 6 (min 9 (F 6 + 1)) k := fun k q1 q2 => by
    unfold sitF
    rw [upN_ne q2, upN_ne q1]
  have e7 : sitF F p 7 = F 7 + 1 := by
    unfold sitF
    rw [upN_ne (by omega), upN_eq]
  have w7 : upN F 6 (min 9 (F 6 + 1)) 7 = F 7 := upN_ne (by omega)
  unfold V
  rw [e7, e 0 (by omega) (by omega), e 1 (by omega) (by omega), e 2 (by omega) (by omega), e 3 (by omega) (by omega), e 4 (by omega) (by omega), e 5 (by omega) (by omega), e 6 (by omega) (by omega)]
  refine ⟨⟨a0, a1, a2, a3, a4, a5, a6, by omega⟩, fun k hk => ?_, fun r hr => ?_, fun q hq => ?_, fun r hr => ?_, fun r hr => ?_, fun w hw => ?_⟩
  · rw [e _ (by omega) (by omega)]; exact b1 k hk
  · have : r < 8 := by omega
    rw [e _ (by omega) (by omega), e _ (by omega) (by omega), e _ (by omega) (by omega), e _ (by omega) (by omega), e _ (by omega) (by omega), e _ (by omega) (by omega), e _ (by omega) (by omega)]
    exact b2 r hr
  · obtain ⟨c0, c1, c2, c3, c4⟩ := b3 q hq
    rw [e (72 + 5 * q) (by omega) (by omega), e (73 + 5 * q) (by omega) (by omega), e (74 + 5 * q) (by omega) (by omega), e (75 + 5 * q) (by omega) (by omega)]
    refine ⟨c0, c1, c2, c3, ?_⟩
    rw [w7] at c4
    rw [upN_ne (by omega)] at c4
    unfold sitF
    by_cases z : q = p
    · rw [z, upN_eq]
      rw [z] at c4
      omega
    · rw [upN_ne (by omega), upN_ne (by omega), upN_ne (by omega)]
      omega
  · rw [e _ (by omega) (by omega), e _ (by omega) (by omega)]; exact b4 r hr
  · rw [e _ (by omega) (by omega)]; exact b5 r hr
  · have : w < 10 := by omega
    rw [e _ (by omega) (by omega), e _ (by omega) (by omega)]; exact b6 w hw
/-- the twin's world behind a sitting -/
def sitM (S : tS) (p : Nat) : tS := sI (sI (sI S 48 6 (nI (min 9 (gn S 48 6 + 1)))) 48 7 (nI (gn S 48 7 + 1))) 48 (76 + 5 * p) (nI (gn S 48 (76 + 5 * p) + 1))
theorem sitM_gn {m p : Nat} {S : tS} (hV : V m (gn S 48)) (hp : p < 6) (hm : m < 1000000) : gn (sitM S p) 48 = sitF (gn S 48) p := by
  have h7 := hV.1.2.2.2.2.2.2.2
  have h4 := (hV.p hp).2.2.2.2
  unfold sitM sitF
  rw [gn_up (by omega), gn_up (by omega), gn_up (by omega)]
theorem M_sits_ok {m p : Nat} {S : tS} {K : Int32 → tS → Prop} (hV : V m (gn S 48)) (hp : p < 6) (hm : m < 1000000) : M_sits (nI p) S K ↔ K (oN (shp (gn S 48) p (gn S 48 6)) (gn S 48 1)) (sitM S p) := by
  have h6 : gn S 48 6 ≤ 9 := hV.1.2.2.2.2.2.2.1
  have h7 := hV.1.2.2.2.2.2.2.2
  have h4 := (hV.p hp).2.2.2.2
  have hx : 72 + 5 * p + 4 = 76 + 5 * p := by omega
  have hb : 76 + 5 * p < 3548 := by omega
  have g1 : ∀ x : Int32, gI (sI S 48 6 x) 48 7 = nI (gn S 48 7) := fun x => by rw [gI_sI, if_pos rfl, if_neg (by decide), gI48]
  have g2 : ∀ x y : Int32, gI (sI (sI S 48 6 x) 48 7 y) 48 (76 + 5 * p) = nI (gn S 48 (76 + 5 * p)) := fun x y => by rw [gI_sI, if_pos rfl, if_neg (by omega), gI_sI, if_pos rfl, if_neg (by omega), gI48]
  unfold M_sits M_personRow sitM
  rw [gI48, M_cueFor_ok hV hp (by omega), gI48]
  simp (disch := omega) only [forall_eq, nI_add, pk_mul, jmin_nI, hx, vp_nI, cl_nI, g1, g2, hb]
  simp
