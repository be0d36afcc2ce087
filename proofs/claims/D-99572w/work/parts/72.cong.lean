set_option maxRecDepth 100000
/-! the relation moves along with what it reads -/
/-- S and S' are alike at t -/
def AgT (S S' : tS) (t : Nat) : Prop := (∀ k : Nat, gI S' t k = gI S t k) ∧ (∀ k : Nat, gL S' t k = gL S t k) ∧ (∀ k : Nat, gR S' t k = gR S t k) ∧ gN S' t = gN S t
theorem V_c {m : Nat} {F F' : Nat → Nat} (h : V m F) (e : ∀ k : Nat, k < 134 → F' k = F k) : V m F' := by
  obtain ⟨h0, h1, h2, h3, h4, h5, h6⟩ := h
  have e0 := e 0 (by omega)
  have e1 := e 1 (by omega)
  have e2 := e 2 (by omega)
  have e3 := e 3 (by omega)
  have e4 := e 4 (by omega)
  have e5 := e 5 (by omega)
  have e6 := e 6 (by omega)
  have e7 := e 7 (by omega)
  unfold V
  rw [e0, e1, e2, e3, e4, e5, e6, e7]
  refine ⟨h0, fun k hk => ?_, fun r hr => ?_, fun p hp => ?_, fun r hr => ?_, fun r hr => ?_, fun w hw => ?_⟩
  · rw [e (10 + k) (by omega)]; exact h1 k hk
  · rw [e (16 + 7 * r) (by omega), e (17 + 7 * r) (by omega), e (18 + 7 * r) (by omega), e (19 + 7 * r) (by omega), e (20 + 7 * r) (by omega), e (21 + 7 * r) (by omega), e (22 + 7 * r) (by omega)]
    exact h2 r hr
  · rw [e (72 + 5 * p) (by omega), e (73 + 5 * p) (by omega), e (74 + 5 * p) (by omega), e (75 + 5 * p) (by omega), e (76 + 5 * p) (by omega)]
    exact h3 p hp
  · rw [e (102 + 2 * r) (by omega), e (103 + 2 * r) (by omega)]; exact h4 r hr
  · rw [e (103 + 2 * r) (by omega)]; exact h5 r hr
  · rw [e (114 + 2 * w) (by omega), e (115 + 2 * w) (by omega)]; exact h6 w hw
theorem cArr_c {S S' : tS} {a n b st : Nat} {F F' : Nat → Nat} (h : cArr S a n b st F) (hA : AgT S S' a) (e : ∀ k : Nat, k < n → F' (b + st * k) = F (b + st * k)) : cArr S' a n b st F' := fun k hk => by
  rw [hA.1 k, e k hk]
  exact h k hk
/-- the rows of a Court -/
def cRows (c : Nat) : List Nat := [c, c + 170, c + 202, c + 234, c + 266, c + 298, c + 330, c + 362, c + 394, c + 426, c + 458, c + 497]
theorem CR_c {S S' : tS} {c : Nat} {F F' : Nat → Nat} (h : CR S c F) (h8 : F 2 ≤ 8) (hA : ∀ a ∈ cRows c, AgT S S' a) (hr : ∀ r y : Nat, r < F 2 → gR S (c + 497) r = some y → AgT S S' y) (e : ∀ k : Nat, k < 134 → F' k = F k) : CR S' c F' := by
  obtain ⟨h0, h1, h2, h3, h4, h5, h6, h7, h8', h9, h10, h11⟩ := h
  refine ⟨fun j hj => ?_, cArr_c h1 (hA _ (by simp [cRows])) (fun k hk => e _ (by omega)), cArr_c h2 (hA _ (by simp [cRows])) (fun k hk => e _ (by omega)), cArr_c h3 (hA _ (by simp [cRows])) (fun k hk => e _ (by omega)), cArr_c h4 (hA _ (by simp [cRows])) (fun k hk => e _ (by omega)), cArr_c h5 (hA _ (by simp [cRows])) (fun k hk => e _ (by omega)), cArr_c h6 (hA _ (by simp [cRows])) (fun k hk => e _ (by omega)), cArr_c h7 (hA _ (by simp [cRows])) (fun k hk => e _ (by omega)), cArr_c h8' (hA _ (by simp [cRows])) (fun k hk => e _ (by omega)), cArr_c h9 (hA _ (by simp [cRows])) (fun k hk => e _ (by omega)), cArr_c h10 (hA _ (by simp [cRows])) (fun k hk => e _ (by omega)), fun r hr2 => ?_⟩
  · rw [(hA c (by simp [cRows])).1 j, e j (by omega)]; exact h0 j hj
  · rw [e 2 (by omega)] at hr2
    obtain ⟨t, t1, t2⟩ := h11 r hr2
    refine ⟨t, by rw [(hA (c + 497) (by simp [cRows])).2.2.1 r]; exact t1, fun j hj => ?_⟩
    rw [(hr r t hr2 t1).1 j, e _ (by omega)]
    exact t2 j hj
theorem CW_c {S S' : tS} {c : Nat} (h : CW S c) (hA : ∀ a ∈ cRows c, AgT S S' a) (hr : ∀ r y : Nat, gR S (c + 497) r = some y → gN S' y = gN S y) : CW S' c := by
  unfold CW at h ⊢
  rw [(hA c (by simp [cRows])).2.2.2, (hA (c + 170) (by simp [cRows])).2.2.2, (hA (c + 202) (by simp [cRows])).2.2.2, (hA (c + 234) (by simp [cRows])).2.2.2, (hA (c + 266) (by simp [cRows])).2.2.2, (hA (c + 298) (by simp [cRows])).2.2.2, (hA (c + 330) (by simp [cRows])).2.2.2, (hA (c + 362) (by simp [cRows])).2.2.2, (hA (c + 394) (by simp [cRows])).2.2.2, (hA (c + 426) (by simp [cRows])).2.2.2, (hA (c + 458) (by simp [cRows])).2.2.2, (hA (c + 497) (by simp [cRows])).2.2.2]
  obtain ⟨g0, g1, g2, g3, g4, g5, g6, g7, g8, g9, g10, g11, g12⟩ := h
  refine ⟨g0, g1, g2, g3, g4, g5, g6, g7, g8, g9, g10, g11, fun r y hy => ?_⟩
  rw [(hA (c + 497) (by simp [cRows])).2.2.1 r] at hy
  rw [hr r y hy]
  exact g12 r y hy
theorem nArr_c {o o' : Nat → Nat} {S S' : tS} {c j n m : Nat} {N N' : Nat → Int64} (h : nArr o S c j n m N) (hmn : m ≤ n) (hc : gR S' c j = gR S c j) (hA : ∀ t, 3200 ≤ t → gN S t ≠ 0 → o t = 10 → AgT S S' t ∧ o' t = 10) (e : ∀ k : Nat, k < n → N' k = N k) : nArr o' S' c j n m N' := by
  obtain ⟨t, t1, t2, t3, t4, t5, t6⟩ := h
  obtain ⟨a1, a2⟩ := hA t t4 (by omega) t5
  refine ⟨t, by rw [hc]; exact t1, by rw [a1.2.2.2]; exact t2, t3, t4, a2, fun k hk => ?_⟩
  rw [a1.2.1 k, e k (by omega)]
  exact t6 k hk
theorem NR_c {o o' : Nat → Nat} {S S' : tS} {c : Nat} {F F' : Nat → Nat} {N N' : Nat → Int64} (h : NR o S c F N) (hF : F 0 ≤ 5 ∧ F 1 ≤ 6 ∧ F 3 ≤ 6 ∧ F 4 ≤ 6) (hc : ∀ j, gR S' c j = gR S c j) (hA : ∀ t, 3200 ≤ t → gN S t ≠ 0 → o t = 10 → AgT S S' t ∧ o' t = 10) (e : F' 0 = F 0 ∧ F' 1 = F 1 ∧ F' 3 = F 3 ∧ F' 4 = F 4) (eN : ∀ k : Nat, k < 23 → N' k = N k) : NR o' S' c F' N' := by
  unfold NR at h ⊢
  rw [e.1, e.2.1, e.2.2.1, e.2.2.2]
  exact ⟨nArr_c h.1 hF.1 (hc 8) hA (fun k hk => eN _ (by omega)), nArr_c h.2.1 hF.2.1 (hc 9) hA (fun k hk => eN _ (by omega)), nArr_c h.2.2.1 hF.2.2.1 (hc 10) hA (fun k hk => eN _ (by omega)), nArr_c h.2.2.2 hF.2.2.2 (hc 11) hA (fun k hk => eN _ (by omega))⟩
/-- steps and their rows are alike -/
def AgSteps (S S' : tS) : Prop := ∀ t : Nat, gN S t ≠ 0 → (t % 32 = 8 ∨ t % 32 = 9 ∨ t % 32 = 10 ∨ t % 32 = 24) → AgT S S' t
theorem RowV_c {F F' : Nat → Nat} {i : Nat} (h : RowV F i) (hi : i < 60) (e : ∀ k : Nat, (k < 2 ∨ k = 3 ∨ k = 8 ∨ 134 ≤ k) → k < 502 → F' k = F k) : RowV F' i := by
  unfold RowV at h ⊢
  rw [e (134 + 6 * i) (by omega) (by omega), e (135 + 6 * i) (by omega) (by omega), e (136 + 6 * i) (by omega) (by omega), e (139 + 6 * i) (by omega) (by omega), e 0 (by omega) (by omega), e 1 (by omega) (by omega), e 3 (by omega) (by omega)]
  exact h
theorem SegR_c {S S' : tS} {F F' : Nat → Nat} (hA : AgSteps S S') (e : ∀ k : Nat, (k < 2 ∨ k = 3 ∨ k = 8 ∨ 134 ≤ k) → k < 502 → F' k = F k) : ∀ (n b k i j : Nat), gN S b ≠ 0 → (b % 32 = 9 ∨ b % 32 = 10) → j ≤ 60 → SegR S F n b k i j → SegR S' F' n b k i j := by
  intro n
  induction n with
  | zero => intro b k i j _ _ _ h; exact h
  | succ n ih =>
    intro b k i j hb hbk hj h
    have hAb := hA b hb (by omega)
    unfold SegR at h ⊢
    rcases h with ⟨h1, h2⟩ | ⟨h1, a, t, h2, h3, h4, h5, h6, h7, h8⟩
    · exact .inl ⟨h1, by rw [hAb.1 1]; exact h2⟩
    · have hAa := hA a (by omega) (by omega)
      refine .inr ⟨h1, a, t, by rw [hAb.2.2.1 0]; exact h2, by rw [hAa.2.2.2]; exact h3, h4, by rw [hAa.2.2.1 k]; exact h5, ?_, RowV_c h7 (by omega) e, ?_⟩
      · rcases h8 with ⟨x, _⟩ | ⟨_, _, _, _, _, _, x, _⟩
        · rw [(hA t h6 (by have := x.1; omega)).2.2.2]; exact h6
        · rw [(hA t h6 (by rcases x with x | x <;> have := x.1 <;> omega)).2.2.2]; exact h6
      · rcases h8 with ⟨x, y⟩ | ⟨q, q1, q2, q3, q4, q5, x, y, z⟩
        · have hAt := hA t h6 (by have := x.1; omega)
          refine .inl ⟨?_, ih b (k + 1) (i + 1) j hb hbk hj y⟩
          unfold ActR at x ⊢
          rw [hAt.1 0, hAt.1 1, hAt.1 2, e (134 + 6 * i) (by omega) (by omega), e (135 + 6 * i) (by omega) (by omega), e (136 + 6 * i) (by omega) (by omega)]
          exact x
        · have htk : t % 32 = 9 ∨ t % 32 = 10 := by rcases x with x | x <;> have := x.1 <;> omega
          have hAt := hA t h6 (by omega)
          refine .inr ⟨q, q1, q2, by rw [e _ (by omega) (by omega)]; exact q3, by rw [e _ (by omega) (by omega)]; exact q4, by rw [e _ (by omega) (by omega)]; exact q5, ?_, ih t 0 (i + 1) q h6 htk (by omega) y, ih b (k + 1) (q + 1) j hb hbk hj z⟩
          unfold LoopR WhenR at x ⊢
          rw [hAt.1 2, hAt.1 3, hAt.1 4, hAt.1 5, e (134 + 6 * i) (by omega) (by omega), e (135 + 6 * i) (by omega) (by omega), e (136 + 6 * i) (by omega) (by omega), e (139 + 6 * i) (by omega) (by omega)]
          exact x
theorem WR_c {S S' : tS} {r : Option Nat} {F F' : Nat → Nat} (hA : AgSteps S S') (e : ∀ k : Nat, (k < 2 ∨ k = 3 ∨ k = 8 ∨ 134 ≤ k) → k < 502 → F' k = F k) (h : WR S r F) : WR S' r F' := by
  unfold WR at h ⊢
  rw [e 8 (by omega) (by omega)]
  rcases h with h | ⟨t, h1, h2, h3, h4, h5, h6⟩
  · exact .inl h
  · have hAt := hA t h3 (by omega)
    exact .inr ⟨t, h1, h2, by rw [hAt.2.2.2]; exact h3, h4, by rw [hAt.1 2]; exact h5, SegR_c hA e 64 t 0 0 (F 8) h3 (by omega) h2 h6⟩
theorem HR_c {o o' : Nat → Nat} {S S' : tS} {h : Nat} {F F' : Nat → Nat} {N N' : Nat → Int64} (H : HR o S h F N) (hW : CW S (h + 33)) (hA : ∀ a ∈ cRows (h + 33), AgT S S' a) (hh : gR S' h 1 = gR S h 1) (hr : ∀ t : Nat, gN S t ≠ 0 → t % 32 = 7 → AgT S S' t) (hn : ∀ t, 3200 ≤ t → gN S t ≠ 0 → o t = 10 → AgT S S' t ∧ o' t = 10) (hs : AgSteps S S') (e : ∀ k : Nat, k < 502 → F' k = F k) (eN : ∀ k : Nat, k < 23 → N' k = N k) : HR o' S' h F' N' := by
  obtain ⟨H1, H2, H3, H4⟩ := H
  have b := H1.1
  refine ⟨V_c H1 (fun k hk => e k (by omega)), CR_c H2 b.2.2.1 hA (fun r y _ hy => hr y (hW.2.2.2.2.2.2.2.2.2.2.2.2 r y hy).1 (hW.2.2.2.2.2.2.2.2.2.2.2.2 r y hy).2.1) (fun k hk => e k (by omega)), NR_c H3 ⟨b.1, b.2.1, b.2.2.2.1, b.2.2.2.2.1⟩ (fun j => (hA (h + 33) (by simp [cRows])).2.2.1 j) hn ⟨e 0 (by omega), e 1 (by omega), e 3 (by omega), e 4 (by omega)⟩ eN, ?_⟩
  rw [hh]
  exact WR_c hs (fun k _ hk => e k hk) H4
theorem TR_c {o o' : Nat → Nat} {S S' : tS} {i : Nat} (h : TR o S i) (h1 : gR S' 1077 i = gR S 1077 i) (h2 : gI S' 144 i = gI S 144 i) (h3 : gI S' 112 i = gI S 112 i) (h4 : ∀ k : Nat, k < 60 → gL S' 177 (60 * i + k) = gL S 177 (60 * i + k)) (hA : ∀ t : Nat, 3200 ≤ t → gN S t ≠ 0 → (o t = 5 + i ∨ o t = 1 + i) → AgT S S' t ∧ o' t = o t) : TR o' S' i := by
  obtain ⟨x, x1, x2, x3, x4, x5, x6⟩ := h
  obtain ⟨a1, a2⟩ := hA x x4 x2 (.inl x5)
  refine ⟨x, by rw [h1]; exact x1, by rw [a1.2.2.2]; exact x2, x3, x4, by rw [a2]; exact x5, ?_⟩
  rw [a1.2.2.1 0, h2, h3]
  rcases x6 with y | ⟨u, so, n, y1, y2, y3, y4, y5, y6, y7, y8, y9, y10⟩
  · exact .inl y
  · obtain ⟨c1, c2⟩ := hA u y3 (by omega) (.inr y2)
    refine .inr ⟨u, so, n, y1, by rw [c2]; exact y2, y3, y4, y5, y6, y7, by rw [c1.2.2.2]; exact y8, y9, fun k hk => ?_⟩
    have := y10 k hk
    unfold trV at this ⊢
    rw [h4 k (by omega), c1.1 k, c1.2.1 k]
    exact this
theorem hRows_in {h a : Nat} (ha : a ∈ cRows (h + 33)) : a ∈ hTags h := by
  simp only [cRows, hTags, cTags, List.mem_cons, List.not_mem_nil, or_false] at ha ⊢
  omega
theorem MkR_c {o o' : Nat → Nat} {S S' : tS} {m i : Nat} (h : MkR o S m i) (h1 : gR S' 1750 i = gR S 1750 i) (e : ∀ k : Nat, k < 502 → gn S' 48 (502 * (i + 1) + k) = gn S 48 (502 * (i + 1) + k)) (eN : ∀ k : Nat, k < 23 → gL S' 81 (23 * (i + 1) + k) = gL S 81 (23 * (i + 1) + k)) (hr : ∀ t : Nat, gN S t ≠ 0 → t % 32 = 7 → AgT S S' t) (hn : ∀ t, 3200 ≤ t → gN S t ≠ 0 → o t = 10 → AgT S S' t ∧ o' t = 10) (hs : AgSteps S S') (hA : ∀ t : Nat, 3200 ≤ t → o t = 20 + i → AgT S S' t ∧ o' t = o t) : MkR o' S' m i := by
  unfold MkR at h ⊢
  rw [h1]
  rcases h with h | ⟨x, x1, x2, x3, x4, x5, x6, x7⟩
  · exact .inl h
  · have g : ∀ a ∈ hTags x, AgT S S' a ∧ o' a = o a := fun a ha => hA a (by have := hTags_ge ha; omega) (x5 a ha)
    have g1 : ∀ a ∈ cRows (x + 33), AgT S S' a := fun a ha => (g a (hRows_in ha)).1
    have gx := g x (by simp [hTags])
    refine .inr ⟨x, x1, by rw [gx.1.2.2.2]; exact x2, x3, x4, fun a ha => by rw [(g a ha).2]; exact x5 a ha, CW_c x6 g1 (fun r y hy => (hr y (x6.2.2.2.2.2.2.2.2.2.2.2.2 r y hy).1 (x6.2.2.2.2.2.2.2.2.2.2.2.2 r y hy).2.1).2.2.2), fun hm => ?_⟩
    exact HR_c (x7 hm) x6 g1 (gx.1.2.2.1 1) hr hn hs e eN
theorem gn_c {S S' : tS} {t k : Nat} (h : gI S' t k = gI S t k) : gn S' t k = gn S t k := by unfold gn; rw [h]
theorem cRows_now {a : Nat} (ha : a ∈ cRows 1222) : 1222 ≤ a ∧ a < 1766 := by
  simp only [cRows, List.mem_cons, List.not_mem_nil, or_false] at ha
  omega
theorem Agree.at {S S' : tS} (h : Agree S S') {t : Nat} (ht : (1222 ≤ t ∧ t < 1766) ∨ 3200 ≤ t) : AgT S S' t := by
  rcases ht with ⟨h1, h2⟩ | ht
  · exact ⟨fun k => h.1 t k (relI_now h1 h2), fun k => h.2.1 t k (relL_now h1 h2), fun k => h.2.2.1 t k (relR_now h1 h2), by rw [h.2.2.2]⟩
  · exact ⟨fun k => h.1 t k (relI_dyn ht), fun k => h.2.1 t k (relL_dyn ht), fun k => h.2.2.1 t k (relR_dyn ht), by rw [h.2.2.2]⟩
theorem rel0_agree {o : Nat → Nat} {S S' : tS} (hHi : Hi S) (h : Rel0 o S) (hA : Agree S S') : Rel0 o S' := by
  obtain ⟨h1, h2, h3, ⟨m, m1, m2, m3, m4⟩, ⟨h5, h6⟩, ⟨h7, h8⟩, ⟨n, n1, n2, n3⟩, h9, ⟨h10, h11⟩, h12⟩ := h
  have hs : AgSteps S S' := fun t ht hk => hA.at (.inr (hHi t ht (by omega)))
  have hr : ∀ t : Nat, gN S t ≠ 0 → t % 32 = 7 → AgT S S' t := fun t ht hk => hA.at (.inr (hHi t ht (by omega)))
  have hn : ∀ t, 3200 ≤ t → gN S t ≠ 0 → o t = 10 → AgT S S' t ∧ o t = 10 := fun t h _ ho => ⟨hA.at (.inr h), ho⟩
  have e : ∀ k : Nat, k < 2008 → gn S' 48 k = gn S 48 k := fun k hk => gn_c (hA.1 48 k (relI_slot hk))
  have eN : ∀ k : Nat, k < 92 → gL S' 81 k = gL S 81 k := fun k hk => hA.2.1 81 k (by simp [relL, hk])
  have hnow : ∀ a ∈ cRows 1222, AgT S S' a := fun a ha => hA.at (.inl (cRows_now ha))
  have i : ∀ t k : Nat, relI t k = true → gI S' t k = gI S t k := hA.1
  refine ⟨HR_c h1 h2 hnow (hA.2.2.1 1189 1 (by decide)) hr hn hs (fun k hk => e k (by omega)) (fun k hk => eN k (by omega)), CW_c h2 hnow (fun r y hy => by rw [hA.2.2.2]), fun j hj => ?_, ⟨m, m1, by rw [i 1025 12 (by decide)]; exact m2, by rw [i 0 41 (by decide)]; exact m3, fun j hj => ?_⟩, ⟨?_, ?_⟩, ⟨?_, ?_⟩, ⟨n, n1, ?_, ?_⟩, fun k hk => ?_, ⟨?_, ?_⟩, fun k hk => ?_⟩
  · exact TR_c (h3 j hj) (hA.2.2.1 1077 j (by decide)) (i 144 j (by simp [relI])) (i 112 j (by simp [relI])) (fun k _ => hA.2.1 177 _ (by simp [relL])) (fun t ht _ _ => ⟨hA.at (.inr ht), rfl⟩)
  · exact MkR_c (m4 j hj) (hA.2.2.1 1750 j (by decide)) (fun k hk => e _ (by omega)) (fun k hk => eN _ (by omega)) hr hn hs (fun t ht _ => ⟨hA.at (.inr ht), rfl⟩)
  · rw [hA.2.1 1025 8 (by decide), hA.2.1 0 3 (by decide)]; exact h5
  · rw [hA.2.1 1025 9 (by decide), hA.2.1 0 4 (by decide)]; exact h6
  · rw [i 1025 3 (by decide), i 0 16 (by decide)]; exact h7
  · rw [i 1025 4 (by decide), i 0 17 (by decide)]; exact h8
  · rw [i 1025 2 (by decide)]; exact n2
  · rw [i 0 10 (by decide)]; exact n3
  · rw [i 1106 k (by simp [relI]), i 210 k (by simp [relI])]; exact h9 k hk
  · rw [i 1025 27 (by decide), i 0 40 (by decide)]; exact h10
  · rw [i 0 40 (by decide)]; exact h11
  · rw [i 2480 k (by simp [relI]), i 624 k (by simp [relI])]; exact h12 k hk
theorem CW_ro {S S' : tS} {c : Nat} (h : CW S c) (hN : gN S' = gN S) (hr : ∀ r, gR S' (c + 497) r = gR S (c + 497) r) : CW S' c := by
  unfold CW at h ⊢
  rw [hN]
  obtain ⟨g0, g1, g2, g3, g4, g5, g6, g7, g8, g9, g10, g11, g12⟩ := h
  exact ⟨g0, g1, g2, g3, g4, g5, g6, g7, g8, g9, g10, g11, fun r y hy => g12 r y (by rw [← hr r]; exact hy)⟩
theorem Hi_ro {S S' : tS} (h : Hi S) (hN : gN S' = gN S) : Hi S' := by
  unfold Hi at h ⊢
  rw [hN]
  exact h
theorem rel_ro {S S' : tS} (h : Rel S) (hA : Agree S S') (hst : StR S') (hr : ∀ r, gR S' 2263 r = gR S 2263 r) : Rel S' := by
  obtain ⟨⟨o, h1⟩, h2, h3, h4⟩ := h
  exact ⟨⟨o, rel0_agree h2 h1 hA⟩, Hi_ro h2 hA.2.2.2, hst, CW_ro h4 hA.2.2.2 hr⟩
theorem rel_st {S : tS} (h : Rel S) {st : Nat} (hst : st ≤ 9) : Rel (sI (sI S 1025 7 (nI st)) 0 2 (nI st)) :=
  rel_ro h ((Agree.rf.sI _ (by decide)).sI _ (by decide)) ⟨st, hst, by rw [gI_sI, if_pos rfl, if_pos rfl], by rw [gI_sI, if_neg (by decide), gI_sI, if_pos rfl, if_pos rfl]⟩ (fun r => rfl)
/-- all but the court's numbers is alike -/
def AgW (S S' : tS) : Prop := (∀ t k : Nat, relI t k = true → (t = 48 → 134 ≤ k ∨ k = 8) → ¬ (1222 ≤ t ∧ t < 1766) → gI S' t k = gI S t k) ∧ (∀ t k : Nat, relL t k = true → gL S' t k = gL S t k) ∧ (∀ t k : Nat, relR t = true → t ≠ 1719 → gR S' t k = gR S t k) ∧ gN S' = gN S
theorem AgW.rf {S : tS} : AgW S S := ⟨fun _ _ _ _ _ => rfl, fun _ _ _ => rfl, fun _ _ _ _ => rfl, rfl⟩
theorem AgW.sI {S S1 : tS} (h : AgW S S1) {t k : Nat} (x : Int32) (hr : relI t k = false ∨ (t = 48 ∧ k < 134 ∧ k ≠ 8) ∨ (1222 ≤ t ∧ t < 1766)) : AgW S (sI S1 t k x) := by
  refine ⟨fun a b r r2 r3 => ?_, h.2.1, h.2.2.1, h.2.2.2⟩
  rw [gI_sI, ← h.1 a b r r2 r3]
  by_cases e1 : a = t
  · by_cases e2 : b = k
    · exfalso
      subst e1; subst e2
      rcases hr with q | q | q
      · rw [q] at r; cases r
      · rcases r2 q.1 with z | z <;> omega
      · exact r3 q
    · rw [if_pos e1, if_neg e2]
  · rw [if_neg e1]
theorem AgW.wR {S S1 : tS} (h : AgW S S1) {t : Nat} (g : Nat → Option Nat) (hr : relR t = false ∨ t = 1719) : AgW S (wR S1 t g) := by
  refine ⟨h.1, h.2.1, fun a b r r2 => ?_, h.2.2.2⟩
  rw [gR_wR, ← h.2.2.1 a b r r2]
  by_cases e1 : a = t
  · exfalso
    subst e1
    rcases hr with q | q
    · rw [q] at r; cases r
    · exact r2 q
  · rw [if_neg e1]
theorem AgW.at {S S' : tS} (h : AgW S S') {t : Nat} (ht : 3200 ≤ t) : AgT S S' t := ⟨fun k => h.1 t k (relI_dyn ht) (by omega) (by omega), fun k => h.2.1 t k (relL_dyn ht), fun k => h.2.2.1 t k (relR_dyn ht) (by omega), by rw [h.2.2.2]⟩
theorem rel_w {S S' : tS} (h : Rel S) (hA : AgW S S') (hV : V 9999 (gn S' 48)) (hC : CR S' 1222 (gn S' 48)) (hK : gn S' 48 0 = gn S 48 0 ∧ gn S' 48 1 = gn S 48 1 ∧ gn S' 48 3 = gn S 48 3 ∧ gn S' 48 4 = gn S 48 4) (hW : CW S' 1222) (hst : StR S') (hr : ∀ r, gR S' 2263 r = gR S 2263 r) : Rel S' := by
  obtain ⟨⟨o, h1, h2, h3, ⟨m, m1, m2, m3, m4⟩, ⟨h5, h6⟩, ⟨h7, h8⟩, ⟨n, n1, n2, n3⟩, h9, ⟨h10, h11⟩, h12⟩, hHi, h14, h15⟩ := h
  have hs : AgSteps S S' := fun t ht hk => hA.at (hHi t ht (by omega))
  have hr7 : ∀ t : Nat, gN S t ≠ 0 → t % 32 = 7 → AgT S S' t := fun t ht hk => hA.at (hHi t ht (by omega))
  have hn : ∀ t, 3200 ≤ t → gN S t ≠ 0 → o t = 10 → AgT S S' t ∧ o t = 10 := fun t h _ ho => ⟨hA.at h, ho⟩
  have e : ∀ k : Nat, 134 ≤ k → k < 2008 → gn S' 48 k = gn S 48 k := fun k h0 hk => gn_c (hA.1 48 k (relI_slot hk) (by omega) (by omega))
  have e8 : gn S' 48 8 = gn S 48 8 := gn_c (hA.1 48 8 (by decide) (by omega) (by omega))
  have eN : ∀ k : Nat, k < 92 → gL S' 81 k = gL S 81 k := fun k hk => hA.2.1 81 k (by simp [relL, hk])
  have i : ∀ t k : Nat, relI t k = true → t ≠ 48 → ¬ (1222 ≤ t ∧ t < 1766) → gI S' t k = gI S t k := fun t k q w z => hA.1 t k q (fun y => absurd y w) z
  have b := h1.1.1
  refine ⟨⟨o, ⟨hV, hC, NR_c h1.2.2.1 ⟨b.1, b.2.1, b.2.2.2.1, b.2.2.2.2.1⟩ (fun j => hA.2.2.1 1222 j (by decide) (by decide)) hn hK (fun k hk => eN k (by omega)), ?_⟩, hW, fun j hj => ?_, ⟨m, m1, by rw [i 1025 12 (by decide) (by decide) (by decide)]; exact m2, by rw [i 0 41 (by decide) (by decide) (by decide)]; exact m3, fun j hj => ?_⟩, ⟨?_, ?_⟩, ⟨?_, ?_⟩, ⟨n, n1, ?_, ?_⟩, fun k hk => ?_, ⟨?_, ?_⟩, fun k hk => ?_⟩, Hi_ro hHi hA.2.2.2, hst, CW_ro h15 hA.2.2.2 hr⟩
  · rw [hA.2.2.1 1189 1 (by decide) (by decide)]
    refine WR_c hs (fun k q hk => ?_) h1.2.2.2
    rcases q with q | q | q | q
    · rcases (show k = 0 ∨ k = 1 by omega) with rfl | rfl
      · exact hK.1
      · exact hK.2.1
    · subst q; exact hK.2.2.1
    · subst q; exact e8
    · exact e k q (by omega)
  · exact TR_c (h3 j hj) (hA.2.2.1 1077 j (by decide) (by decide)) (i 144 j (by simp [relI]) (by decide) (by decide)) (i 112 j (by simp [relI]) (by decide) (by decide)) (fun k _ => hA.2.1 177 _ (by simp [relL])) (fun t ht _ _ => ⟨hA.at ht, rfl⟩)
  · exact MkR_c (m4 j hj) (hA.2.2.1 1750 j (by decide) (by decide)) (fun k hk => e _ (by omega) (by omega)) (fun k hk => eN _ (by omega)) hr7 hn hs (fun t ht _ => ⟨hA.at ht, rfl⟩)
  · rw [hA.2.1 1025 8 (by decide), hA.2.1 0 3 (by decide)]; exact h5
  · rw [hA.2.1 1025 9 (by decide), hA.2.1 0 4 (by decide)]; exact h6
  · rw [i 1025 3 (by decide) (by decide) (by decide), i 0 16 (by decide) (by decide) (by decide)]; exact h7
  · rw [i 1025 4 (by decide) (by decide) (by decide), i 0 17 (by decide) (by decide) (by decide)]; exact h8
  · rw [i 1025 2 (by decide) (by decide) (by decide)]; exact n2
  · rw [i 0 10 (by decide) (by decide) (by decide)]; exact n3
  · rw [i 1106 k (by simp [relI]) (by decide) (by decide), i 210 k (by simp [relI]) (by decide) (by decide)]; exact h9 k hk
  · rw [i 1025 27 (by decide) (by decide) (by decide), i 0 40 (by decide) (by decide) (by decide)]; exact h10
  · rw [i 0 40 (by decide) (by decide) (by decide)]; exact h11
  · rw [i 2480 k (by simp [relI]) (by decide) (by decide), i 624 k (by simp [relI]) (by decide) (by decide)]; exact h12 k hk
/-- an op that leaves nothing but its status -/
theorem op_st {X M : tS → (Int32 → tS → Prop) → Prop} (h : ∀ S, Rel S → ∃ (r : Int32) (st : Nat), st ≤ 9 ∧ (∀ K : Int32 → tS → Prop, K r (sI S 1025 7 (nI st)) → X S K) ∧ (∀ K : Int32 → tS → Prop, K r (sI (sI S 1025 7 (nI st)) 0 2 (nI st)) → M (sI S 1025 7 (nI st)) K)) : OpI Rel X M := fun S hR => by
  obtain ⟨r, st, h1, h2, h3⟩ := h S hR
  exact ⟨r, fun S1 => S1 = sI S 1025 7 (nI st), fun K hK => h2 K (hK _ rfl), fun S1 K e hK => by rw [e]; exact h3 K (hK _ (rel_st hR h1))⟩
/-- an op that leaves nothing at all -/
theorem op_no {X M : tS → (Int32 → tS → Prop) → Prop} (h : ∀ S, Rel S → ∃ (r : Int32), (∀ K : Int32 → tS → Prop, K r S → X S K) ∧ (∀ K : Int32 → tS → Prop, K r S → M S K)) : OpI Rel X M := fun S hR => by
  obtain ⟨r, h2, h3⟩ := h S hR
  exact ⟨r, fun S1 => S1 = S, fun K hK => h2 K (hK _ rfl), fun S1 K e hK => by rw [e]; exact h3 K (hK _ hR)⟩
theorem op_noL {X M : tS → (Int64 → tS → Prop) → Prop} (h : ∀ S, Rel S → ∃ (r : Int64), (∀ K : Int64 → tS → Prop, K r S → X S K) ∧ (∀ K : Int64 → tS → Prop, K r S → M S K)) : OpL Rel X M := fun S hR => by
  obtain ⟨r, h2, h3⟩ := h S hR
  exact ⟨r, fun S1 => S1 = S, fun K hK => h2 K (hK _ rfl), fun S1 K e hK => by rw [e]; exact h3 K (hK _ hR)⟩
