set_option maxRecDepth 100000
/-! WHAT IS SHOWN, the component's side: a Court at c that holds the slot F -/
theorem Ru_bears_ok {m t r g fed warm set : Nat} {F : Nat → Nat} {S : tS} {K : Int32 → tS → Prop} (hV : V m F) (hr : r < F 2) (ht : ∀ j : Nat, j < 7 → gI S t j = nI (F (16 + 7 * r + j))) (hg : g < 2) (hf : fed < 1000000) (hw : warm < 1000000) (hs : set < 1000000) : Ru_bears t (nI g) (nI fed) (nI warm) (nI set) S K ↔ K (nI (bN (bearN F g fed warm set r))) S := by
  obtain ⟨v0, v1, v2, v3, v4, v5⟩ := hV.r hr
  have v6 := hV.s hr
  have g1 : gI S t 1 = nI (F (17 + 7 * r)) := by rw [ht 1 (by omega)]; congr 2; omega
  have g2 : gI S t 2 = nI (F (18 + 7 * r)) := by rw [ht 2 (by omega)]; congr 2; omega
  have g3 : gI S t 3 = nI (F (19 + 7 * r)) := by rw [ht 3 (by omega)]; congr 2; omega
  have g4 : gI S t 4 = nI (F (20 + 7 * r)) := by rw [ht 4 (by omega)]; congr 2; omega
  have g5 : gI S t 5 = nI (F (21 + 7 * r)) := by rw [ht 5 (by omega)]; congr 2; omega
  have g6 : gI S t 6 = nI (F (22 + 7 * r)) := by rw [ht 6 (by omega)]; congr 2; omega
  have z0 : ∀ s v w : Nat, s = 0 → sosN s v w = true := fun s v w h => by simp [sosN, h]
  have gg : g = 0 ∨ g = 1 := by omega
  have B74 : Ru_bears_b74 t (nI g) (nI fed) (nI warm) (nI set) K S ↔ K (nI (bN (decide (F (22 + 7 * r) = 4294967295) || inS set (F (22 + 7 * r))))) S := by
    unfold Ru_bears_b74 Ru_bears_b93
    rw [g6]
    rcases v6 with v6 | v6
    · rw [v6, ← neg1]
      simp [m1_lt0, bN]
    · have e2 : ¬ F (22 + 7 * r) = 4294967295 := by omega
      simp (disch := omega) only [X_has_ok, nz, lt_nI, Nat.not_lt_zero]
      cases inS set (F (22 + 7 * r)) <;> simp [e2, bN]
  have B50 : Ru_bears_b50 t (nI g) (nI fed) (nI warm) (nI set) K S ↔ K (nI (bN (sosN (F (20 + 7 * r)) warm (F (21 + 7 * r)) && (decide (F (22 + 7 * r) = 4294967295) || inS set (F (22 + 7 * r)))))) S := by
    unfold Ru_bears_b50
    rw [g4, g5, B74]
    by_cases h : F (20 + 7 * r) = 0
    · rw [h, z0 0 _ _ rfl]
      simp
    · simp (disch := omega) only [eq_nI, h, X_compares_ok h, nz, B74]
      cases sosN (F (20 + 7 * r)) warm (F (21 + 7 * r)) <;> simp [bN]
  have B26 : Ru_bears_b26 t (nI g) (nI fed) (nI warm) (nI set) K S ↔ K (nI (bN (sosN (F (18 + 7 * r)) fed (F (19 + 7 * r)) && (sosN (F (20 + 7 * r)) warm (F (21 + 7 * r)) && (decide (F (22 + 7 * r) = 4294967295) || inS set (F (22 + 7 * r))))))) S := by
    unfold Ru_bears_b26
    rw [g2, g3, B50]
    by_cases h : F (18 + 7 * r) = 0
    · rw [h, z0 0 _ _ rfl]
      simp
    · simp (disch := omega) only [eq_nI, h, X_compares_ok h, nz, B50]
      cases sosN (F (18 + 7 * r)) fed (F (19 + 7 * r)) <;> simp [bN]
  unfold Ru_bears Ru_bears_b20 bearN
  rw [B26, g1]
  generalize sosN (F (18 + 7 * r)) fed (F (19 + 7 * r)) = b1
  generalize sosN (F (20 + 7 * r)) warm (F (21 + 7 * r)) = b2
  generalize (decide (F (22 + 7 * r) = 4294967295) || inS set (F (22 + 7 * r))) = b3
  simp (disch := omega) only [eq_nI]
  generalize F (17 + 7 * r) = q at v1
  have qq : q = 0 ∨ q = 1 ∨ q = 2 := by omega
  rcases gg with rfl | rfl <;> rcases qq with rfl | rfl | rfl <;> cases b1 <;> cases b2 <;> cases b3 <;> simp [bN]
theorem Co_first_ok {m c g fed warm set : Nat} {F : Nat → Nat} {S : tS} {K : Int32 → tS → Prop} (hC : CR S c F) (hW : CW S c) (hV : V m F) (hg : g < 2) (hf : fed < 1000000) (hw : warm < 1000000) (hs : set < 1000000) : Co_first c (nI g) (nI fed) (nI warm) (nI set) S K ↔ K (oN (fir F g fed warm set) (F 2)) S := by
  have h8 : F 2 ≤ 8 := hV.1.2.2.1
  have h2 := hC.1 2 (by omega)
  unfold Co_first fir
  have := loop_try (W := fun n r => Co_first_l3 c (nI g) (nI fed) (nI warm) (nI set) K n (nI r) S) (P := fun r => K (oN (firN (bearN F g fed warm set) (F 2 - r) r) (F 2)) S) (F 2) (fun r h => h) (fun n => ?_) (fun n r hr => ?_)
  · exact this
  · unfold Co_first_l3
    simp (disch := omega) only [h2, le_nI]
    simp [firN, oN]
  · have hr8 : ¬ F 2 ≤ r := by omega
    have q : F 2 - r = (F 2 - (r + 1)) + 1 := by omega
    obtain ⟨t, t1, t2⟩ := hC.2.2.2.2.2.2.2.2.2.2.2 r hr
    obtain ⟨t3, t4, t5⟩ := hW.2.2.2.2.2.2.2.2.2.2.2.2 r t t1
    have ex : ∀ P : Nat → Prop, (∃ t1 : Nat, gR S (c + 497) r = some t1 ∧ (gN S t1 ≠ 0 ∧ t1 % 32 = 7) ∧ P t1) ↔ P t := fun P => by
      constructor
      · rintro ⟨x, x1, _, x3⟩
        rw [t1] at x1
        cases x1
        exact x3
      · exact fun h => ⟨t, t1, ⟨t3, t4⟩, h⟩
    cases b : bearN F g fed warm set r
    · right
      constructor
      · rw [Co_first_l3]
        simp (disch := omega) only [h2, le_nI, hr8, vp_nI, cl_nI, ex, Ru_bears_ok hV hr t2 hg hf hw hs, b, nz, forall_eq, nI_add]
        simp
        omega
      · rw [q, oN_f.2 b]
    · left
      rw [Co_first_l3]
      simp (disch := omega) only [h2, le_nI, hr8, vp_nI, cl_nI, ex, Ru_bears_ok hV hr t2 hg hf hw hs, b, nz, forall_eq, nI_add]
      rw [q, oN_f.1 b]
      simp [oN, hr]
      omega
theorem rule_at {m c r : Nat} {F : Nat → Nat} {S : tS} (hC : CR S c F) (hW : CW S c) (hV : V m F) (hr : r < F 2) {P : Nat → Prop} : (∃ t1 : Nat, gR S (c + 497) r = some t1 ∧ (gN S t1 ≠ 0 ∧ t1 % 32 = 7) ∧ P t1) ↔ ∃ t : Nat, gR S (c + 497) r = some t ∧ (∀ j : Nat, j < 7 → gI S t j = nI (F (16 + 7 * r + j))) ∧ 3200 ≤ t ∧ P t := by
  obtain ⟨t, t1, t2⟩ := hC.2.2.2.2.2.2.2.2.2.2.2 r hr
  obtain ⟨t3, t4, t5⟩ := hW.2.2.2.2.2.2.2.2.2.2.2.2 r t t1
  constructor
  · rintro ⟨x, x1, _, x3⟩
    rw [t1] at x1
    cases x1
    exact ⟨t, t1, t2, t5, x3⟩
  · rintro ⟨x, x1, _, _, x3⟩
    rw [t1] at x1
    cases x1
    exact ⟨t, t1, ⟨t3, t4⟩, x3⟩
theorem Co_shows_ok {m c g fed warm set : Nat} {F : Nat → Nat} {S : tS} {K : Int32 → tS → Prop} (hC : CR S c F) (hW : CW S c) (hV : V m F) (hg : g < 2) (hf : fed < 1000000) (hw : warm < 1000000) (hs : set < 1000000) : Co_shows c (nI g) (nI fed) (nI warm) (nI set) S K ↔ K (nI (shw F g fed warm set)) S := by
  have h8 : F 2 ≤ 8 := hV.1.2.2.1
  have h1 := hC.1 1 (by omega)
  unfold Co_shows shw
  rw [Co_first_ok hC hW hV hg hf hw hs]
  rcases fir_c (F := F) (g := g) (fed := fed) (warm := warm) (set := set) with h | h
  · obtain ⟨t, t1, t2⟩ := hC.2.2.2.2.2.2.2.2.2.2.2 _ h
    obtain ⟨t3, t4, t5⟩ := hW.2.2.2.2.2.2.2.2.2.2.2.2 _ t t1
    have g0 := t2 0 (by omega)
    simp only [Nat.add_zero] at g0
    simp (disch := omega) only [oN_lt h, if_pos h, le_nI, vp_nI, cl_nI, t1, Option.some.injEq]
    constructor
    · rintro ⟨x, _⟩
      obtain ⟨_, y, rfl, _, z⟩ := x (by omega)
      rw [← g0]
      exact z
    · intro hK
      exact ⟨fun _ => ⟨by omega, t, rfl, ⟨t3, t4⟩, by rw [g0]; exact hK⟩, fun q => absurd (Nat.zero_le _) q⟩
  · rw [h, oN_eq, if_neg (Nat.lt_irrefl _), h1]
    simp [show ¬ nI 0 ≤ (-1 : Int32) by decide]
theorem Co_showsAt_ok {m c p warm : Nat} {F : Nat → Nat} {S : tS} {K : Int32 → tS → Prop} (hC : CR S c F) (hW : CW S c) (hV : V m F) (hp : p < 6) (hw : warm < 1000000) : Co_showsAt c (nI p) (nI warm) S K ↔ K (nI (shp F p warm)) S := by
  obtain ⟨v0, v1, v2, v3, v4⟩ := hV.p hp
  have e0 := hC.2.2.1 p hp
  have e1 := hC.2.2.2.1 p hp
  have e3 := hC.2.2.2.2.2.1 p hp
  unfold Co_showsAt Co_showsAt_b16 shp
  have k0 : F (75 + 5 * p) = 0 ∨ F (75 + 5 * p) = 1 := by omega
  rcases k0 with k | k <;> simp (disch := omega) only [cl_nI, vp_nI, e0, e1, e3, k, eq_nI, Co_shows_ok hC hW hV] <;> simp <;> omega
theorem Co_showsNow_ok {m c p : Nat} {F : Nat → Nat} {S : tS} {K : Int32 → tS → Prop} (hC : CR S c F) (hW : CW S c) (hV : V m F) (hp : p < 6) : Co_showsNow c (nI p) S K ↔ K (nI (shp F p (F 6))) S := by
  have h6 : F 6 ≤ 9 := hV.1.2.2.2.2.2.2.1
  unfold Co_showsNow
  rw [hC.1 6 (by omega), Co_showsAt_ok hC hW hV hp (by omega)]
theorem Co_senseOf_ok {m c q : Nat} {F : Nat → Nat} {S : tS} {K : Int32 → tS → Prop} (hC : CR S c F) (hV : V m F) (hq : q ≤ F 1) : Co_senseOf c (nI q) S K ↔ K (nI (sns F q)) S := by
  have h1 : F 1 ≤ 6 := hV.1.2.1
  unfold Co_senseOf sns
  rw [hC.1 1 (by omega), eq_nI (by omega) (by omega)]
  by_cases h : q = F 1
  · rw [if_neg (by omega)]
    simp [h]
  · have e := hC.2.1 q (by omega)
    simp only [Nat.one_mul] at e
    rw [if_pos (by omega), vp_nI (by omega) (by omega), cl_nI (by omega), e]
    simp [h]
    omega
