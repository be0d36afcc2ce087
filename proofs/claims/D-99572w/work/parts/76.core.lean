set_option maxRecDepth 100000
/-! WHAT IS SHOWN: both sides by bearN, fir, shw over a slot F -/
/-- a loop over 0 .. e - 1 to its end -/
theorem loop_for {W : Nat → Nat → Prop} {P : Prop} (e : Nat) (h0 : ∀ r, ¬ W 0 r) (he : ∀ n, W (n + 1) e ↔ P) (hs : ∀ n r, r < e → (W (n + 1) r ↔ W n (r + 1))) : (∃ k, W k 0) ↔ P := by
  have a : ∀ k r, r ≤ e → W k r → P := by
    intro k
    induction k with
    | zero => intro r _ h; exact absurd h (h0 r)
    | succ n ih =>
      intro r hr h
      by_cases q : r = e
      · subst q; exact (he n).mp h
      · exact ih (r + 1) (by omega) ((hs n r (by omega)).mp h)
  have b : P → ∀ d r, r + d = e → W (d + 1) r := by
    intro hP d
    induction d with
    | zero => intro r hr; rw [show r = e by omega]; exact (he 0).mpr hP
    | succ d ih => intro r hr; exact (hs (d + 1) r (by omega)).mpr (ih (r + 1) (by omega))
  exact ⟨fun ⟨k, h⟩ => a k 0 (by omega) h, fun h => ⟨e + 1, b h e 0 (by omega)⟩⟩
/-- a loop that may end early: P r is what is owed from r on -/
theorem loop_try {W : Nat → Nat → Prop} {P : Nat → Prop} (e : Nat) (h0 : ∀ r, ¬ W 0 r) (he : ∀ n, W (n + 1) e ↔ P e) (hs : ∀ n r, r < e → ((W (n + 1) r ↔ P r) ∨ ((W (n + 1) r ↔ W n (r + 1)) ∧ (P r ↔ P (r + 1))))) : (∃ k, W k 0) ↔ P 0 := by
  have a : ∀ k r, r ≤ e → W k r → P r := by
    intro k
    induction k with
    | zero => intro r _ h; exact absurd h (h0 r)
    | succ n ih =>
      intro r hr h
      by_cases q : r = e
      · subst q; exact (he n).mp h
      · rcases hs n r (by omega) with z | ⟨z1, z2⟩
        · exact z.mp h
        · exact z2.mpr (ih (r + 1) (by omega) (z1.mp h))
  have b : ∀ d r, r + d = e → P r → W (d + 1) r := by
    intro d
    induction d with
    | zero => intro r hr hP; have q : r = e := (by omega); rw [q] at hP ⊢; exact (he 0).mpr hP
    | succ d ih =>
      intro r hr hP
      rcases hs (d + 1) r (by omega) with z | ⟨z1, z2⟩
      · exact z.mpr hP
      · exact z1.mpr (ih (r + 1) (by omega) (z2.mp hP))
  exact ⟨fun ⟨k, h⟩ => a k 0 (by omega) h, fun h => ⟨e + 1, b e 0 (by omega) h⟩⟩
def sosN (sign v than : Nat) : Bool := decide (sign = 0) || (if sign = 60 then decide (v < than) else if sign = 62 then decide (than < v) else decide (v = than))
theorem bn_br {b : Bool} {A B : Prop} : ((b = false → A) ∧ (¬ b = false → B)) ↔ (if b then B else A) := by cases b <;> simp
theorem M_isIn_ok {a k : Nat} {S : tS} {K : Int32 → tS → Prop} (ha : a < 1000000) (hk : k < 32) : M_isIn (nI a) (nI k) S K ↔ K (nI (bN (inS a k))) S := by
  unfold M_isIn
  rw [bit_nI (by omega) hk, bN_1]
  cases inS a k <;> simp [bN]
theorem X_has_ok {a k : Nat} {S : tS} {K : Int32 → tS → Prop} (ha : a < 1000000) (hk : k < 32) : X_has (nI a) (nI k) S K ↔ K (nI (bN (inS a k))) S := by
  unfold X_has
  rw [bit_nI (by omega) hk, bN_1]
  cases inS a k <;> simp [bN]
theorem M_isSo_ok {s v t : Nat} {S : tS} {K : Int32 → tS → Prop} (hs : s < 1000000) (hv : v < 1000000) (ht : t < 1000000) : M_isSo (nI s) (nI v) (nI t) S K ↔ K (nI (bN (sosN s v t))) S := by
  unfold M_isSo M_isSo_b37
  rw [eq_nI (by omega) (by omega), eq_nI (by omega) (by omega), eq_nI (by omega) (by omega), eq_nI (by omega) (by omega), le_nI (by omega) (by omega), le_nI (by omega) (by omega)]
  unfold sosN
  by_cases h0 : s = 0
  · simp [h0, bN]
  · by_cases h1 : s = 60
    · by_cases h2 : v < t
      · simp [h0, h1, h2, bN, show ¬ t ≤ v by omega]
      · simp [h0, h1, h2, bN, show t ≤ v by omega]
    · by_cases h3 : s = 62
      · by_cases h2 : t < v
        · simp [h0, h1, h3, h2, bN, show ¬ v ≤ t by omega]
        · simp [h0, h1, h3, h2, bN, show v ≤ t by omega]
      · by_cases h2 : v = t
        · simp [h0, h1, h3, h2, bN]
        · simp [h0, h1, h3, h2, bN]
theorem X_compares_ok {s v t : Nat} {S : tS} {K : Int32 → tS → Prop} (h0 : s ≠ 0) (hs : s < 1000000) (hv : v < 1000000) (ht : t < 1000000) : X_compares (nI v) (nI s) (nI t) S K ↔ K (nI (bN (sosN s v t))) S := by
  unfold X_compares
  rw [eq_nI (by omega) (by omega), eq_nI (by omega) (by omega), eq_nI (by omega) (by omega), le_nI (by omega) (by omega), le_nI (by omega) (by omega)]
  unfold sosN
  by_cases h1 : s = 60
  · by_cases h2 : v < t
    · simp [h1, h2, bN, show ¬ t ≤ v by omega]
    · simp [h1, h2, bN, show t ≤ v by omega]
  · by_cases h3 : s = 62
    · by_cases h2 : t < v
      · simp [h3, h2, bN, show ¬ v ≤ t by omega]
      · simp [h3, h2, bN, show v ≤ t by omega]
    · by_cases h2 : v = t
      · simp [h0, h1, h3, h2, bN]
      · simp [h0, h1, h3, h2, bN]
/-- does the rule r of F bear: before one guilty (g = 1) or not (0), fed, by warmth, of smells -/
def bearN (F : Nat → Nat) (g fed warm set r : Nat) : Bool := (decide (F (17 + 7 * r) = 0) || decide (F (17 + 7 * r) = 2 - g)) && (decide (F (22 + 7 * r) = 4294967295) || inS set (F (22 + 7 * r))) && (sosN (F (18 + 7 * r)) fed (F (19 + 7 * r)) && sosN (F (20 + 7 * r)) warm (F (21 + 7 * r)))
/-- the first place from r on, of n, with B -/
def firN (B : Nat → Bool) : Nat → Nat → Nat
  | 0, r => r
  | n + 1, r => if B r then r else firN B n (r + 1)
theorem firN_le (B : Nat → Bool) : ∀ n r, firN B n r ≤ r + n := by
  intro n
  induction n with
  | zero => intro r; exact Nat.le_refl _
  | succ n ih => intro r; unfold firN; split; omega; have := ih (r + 1); omega
def fir (F : Nat → Nat) (g fed warm set : Nat) : Nat := firN (bearN F g fed warm set) (F 2) 0
theorem fir_le (F : Nat → Nat) (g fed warm set : Nat) : fir F g fed warm set ≤ F 2 := by
  have := firN_le (bearN F g fed warm set) (F 2) 0
  unfold fir
  omega
/-- as the two sides answer: none is -1 -/
def oN (n m : Nat) : Int32 := if n < m then nI n else -1
/-- the rules' numbers in bounds, without a choice -/
theorem V.r {m : Nat} {F : Nat → Nat} (h : V m F) {r : Nat} (hr : r < F 2) : F (16 + 7 * r) < 6 ∧ F (17 + 7 * r) ≤ 2 ∧ F (18 + 7 * r) < 100 ∧ F (19 + 7 * r) < 100 ∧ F (20 + 7 * r) < 100 ∧ F (21 + 7 * r) < 100 := by
  obtain ⟨h1, h2, h3, h4, h5, h6, h7⟩ := h.2.2.1 r hr
  have := h.1.2.1
  refine ⟨by omega, h2, by omega, by omega, by omega, by omega⟩
theorem V.s {m : Nat} {F : Nat → Nat} (h : V m F) {r : Nat} (hr : r < F 2) : F (22 + 7 * r) = 4294967295 ∨ F (22 + 7 * r) < 5 := by
  obtain ⟨h1, h2, h3, h4, h5, h6, h7⟩ := h.2.2.1 r hr
  have := h.1.1
  rcases h7 with q | q
  · right; omega
  · exact .inl q
theorem M_ruleOf_ok {r k : Nat} {S : tS} {K : Int32 → tS → Prop} (hr : r < 8) (hk : k < 7) : M_ruleOf (nI r) (nI k) S K ↔ K (nI (gn S 48 (16 + k + 7 * r))) S := by
  unfold M_ruleOf M_ruleRow
  simp (disch := omega) only [nI_add, pk_mul, vp_nI, cl_nI, gI48]
  rw [show 16 + 7 * r + k = 16 + k + 7 * r by omega]
  simp [show 16 + k + 7 * r < 3548 by omega]
theorem M_doesBear_ok {m r g fed warm set : Nat} {S : tS} {K : Int32 → tS → Prop} (hV : V m (gn S 48)) (hr : r < gn S 48 2) (hg : g < 2) (hf : fed < 1000000) (hw : warm < 1000000) (hs : set < 1000000) : M_doesBear (nI r) (nI g) (nI fed) (nI warm) (nI set) S K ↔ K (nI (bN (bearN (gn S 48) g fed warm set r))) S := by
  have hr8 : r < 8 := by have := hV.1.2.2.1; omega
  obtain ⟨v0, v1, v2, v3, v4, v5⟩ := hV.r hr
  have v6 := hV.s hr
  unfold M_doesBear M_doesBear_b32 M_doesBear_b51 bearN
  rcases v6 with v6 | v6
  · have e1 : nI (gn S 48 (22 + 7 * r)) = -1 := by rw [v6, ← neg1]
    simp (disch := omega) only [M_ruleOf_ok, M_isSo_ok, Nat.reduceAdd, nz, pk_sub, eq_nI, e1]
    generalize sosN (gn S 48 (18 + 7 * r)) fed (gn S 48 (19 + 7 * r)) = b1
    generalize sosN (gn S 48 (20 + 7 * r)) warm (gn S 48 (21 + 7 * r)) = b2
    by_cases h1 : gn S 48 (17 + 7 * r) = 0
    · cases b1 <;> cases b2 <;> simp [bN, h1, v6]
    · by_cases h2 : gn S 48 (17 + 7 * r) = 2 - g
      · cases b1 <;> cases b2 <;> simp [bN, h1, h2, v6]
      · simp [bN, h1, h2]
  · have e2 : ¬ gn S 48 (22 + 7 * r) = 4294967295 := by omega
    simp (disch := omega) only [M_ruleOf_ok, M_isSo_ok, Nat.reduceAdd, nz, pk_sub, eq_nI, m1_nI, M_isIn_ok]
    generalize sosN (gn S 48 (18 + 7 * r)) fed (gn S 48 (19 + 7 * r)) = b1
    generalize sosN (gn S 48 (20 + 7 * r)) warm (gn S 48 (21 + 7 * r)) = b2
    generalize inS set (gn S 48 (22 + 7 * r)) = b3
    by_cases h1 : gn S 48 (17 + 7 * r) = 0
    · cases b1 <;> cases b2 <;> cases b3 <;> simp [bN, h1, e2]
    · by_cases h2 : gn S 48 (17 + 7 * r) = 2 - g
      · cases b1 <;> cases b2 <;> cases b3 <;> simp [bN, h1, h2, e2]
      · simp [bN, h1, h2]
theorem oN_f {B : Nat → Bool} {e r : Nat} : (B r = true → firN B (e + 1) r = r) ∧ (B r = false → firN B (e + 1) r = firN B e (r + 1)) := by
  constructor <;> intro h <;> simp [firN, h]
theorem M_firstOf_ok {m g fed warm set : Nat} {S : tS} {K : Int32 → tS → Prop} (hV : V m (gn S 48)) (hg : g < 2) (hf : fed < 1000000) (hw : warm < 1000000) (hs : set < 1000000) : M_firstOf (nI g) (nI fed) (nI warm) (nI set) S K ↔ K (oN (fir (gn S 48) g fed warm set) (gn S 48 2)) S := by
  have h8 : gn S 48 2 ≤ 8 := hV.1.2.2.1
  unfold M_firstOf fir
  have := loop_try (W := fun n r => M_firstOf_l3 (nI g) (nI fed) (nI warm) (nI set) K n (nI r) S) (P := fun r => K (oN (firN (bearN (gn S 48) g fed warm set) (gn S 48 2 - r) r) (gn S 48 2)) S) (gn S 48 2) (fun r h => h) (fun n => ?_) (fun n r hr => ?_)
  · exact this
  · unfold M_firstOf_l3
    simp (disch := omega) only [gI48, le_nI]
    simp [firN, oN]
  · have hr8 : ¬ gn S 48 2 ≤ r := by omega
    have q : gn S 48 2 - r = (gn S 48 2 - (r + 1)) + 1 := by omega
    cases b : bearN (gn S 48) g fed warm set r
    · right
      constructor
      · rw [M_firstOf_l3]
        simp (disch := omega) only [gI48, le_nI, hr8, M_doesBear_ok hV hr hg hf hw hs, b, nz, forall_eq, nI_add]
        simp
      · rw [q, oN_f.2 b]
    · left
      rw [M_firstOf_l3]
      simp (disch := omega) only [gI48, le_nI, hr8, M_doesBear_ok hV hr hg hf hw hs, b, nz, forall_eq, nI_add]
      rw [q, oN_f.1 b]
      simp [oN, hr]
theorem oN_lt {n m : Nat} (h : n < m) : oN n m = nI n := if_pos h
theorem oN_eq {n : Nat} : oN n n = -1 := if_neg (Nat.lt_irrefl _)
/-- the cue that is shown; as many as there are cues: none -/
def shw (F : Nat → Nat) (g fed warm set : Nat) : Nat := if fir F g fed warm set < F 2 then F (16 + 7 * fir F g fed warm set) else F 1
theorem fir_c {F : Nat → Nat} {g fed warm set : Nat} : fir F g fed warm set < F 2 ∨ fir F g fed warm set = F 2 := by
  have := fir_le F g fed warm set
  omega
/-- before the person p, by such warmth -/
def firp (F : Nat → Nat) (p warm : Nat) : Nat := fir F (F (75 + 5 * p)) (F (72 + 5 * p)) warm (F (73 + 5 * p))
def shp (F : Nat → Nat) (p warm : Nat) : Nat := shw F (F (75 + 5 * p)) (F (72 + 5 * p)) warm (F (73 + 5 * p))
def sns (F : Nat → Nat) (cue : Nat) : Nat := if cue < F 1 then F (10 + cue) else 0
theorem shw_lt {m : Nat} {F : Nat → Nat} (hV : V m F) {g fed warm set : Nat} : shw F g fed warm set < F 1 ∨ (shw F g fed warm set = F 1 ∧ fir F g fed warm set = F 2) := by
  unfold shw
  rcases fir_c (F := F) (g := g) (fed := fed) (warm := warm) (set := set) with h | h
  · rw [if_pos h]
    exact .inl (hV.2.2.1 _ h).1
  · rw [if_neg (by omega)]
    exact .inr ⟨rfl, h⟩
theorem V.p {m : Nat} {F : Nat → Nat} (h : V m F) {p : Nat} (hp : p < 6) : F (72 + 5 * p) ≤ 99 ∧ F (73 + 5 * p) < 32 ∧ F (74 + 5 * p) ≤ 2 ∧ F (75 + 5 * p) ≤ 1 ∧ F (76 + 5 * p) ≤ m := by
  obtain ⟨h1, h2, h3, h4, h5⟩ := h.2.2.2.1 p hp
  have := h.1.1
  have e7 := h.1.2.2.2.2.2.2.2
  have : 2 ^ F 0 ≤ 32 := Nat.le_trans (Nat.pow_le_pow_right (by decide) this) (by decide)
  exact ⟨h1, by omega, h3, h4, by omega⟩
theorem M_cueOf_ok {m g fed warm set : Nat} {S : tS} {K : Int32 → tS → Prop} (hV : V m (gn S 48)) (hg : g < 2) (hf : fed < 1000000) (hw : warm < 1000000) (hs : set < 1000000) : M_cueOf (nI g) (nI fed) (nI warm) (nI set) S K ↔ K (oN (shw (gn S 48) g fed warm set) (gn S 48 1)) S := by
  have h8 : gn S 48 2 ≤ 8 := hV.1.2.2.1
  unfold M_cueOf shw
  rw [M_firstOf_ok hV hg hf hw hs]
  rcases fir_c (F := gn S 48) (g := g) (fed := fed) (warm := warm) (set := set) with h | h
  · have v := (hV.2.2.1 _ h).1
    simp (disch := omega) only [oN_lt h, if_pos h, m1_nI, M_ruleOf_ok, Nat.add_zero, oN_lt v]
    simp
  · rw [h, oN_eq, if_neg (Nat.lt_irrefl _), oN_eq]
    simp
theorem M_personOf_ok {p k : Nat} {S : tS} {K : Int32 → tS → Prop} (hp : p < 6) (hk : k < 5) : M_personOf (nI p) (nI k) S K ↔ K (nI (gn S 48 (72 + k + 5 * p))) S := by
  unfold M_personOf M_personRow
  simp (disch := omega) only [nI_add, pk_mul, vp_nI, cl_nI, gI48]
  rw [show 72 + 5 * p + k = 72 + k + 5 * p by omega]
  simp [show 72 + k + 5 * p < 3548 by omega]
theorem M_ruleFor_ok {m p warm : Nat} {S : tS} {K : Int32 → tS → Prop} (hV : V m (gn S 48)) (hp : p < 6) (hw : warm < 1000000) : M_ruleFor (nI p) (nI warm) S K ↔ K (oN (firp (gn S 48) p warm) (gn S 48 2)) S := by
  obtain ⟨v0, v1, v2, v3, v4⟩ := hV.p hp
  unfold M_ruleFor firp
  simp (disch := omega) only [M_personOf_ok, Nat.reduceAdd, M_firstOf_ok hV]
theorem M_cueFor_ok {m p warm : Nat} {S : tS} {K : Int32 → tS → Prop} (hV : V m (gn S 48)) (hp : p < 6) (hw : warm < 1000000) : M_cueFor (nI p) (nI warm) S K ↔ K (oN (shp (gn S 48) p warm) (gn S 48 1)) S := by
  have h8 : gn S 48 2 ≤ 8 := hV.1.2.2.1
  unfold M_cueFor shp shw
  rw [M_ruleFor_ok hV hp hw]
  unfold firp
  rcases fir_c (F := gn S 48) (g := gn S 48 (75 + 5 * p)) (fed := gn S 48 (72 + 5 * p)) (warm := warm) (set := gn S 48 (73 + 5 * p)) with h | h
  · have v := (hV.2.2.1 _ h).1
    simp (disch := omega) only [oN_lt h, if_pos h, m1_nI, M_ruleOf_ok, Nat.add_zero, oN_lt v]
    simp
  · rw [h, oN_eq, if_neg (Nat.lt_irrefl _), oN_eq]
    simp
theorem M_senseFor_ok {m p warm : Nat} {S : tS} {K : Int32 → tS → Prop} (hV : V m (gn S 48)) (hp : p < 6) (hw : warm < 1000000) : M_senseFor (nI p) (nI warm) S K ↔ K (nI (sns (gn S 48) (shp (gn S 48) p warm))) S := by
  have h6 : gn S 48 1 ≤ 6 := hV.1.2.1
  unfold M_senseFor sns
  rw [M_cueFor_ok hV hp hw]
  rcases shw_lt hV (g := gn S 48 (75 + 5 * p)) (fed := gn S 48 (72 + 5 * p)) (warm := warm) (set := gn S 48 (73 + 5 * p)) with h | h
  · have h : shp (gn S 48) p warm < gn S 48 1 := h
    simp (disch := omega) only [oN_lt h, if_pos h, m1_nI, nI_add, vp_nI, cl_nI, gI48]
    simp
    omega
  · have h : shp (gn S 48) p warm = gn S 48 1 := h.1
    rw [h, oN_eq, if_neg (Nat.lt_irrefl _)]
    simp
theorem M_wouldShow_ok {m gs p warm : Nat} {S : tS} {K : Int32 → tS → Prop} (hV : V m (gn S 48)) (hp : p < 6) (hw : warm < 1000000) (hgs : gs < 1000000) : M_wouldShow (nI gs) (nI p) (nI warm) S K ↔ K (nI (shw (gn S 48) (bN (inS gs p)) (gn S 48 (72 + 5 * p)) warm (gn S 48 (73 + 5 * p)))) S := by
  obtain ⟨v0, v1, v2, v3, v4⟩ := hV.p hp
  have hb := bN_lt (inS gs p)
  have h6 : gn S 48 1 ≤ 6 := hV.1.2.1
  unfold M_wouldShow
  simp (disch := omega) only [M_personOf_ok, Nat.reduceAdd, bit_nI, M_cueOf_ok hV, gI48]
  rcases shw_lt hV (g := bN (inS gs p)) (fed := gn S 48 (72 + 5 * p)) (warm := warm) (set := gn S 48 (73 + 5 * p)) with h | h
  · simp (disch := omega) only [oN_lt h, m1_nI]
    simp
  · rw [h.1, oN_eq]
    simp
