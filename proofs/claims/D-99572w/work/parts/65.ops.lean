set_option maxRecDepth 100000
/-- an op of both sides: the component's walk ends with r in a world of Mid, from there the twin's with the same r in a world of R -/
def OpI (R : tS → Prop) (X M : tS → (Int32 → tS → Prop) → Prop) : Prop := ∀ S, R S → ∃ (r : Int32) (Mid : tS → Prop), (∀ K : Int32 → tS → Prop, (∀ S1, Mid S1 → K r S1) → X S K) ∧ (∀ (S1 : tS) (K : Int32 → tS → Prop), Mid S1 → (∀ S2, R S2 → K r S2) → M S1 K)
def OpL (R : tS → Prop) (X M : tS → (Int64 → tS → Prop) → Prop) : Prop := ∀ S, R S → ∃ (r : Int64) (Mid : tS → Prop), (∀ K : Int64 → tS → Prop, (∀ S1, Mid S1 → K r S1) → X S K) ∧ (∀ (S1 : tS) (K : Int64 → tS → Prop), Mid S1 → (∀ S2, R S2 → K r S2) → M S1 K)
def OpC (R : tS → Prop) (X : Nat → Nat → tS → (Int32 → tS → Prop) → Prop) (M : tS → (Int32 → tS → Prop) → Prop) : Prop := ∀ S, R S → ∃ (r : Int32) (Mid : tS → Prop) (c s : Nat), c ≤ 9000 ∧ s ≤ 110000 ∧ (∀ K : Int32 → tS → Prop, (∀ S1, Mid S1 → K r S1) → X c s S K) ∧ (∀ (S1 : tS) (K : Int32 → tS → Prop), Mid S1 → (∀ S2, R S2 → K r S2) → M S1 K)
def OpD (R : tS → Prop) (X : Nat → Nat → tS → (Int64 → tS → Prop) → Prop) (M : tS → (Int64 → tS → Prop) → Prop) : Prop := ∀ S, R S → ∃ (r : Int64) (Mid : tS → Prop) (c s : Nat), c ≤ 9000 ∧ s ≤ 110000 ∧ (∀ K : Int64 → tS → Prop, (∀ S1, Mid S1 → K r S1) → X c s S K) ∧ (∀ (S1 : tS) (K : Int64 → tS → Prop), Mid S1 → (∀ S2, R S2 → K r S2) → M S1 K)
theorem op_in {i j sl : Nat} (hi : i + 6 ≤ sl) (hs : sl ≤ 384) (hj : j < 6) : vp_in (nI i + nI j) sl := by
  rw [nI_add]
  exact vp_in_nI (by omega) (by omega)
theorem op_cl {i j sl : Nat} (hi : i + 6 ≤ sl) (hs : sl ≤ 384) (hj : j < 6) : (nI i + nI j).toNatClampNeg = i + j := by
  rw [nI_add]
  exact nI_clamp (by omega)
theorem op_lc (r : Int64) : lg_cmp r r = nI 0 := by
  unfold lg_cmp
  simp
  rfl
/-- what the loop does behind an op -/
def opNext (κ : Nat → Nat → Int32 → tS → Prop) (R : tS → Prop) (uc us i : Nat) : Prop := ∀ uc' us' S', R S' → uc' ≤ uc + 9000 → us' ≤ us + 110000 → κ uc' us' (nI (i + 6)) S'
theorem op_next {sl : Nat} {sc : Nat → Int32} {mc ms : Nat} {K : Int32 → tS → Prop} {κ : Nat → Nat → Int32 → tS → Prop} {R : tS → Prop} {uc us i uc' us' : Nat} {S' : tS} (h : opNext κ R uc us i) (hR : R S') (h1 : uc' ≤ uc + 9000) (h2 : us' ≤ us + 110000) : Lw_law_b2010 sl sc mc ms K κ uc' us' (nI i) S' := by
  unfold Lw_law_b2010
  intro x hx
  rw [hx, nI_add]
  exact h uc' us' S' hR h1 h2
def op0 (R : tS → Prop) : Prop := ∀ a1 a2 a3 a4 a5 : Int32, OpI R (X_status) (M_status)
def op1 (R : tS → Prop) : Prop := ∀ a1 a2 a3 a4 a5 : Int32, OpL R (X_top) (M_top)
def op2 (R : tS → Prop) : Prop := ∀ a1 a2 a3 a4 a5 : Int32, OpL R (X_bottom) (M_bottom)
def op3 (R : tS → Prop) : Prop := ∀ a1 a2 a3 a4 a5 : Int32, OpC R (XV_tray a1 a2 a3) (M_tray a1 a2 a3)
def op4 (R : tS → Prop) : Prop := ∀ a1 a2 a3 a4 a5 : Int32, OpC R (XV_write a1 a2 (((a3.toInt64) <<< ((nI 32).toInt64 &&& 63)) ||| ((a4.toInt64) &&& (lN 4294967295)))) (M_write a1 a2 (((a3.toInt64) <<< ((nI 32).toInt64 &&& 63)) ||| ((a4.toInt64) &&& (lN 4294967295))))
def op5 (R : tS → Prop) : Prop := ∀ a1 a2 a3 a4 a5 : Int32, OpD R (XV_read a1 a2) (M_read a1 a2)
def op6 (R : tS → Prop) : Prop := ∀ a1 a2 a3 a4 a5 : Int32, OpC R (XV_pour a1 a2 a3 a4 a5) (M_pour a1 a2 a3 a4 a5)
def op7 (R : tS → Prop) : Prop := ∀ a1 a2 a3 a4 a5 : Int32, OpI R (X_feed a1 a2 a3 a4 a5) (M_feed a1 a2 a3 a4 a5)
def op8 (R : tS → Prop) : Prop := ∀ a1 a2 a3 a4 a5 : Int32, OpC R (X_court a1) (M_court a1)
def op9 (R : tS → Prop) : Prop := ∀ a1 a2 a3 a4 a5 : Int32, OpC R (X_weeks a1) (M_weeks a1)
def op10 (R : tS → Prop) : Prop := ∀ a1 a2 a3 a4 a5 : Int32, OpI R (X_fault a1) (M_fault a1)
def op11 (R : tS → Prop) : Prop := ∀ a1 a2 a3 a4 a5 : Int32, OpI R (X_told a1) (M_told a1)
def op12 (R : tS → Prop) : Prop := ∀ a1 a2 a3 a4 a5 : Int32, OpI R (X_sense a1) (M_sense a1)
def op13 (R : tS → Prop) : Prop := ∀ a1 a2 a3 a4 a5 : Int32, OpI R (X_rule a1 a2) (M_rule a1 a2)
def op14 (R : tS → Prop) : Prop := ∀ a1 a2 a3 a4 a5 : Int32, OpI R (X_person a1 a2) (M_person a1 a2)
def op15 (R : tS → Prop) : Prop := ∀ a1 a2 a3 a4 a5 : Int32, OpI R (X_reader a1 a2) (M_reader a1 a2)
def op16 (R : tS → Prop) : Prop := ∀ a1 a2 a3 a4 a5 : Int32, OpI R (X_word a1 a2) (M_word a1 a2)
def op17 (R : tS → Prop) : Prop := ∀ a1 a2 a3 a4 a5 : Int32, OpI R (X_sit a1) (M_sit a1)
def op18 (R : tS → Prop) : Prop := ∀ a1 a2 a3 a4 a5 : Int32, OpI R (X_term) (M_term)
def op19 (R : tS → Prop) : Prop := ∀ a1 a2 a3 a4 a5 : Int32, OpI R (X_meal a1 a2) (M_meal a1 a2)
def op20 (R : tS → Prop) : Prop := ∀ a1 a2 a3 a4 a5 : Int32, (∀ b : Int32, (b = nI 0 ∨ b = nI 1) → OpI R (X_scent a1 a2 b) (M_scent a1 a2 b))
def op21 (R : tS → Prop) : Prop := ∀ a1 a2 a3 a4 a5 : Int32, OpI R (X_night) (M_night)
def op22 (R : tS → Prop) : Prop := ∀ a1 a2 a3 a4 a5 : Int32, OpI R (X_appeal a1) (M_appeal a1)
def op23 (R : tS → Prop) : Prop := ∀ a1 a2 a3 a4 a5 : Int32, (∀ b : Int32, (b = nI 0 ∨ b = nI 1) → OpI R (X_blame a1 b) (M_blame a1 b))
def op24 (R : tS → Prop) : Prop := ∀ a1 a2 a3 a4 a5 : Int32, OpI R (X_reread a1 a2) (M_reread a1 a2)
def op25 (R : tS → Prop) : Prop := ∀ a1 a2 a3 a4 a5 : Int32, OpC R (X_enact a1 a2 a3) (M_enact a1 a2 a3)
def op26 (R : tS → Prop) : Prop := ∀ a1 a2 a3 a4 a5 : Int32, OpI R (X_repeal a1) (M_repeal a1)
def op27 (R : tS → Prop) : Prop := ∀ a1 a2 a3 a4 a5 : Int32, OpI R (X_strain a1 a2) (M_strain a1 a2)
def op28 (R : tS → Prop) : Prop := ∀ a1 a2 a3 a4 a5 : Int32, OpI R (X_cue a1) (M_cue a1)
def op29 (R : tS → Prop) : Prop := ∀ a1 a2 a3 a4 a5 : Int32, OpI R (X_cueAt a1 a2) (M_cueAt a1 a2)
def op30 (R : tS → Prop) : Prop := ∀ a1 a2 a3 a4 a5 : Int32, OpI R (X_bears a1) (M_bears a1)
def op31 (R : tS → Prop) : Prop := ∀ a1 a2 a3 a4 a5 : Int32, OpI R (X_bearing a1) (M_bearing a1)
def op32 (R : tS → Prop) : Prop := ∀ a1 a2 a3 a4 a5 : Int32, OpI R (X_shown a1) (M_shown a1)
def op33 (R : tS → Prop) : Prop := ∀ a1 a2 a3 a4 a5 : Int32, OpI R (X_freeIn a1) (M_freeIn a1)
def op34 (R : tS → Prop) : Prop := ∀ a1 a2 a3 a4 a5 : Int32, OpI R (X_judgedIn a1) (M_judgedIn a1)
def op35 (R : tS → Prop) : Prop := ∀ a1 a2 a3 a4 a5 : Int32, OpI R (X_fits a1 a2) (M_fits a1 a2)
def op36 (R : tS → Prop) : Prop := ∀ a1 a2 a3 a4 a5 : Int32, OpI R (X_sure a1 a2 a3) (M_sure a1 a2 a3)
def op37 (R : tS → Prop) : Prop := ∀ a1 a2 a3 a4 a5 : Int32, OpI R (X_odds a1 a2 a3) (M_odds a1 a2 a3)
def op38 (R : tS → Prop) : Prop := ∀ a1 a2 a3 a4 a5 : Int32, OpI R (X_ask a1 a2 a3) (M_ask a1 a2 a3)
def op39 (R : tS → Prop) : Prop := ∀ a1 a2 a3 a4 a5 : Int32, OpI R (X_least a1 a2) (M_least a1 a2)
def op40 (R : tS → Prop) : Prop := ∀ a1 a2 a3 a4 a5 : Int32, OpI R (X_leastBy a1 a2 a3) (M_leastBy a1 a2 a3)
def op41 (R : tS → Prop) : Prop := ∀ a1 a2 a3 a4 a5 : Int32, OpI R (X_reach a1) (M_reach a1)
def op42 (R : tS → Prop) : Prop := ∀ a1 a2 a3 a4 a5 : Int32, OpI R (X_idle) (M_idle)
def op43 (R : tS → Prop) : Prop := ∀ a1 a2 a3 a4 a5 : Int32, OpI R (X_tells a1) (M_tells a1)
def op44 (R : tS → Prop) : Prop := ∀ a1 a2 a3 a4 a5 : Int32, OpI R (X_mute) (M_mute)
def op45 (R : tS → Prop) : Prop := ∀ a1 a2 a3 a4 a5 : Int32, OpI R (X_verdict a1) (M_verdict a1)
def op46 (R : tS → Prop) : Prop := ∀ a1 a2 a3 a4 a5 : Int32, OpI R (X_sworn a1) (M_sworn a1)
def op47 (R : tS → Prop) : Prop := ∀ a1 a2 a3 a4 a5 : Int32, OpI R (X_power a1) (M_power a1)
def op48 (R : tS → Prop) : Prop := ∀ a1 a2 a3 a4 a5 : Int32, OpI R (X_clash) (M_clash)
def op49 (R : tS → Prop) : Prop := ∀ a1 a2 a3 a4 a5 : Int32, OpI R (X_struck) (M_struck)
def op50 (R : tS → Prop) : Prop := ∀ a1 a2 a3 a4 a5 : Int32, OpI R (X_struckSet) (M_struckSet)
def op51 (R : tS → Prop) : Prop := ∀ a1 a2 a3 a4 a5 : Int32, OpI R (X_best) (M_best)
def op52 (R : tS → Prop) : Prop := ∀ a1 a2 a3 a4 a5 : Int32, OpI R (X_bestAt a1) (M_bestAt a1)
def op53 (R : tS → Prop) : Prop := ∀ a1 a2 a3 a4 a5 : Int32, OpI R (X_game a1) (M_game a1)
def op54 (R : tS → Prop) : Prop := ∀ a1 a2 a3 a4 a5 : Int32, OpI R (X_moveOf a1 a2) (M_moveOf a1 a2)
def op55 (R : tS → Prop) : Prop := ∀ a1 a2 a3 a4 a5 : Int32, OpI R (X_copyFed a1) (M_copyFed a1)
def op56 (R : tS → Prop) : Prop := ∀ a1 a2 a3 a4 a5 : Int32, OpC R (X_live a1) (M_live a1)
def op57 (R : tS → Prop) : Prop := ∀ a1 a2 a3 a4 a5 : Int32, OpI R (X_lived a1) (M_lived a1)
def op58 (R : tS → Prop) : Prop := ∀ a1 a2 a3 a4 a5 : Int32, OpC R (X_mean a1 a2) (M_mean a1 a2)
def op59 (R : tS → Prop) : Prop := ∀ a1 a2 a3 a4 a5 : Int32, OpC R (X_mark) (M_mark)
def op60 (R : tS → Prop) : Prop := ∀ a1 a2 a3 a4 a5 : Int32, OpI R (X_undo) (M_undo)
def opsOK (R : tS → Prop) : Prop := op0 R ∧ op1 R ∧ op2 R ∧ op3 R ∧ op4 R ∧ op5 R ∧ op6 R ∧ op7 R ∧ op8 R ∧ op9 R ∧ op10 R ∧ op11 R ∧ op12 R ∧ op13 R ∧ op14 R ∧ op15 R ∧ op16 R ∧ op17 R ∧ op18 R ∧ op19 R ∧ op20 R ∧ op21 R ∧ op22 R ∧ op23 R ∧ op24 R ∧ op25 R ∧ op26 R ∧ op27 R ∧ op28 R ∧ op29 R ∧ op30 R ∧ op31 R ∧ op32 R ∧ op33 R ∧ op34 R ∧ op35 R ∧ op36 R ∧ op37 R ∧ op38 R ∧ op39 R ∧ op40 R ∧ op41 R ∧ op42 R ∧ op43 R ∧ op44 R ∧ op45 R ∧ op46 R ∧ op47 R ∧ op48 R ∧ op49 R ∧ op50 R ∧ op51 R ∧ op52 R ∧ op53 R ∧ op54 R ∧ op55 R ∧ op56 R ∧ op57 R ∧ op58 R ∧ op59 R ∧ op60 R
theorem cs_0 {sl : Nat} {sc : Nat → Int32} {mc ms : Nat} {K : Int32 → tS → Prop} {κ : Nat → Nat → Int32 → tS → Prop} {R : tS → Prop} {uc us i : Nat} {S : tS} (hop : op0 R) (hi : i + 6 ≤ sl) (hs : sl ≤ 384) (hb : uc + 9000 ≤ mc ∧ us + 110000 ≤ ms) (hR : R S) (hk : opNext κ R uc us i) : Lw_law_b292 sl sc mc ms K κ uc us (nI i) S := by
  unfold Lw_law_b292
  obtain ⟨r, Mid, hX, hM⟩ := hop (sc (i + 1)) (sc (i + 2)) (sc (i + 3)) (sc (i + 4)) (sc (i + 5)) S hR
  refine hX _ (fun S1 h1 => ?_)
  exact hM S1 _ h1 (fun S2 h2 => ⟨fun _ => op_next hk h2 (by omega) (by omega), fun e => absurd (rfl) e⟩)
theorem cs_1 {sl : Nat} {sc : Nat → Int32} {mc ms : Nat} {K : Int32 → tS → Prop} {κ : Nat → Nat → Int32 → tS → Prop} {R : tS → Prop} {uc us i : Nat} {S : tS} (hop : op1 R) (hi : i + 6 ≤ sl) (hs : sl ≤ 384) (hb : uc + 9000 ≤ mc ∧ us + 110000 ≤ ms) (hR : R S) (hk : opNext κ R uc us i) : Lw_law_b305 sl sc mc ms K κ uc us (nI i) S := by
  unfold Lw_law_b305
  obtain ⟨r, Mid, hX, hM⟩ := hop (sc (i + 1)) (sc (i + 2)) (sc (i + 3)) (sc (i + 4)) (sc (i + 5)) S hR
  refine hX _ (fun S1 h1 => ?_)
  exact hM S1 _ h1 (fun S2 h2 => ⟨fun _ => op_next hk h2 (by omega) (by omega), fun e => absurd (op_lc _) e⟩)
theorem cs_2 {sl : Nat} {sc : Nat → Int32} {mc ms : Nat} {K : Int32 → tS → Prop} {κ : Nat → Nat → Int32 → tS → Prop} {R : tS → Prop} {uc us i : Nat} {S : tS} (hop : op2 R) (hi : i + 6 ≤ sl) (hs : sl ≤ 384) (hb : uc + 9000 ≤ mc ∧ us + 110000 ≤ ms) (hR : R S) (hk : opNext κ R uc us i) : Lw_law_b319 sl sc mc ms K κ uc us (nI i) S := by
  unfold Lw_law_b319
  obtain ⟨r, Mid, hX, hM⟩ := hop (sc (i + 1)) (sc (i + 2)) (sc (i + 3)) (sc (i + 4)) (sc (i + 5)) S hR
  refine hX _ (fun S1 h1 => ?_)
  exact hM S1 _ h1 (fun S2 h2 => ⟨fun _ => op_next hk h2 (by omega) (by omega), fun e => absurd (op_lc _) e⟩)
theorem cs_3 {sl : Nat} {sc : Nat → Int32} {mc ms : Nat} {K : Int32 → tS → Prop} {κ : Nat → Nat → Int32 → tS → Prop} {R : tS → Prop} {uc us i : Nat} {S : tS} (hop : op3 R) (hi : i + 6 ≤ sl) (hs : sl ≤ 384) (hb : uc + 9000 ≤ mc ∧ us + 110000 ≤ ms) (hR : R S) (hk : opNext κ R uc us i) : Lw_law_b333 sl sc mc ms K κ uc us (nI i) S := by
  unfold Lw_law_b333
  simp only [op_cl hi hs (show 1 < 6 by decide), op_cl hi hs (show 2 < 6 by decide), op_cl hi hs (show 3 < 6 by decide), op_cl hi hs (show 4 < 6 by decide), op_cl hi hs (show 5 < 6 by decide), op_in hi hs (show 1 < 6 by decide), op_in hi hs (show 2 < 6 by decide), op_in hi hs (show 3 < 6 by decide), op_in hi hs (show 4 < 6 by decide), op_in hi hs (show 5 < 6 by decide), true_and]
  obtain ⟨r, Mid, c, s, hc, hs2, hX, hM⟩ := hop (sc (i + 1)) (sc (i + 2)) (sc (i + 3)) (sc (i + 4)) (sc (i + 5)) S hR
  refine ⟨c, s, ⟨by omega, by omega⟩, hX _ (fun S1 h1 => ?_)⟩
  exact hM S1 _ h1 (fun S2 h2 => ⟨fun _ => op_next hk h2 (by omega) (by omega), fun e => absurd (rfl) e⟩)
theorem cs_4 {sl : Nat} {sc : Nat → Int32} {mc ms : Nat} {K : Int32 → tS → Prop} {κ : Nat → Nat → Int32 → tS → Prop} {R : tS → Prop} {uc us i : Nat} {S : tS} (hop : op4 R) (hi : i + 6 ≤ sl) (hs : sl ≤ 384) (hb : uc + 9000 ≤ mc ∧ us + 110000 ≤ ms) (hR : R S) (hk : opNext κ R uc us i) : Lw_law_b376 sl sc mc ms K κ uc us (nI i) S := by
  unfold Lw_law_b376
  simp only [op_cl hi hs (show 1 < 6 by decide), op_cl hi hs (show 2 < 6 by decide), op_cl hi hs (show 3 < 6 by decide), op_cl hi hs (show 4 < 6 by decide), op_cl hi hs (show 5 < 6 by decide), op_in hi hs (show 1 < 6 by decide), op_in hi hs (show 2 < 6 by decide), op_in hi hs (show 3 < 6 by decide), op_in hi hs (show 4 < 6 by decide), op_in hi hs (show 5 < 6 by decide), true_and]
  obtain ⟨r, Mid, c, s, hc, hs2, hX, hM⟩ := hop (sc (i + 1)) (sc (i + 2)) (sc (i + 3)) (sc (i + 4)) (sc (i + 5)) S hR
  refine ⟨c, s, ⟨by omega, by omega⟩, hX _ (fun S1 h1 => ?_)⟩
  exact hM S1 _ h1 (fun S2 h2 => ⟨fun _ => op_next hk h2 (by omega) (by omega), fun e => absurd (rfl) e⟩)
theorem cs_5 {sl : Nat} {sc : Nat → Int32} {mc ms : Nat} {K : Int32 → tS → Prop} {κ : Nat → Nat → Int32 → tS → Prop} {R : tS → Prop} {uc us i : Nat} {S : tS} (hop : op5 R) (hi : i + 6 ≤ sl) (hs : sl ≤ 384) (hb : uc + 9000 ≤ mc ∧ us + 110000 ≤ ms) (hR : R S) (hk : opNext κ R uc us i) : Lw_law_b449 sl sc mc ms K κ uc us (nI i) S := by
  unfold Lw_law_b449
  simp only [op_cl hi hs (show 1 < 6 by decide), op_cl hi hs (show 2 < 6 by decide), op_cl hi hs (show 3 < 6 by decide), op_cl hi hs (show 4 < 6 by decide), op_cl hi hs (show 5 < 6 by decide), op_in hi hs (show 1 < 6 by decide), op_in hi hs (show 2 < 6 by decide), op_in hi hs (show 3 < 6 by decide), op_in hi hs (show 4 < 6 by decide), op_in hi hs (show 5 < 6 by decide), true_and]
  obtain ⟨r, Mid, c, s, hc, hs2, hX, hM⟩ := hop (sc (i + 1)) (sc (i + 2)) (sc (i + 3)) (sc (i + 4)) (sc (i + 5)) S hR
  refine ⟨c, s, ⟨by omega, by omega⟩, hX _ (fun S1 h1 => ?_)⟩
  exact hM S1 _ h1 (fun S2 h2 => ⟨fun _ => op_next hk h2 (by omega) (by omega), fun e => absurd (op_lc _) e⟩)
theorem cs_6 {sl : Nat} {sc : Nat → Int32} {mc ms : Nat} {K : Int32 → tS → Prop} {κ : Nat → Nat → Int32 → tS → Prop} {R : tS → Prop} {uc us i : Nat} {S : tS} (hop : op6 R) (hi : i + 6 ≤ sl) (hs : sl ≤ 384) (hb : uc + 9000 ≤ mc ∧ us + 110000 ≤ ms) (hR : R S) (hk : opNext κ R uc us i) : Lw_law_b483 sl sc mc ms K κ uc us (nI i) S := by
  unfold Lw_law_b483
  simp only [op_cl hi hs (show 1 < 6 by decide), op_cl hi hs (show 2 < 6 by decide), op_cl hi hs (show 3 < 6 by decide), op_cl hi hs (show 4 < 6 by decide), op_cl hi hs (show 5 < 6 by decide), op_in hi hs (show 1 < 6 by decide), op_in hi hs (show 2 < 6 by decide), op_in hi hs (show 3 < 6 by decide), op_in hi hs (show 4 < 6 by decide), op_in hi hs (show 5 < 6 by decide), true_and]
  obtain ⟨r, Mid, c, s, hc, hs2, hX, hM⟩ := hop (sc (i + 1)) (sc (i + 2)) (sc (i + 3)) (sc (i + 4)) (sc (i + 5)) S hR
  refine ⟨c, s, ⟨by omega, by omega⟩, hX _ (fun S1 h1 => ?_)⟩
  exact hM S1 _ h1 (fun S2 h2 => ⟨fun _ => op_next hk h2 (by omega) (by omega), fun e => absurd (rfl) e⟩)
theorem cs_7 {sl : Nat} {sc : Nat → Int32} {mc ms : Nat} {K : Int32 → tS → Prop} {κ : Nat → Nat → Int32 → tS → Prop} {R : tS → Prop} {uc us i : Nat} {S : tS} (hop : op7 R) (hi : i + 6 ≤ sl) (hs : sl ≤ 384) (hb : uc + 9000 ≤ mc ∧ us + 110000 ≤ ms) (hR : R S) (hk : opNext κ R uc us i) : Lw_law_b546 sl sc mc ms K κ uc us (nI i) S := by
  unfold Lw_law_b546
  simp only [op_cl hi hs (show 1 < 6 by decide), op_cl hi hs (show 2 < 6 by decide), op_cl hi hs (show 3 < 6 by decide), op_cl hi hs (show 4 < 6 by decide), op_cl hi hs (show 5 < 6 by decide), op_in hi hs (show 1 < 6 by decide), op_in hi hs (show 2 < 6 by decide), op_in hi hs (show 3 < 6 by decide), op_in hi hs (show 4 < 6 by decide), op_in hi hs (show 5 < 6 by decide), true_and]
  obtain ⟨r, Mid, hX, hM⟩ := hop (sc (i + 1)) (sc (i + 2)) (sc (i + 3)) (sc (i + 4)) (sc (i + 5)) S hR
  refine hX _ (fun S1 h1 => ?_)
  exact hM S1 _ h1 (fun S2 h2 => ⟨fun _ => op_next hk h2 (by omega) (by omega), fun e => absurd (rfl) e⟩)
theorem cs_8 {sl : Nat} {sc : Nat → Int32} {mc ms : Nat} {K : Int32 → tS → Prop} {κ : Nat → Nat → Int32 → tS → Prop} {R : tS → Prop} {uc us i : Nat} {S : tS} (hop : op8 R) (hi : i + 6 ≤ sl) (hs : sl ≤ 384) (hb : uc + 9000 ≤ mc ∧ us + 110000 ≤ ms) (hR : R S) (hk : opNext κ R uc us i) : Lw_law_b609 sl sc mc ms K κ uc us (nI i) S := by
  unfold Lw_law_b609
  simp only [op_cl hi hs (show 1 < 6 by decide), op_cl hi hs (show 2 < 6 by decide), op_cl hi hs (show 3 < 6 by decide), op_cl hi hs (show 4 < 6 by decide), op_cl hi hs (show 5 < 6 by decide), op_in hi hs (show 1 < 6 by decide), op_in hi hs (show 2 < 6 by decide), op_in hi hs (show 3 < 6 by decide), op_in hi hs (show 4 < 6 by decide), op_in hi hs (show 5 < 6 by decide), true_and]
  obtain ⟨r, Mid, c, s, hc, hs2, hX, hM⟩ := hop (sc (i + 1)) (sc (i + 2)) (sc (i + 3)) (sc (i + 4)) (sc (i + 5)) S hR
  refine ⟨c, s, ⟨by omega, by omega⟩, hX _ (fun S1 h1 => ?_)⟩
  exact hM S1 _ h1 (fun S2 h2 => ⟨fun _ => op_next hk h2 (by omega) (by omega), fun e => absurd (rfl) e⟩)
theorem cs_9 {sl : Nat} {sc : Nat → Int32} {mc ms : Nat} {K : Int32 → tS → Prop} {κ : Nat → Nat → Int32 → tS → Prop} {R : tS → Prop} {uc us i : Nat} {S : tS} (hop : op9 R) (hi : i + 6 ≤ sl) (hs : sl ≤ 384) (hb : uc + 9000 ≤ mc ∧ us + 110000 ≤ ms) (hR : R S) (hk : opNext κ R uc us i) : Lw_law_b632 sl sc mc ms K κ uc us (nI i) S := by
  unfold Lw_law_b632
  simp only [op_cl hi hs (show 1 < 6 by decide), op_cl hi hs (show 2 < 6 by decide), op_cl hi hs (show 3 < 6 by decide), op_cl hi hs (show 4 < 6 by decide), op_cl hi hs (show 5 < 6 by decide), op_in hi hs (show 1 < 6 by decide), op_in hi hs (show 2 < 6 by decide), op_in hi hs (show 3 < 6 by decide), op_in hi hs (show 4 < 6 by decide), op_in hi hs (show 5 < 6 by decide), true_and]
  obtain ⟨r, Mid, c, s, hc, hs2, hX, hM⟩ := hop (sc (i + 1)) (sc (i + 2)) (sc (i + 3)) (sc (i + 4)) (sc (i + 5)) S hR
  refine ⟨c, s, ⟨by omega, by omega⟩, hX _ (fun S1 h1 => ?_)⟩
  exact hM S1 _ h1 (fun S2 h2 => ⟨fun _ => op_next hk h2 (by omega) (by omega), fun e => absurd (rfl) e⟩)
theorem cs_10 {sl : Nat} {sc : Nat → Int32} {mc ms : Nat} {K : Int32 → tS → Prop} {κ : Nat → Nat → Int32 → tS → Prop} {R : tS → Prop} {uc us i : Nat} {S : tS} (hop : op10 R) (hi : i + 6 ≤ sl) (hs : sl ≤ 384) (hb : uc + 9000 ≤ mc ∧ us + 110000 ≤ ms) (hR : R S) (hk : opNext κ R uc us i) : Lw_law_b655 sl sc mc ms K κ uc us (nI i) S := by
  unfold Lw_law_b655
  simp only [op_cl hi hs (show 1 < 6 by decide), op_cl hi hs (show 2 < 6 by decide), op_cl hi hs (show 3 < 6 by decide), op_cl hi hs (show 4 < 6 by decide), op_cl hi hs (show 5 < 6 by decide), op_in hi hs (show 1 < 6 by decide), op_in hi hs (show 2 < 6 by decide), op_in hi hs (show 3 < 6 by decide), op_in hi hs (show 4 < 6 by decide), op_in hi hs (show 5 < 6 by decide), true_and]
  obtain ⟨r, Mid, hX, hM⟩ := hop (sc (i + 1)) (sc (i + 2)) (sc (i + 3)) (sc (i + 4)) (sc (i + 5)) S hR
  refine hX _ (fun S1 h1 => ?_)
  exact hM S1 _ h1 (fun S2 h2 => ⟨fun _ => op_next hk h2 (by omega) (by omega), fun e => absurd (rfl) e⟩)
theorem cs_11 {sl : Nat} {sc : Nat → Int32} {mc ms : Nat} {K : Int32 → tS → Prop} {κ : Nat → Nat → Int32 → tS → Prop} {R : tS → Prop} {uc us i : Nat} {S : tS} (hop : op11 R) (hi : i + 6 ≤ sl) (hs : sl ≤ 384) (hb : uc + 9000 ≤ mc ∧ us + 110000 ≤ ms) (hR : R S) (hk : opNext κ R uc us i) : Lw_law_b678 sl sc mc ms K κ uc us (nI i) S := by
  unfold Lw_law_b678
  simp only [op_cl hi hs (show 1 < 6 by decide), op_cl hi hs (show 2 < 6 by decide), op_cl hi hs (show 3 < 6 by decide), op_cl hi hs (show 4 < 6 by decide), op_cl hi hs (show 5 < 6 by decide), op_in hi hs (show 1 < 6 by decide), op_in hi hs (show 2 < 6 by decide), op_in hi hs (show 3 < 6 by decide), op_in hi hs (show 4 < 6 by decide), op_in hi hs (show 5 < 6 by decide), true_and]
  obtain ⟨r, Mid, hX, hM⟩ := hop (sc (i + 1)) (sc (i + 2)) (sc (i + 3)) (sc (i + 4)) (sc (i + 5)) S hR
  refine hX _ (fun S1 h1 => ?_)
  exact hM S1 _ h1 (fun S2 h2 => ⟨fun _ => op_next hk h2 (by omega) (by omega), fun e => absurd (rfl) e⟩)
theorem cs_12 {sl : Nat} {sc : Nat → Int32} {mc ms : Nat} {K : Int32 → tS → Prop} {κ : Nat → Nat → Int32 → tS → Prop} {R : tS → Prop} {uc us i : Nat} {S : tS} (hop : op12 R) (hi : i + 6 ≤ sl) (hs : sl ≤ 384) (hb : uc + 9000 ≤ mc ∧ us + 110000 ≤ ms) (hR : R S) (hk : opNext κ R uc us i) : Lw_law_b701 sl sc mc ms K κ uc us (nI i) S := by
  unfold Lw_law_b701
  simp only [op_cl hi hs (show 1 < 6 by decide), op_cl hi hs (show 2 < 6 by decide), op_cl hi hs (show 3 < 6 by decide), op_cl hi hs (show 4 < 6 by decide), op_cl hi hs (show 5 < 6 by decide), op_in hi hs (show 1 < 6 by decide), op_in hi hs (show 2 < 6 by decide), op_in hi hs (show 3 < 6 by decide), op_in hi hs (show 4 < 6 by decide), op_in hi hs (show 5 < 6 by decide), true_and]
  obtain ⟨r, Mid, hX, hM⟩ := hop (sc (i + 1)) (sc (i + 2)) (sc (i + 3)) (sc (i + 4)) (sc (i + 5)) S hR
  refine hX _ (fun S1 h1 => ?_)
  exact hM S1 _ h1 (fun S2 h2 => ⟨fun _ => op_next hk h2 (by omega) (by omega), fun e => absurd (rfl) e⟩)
theorem cs_13 {sl : Nat} {sc : Nat → Int32} {mc ms : Nat} {K : Int32 → tS → Prop} {κ : Nat → Nat → Int32 → tS → Prop} {R : tS → Prop} {uc us i : Nat} {S : tS} (hop : op13 R) (hi : i + 6 ≤ sl) (hs : sl ≤ 384) (hb : uc + 9000 ≤ mc ∧ us + 110000 ≤ ms) (hR : R S) (hk : opNext κ R uc us i) : Lw_law_b724 sl sc mc ms K κ uc us (nI i) S := by
  unfold Lw_law_b724
  simp only [op_cl hi hs (show 1 < 6 by decide), op_cl hi hs (show 2 < 6 by decide), op_cl hi hs (show 3 < 6 by decide), op_cl hi hs (show 4 < 6 by decide), op_cl hi hs (show 5 < 6 by decide), op_in hi hs (show 1 < 6 by decide), op_in hi hs (show 2 < 6 by decide), op_in hi hs (show 3 < 6 by decide), op_in hi hs (show 4 < 6 by decide), op_in hi hs (show 5 < 6 by decide), true_and]
  obtain ⟨r, Mid, hX, hM⟩ := hop (sc (i + 1)) (sc (i + 2)) (sc (i + 3)) (sc (i + 4)) (sc (i + 5)) S hR
  refine hX _ (fun S1 h1 => ?_)
  exact hM S1 _ h1 (fun S2 h2 => ⟨fun _ => op_next hk h2 (by omega) (by omega), fun e => absurd (rfl) e⟩)
theorem cs_14 {sl : Nat} {sc : Nat → Int32} {mc ms : Nat} {K : Int32 → tS → Prop} {κ : Nat → Nat → Int32 → tS → Prop} {R : tS → Prop} {uc us i : Nat} {S : tS} (hop : op14 R) (hi : i + 6 ≤ sl) (hs : sl ≤ 384) (hb : uc + 9000 ≤ mc ∧ us + 110000 ≤ ms) (hR : R S) (hk : opNext κ R uc us i) : Lw_law_b757 sl sc mc ms K κ uc us (nI i) S := by
  unfold Lw_law_b757
  simp only [op_cl hi hs (show 1 < 6 by decide), op_cl hi hs (show 2 < 6 by decide), op_cl hi hs (show 3 < 6 by decide), op_cl hi hs (show 4 < 6 by decide), op_cl hi hs (show 5 < 6 by decide), op_in hi hs (show 1 < 6 by decide), op_in hi hs (show 2 < 6 by decide), op_in hi hs (show 3 < 6 by decide), op_in hi hs (show 4 < 6 by decide), op_in hi hs (show 5 < 6 by decide), true_and]
  obtain ⟨r, Mid, hX, hM⟩ := hop (sc (i + 1)) (sc (i + 2)) (sc (i + 3)) (sc (i + 4)) (sc (i + 5)) S hR
  refine hX _ (fun S1 h1 => ?_)
  exact hM S1 _ h1 (fun S2 h2 => ⟨fun _ => op_next hk h2 (by omega) (by omega), fun e => absurd (rfl) e⟩)
theorem cs_15 {sl : Nat} {sc : Nat → Int32} {mc ms : Nat} {K : Int32 → tS → Prop} {κ : Nat → Nat → Int32 → tS → Prop} {R : tS → Prop} {uc us i : Nat} {S : tS} (hop : op15 R) (hi : i + 6 ≤ sl) (hs : sl ≤ 384) (hb : uc + 9000 ≤ mc ∧ us + 110000 ≤ ms) (hR : R S) (hk : opNext κ R uc us i) : Lw_law_b790 sl sc mc ms K κ uc us (nI i) S := by
  unfold Lw_law_b790
  simp only [op_cl hi hs (show 1 < 6 by decide), op_cl hi hs (show 2 < 6 by decide), op_cl hi hs (show 3 < 6 by decide), op_cl hi hs (show 4 < 6 by decide), op_cl hi hs (show 5 < 6 by decide), op_in hi hs (show 1 < 6 by decide), op_in hi hs (show 2 < 6 by decide), op_in hi hs (show 3 < 6 by decide), op_in hi hs (show 4 < 6 by decide), op_in hi hs (show 5 < 6 by decide), true_and]
  obtain ⟨r, Mid, hX, hM⟩ := hop (sc (i + 1)) (sc (i + 2)) (sc (i + 3)) (sc (i + 4)) (sc (i + 5)) S hR
  refine hX _ (fun S1 h1 => ?_)
  exact hM S1 _ h1 (fun S2 h2 => ⟨fun _ => op_next hk h2 (by omega) (by omega), fun e => absurd (rfl) e⟩)
theorem cs_16 {sl : Nat} {sc : Nat → Int32} {mc ms : Nat} {K : Int32 → tS → Prop} {κ : Nat → Nat → Int32 → tS → Prop} {R : tS → Prop} {uc us i : Nat} {S : tS} (hop : op16 R) (hi : i + 6 ≤ sl) (hs : sl ≤ 384) (hb : uc + 9000 ≤ mc ∧ us + 110000 ≤ ms) (hR : R S) (hk : opNext κ R uc us i) : Lw_law_b823 sl sc mc ms K κ uc us (nI i) S := by
  unfold Lw_law_b823
  simp only [op_cl hi hs (show 1 < 6 by decide), op_cl hi hs (show 2 < 6 by decide), op_cl hi hs (show 3 < 6 by decide), op_cl hi hs (show 4 < 6 by decide), op_cl hi hs (show 5 < 6 by decide), op_in hi hs (show 1 < 6 by decide), op_in hi hs (show 2 < 6 by decide), op_in hi hs (show 3 < 6 by decide), op_in hi hs (show 4 < 6 by decide), op_in hi hs (show 5 < 6 by decide), true_and]
  obtain ⟨r, Mid, hX, hM⟩ := hop (sc (i + 1)) (sc (i + 2)) (sc (i + 3)) (sc (i + 4)) (sc (i + 5)) S hR
  refine hX _ (fun S1 h1 => ?_)
  exact hM S1 _ h1 (fun S2 h2 => ⟨fun _ => op_next hk h2 (by omega) (by omega), fun e => absurd (rfl) e⟩)
theorem cs_17 {sl : Nat} {sc : Nat → Int32} {mc ms : Nat} {K : Int32 → tS → Prop} {κ : Nat → Nat → Int32 → tS → Prop} {R : tS → Prop} {uc us i : Nat} {S : tS} (hop : op17 R) (hi : i + 6 ≤ sl) (hs : sl ≤ 384) (hb : uc + 9000 ≤ mc ∧ us + 110000 ≤ ms) (hR : R S) (hk : opNext κ R uc us i) : Lw_law_b856 sl sc mc ms K κ uc us (nI i) S := by
  unfold Lw_law_b856
  simp only [op_cl hi hs (show 1 < 6 by decide), op_cl hi hs (show 2 < 6 by decide), op_cl hi hs (show 3 < 6 by decide), op_cl hi hs (show 4 < 6 by decide), op_cl hi hs (show 5 < 6 by decide), op_in hi hs (show 1 < 6 by decide), op_in hi hs (show 2 < 6 by decide), op_in hi hs (show 3 < 6 by decide), op_in hi hs (show 4 < 6 by decide), op_in hi hs (show 5 < 6 by decide), true_and]
  obtain ⟨r, Mid, hX, hM⟩ := hop (sc (i + 1)) (sc (i + 2)) (sc (i + 3)) (sc (i + 4)) (sc (i + 5)) S hR
  refine hX _ (fun S1 h1 => ?_)
  exact hM S1 _ h1 (fun S2 h2 => ⟨fun _ => op_next hk h2 (by omega) (by omega), fun e => absurd (rfl) e⟩)
theorem cs_18 {sl : Nat} {sc : Nat → Int32} {mc ms : Nat} {K : Int32 → tS → Prop} {κ : Nat → Nat → Int32 → tS → Prop} {R : tS → Prop} {uc us i : Nat} {S : tS} (hop : op18 R) (hi : i + 6 ≤ sl) (hs : sl ≤ 384) (hb : uc + 9000 ≤ mc ∧ us + 110000 ≤ ms) (hR : R S) (hk : opNext κ R uc us i) : Lw_law_b879 sl sc mc ms K κ uc us (nI i) S := by
  unfold Lw_law_b879
  obtain ⟨r, Mid, hX, hM⟩ := hop (sc (i + 1)) (sc (i + 2)) (sc (i + 3)) (sc (i + 4)) (sc (i + 5)) S hR
  refine hX _ (fun S1 h1 => ?_)
  exact hM S1 _ h1 (fun S2 h2 => ⟨fun _ => op_next hk h2 (by omega) (by omega), fun e => absurd (rfl) e⟩)
theorem cs_19 {sl : Nat} {sc : Nat → Int32} {mc ms : Nat} {K : Int32 → tS → Prop} {κ : Nat → Nat → Int32 → tS → Prop} {R : tS → Prop} {uc us i : Nat} {S : tS} (hop : op19 R) (hi : i + 6 ≤ sl) (hs : sl ≤ 384) (hb : uc + 9000 ≤ mc ∧ us + 110000 ≤ ms) (hR : R S) (hk : opNext κ R uc us i) : Lw_law_b892 sl sc mc ms K κ uc us (nI i) S := by
  unfold Lw_law_b892
  simp only [op_cl hi hs (show 1 < 6 by decide), op_cl hi hs (show 2 < 6 by decide), op_cl hi hs (show 3 < 6 by decide), op_cl hi hs (show 4 < 6 by decide), op_cl hi hs (show 5 < 6 by decide), op_in hi hs (show 1 < 6 by decide), op_in hi hs (show 2 < 6 by decide), op_in hi hs (show 3 < 6 by decide), op_in hi hs (show 4 < 6 by decide), op_in hi hs (show 5 < 6 by decide), true_and]
  obtain ⟨r, Mid, hX, hM⟩ := hop (sc (i + 1)) (sc (i + 2)) (sc (i + 3)) (sc (i + 4)) (sc (i + 5)) S hR
  refine hX _ (fun S1 h1 => ?_)
  exact hM S1 _ h1 (fun S2 h2 => ⟨fun _ => op_next hk h2 (by omega) (by omega), fun e => absurd (rfl) e⟩)
theorem cs_20 {sl : Nat} {sc : Nat → Int32} {mc ms : Nat} {K : Int32 → tS → Prop} {κ : Nat → Nat → Int32 → tS → Prop} {R : tS → Prop} {uc us i : Nat} {S : tS} (hop : op20 R) (hi : i + 6 ≤ sl) (hs : sl ≤ 384) (hb : uc + 9000 ≤ mc ∧ us + 110000 ≤ ms) (hR : R S) (hk : opNext κ R uc us i) : Lw_law_b925 sl sc mc ms K κ uc us (nI i) S := by
  unfold Lw_law_b925
  unfold Lw_law_b949 Lw_law_b976
  simp only [op_cl hi hs (show 1 < 6 by decide), op_cl hi hs (show 2 < 6 by decide), op_cl hi hs (show 3 < 6 by decide), op_cl hi hs (show 4 < 6 by decide), op_cl hi hs (show 5 < 6 by decide), op_in hi hs (show 1 < 6 by decide), op_in hi hs (show 2 < 6 by decide), op_in hi hs (show 3 < 6 by decide), op_in hi hs (show 4 < 6 by decide), op_in hi hs (show 5 < 6 by decide), true_and]
  have key : ∀ b : Int32, (b = nI 0 ∨ b = nI 1) → _ := fun b hb2 => hop (sc (i + 1)) (sc (i + 2)) (sc (i + 3)) (sc (i + 4)) (sc (i + 5)) b hb2 S hR
  refine ⟨fun e => ?_, fun e => ?_⟩
  · obtain ⟨r, Mid, hX, hM⟩ := key (nI 0) (.inl rfl)
    refine hX _ (fun S1 h1 => ?_)
    exact ⟨fun _ => hM S1 _ h1 (fun S2 h2 => ⟨fun _ => op_next hk h2 (by omega) (by omega), fun e => absurd (rfl) e⟩), fun e2 => absurd e e2⟩
  · obtain ⟨r, Mid, hX, hM⟩ := key (nI 1) (.inr rfl)
    refine hX _ (fun S1 h1 => ?_)
    exact ⟨fun e2 => absurd e2 e, fun _ => hM S1 _ h1 (fun S2 h2 => ⟨fun _ => op_next hk h2 (by omega) (by omega), fun e => absurd (rfl) e⟩)⟩
theorem cs_21 {sl : Nat} {sc : Nat → Int32} {mc ms : Nat} {K : Int32 → tS → Prop} {κ : Nat → Nat → Int32 → tS → Prop} {R : tS → Prop} {uc us i : Nat} {S : tS} (hop : op21 R) (hi : i + 6 ≤ sl) (hs : sl ≤ 384) (hb : uc + 9000 ≤ mc ∧ us + 110000 ≤ ms) (hR : R S) (hk : opNext κ R uc us i) : Lw_law_b984 sl sc mc ms K κ uc us (nI i) S := by
  unfold Lw_law_b984
  obtain ⟨r, Mid, hX, hM⟩ := hop (sc (i + 1)) (sc (i + 2)) (sc (i + 3)) (sc (i + 4)) (sc (i + 5)) S hR
  refine hX _ (fun S1 h1 => ?_)
  exact hM S1 _ h1 (fun S2 h2 => ⟨fun _ => op_next hk h2 (by omega) (by omega), fun e => absurd (rfl) e⟩)
theorem cs_22 {sl : Nat} {sc : Nat → Int32} {mc ms : Nat} {K : Int32 → tS → Prop} {κ : Nat → Nat → Int32 → tS → Prop} {R : tS → Prop} {uc us i : Nat} {S : tS} (hop : op22 R) (hi : i + 6 ≤ sl) (hs : sl ≤ 384) (hb : uc + 9000 ≤ mc ∧ us + 110000 ≤ ms) (hR : R S) (hk : opNext κ R uc us i) : Lw_law_b997 sl sc mc ms K κ uc us (nI i) S := by
  unfold Lw_law_b997
  simp only [op_cl hi hs (show 1 < 6 by decide), op_cl hi hs (show 2 < 6 by decide), op_cl hi hs (show 3 < 6 by decide), op_cl hi hs (show 4 < 6 by decide), op_cl hi hs (show 5 < 6 by decide), op_in hi hs (show 1 < 6 by decide), op_in hi hs (show 2 < 6 by decide), op_in hi hs (show 3 < 6 by decide), op_in hi hs (show 4 < 6 by decide), op_in hi hs (show 5 < 6 by decide), true_and]
  obtain ⟨r, Mid, hX, hM⟩ := hop (sc (i + 1)) (sc (i + 2)) (sc (i + 3)) (sc (i + 4)) (sc (i + 5)) S hR
  refine hX _ (fun S1 h1 => ?_)
  exact hM S1 _ h1 (fun S2 h2 => ⟨fun _ => op_next hk h2 (by omega) (by omega), fun e => absurd (rfl) e⟩)
theorem cs_23 {sl : Nat} {sc : Nat → Int32} {mc ms : Nat} {K : Int32 → tS → Prop} {κ : Nat → Nat → Int32 → tS → Prop} {R : tS → Prop} {uc us i : Nat} {S : tS} (hop : op23 R) (hi : i + 6 ≤ sl) (hs : sl ≤ 384) (hb : uc + 9000 ≤ mc ∧ us + 110000 ≤ ms) (hR : R S) (hk : opNext κ R uc us i) : Lw_law_b1020 sl sc mc ms K κ uc us (nI i) S := by
  unfold Lw_law_b1020
  unfold Lw_law_b1039 Lw_law_b1061
  simp only [op_cl hi hs (show 1 < 6 by decide), op_cl hi hs (show 2 < 6 by decide), op_cl hi hs (show 3 < 6 by decide), op_cl hi hs (show 4 < 6 by decide), op_cl hi hs (show 5 < 6 by decide), op_in hi hs (show 1 < 6 by decide), op_in hi hs (show 2 < 6 by decide), op_in hi hs (show 3 < 6 by decide), op_in hi hs (show 4 < 6 by decide), op_in hi hs (show 5 < 6 by decide), true_and]
  have key : ∀ b : Int32, (b = nI 0 ∨ b = nI 1) → _ := fun b hb2 => hop (sc (i + 1)) (sc (i + 2)) (sc (i + 3)) (sc (i + 4)) (sc (i + 5)) b hb2 S hR
  refine ⟨fun e => ?_, fun e => ?_⟩
  · obtain ⟨r, Mid, hX, hM⟩ := key (nI 0) (.inl rfl)
    refine hX _ (fun S1 h1 => ?_)
    exact ⟨fun _ => hM S1 _ h1 (fun S2 h2 => ⟨fun _ => op_next hk h2 (by omega) (by omega), fun e => absurd (rfl) e⟩), fun e2 => absurd e e2⟩
  · obtain ⟨r, Mid, hX, hM⟩ := key (nI 1) (.inr rfl)
    refine hX _ (fun S1 h1 => ?_)
    exact ⟨fun e2 => absurd e2 e, fun _ => hM S1 _ h1 (fun S2 h2 => ⟨fun _ => op_next hk h2 (by omega) (by omega), fun e => absurd (rfl) e⟩)⟩
theorem cs_24 {sl : Nat} {sc : Nat → Int32} {mc ms : Nat} {K : Int32 → tS → Prop} {κ : Nat → Nat → Int32 → tS → Prop} {R : tS → Prop} {uc us i : Nat} {S : tS} (hop : op24 R) (hi : i + 6 ≤ sl) (hs : sl ≤ 384) (hb : uc + 9000 ≤ mc ∧ us + 110000 ≤ ms) (hR : R S) (hk : opNext κ R uc us i) : Lw_law_b1069 sl sc mc ms K κ uc us (nI i) S := by
  unfold Lw_law_b1069
  simp only [op_cl hi hs (show 1 < 6 by decide), op_cl hi hs (show 2 < 6 by decide), op_cl hi hs (show 3 < 6 by decide), op_cl hi hs (show 4 < 6 by decide), op_cl hi hs (show 5 < 6 by decide), op_in hi hs (show 1 < 6 by decide), op_in hi hs (show 2 < 6 by decide), op_in hi hs (show 3 < 6 by decide), op_in hi hs (show 4 < 6 by decide), op_in hi hs (show 5 < 6 by decide), true_and]
  obtain ⟨r, Mid, hX, hM⟩ := hop (sc (i + 1)) (sc (i + 2)) (sc (i + 3)) (sc (i + 4)) (sc (i + 5)) S hR
  refine hX _ (fun S1 h1 => ?_)
  exact hM S1 _ h1 (fun S2 h2 => ⟨fun _ => op_next hk h2 (by omega) (by omega), fun e => absurd (rfl) e⟩)
theorem cs_25 {sl : Nat} {sc : Nat → Int32} {mc ms : Nat} {K : Int32 → tS → Prop} {κ : Nat → Nat → Int32 → tS → Prop} {R : tS → Prop} {uc us i : Nat} {S : tS} (hop : op25 R) (hi : i + 6 ≤ sl) (hs : sl ≤ 384) (hb : uc + 9000 ≤ mc ∧ us + 110000 ≤ ms) (hR : R S) (hk : opNext κ R uc us i) : Lw_law_b1102 sl sc mc ms K κ uc us (nI i) S := by
  unfold Lw_law_b1102
  simp only [op_cl hi hs (show 1 < 6 by decide), op_cl hi hs (show 2 < 6 by decide), op_cl hi hs (show 3 < 6 by decide), op_cl hi hs (show 4 < 6 by decide), op_cl hi hs (show 5 < 6 by decide), op_in hi hs (show 1 < 6 by decide), op_in hi hs (show 2 < 6 by decide), op_in hi hs (show 3 < 6 by decide), op_in hi hs (show 4 < 6 by decide), op_in hi hs (show 5 < 6 by decide), true_and]
  obtain ⟨r, Mid, c, s, hc, hs2, hX, hM⟩ := hop (sc (i + 1)) (sc (i + 2)) (sc (i + 3)) (sc (i + 4)) (sc (i + 5)) S hR
  refine ⟨c, s, ⟨by omega, by omega⟩, hX _ (fun S1 h1 => ?_)⟩
  exact hM S1 _ h1 (fun S2 h2 => ⟨fun _ => op_next hk h2 (by omega) (by omega), fun e => absurd (rfl) e⟩)
theorem cs_26 {sl : Nat} {sc : Nat → Int32} {mc ms : Nat} {K : Int32 → tS → Prop} {κ : Nat → Nat → Int32 → tS → Prop} {R : tS → Prop} {uc us i : Nat} {S : tS} (hop : op26 R) (hi : i + 6 ≤ sl) (hs : sl ≤ 384) (hb : uc + 9000 ≤ mc ∧ us + 110000 ≤ ms) (hR : R S) (hk : opNext κ R uc us i) : Lw_law_b1145 sl sc mc ms K κ uc us (nI i) S := by
  unfold Lw_law_b1145
  simp only [op_cl hi hs (show 1 < 6 by decide), op_cl hi hs (show 2 < 6 by decide), op_cl hi hs (show 3 < 6 by decide), op_cl hi hs (show 4 < 6 by decide), op_cl hi hs (show 5 < 6 by decide), op_in hi hs (show 1 < 6 by decide), op_in hi hs (show 2 < 6 by decide), op_in hi hs (show 3 < 6 by decide), op_in hi hs (show 4 < 6 by decide), op_in hi hs (show 5 < 6 by decide), true_and]
  obtain ⟨r, Mid, hX, hM⟩ := hop (sc (i + 1)) (sc (i + 2)) (sc (i + 3)) (sc (i + 4)) (sc (i + 5)) S hR
  refine hX _ (fun S1 h1 => ?_)
  exact hM S1 _ h1 (fun S2 h2 => ⟨fun _ => op_next hk h2 (by omega) (by omega), fun e => absurd (rfl) e⟩)
theorem cs_27 {sl : Nat} {sc : Nat → Int32} {mc ms : Nat} {K : Int32 → tS → Prop} {κ : Nat → Nat → Int32 → tS → Prop} {R : tS → Prop} {uc us i : Nat} {S : tS} (hop : op27 R) (hi : i + 6 ≤ sl) (hs : sl ≤ 384) (hb : uc + 9000 ≤ mc ∧ us + 110000 ≤ ms) (hR : R S) (hk : opNext κ R uc us i) : Lw_law_b1168 sl sc mc ms K κ uc us (nI i) S := by
  unfold Lw_law_b1168
  simp only [op_cl hi hs (show 1 < 6 by decide), op_cl hi hs (show 2 < 6 by decide), op_cl hi hs (show 3 < 6 by decide), op_cl hi hs (show 4 < 6 by decide), op_cl hi hs (show 5 < 6 by decide), op_in hi hs (show 1 < 6 by decide), op_in hi hs (show 2 < 6 by decide), op_in hi hs (show 3 < 6 by decide), op_in hi hs (show 4 < 6 by decide), op_in hi hs (show 5 < 6 by decide), true_and]
  obtain ⟨r, Mid, hX, hM⟩ := hop (sc (i + 1)) (sc (i + 2)) (sc (i + 3)) (sc (i + 4)) (sc (i + 5)) S hR
  refine hX _ (fun S1 h1 => ?_)
  exact hM S1 _ h1 (fun S2 h2 => ⟨fun _ => op_next hk h2 (by omega) (by omega), fun e => absurd (rfl) e⟩)
theorem cs_28 {sl : Nat} {sc : Nat → Int32} {mc ms : Nat} {K : Int32 → tS → Prop} {κ : Nat → Nat → Int32 → tS → Prop} {R : tS → Prop} {uc us i : Nat} {S : tS} (hop : op28 R) (hi : i + 6 ≤ sl) (hs : sl ≤ 384) (hb : uc + 9000 ≤ mc ∧ us + 110000 ≤ ms) (hR : R S) (hk : opNext κ R uc us i) : Lw_law_b1201 sl sc mc ms K κ uc us (nI i) S := by
  unfold Lw_law_b1201
  simp only [op_cl hi hs (show 1 < 6 by decide), op_cl hi hs (show 2 < 6 by decide), op_cl hi hs (show 3 < 6 by decide), op_cl hi hs (show 4 < 6 by decide), op_cl hi hs (show 5 < 6 by decide), op_in hi hs (show 1 < 6 by decide), op_in hi hs (show 2 < 6 by decide), op_in hi hs (show 3 < 6 by decide), op_in hi hs (show 4 < 6 by decide), op_in hi hs (show 5 < 6 by decide), true_and]
  obtain ⟨r, Mid, hX, hM⟩ := hop (sc (i + 1)) (sc (i + 2)) (sc (i + 3)) (sc (i + 4)) (sc (i + 5)) S hR
  refine hX _ (fun S1 h1 => ?_)
  exact hM S1 _ h1 (fun S2 h2 => ⟨fun _ => op_next hk h2 (by omega) (by omega), fun e => absurd (rfl) e⟩)
theorem cs_29 {sl : Nat} {sc : Nat → Int32} {mc ms : Nat} {K : Int32 → tS → Prop} {κ : Nat → Nat → Int32 → tS → Prop} {R : tS → Prop} {uc us i : Nat} {S : tS} (hop : op29 R) (hi : i + 6 ≤ sl) (hs : sl ≤ 384) (hb : uc + 9000 ≤ mc ∧ us + 110000 ≤ ms) (hR : R S) (hk : opNext κ R uc us i) : Lw_law_b1224 sl sc mc ms K κ uc us (nI i) S := by
  unfold Lw_law_b1224
  simp only [op_cl hi hs (show 1 < 6 by decide), op_cl hi hs (show 2 < 6 by decide), op_cl hi hs (show 3 < 6 by decide), op_cl hi hs (show 4 < 6 by decide), op_cl hi hs (show 5 < 6 by decide), op_in hi hs (show 1 < 6 by decide), op_in hi hs (show 2 < 6 by decide), op_in hi hs (show 3 < 6 by decide), op_in hi hs (show 4 < 6 by decide), op_in hi hs (show 5 < 6 by decide), true_and]
  obtain ⟨r, Mid, hX, hM⟩ := hop (sc (i + 1)) (sc (i + 2)) (sc (i + 3)) (sc (i + 4)) (sc (i + 5)) S hR
  refine hX _ (fun S1 h1 => ?_)
  exact hM S1 _ h1 (fun S2 h2 => ⟨fun _ => op_next hk h2 (by omega) (by omega), fun e => absurd (rfl) e⟩)
theorem cs_30 {sl : Nat} {sc : Nat → Int32} {mc ms : Nat} {K : Int32 → tS → Prop} {κ : Nat → Nat → Int32 → tS → Prop} {R : tS → Prop} {uc us i : Nat} {S : tS} (hop : op30 R) (hi : i + 6 ≤ sl) (hs : sl ≤ 384) (hb : uc + 9000 ≤ mc ∧ us + 110000 ≤ ms) (hR : R S) (hk : opNext κ R uc us i) : Lw_law_b1257 sl sc mc ms K κ uc us (nI i) S := by
  unfold Lw_law_b1257
  simp only [op_cl hi hs (show 1 < 6 by decide), op_cl hi hs (show 2 < 6 by decide), op_cl hi hs (show 3 < 6 by decide), op_cl hi hs (show 4 < 6 by decide), op_cl hi hs (show 5 < 6 by decide), op_in hi hs (show 1 < 6 by decide), op_in hi hs (show 2 < 6 by decide), op_in hi hs (show 3 < 6 by decide), op_in hi hs (show 4 < 6 by decide), op_in hi hs (show 5 < 6 by decide), true_and]
  obtain ⟨r, Mid, hX, hM⟩ := hop (sc (i + 1)) (sc (i + 2)) (sc (i + 3)) (sc (i + 4)) (sc (i + 5)) S hR
  refine hX _ (fun S1 h1 => ?_)
  exact hM S1 _ h1 (fun S2 h2 => ⟨fun _ => op_next hk h2 (by omega) (by omega), fun e => absurd (rfl) e⟩)
theorem cs_31 {sl : Nat} {sc : Nat → Int32} {mc ms : Nat} {K : Int32 → tS → Prop} {κ : Nat → Nat → Int32 → tS → Prop} {R : tS → Prop} {uc us i : Nat} {S : tS} (hop : op31 R) (hi : i + 6 ≤ sl) (hs : sl ≤ 384) (hb : uc + 9000 ≤ mc ∧ us + 110000 ≤ ms) (hR : R S) (hk : opNext κ R uc us i) : Lw_law_b1280 sl sc mc ms K κ uc us (nI i) S := by
  unfold Lw_law_b1280
  simp only [op_cl hi hs (show 1 < 6 by decide), op_cl hi hs (show 2 < 6 by decide), op_cl hi hs (show 3 < 6 by decide), op_cl hi hs (show 4 < 6 by decide), op_cl hi hs (show 5 < 6 by decide), op_in hi hs (show 1 < 6 by decide), op_in hi hs (show 2 < 6 by decide), op_in hi hs (show 3 < 6 by decide), op_in hi hs (show 4 < 6 by decide), op_in hi hs (show 5 < 6 by decide), true_and]
  obtain ⟨r, Mid, hX, hM⟩ := hop (sc (i + 1)) (sc (i + 2)) (sc (i + 3)) (sc (i + 4)) (sc (i + 5)) S hR
  refine hX _ (fun S1 h1 => ?_)
  exact hM S1 _ h1 (fun S2 h2 => ⟨fun _ => op_next hk h2 (by omega) (by omega), fun e => absurd (rfl) e⟩)
theorem cs_32 {sl : Nat} {sc : Nat → Int32} {mc ms : Nat} {K : Int32 → tS → Prop} {κ : Nat → Nat → Int32 → tS → Prop} {R : tS → Prop} {uc us i : Nat} {S : tS} (hop : op32 R) (hi : i + 6 ≤ sl) (hs : sl ≤ 384) (hb : uc + 9000 ≤ mc ∧ us + 110000 ≤ ms) (hR : R S) (hk : opNext κ R uc us i) : Lw_law_b1303 sl sc mc ms K κ uc us (nI i) S := by
  unfold Lw_law_b1303
  simp only [op_cl hi hs (show 1 < 6 by decide), op_cl hi hs (show 2 < 6 by decide), op_cl hi hs (show 3 < 6 by decide), op_cl hi hs (show 4 < 6 by decide), op_cl hi hs (show 5 < 6 by decide), op_in hi hs (show 1 < 6 by decide), op_in hi hs (show 2 < 6 by decide), op_in hi hs (show 3 < 6 by decide), op_in hi hs (show 4 < 6 by decide), op_in hi hs (show 5 < 6 by decide), true_and]
  obtain ⟨r, Mid, hX, hM⟩ := hop (sc (i + 1)) (sc (i + 2)) (sc (i + 3)) (sc (i + 4)) (sc (i + 5)) S hR
  refine hX _ (fun S1 h1 => ?_)
  exact hM S1 _ h1 (fun S2 h2 => ⟨fun _ => op_next hk h2 (by omega) (by omega), fun e => absurd (rfl) e⟩)
theorem cs_33 {sl : Nat} {sc : Nat → Int32} {mc ms : Nat} {K : Int32 → tS → Prop} {κ : Nat → Nat → Int32 → tS → Prop} {R : tS → Prop} {uc us i : Nat} {S : tS} (hop : op33 R) (hi : i + 6 ≤ sl) (hs : sl ≤ 384) (hb : uc + 9000 ≤ mc ∧ us + 110000 ≤ ms) (hR : R S) (hk : opNext κ R uc us i) : Lw_law_b1326 sl sc mc ms K κ uc us (nI i) S := by
  unfold Lw_law_b1326
  simp only [op_cl hi hs (show 1 < 6 by decide), op_cl hi hs (show 2 < 6 by decide), op_cl hi hs (show 3 < 6 by decide), op_cl hi hs (show 4 < 6 by decide), op_cl hi hs (show 5 < 6 by decide), op_in hi hs (show 1 < 6 by decide), op_in hi hs (show 2 < 6 by decide), op_in hi hs (show 3 < 6 by decide), op_in hi hs (show 4 < 6 by decide), op_in hi hs (show 5 < 6 by decide), true_and]
  obtain ⟨r, Mid, hX, hM⟩ := hop (sc (i + 1)) (sc (i + 2)) (sc (i + 3)) (sc (i + 4)) (sc (i + 5)) S hR
  refine hX _ (fun S1 h1 => ?_)
  exact hM S1 _ h1 (fun S2 h2 => ⟨fun _ => op_next hk h2 (by omega) (by omega), fun e => absurd (rfl) e⟩)
theorem cs_34 {sl : Nat} {sc : Nat → Int32} {mc ms : Nat} {K : Int32 → tS → Prop} {κ : Nat → Nat → Int32 → tS → Prop} {R : tS → Prop} {uc us i : Nat} {S : tS} (hop : op34 R) (hi : i + 6 ≤ sl) (hs : sl ≤ 384) (hb : uc + 9000 ≤ mc ∧ us + 110000 ≤ ms) (hR : R S) (hk : opNext κ R uc us i) : Lw_law_b1349 sl sc mc ms K κ uc us (nI i) S := by
  unfold Lw_law_b1349
  simp only [op_cl hi hs (show 1 < 6 by decide), op_cl hi hs (show 2 < 6 by decide), op_cl hi hs (show 3 < 6 by decide), op_cl hi hs (show 4 < 6 by decide), op_cl hi hs (show 5 < 6 by decide), op_in hi hs (show 1 < 6 by decide), op_in hi hs (show 2 < 6 by decide), op_in hi hs (show 3 < 6 by decide), op_in hi hs (show 4 < 6 by decide), op_in hi hs (show 5 < 6 by decide), true_and]
  obtain ⟨r, Mid, hX, hM⟩ := hop (sc (i + 1)) (sc (i + 2)) (sc (i + 3)) (sc (i + 4)) (sc (i + 5)) S hR
  refine hX _ (fun S1 h1 => ?_)
  exact hM S1 _ h1 (fun S2 h2 => ⟨fun _ => op_next hk h2 (by omega) (by omega), fun e => absurd (rfl) e⟩)
theorem cs_35 {sl : Nat} {sc : Nat → Int32} {mc ms : Nat} {K : Int32 → tS → Prop} {κ : Nat → Nat → Int32 → tS → Prop} {R : tS → Prop} {uc us i : Nat} {S : tS} (hop : op35 R) (hi : i + 6 ≤ sl) (hs : sl ≤ 384) (hb : uc + 9000 ≤ mc ∧ us + 110000 ≤ ms) (hR : R S) (hk : opNext κ R uc us i) : Lw_law_b1372 sl sc mc ms K κ uc us (nI i) S := by
  unfold Lw_law_b1372
  simp only [op_cl hi hs (show 1 < 6 by decide), op_cl hi hs (show 2 < 6 by decide), op_cl hi hs (show 3 < 6 by decide), op_cl hi hs (show 4 < 6 by decide), op_cl hi hs (show 5 < 6 by decide), op_in hi hs (show 1 < 6 by decide), op_in hi hs (show 2 < 6 by decide), op_in hi hs (show 3 < 6 by decide), op_in hi hs (show 4 < 6 by decide), op_in hi hs (show 5 < 6 by decide), true_and]
  obtain ⟨r, Mid, hX, hM⟩ := hop (sc (i + 1)) (sc (i + 2)) (sc (i + 3)) (sc (i + 4)) (sc (i + 5)) S hR
  refine hX _ (fun S1 h1 => ?_)
  exact hM S1 _ h1 (fun S2 h2 => ⟨fun _ => op_next hk h2 (by omega) (by omega), fun e => absurd (rfl) e⟩)
theorem cs_36 {sl : Nat} {sc : Nat → Int32} {mc ms : Nat} {K : Int32 → tS → Prop} {κ : Nat → Nat → Int32 → tS → Prop} {R : tS → Prop} {uc us i : Nat} {S : tS} (hop : op36 R) (hi : i + 6 ≤ sl) (hs : sl ≤ 384) (hb : uc + 9000 ≤ mc ∧ us + 110000 ≤ ms) (hR : R S) (hk : opNext κ R uc us i) : Lw_law_b1405 sl sc mc ms K κ uc us (nI i) S := by
  unfold Lw_law_b1405
  simp only [op_cl hi hs (show 1 < 6 by decide), op_cl hi hs (show 2 < 6 by decide), op_cl hi hs (show 3 < 6 by decide), op_cl hi hs (show 4 < 6 by decide), op_cl hi hs (show 5 < 6 by decide), op_in hi hs (show 1 < 6 by decide), op_in hi hs (show 2 < 6 by decide), op_in hi hs (show 3 < 6 by decide), op_in hi hs (show 4 < 6 by decide), op_in hi hs (show 5 < 6 by decide), true_and]
  obtain ⟨r, Mid, hX, hM⟩ := hop (sc (i + 1)) (sc (i + 2)) (sc (i + 3)) (sc (i + 4)) (sc (i + 5)) S hR
  refine hX _ (fun S1 h1 => ?_)
  exact hM S1 _ h1 (fun S2 h2 => ⟨fun _ => op_next hk h2 (by omega) (by omega), fun e => absurd (rfl) e⟩)
theorem cs_37 {sl : Nat} {sc : Nat → Int32} {mc ms : Nat} {K : Int32 → tS → Prop} {κ : Nat → Nat → Int32 → tS → Prop} {R : tS → Prop} {uc us i : Nat} {S : tS} (hop : op37 R) (hi : i + 6 ≤ sl) (hs : sl ≤ 384) (hb : uc + 9000 ≤ mc ∧ us + 110000 ≤ ms) (hR : R S) (hk : opNext κ R uc us i) : Lw_law_b1448 sl sc mc ms K κ uc us (nI i) S := by
  unfold Lw_law_b1448
  simp only [op_cl hi hs (show 1 < 6 by decide), op_cl hi hs (show 2 < 6 by decide), op_cl hi hs (show 3 < 6 by decide), op_cl hi hs (show 4 < 6 by decide), op_cl hi hs (show 5 < 6 by decide), op_in hi hs (show 1 < 6 by decide), op_in hi hs (show 2 < 6 by decide), op_in hi hs (show 3 < 6 by decide), op_in hi hs (show 4 < 6 by decide), op_in hi hs (show 5 < 6 by decide), true_and]
  obtain ⟨r, Mid, hX, hM⟩ := hop (sc (i + 1)) (sc (i + 2)) (sc (i + 3)) (sc (i + 4)) (sc (i + 5)) S hR
  refine hX _ (fun S1 h1 => ?_)
  exact hM S1 _ h1 (fun S2 h2 => ⟨fun _ => op_next hk h2 (by omega) (by omega), fun e => absurd (rfl) e⟩)
theorem cs_38 {sl : Nat} {sc : Nat → Int32} {mc ms : Nat} {K : Int32 → tS → Prop} {κ : Nat → Nat → Int32 → tS → Prop} {R : tS → Prop} {uc us i : Nat} {S : tS} (hop : op38 R) (hi : i + 6 ≤ sl) (hs : sl ≤ 384) (hb : uc + 9000 ≤ mc ∧ us + 110000 ≤ ms) (hR : R S) (hk : opNext κ R uc us i) : Lw_law_b1491 sl sc mc ms K κ uc us (nI i) S := by
  unfold Lw_law_b1491
  simp only [op_cl hi hs (show 1 < 6 by decide), op_cl hi hs (show 2 < 6 by decide), op_cl hi hs (show 3 < 6 by decide), op_cl hi hs (show 4 < 6 by decide), op_cl hi hs (show 5 < 6 by decide), op_in hi hs (show 1 < 6 by decide), op_in hi hs (show 2 < 6 by decide), op_in hi hs (show 3 < 6 by decide), op_in hi hs (show 4 < 6 by decide), op_in hi hs (show 5 < 6 by decide), true_and]
  obtain ⟨r, Mid, hX, hM⟩ := hop (sc (i + 1)) (sc (i + 2)) (sc (i + 3)) (sc (i + 4)) (sc (i + 5)) S hR
  refine hX _ (fun S1 h1 => ?_)
  exact hM S1 _ h1 (fun S2 h2 => ⟨fun _ => op_next hk h2 (by omega) (by omega), fun e => absurd (rfl) e⟩)
theorem cs_39 {sl : Nat} {sc : Nat → Int32} {mc ms : Nat} {K : Int32 → tS → Prop} {κ : Nat → Nat → Int32 → tS → Prop} {R : tS → Prop} {uc us i : Nat} {S : tS} (hop : op39 R) (hi : i + 6 ≤ sl) (hs : sl ≤ 384) (hb : uc + 9000 ≤ mc ∧ us + 110000 ≤ ms) (hR : R S) (hk : opNext κ R uc us i) : Lw_law_b1534 sl sc mc ms K κ uc us (nI i) S := by
  unfold Lw_law_b1534
  simp only [op_cl hi hs (show 1 < 6 by decide), op_cl hi hs (show 2 < 6 by decide), op_cl hi hs (show 3 < 6 by decide), op_cl hi hs (show 4 < 6 by decide), op_cl hi hs (show 5 < 6 by decide), op_in hi hs (show 1 < 6 by decide), op_in hi hs (show 2 < 6 by decide), op_in hi hs (show 3 < 6 by decide), op_in hi hs (show 4 < 6 by decide), op_in hi hs (show 5 < 6 by decide), true_and]
  obtain ⟨r, Mid, hX, hM⟩ := hop (sc (i + 1)) (sc (i + 2)) (sc (i + 3)) (sc (i + 4)) (sc (i + 5)) S hR
  refine hX _ (fun S1 h1 => ?_)
  exact hM S1 _ h1 (fun S2 h2 => ⟨fun _ => op_next hk h2 (by omega) (by omega), fun e => absurd (rfl) e⟩)
theorem cs_40 {sl : Nat} {sc : Nat → Int32} {mc ms : Nat} {K : Int32 → tS → Prop} {κ : Nat → Nat → Int32 → tS → Prop} {R : tS → Prop} {uc us i : Nat} {S : tS} (hop : op40 R) (hi : i + 6 ≤ sl) (hs : sl ≤ 384) (hb : uc + 9000 ≤ mc ∧ us + 110000 ≤ ms) (hR : R S) (hk : opNext κ R uc us i) : Lw_law_b1567 sl sc mc ms K κ uc us (nI i) S := by
  unfold Lw_law_b1567
  simp only [op_cl hi hs (show 1 < 6 by decide), op_cl hi hs (show 2 < 6 by decide), op_cl hi hs (show 3 < 6 by decide), op_cl hi hs (show 4 < 6 by decide), op_cl hi hs (show 5 < 6 by decide), op_in hi hs (show 1 < 6 by decide), op_in hi hs (show 2 < 6 by decide), op_in hi hs (show 3 < 6 by decide), op_in hi hs (show 4 < 6 by decide), op_in hi hs (show 5 < 6 by decide), true_and]
  obtain ⟨r, Mid, hX, hM⟩ := hop (sc (i + 1)) (sc (i + 2)) (sc (i + 3)) (sc (i + 4)) (sc (i + 5)) S hR
  refine hX _ (fun S1 h1 => ?_)
  exact hM S1 _ h1 (fun S2 h2 => ⟨fun _ => op_next hk h2 (by omega) (by omega), fun e => absurd (rfl) e⟩)
theorem cs_41 {sl : Nat} {sc : Nat → Int32} {mc ms : Nat} {K : Int32 → tS → Prop} {κ : Nat → Nat → Int32 → tS → Prop} {R : tS → Prop} {uc us i : Nat} {S : tS} (hop : op41 R) (hi : i + 6 ≤ sl) (hs : sl ≤ 384) (hb : uc + 9000 ≤ mc ∧ us + 110000 ≤ ms) (hR : R S) (hk : opNext κ R uc us i) : Lw_law_b1610 sl sc mc ms K κ uc us (nI i) S := by
  unfold Lw_law_b1610
  simp only [op_cl hi hs (show 1 < 6 by decide), op_cl hi hs (show 2 < 6 by decide), op_cl hi hs (show 3 < 6 by decide), op_cl hi hs (show 4 < 6 by decide), op_cl hi hs (show 5 < 6 by decide), op_in hi hs (show 1 < 6 by decide), op_in hi hs (show 2 < 6 by decide), op_in hi hs (show 3 < 6 by decide), op_in hi hs (show 4 < 6 by decide), op_in hi hs (show 5 < 6 by decide), true_and]
  obtain ⟨r, Mid, hX, hM⟩ := hop (sc (i + 1)) (sc (i + 2)) (sc (i + 3)) (sc (i + 4)) (sc (i + 5)) S hR
  refine hX _ (fun S1 h1 => ?_)
  exact hM S1 _ h1 (fun S2 h2 => ⟨fun _ => op_next hk h2 (by omega) (by omega), fun e => absurd (rfl) e⟩)
theorem cs_42 {sl : Nat} {sc : Nat → Int32} {mc ms : Nat} {K : Int32 → tS → Prop} {κ : Nat → Nat → Int32 → tS → Prop} {R : tS → Prop} {uc us i : Nat} {S : tS} (hop : op42 R) (hi : i + 6 ≤ sl) (hs : sl ≤ 384) (hb : uc + 9000 ≤ mc ∧ us + 110000 ≤ ms) (hR : R S) (hk : opNext κ R uc us i) : Lw_law_b1633 sl sc mc ms K κ uc us (nI i) S := by
  unfold Lw_law_b1633
  obtain ⟨r, Mid, hX, hM⟩ := hop (sc (i + 1)) (sc (i + 2)) (sc (i + 3)) (sc (i + 4)) (sc (i + 5)) S hR
  refine hX _ (fun S1 h1 => ?_)
  exact hM S1 _ h1 (fun S2 h2 => ⟨fun _ => op_next hk h2 (by omega) (by omega), fun e => absurd (rfl) e⟩)
theorem cs_43 {sl : Nat} {sc : Nat → Int32} {mc ms : Nat} {K : Int32 → tS → Prop} {κ : Nat → Nat → Int32 → tS → Prop} {R : tS → Prop} {uc us i : Nat} {S : tS} (hop : op43 R) (hi : i + 6 ≤ sl) (hs : sl ≤ 384) (hb : uc + 9000 ≤ mc ∧ us + 110000 ≤ ms) (hR : R S) (hk : opNext κ R uc us i) : Lw_law_b1646 sl sc mc ms K κ uc us (nI i) S := by
  unfold Lw_law_b1646
  simp only [op_cl hi hs (show 1 < 6 by decide), op_cl hi hs (show 2 < 6 by decide), op_cl hi hs (show 3 < 6 by decide), op_cl hi hs (show 4 < 6 by decide), op_cl hi hs (show 5 < 6 by decide), op_in hi hs (show 1 < 6 by decide), op_in hi hs (show 2 < 6 by decide), op_in hi hs (show 3 < 6 by decide), op_in hi hs (show 4 < 6 by decide), op_in hi hs (show 5 < 6 by decide), true_and]
  obtain ⟨r, Mid, hX, hM⟩ := hop (sc (i + 1)) (sc (i + 2)) (sc (i + 3)) (sc (i + 4)) (sc (i + 5)) S hR
  refine hX _ (fun S1 h1 => ?_)
  exact hM S1 _ h1 (fun S2 h2 => ⟨fun _ => op_next hk h2 (by omega) (by omega), fun e => absurd (rfl) e⟩)
theorem cs_44 {sl : Nat} {sc : Nat → Int32} {mc ms : Nat} {K : Int32 → tS → Prop} {κ : Nat → Nat → Int32 → tS → Prop} {R : tS → Prop} {uc us i : Nat} {S : tS} (hop : op44 R) (hi : i + 6 ≤ sl) (hs : sl ≤ 384) (hb : uc + 9000 ≤ mc ∧ us + 110000 ≤ ms) (hR : R S) (hk : opNext κ R uc us i) : Lw_law_b1669 sl sc mc ms K κ uc us (nI i) S := by
  unfold Lw_law_b1669
  obtain ⟨r, Mid, hX, hM⟩ := hop (sc (i + 1)) (sc (i + 2)) (sc (i + 3)) (sc (i + 4)) (sc (i + 5)) S hR
  refine hX _ (fun S1 h1 => ?_)
  exact hM S1 _ h1 (fun S2 h2 => ⟨fun _ => op_next hk h2 (by omega) (by omega), fun e => absurd (rfl) e⟩)
theorem cs_45 {sl : Nat} {sc : Nat → Int32} {mc ms : Nat} {K : Int32 → tS → Prop} {κ : Nat → Nat → Int32 → tS → Prop} {R : tS → Prop} {uc us i : Nat} {S : tS} (hop : op45 R) (hi : i + 6 ≤ sl) (hs : sl ≤ 384) (hb : uc + 9000 ≤ mc ∧ us + 110000 ≤ ms) (hR : R S) (hk : opNext κ R uc us i) : Lw_law_b1682 sl sc mc ms K κ uc us (nI i) S := by
  unfold Lw_law_b1682
  simp only [op_cl hi hs (show 1 < 6 by decide), op_cl hi hs (show 2 < 6 by decide), op_cl hi hs (show 3 < 6 by decide), op_cl hi hs (show 4 < 6 by decide), op_cl hi hs (show 5 < 6 by decide), op_in hi hs (show 1 < 6 by decide), op_in hi hs (show 2 < 6 by decide), op_in hi hs (show 3 < 6 by decide), op_in hi hs (show 4 < 6 by decide), op_in hi hs (show 5 < 6 by decide), true_and]
  obtain ⟨r, Mid, hX, hM⟩ := hop (sc (i + 1)) (sc (i + 2)) (sc (i + 3)) (sc (i + 4)) (sc (i + 5)) S hR
  refine hX _ (fun S1 h1 => ?_)
  exact hM S1 _ h1 (fun S2 h2 => ⟨fun _ => op_next hk h2 (by omega) (by omega), fun e => absurd (rfl) e⟩)
theorem cs_46 {sl : Nat} {sc : Nat → Int32} {mc ms : Nat} {K : Int32 → tS → Prop} {κ : Nat → Nat → Int32 → tS → Prop} {R : tS → Prop} {uc us i : Nat} {S : tS} (hop : op46 R) (hi : i + 6 ≤ sl) (hs : sl ≤ 384) (hb : uc + 9000 ≤ mc ∧ us + 110000 ≤ ms) (hR : R S) (hk : opNext κ R uc us i) : Lw_law_b1705 sl sc mc ms K κ uc us (nI i) S := by
  unfold Lw_law_b1705
  simp only [op_cl hi hs (show 1 < 6 by decide), op_cl hi hs (show 2 < 6 by decide), op_cl hi hs (show 3 < 6 by decide), op_cl hi hs (show 4 < 6 by decide), op_cl hi hs (show 5 < 6 by decide), op_in hi hs (show 1 < 6 by decide), op_in hi hs (show 2 < 6 by decide), op_in hi hs (show 3 < 6 by decide), op_in hi hs (show 4 < 6 by decide), op_in hi hs (show 5 < 6 by decide), true_and]
  obtain ⟨r, Mid, hX, hM⟩ := hop (sc (i + 1)) (sc (i + 2)) (sc (i + 3)) (sc (i + 4)) (sc (i + 5)) S hR
  refine hX _ (fun S1 h1 => ?_)
  exact hM S1 _ h1 (fun S2 h2 => ⟨fun _ => op_next hk h2 (by omega) (by omega), fun e => absurd (rfl) e⟩)
theorem cs_47 {sl : Nat} {sc : Nat → Int32} {mc ms : Nat} {K : Int32 → tS → Prop} {κ : Nat → Nat → Int32 → tS → Prop} {R : tS → Prop} {uc us i : Nat} {S : tS} (hop : op47 R) (hi : i + 6 ≤ sl) (hs : sl ≤ 384) (hb : uc + 9000 ≤ mc ∧ us + 110000 ≤ ms) (hR : R S) (hk : opNext κ R uc us i) : Lw_law_b1728 sl sc mc ms K κ uc us (nI i) S := by
  unfold Lw_law_b1728
  simp only [op_cl hi hs (show 1 < 6 by decide), op_cl hi hs (show 2 < 6 by decide), op_cl hi hs (show 3 < 6 by decide), op_cl hi hs (show 4 < 6 by decide), op_cl hi hs (show 5 < 6 by decide), op_in hi hs (show 1 < 6 by decide), op_in hi hs (show 2 < 6 by decide), op_in hi hs (show 3 < 6 by decide), op_in hi hs (show 4 < 6 by decide), op_in hi hs (show 5 < 6 by decide), true_and]
  obtain ⟨r, Mid, hX, hM⟩ := hop (sc (i + 1)) (sc (i + 2)) (sc (i + 3)) (sc (i + 4)) (sc (i + 5)) S hR
  refine hX _ (fun S1 h1 => ?_)
  exact hM S1 _ h1 (fun S2 h2 => ⟨fun _ => op_next hk h2 (by omega) (by omega), fun e => absurd (rfl) e⟩)
theorem cs_48 {sl : Nat} {sc : Nat → Int32} {mc ms : Nat} {K : Int32 → tS → Prop} {κ : Nat → Nat → Int32 → tS → Prop} {R : tS → Prop} {uc us i : Nat} {S : tS} (hop : op48 R) (hi : i + 6 ≤ sl) (hs : sl ≤ 384) (hb : uc + 9000 ≤ mc ∧ us + 110000 ≤ ms) (hR : R S) (hk : opNext κ R uc us i) : Lw_law_b1751 sl sc mc ms K κ uc us (nI i) S := by
  unfold Lw_law_b1751
  obtain ⟨r, Mid, hX, hM⟩ := hop (sc (i + 1)) (sc (i + 2)) (sc (i + 3)) (sc (i + 4)) (sc (i + 5)) S hR
  refine hX _ (fun S1 h1 => ?_)
  exact hM S1 _ h1 (fun S2 h2 => ⟨fun _ => op_next hk h2 (by omega) (by omega), fun e => absurd (rfl) e⟩)
theorem cs_49 {sl : Nat} {sc : Nat → Int32} {mc ms : Nat} {K : Int32 → tS → Prop} {κ : Nat → Nat → Int32 → tS → Prop} {R : tS → Prop} {uc us i : Nat} {S : tS} (hop : op49 R) (hi : i + 6 ≤ sl) (hs : sl ≤ 384) (hb : uc + 9000 ≤ mc ∧ us + 110000 ≤ ms) (hR : R S) (hk : opNext κ R uc us i) : Lw_law_b1764 sl sc mc ms K κ uc us (nI i) S := by
  unfold Lw_law_b1764
  obtain ⟨r, Mid, hX, hM⟩ := hop (sc (i + 1)) (sc (i + 2)) (sc (i + 3)) (sc (i + 4)) (sc (i + 5)) S hR
  refine hX _ (fun S1 h1 => ?_)
  exact hM S1 _ h1 (fun S2 h2 => ⟨fun _ => op_next hk h2 (by omega) (by omega), fun e => absurd (rfl) e⟩)
theorem cs_50 {sl : Nat} {sc : Nat → Int32} {mc ms : Nat} {K : Int32 → tS → Prop} {κ : Nat → Nat → Int32 → tS → Prop} {R : tS → Prop} {uc us i : Nat} {S : tS} (hop : op50 R) (hi : i + 6 ≤ sl) (hs : sl ≤ 384) (hb : uc + 9000 ≤ mc ∧ us + 110000 ≤ ms) (hR : R S) (hk : opNext κ R uc us i) : Lw_law_b1777 sl sc mc ms K κ uc us (nI i) S := by
  unfold Lw_law_b1777
  obtain ⟨r, Mid, hX, hM⟩ := hop (sc (i + 1)) (sc (i + 2)) (sc (i + 3)) (sc (i + 4)) (sc (i + 5)) S hR
  refine hX _ (fun S1 h1 => ?_)
  exact hM S1 _ h1 (fun S2 h2 => ⟨fun _ => op_next hk h2 (by omega) (by omega), fun e => absurd (rfl) e⟩)
theorem cs_51 {sl : Nat} {sc : Nat → Int32} {mc ms : Nat} {K : Int32 → tS → Prop} {κ : Nat → Nat → Int32 → tS → Prop} {R : tS → Prop} {uc us i : Nat} {S : tS} (hop : op51 R) (hi : i + 6 ≤ sl) (hs : sl ≤ 384) (hb : uc + 9000 ≤ mc ∧ us + 110000 ≤ ms) (hR : R S) (hk : opNext κ R uc us i) : Lw_law_b1790 sl sc mc ms K κ uc us (nI i) S := by
  unfold Lw_law_b1790
  obtain ⟨r, Mid, hX, hM⟩ := hop (sc (i + 1)) (sc (i + 2)) (sc (i + 3)) (sc (i + 4)) (sc (i + 5)) S hR
  refine hX _ (fun S1 h1 => ?_)
  exact hM S1 _ h1 (fun S2 h2 => ⟨fun _ => op_next hk h2 (by omega) (by omega), fun e => absurd (rfl) e⟩)
theorem cs_52 {sl : Nat} {sc : Nat → Int32} {mc ms : Nat} {K : Int32 → tS → Prop} {κ : Nat → Nat → Int32 → tS → Prop} {R : tS → Prop} {uc us i : Nat} {S : tS} (hop : op52 R) (hi : i + 6 ≤ sl) (hs : sl ≤ 384) (hb : uc + 9000 ≤ mc ∧ us + 110000 ≤ ms) (hR : R S) (hk : opNext κ R uc us i) : Lw_law_b1803 sl sc mc ms K κ uc us (nI i) S := by
  unfold Lw_law_b1803
  simp only [op_cl hi hs (show 1 < 6 by decide), op_cl hi hs (show 2 < 6 by decide), op_cl hi hs (show 3 < 6 by decide), op_cl hi hs (show 4 < 6 by decide), op_cl hi hs (show 5 < 6 by decide), op_in hi hs (show 1 < 6 by decide), op_in hi hs (show 2 < 6 by decide), op_in hi hs (show 3 < 6 by decide), op_in hi hs (show 4 < 6 by decide), op_in hi hs (show 5 < 6 by decide), true_and]
  obtain ⟨r, Mid, hX, hM⟩ := hop (sc (i + 1)) (sc (i + 2)) (sc (i + 3)) (sc (i + 4)) (sc (i + 5)) S hR
  refine hX _ (fun S1 h1 => ?_)
  exact hM S1 _ h1 (fun S2 h2 => ⟨fun _ => op_next hk h2 (by omega) (by omega), fun e => absurd (rfl) e⟩)
theorem cs_53 {sl : Nat} {sc : Nat → Int32} {mc ms : Nat} {K : Int32 → tS → Prop} {κ : Nat → Nat → Int32 → tS → Prop} {R : tS → Prop} {uc us i : Nat} {S : tS} (hop : op53 R) (hi : i + 6 ≤ sl) (hs : sl ≤ 384) (hb : uc + 9000 ≤ mc ∧ us + 110000 ≤ ms) (hR : R S) (hk : opNext κ R uc us i) : Lw_law_b1826 sl sc mc ms K κ uc us (nI i) S := by
  unfold Lw_law_b1826
  simp only [op_cl hi hs (show 1 < 6 by decide), op_cl hi hs (show 2 < 6 by decide), op_cl hi hs (show 3 < 6 by decide), op_cl hi hs (show 4 < 6 by decide), op_cl hi hs (show 5 < 6 by decide), op_in hi hs (show 1 < 6 by decide), op_in hi hs (show 2 < 6 by decide), op_in hi hs (show 3 < 6 by decide), op_in hi hs (show 4 < 6 by decide), op_in hi hs (show 5 < 6 by decide), true_and]
  obtain ⟨r, Mid, hX, hM⟩ := hop (sc (i + 1)) (sc (i + 2)) (sc (i + 3)) (sc (i + 4)) (sc (i + 5)) S hR
  refine hX _ (fun S1 h1 => ?_)
  exact hM S1 _ h1 (fun S2 h2 => ⟨fun _ => op_next hk h2 (by omega) (by omega), fun e => absurd (rfl) e⟩)
theorem cs_54 {sl : Nat} {sc : Nat → Int32} {mc ms : Nat} {K : Int32 → tS → Prop} {κ : Nat → Nat → Int32 → tS → Prop} {R : tS → Prop} {uc us i : Nat} {S : tS} (hop : op54 R) (hi : i + 6 ≤ sl) (hs : sl ≤ 384) (hb : uc + 9000 ≤ mc ∧ us + 110000 ≤ ms) (hR : R S) (hk : opNext κ R uc us i) : Lw_law_b1849 sl sc mc ms K κ uc us (nI i) S := by
  unfold Lw_law_b1849
  simp only [op_cl hi hs (show 1 < 6 by decide), op_cl hi hs (show 2 < 6 by decide), op_cl hi hs (show 3 < 6 by decide), op_cl hi hs (show 4 < 6 by decide), op_cl hi hs (show 5 < 6 by decide), op_in hi hs (show 1 < 6 by decide), op_in hi hs (show 2 < 6 by decide), op_in hi hs (show 3 < 6 by decide), op_in hi hs (show 4 < 6 by decide), op_in hi hs (show 5 < 6 by decide), true_and]
  obtain ⟨r, Mid, hX, hM⟩ := hop (sc (i + 1)) (sc (i + 2)) (sc (i + 3)) (sc (i + 4)) (sc (i + 5)) S hR
  refine hX _ (fun S1 h1 => ?_)
  exact hM S1 _ h1 (fun S2 h2 => ⟨fun _ => op_next hk h2 (by omega) (by omega), fun e => absurd (rfl) e⟩)
theorem cs_55 {sl : Nat} {sc : Nat → Int32} {mc ms : Nat} {K : Int32 → tS → Prop} {κ : Nat → Nat → Int32 → tS → Prop} {R : tS → Prop} {uc us i : Nat} {S : tS} (hop : op55 R) (hi : i + 6 ≤ sl) (hs : sl ≤ 384) (hb : uc + 9000 ≤ mc ∧ us + 110000 ≤ ms) (hR : R S) (hk : opNext κ R uc us i) : Lw_law_b1882 sl sc mc ms K κ uc us (nI i) S := by
  unfold Lw_law_b1882
  simp only [op_cl hi hs (show 1 < 6 by decide), op_cl hi hs (show 2 < 6 by decide), op_cl hi hs (show 3 < 6 by decide), op_cl hi hs (show 4 < 6 by decide), op_cl hi hs (show 5 < 6 by decide), op_in hi hs (show 1 < 6 by decide), op_in hi hs (show 2 < 6 by decide), op_in hi hs (show 3 < 6 by decide), op_in hi hs (show 4 < 6 by decide), op_in hi hs (show 5 < 6 by decide), true_and]
  obtain ⟨r, Mid, hX, hM⟩ := hop (sc (i + 1)) (sc (i + 2)) (sc (i + 3)) (sc (i + 4)) (sc (i + 5)) S hR
  refine hX _ (fun S1 h1 => ?_)
  exact hM S1 _ h1 (fun S2 h2 => ⟨fun _ => op_next hk h2 (by omega) (by omega), fun e => absurd (rfl) e⟩)
theorem cs_56 {sl : Nat} {sc : Nat → Int32} {mc ms : Nat} {K : Int32 → tS → Prop} {κ : Nat → Nat → Int32 → tS → Prop} {R : tS → Prop} {uc us i : Nat} {S : tS} (hop : op56 R) (hi : i + 6 ≤ sl) (hs : sl ≤ 384) (hb : uc + 9000 ≤ mc ∧ us + 110000 ≤ ms) (hR : R S) (hk : opNext κ R uc us i) : Lw_law_b1905 sl sc mc ms K κ uc us (nI i) S := by
  unfold Lw_law_b1905
  simp only [op_cl hi hs (show 1 < 6 by decide), op_cl hi hs (show 2 < 6 by decide), op_cl hi hs (show 3 < 6 by decide), op_cl hi hs (show 4 < 6 by decide), op_cl hi hs (show 5 < 6 by decide), op_in hi hs (show 1 < 6 by decide), op_in hi hs (show 2 < 6 by decide), op_in hi hs (show 3 < 6 by decide), op_in hi hs (show 4 < 6 by decide), op_in hi hs (show 5 < 6 by decide), true_and]
  obtain ⟨r, Mid, c, s, hc, hs2, hX, hM⟩ := hop (sc (i + 1)) (sc (i + 2)) (sc (i + 3)) (sc (i + 4)) (sc (i + 5)) S hR
  refine ⟨c, s, ⟨by omega, by omega⟩, hX _ (fun S1 h1 => ?_)⟩
  exact hM S1 _ h1 (fun S2 h2 => ⟨fun _ => op_next hk h2 (by omega) (by omega), fun e => absurd (rfl) e⟩)
theorem cs_57 {sl : Nat} {sc : Nat → Int32} {mc ms : Nat} {K : Int32 → tS → Prop} {κ : Nat → Nat → Int32 → tS → Prop} {R : tS → Prop} {uc us i : Nat} {S : tS} (hop : op57 R) (hi : i + 6 ≤ sl) (hs : sl ≤ 384) (hb : uc + 9000 ≤ mc ∧ us + 110000 ≤ ms) (hR : R S) (hk : opNext κ R uc us i) : Lw_law_b1928 sl sc mc ms K κ uc us (nI i) S := by
  unfold Lw_law_b1928
  simp only [op_cl hi hs (show 1 < 6 by decide), op_cl hi hs (show 2 < 6 by decide), op_cl hi hs (show 3 < 6 by decide), op_cl hi hs (show 4 < 6 by decide), op_cl hi hs (show 5 < 6 by decide), op_in hi hs (show 1 < 6 by decide), op_in hi hs (show 2 < 6 by decide), op_in hi hs (show 3 < 6 by decide), op_in hi hs (show 4 < 6 by decide), op_in hi hs (show 5 < 6 by decide), true_and]
  obtain ⟨r, Mid, hX, hM⟩ := hop (sc (i + 1)) (sc (i + 2)) (sc (i + 3)) (sc (i + 4)) (sc (i + 5)) S hR
  refine hX _ (fun S1 h1 => ?_)
  exact hM S1 _ h1 (fun S2 h2 => ⟨fun _ => op_next hk h2 (by omega) (by omega), fun e => absurd (rfl) e⟩)
theorem cs_58 {sl : Nat} {sc : Nat → Int32} {mc ms : Nat} {K : Int32 → tS → Prop} {κ : Nat → Nat → Int32 → tS → Prop} {R : tS → Prop} {uc us i : Nat} {S : tS} (hop : op58 R) (hi : i + 6 ≤ sl) (hs : sl ≤ 384) (hb : uc + 9000 ≤ mc ∧ us + 110000 ≤ ms) (hR : R S) (hk : opNext κ R uc us i) : Lw_law_b1951 sl sc mc ms K κ uc us (nI i) S := by
  unfold Lw_law_b1951
  simp only [op_cl hi hs (show 1 < 6 by decide), op_cl hi hs (show 2 < 6 by decide), op_cl hi hs (show 3 < 6 by decide), op_cl hi hs (show 4 < 6 by decide), op_cl hi hs (show 5 < 6 by decide), op_in hi hs (show 1 < 6 by decide), op_in hi hs (show 2 < 6 by decide), op_in hi hs (show 3 < 6 by decide), op_in hi hs (show 4 < 6 by decide), op_in hi hs (show 5 < 6 by decide), true_and]
  obtain ⟨r, Mid, c, s, hc, hs2, hX, hM⟩ := hop (sc (i + 1)) (sc (i + 2)) (sc (i + 3)) (sc (i + 4)) (sc (i + 5)) S hR
  refine ⟨c, s, ⟨by omega, by omega⟩, hX _ (fun S1 h1 => ?_)⟩
  exact hM S1 _ h1 (fun S2 h2 => ⟨fun _ => op_next hk h2 (by omega) (by omega), fun e => absurd (rfl) e⟩)
theorem cs_59 {sl : Nat} {sc : Nat → Int32} {mc ms : Nat} {K : Int32 → tS → Prop} {κ : Nat → Nat → Int32 → tS → Prop} {R : tS → Prop} {uc us i : Nat} {S : tS} (hop : op59 R) (hi : i + 6 ≤ sl) (hs : sl ≤ 384) (hb : uc + 9000 ≤ mc ∧ us + 110000 ≤ ms) (hR : R S) (hk : opNext κ R uc us i) : Lw_law_b1984 sl sc mc ms K κ uc us (nI i) S := by
  unfold Lw_law_b1984
  obtain ⟨r, Mid, c, s, hc, hs2, hX, hM⟩ := hop (sc (i + 1)) (sc (i + 2)) (sc (i + 3)) (sc (i + 4)) (sc (i + 5)) S hR
  refine ⟨c, s, ⟨by omega, by omega⟩, hX _ (fun S1 h1 => ?_)⟩
  exact hM S1 _ h1 (fun S2 h2 => ⟨fun _ => op_next hk h2 (by omega) (by omega), fun e => absurd (rfl) e⟩)
theorem cs_60 {sl : Nat} {sc : Nat → Int32} {mc ms : Nat} {K : Int32 → tS → Prop} {κ : Nat → Nat → Int32 → tS → Prop} {R : tS → Prop} {uc us i : Nat} {S : tS} (hop : op60 R) (hi : i + 6 ≤ sl) (hs : sl ≤ 384) (hb : uc + 9000 ≤ mc ∧ us + 110000 ≤ ms) (hR : R S) (hk : opNext κ R uc us i) : Lw_law_b1997 sl sc mc ms K κ uc us (nI i) S := by
  unfold Lw_law_b1997
  obtain ⟨r, Mid, hX, hM⟩ := hop (sc (i + 1)) (sc (i + 2)) (sc (i + 3)) (sc (i + 4)) (sc (i + 5)) S hR
  refine hX _ (fun S1 h1 => ?_)
  exact hM S1 _ h1 (fun S2 h2 => ⟨fun _ => op_next hk h2 (by omega) (by omega), fun e => absurd (rfl) e⟩)
theorem law_arm {sl : Nat} {sc : Nat → Int32} {mc ms : Nat} {K : Int32 → tS → Prop} {κ : Nat → Nat → Int32 → tS → Prop} {R : tS → Prop} {uc us i : Nat} {S : tS} (h : opsOK R) (hs : sl ≤ 384) (hi : i + 6 ≤ sl) (hb : uc + 9000 ≤ mc ∧ us + 110000 ≤ ms) (hR : R S) (hk : opNext κ R uc us i) (k : Nat) : (match k with | 0 => Lw_law_b292 sl sc mc ms K κ uc us (nI i) S | 1 => Lw_law_b305 sl sc mc ms K κ uc us (nI i) S | 2 => Lw_law_b319 sl sc mc ms K κ uc us (nI i) S | 3 => Lw_law_b333 sl sc mc ms K κ uc us (nI i) S | 4 => Lw_law_b376 sl sc mc ms K κ uc us (nI i) S | 5 => Lw_law_b449 sl sc mc ms K κ uc us (nI i) S | 6 => Lw_law_b483 sl sc mc ms K κ uc us (nI i) S | 7 => Lw_law_b546 sl sc mc ms K κ uc us (nI i) S | 8 => Lw_law_b609 sl sc mc ms K κ uc us (nI i) S | 9 => Lw_law_b632 sl sc mc ms K κ uc us (nI i) S | 10 => Lw_law_b655 sl sc mc ms K κ uc us (nI i) S | 11 => Lw_law_b678 sl sc mc ms K κ uc us (nI i) S | 12 => Lw_law_b701 sl sc mc ms K κ uc us (nI i) S | 13 => Lw_law_b724 sl sc mc ms K κ uc us (nI i) S | 14 => Lw_law_b757 sl sc mc ms K κ uc us (nI i) S | 15 => Lw_law_b790 sl sc mc ms K κ uc us (nI i) S | 16 => Lw_law_b823 sl sc mc ms K κ uc us (nI i) S | 17 => Lw_law_b856 sl sc mc ms K κ uc us (nI i) S | 18 => Lw_law_b879 sl sc mc ms K κ uc us (nI i) S | 19 => Lw_law_b892 sl sc mc ms K κ uc us (nI i) S | 20 => Lw_law_b925 sl sc mc ms K κ uc us (nI i) S | 21 => Lw_law_b984 sl sc mc ms K κ uc us (nI i) S | 22 => Lw_law_b997 sl sc mc ms K κ uc us (nI i) S | 23 => Lw_law_b1020 sl sc mc ms K κ uc us (nI i) S | 24 => Lw_law_b1069 sl sc mc ms K κ uc us (nI i) S | 25 => Lw_law_b1102 sl sc mc ms K κ uc us (nI i) S | 26 => Lw_law_b1145 sl sc mc ms K κ uc us (nI i) S | 27 => Lw_law_b1168 sl sc mc ms K κ uc us (nI i) S | 28 => Lw_law_b1201 sl sc mc ms K κ uc us (nI i) S | 29 => Lw_law_b1224 sl sc mc ms K κ uc us (nI i) S | 30 => Lw_law_b1257 sl sc mc ms K κ uc us (nI i) S | 31 => Lw_law_b1280 sl sc mc ms K κ uc us (nI i) S | 32 => Lw_law_b1303 sl sc mc ms K κ uc us (nI i) S | 33 => Lw_law_b1326 sl sc mc ms K κ uc us (nI i) S | 34 => Lw_law_b1349 sl sc mc ms K κ uc us (nI i) S | 35 => Lw_law_b1372 sl sc mc ms K κ uc us (nI i) S | 36 => Lw_law_b1405 sl sc mc ms K κ uc us (nI i) S | 37 => Lw_law_b1448 sl sc mc ms K κ uc us (nI i) S | 38 => Lw_law_b1491 sl sc mc ms K κ uc us (nI i) S | 39 => Lw_law_b1534 sl sc mc ms K κ uc us (nI i) S | 40 => Lw_law_b1567 sl sc mc ms K κ uc us (nI i) S | 41 => Lw_law_b1610 sl sc mc ms K κ uc us (nI i) S | 42 => Lw_law_b1633 sl sc mc ms K κ uc us (nI i) S | 43 => Lw_law_b1646 sl sc mc ms K κ uc us (nI i) S | 44 => Lw_law_b1669 sl sc mc ms K κ uc us (nI i) S | 45 => Lw_law_b1682 sl sc mc ms K κ uc us (nI i) S | 46 => Lw_law_b1705 sl sc mc ms K κ uc us (nI i) S | 47 => Lw_law_b1728 sl sc mc ms K κ uc us (nI i) S | 48 => Lw_law_b1751 sl sc mc ms K κ uc us (nI i) S | 49 => Lw_law_b1764 sl sc mc ms K κ uc us (nI i) S | 50 => Lw_law_b1777 sl sc mc ms K κ uc us (nI i) S | 51 => Lw_law_b1790 sl sc mc ms K κ uc us (nI i) S | 52 => Lw_law_b1803 sl sc mc ms K κ uc us (nI i) S | 53 => Lw_law_b1826 sl sc mc ms K κ uc us (nI i) S | 54 => Lw_law_b1849 sl sc mc ms K κ uc us (nI i) S | 55 => Lw_law_b1882 sl sc mc ms K κ uc us (nI i) S | 56 => Lw_law_b1905 sl sc mc ms K κ uc us (nI i) S | 57 => Lw_law_b1928 sl sc mc ms K κ uc us (nI i) S | 58 => Lw_law_b1951 sl sc mc ms K κ uc us (nI i) S | 59 => Lw_law_b1984 sl sc mc ms K κ uc us (nI i) S | 60 => Lw_law_b1997 sl sc mc ms K κ uc us (nI i) S | _ => Lw_law_b2010 sl sc mc ms K κ uc us (nI i) S) := by
  obtain ⟨h0, h1, h2, h3, h4, h5, h6, h7, h8, h9, h10, h11, h12, h13, h14, h15, h16, h17, h18, h19, h20, h21, h22, h23, h24, h25, h26, h27, h28, h29, h30, h31, h32, h33, h34, h35, h36, h37, h38, h39, h40, h41, h42, h43, h44, h45, h46, h47, h48, h49, h50, h51, h52, h53, h54, h55, h56, h57, h58, h59, h60⟩ := h
  split
  · exact cs_0 h0 hi hs hb hR hk
  · exact cs_1 h1 hi hs hb hR hk
  · exact cs_2 h2 hi hs hb hR hk
  · exact cs_3 h3 hi hs hb hR hk
  · exact cs_4 h4 hi hs hb hR hk
  · exact cs_5 h5 hi hs hb hR hk
  · exact cs_6 h6 hi hs hb hR hk
  · exact cs_7 h7 hi hs hb hR hk
  · exact cs_8 h8 hi hs hb hR hk
  · exact cs_9 h9 hi hs hb hR hk
  · exact cs_10 h10 hi hs hb hR hk
  · exact cs_11 h11 hi hs hb hR hk
  · exact cs_12 h12 hi hs hb hR hk
  · exact cs_13 h13 hi hs hb hR hk
  · exact cs_14 h14 hi hs hb hR hk
  · exact cs_15 h15 hi hs hb hR hk
  · exact cs_16 h16 hi hs hb hR hk
  · exact cs_17 h17 hi hs hb hR hk
  · exact cs_18 h18 hi hs hb hR hk
  · exact cs_19 h19 hi hs hb hR hk
  · exact cs_20 h20 hi hs hb hR hk
  · exact cs_21 h21 hi hs hb hR hk
  · exact cs_22 h22 hi hs hb hR hk
  · exact cs_23 h23 hi hs hb hR hk
  · exact cs_24 h24 hi hs hb hR hk
  · exact cs_25 h25 hi hs hb hR hk
  · exact cs_26 h26 hi hs hb hR hk
  · exact cs_27 h27 hi hs hb hR hk
  · exact cs_28 h28 hi hs hb hR hk
  · exact cs_29 h29 hi hs hb hR hk
  · exact cs_30 h30 hi hs hb hR hk
  · exact cs_31 h31 hi hs hb hR hk
  · exact cs_32 h32 hi hs hb hR hk
  · exact cs_33 h33 hi hs hb hR hk
  · exact cs_34 h34 hi hs hb hR hk
  · exact cs_35 h35 hi hs hb hR hk
  · exact cs_36 h36 hi hs hb hR hk
  · exact cs_37 h37 hi hs hb hR hk
  · exact cs_38 h38 hi hs hb hR hk
  · exact cs_39 h39 hi hs hb hR hk
  · exact cs_40 h40 hi hs hb hR hk
  · exact cs_41 h41 hi hs hb hR hk
  · exact cs_42 h42 hi hs hb hR hk
  · exact cs_43 h43 hi hs hb hR hk
  · exact cs_44 h44 hi hs hb hR hk
  · exact cs_45 h45 hi hs hb hR hk
  · exact cs_46 h46 hi hs hb hR hk
  · exact cs_47 h47 hi hs hb hR hk
  · exact cs_48 h48 hi hs hb hR hk
  · exact cs_49 h49 hi hs hb hR hk
  · exact cs_50 h50 hi hs hb hR hk
  · exact cs_51 h51 hi hs hb hR hk
  · exact cs_52 h52 hi hs hb hR hk
  · exact cs_53 h53 hi hs hb hR hk
  · exact cs_54 h54 hi hs hb hR hk
  · exact cs_55 h55 hi hs hb hR hk
  · exact cs_56 h56 hi hs hb hR hk
  · exact cs_57 h57 hi hs hb hR hk
  · exact cs_58 h58 hi hs hb hR hk
  · exact cs_59 h59 hi hs hb hR hk
  · exact cs_60 h60 hi hs hb hR hk
  · exact op_next hk hR (by omega) (by omega)
theorem and63 (x : Int32) : ∃ k : Nat, k < 64 ∧ (x &&& nI 63) = nI k := pk_andE x 6 (by decide)
theorem law_step {sl : Nat} {sc : Nat → Int32} {mc ms : Nat} {K : Int32 → tS → Prop} {R : tS → Prop} (h : opsOK R) (hs : sl ≤ 384) (hK : ∀ S, K (nI 1) S) : ∀ (n i uc us : Nat) (S : tS), i ≤ sl → sl - i < 6 * n → uc + 9000 * ((sl - i) / 6) ≤ mc → us + 110000 * ((sl - i) / 6) ≤ ms → R S → Lw_law_l18 sl sc mc ms K n uc us (nI i) S := by
  intro n
  induction n with
  | zero => intro i uc us S h1 h2 h3 h4 hR; omega
  | succ n ih =>
    intro i uc us S h1 h2 h3 h4 hR
    unfold Lw_law_l18
    by_cases hc : sl - i < 6
    · have e : nI sl - nI 6 < nI i := by
        have t1 := pk_sub_toInt (a := sl) (b := 6) (by omega) (by omega)
        have t2 := nI_toInt (n := i) (by omega)
        rw [Int32.lt_iff_toInt_lt]
        omega
      exact ⟨fun _ => ⟨⟨by omega, by omega⟩, hK S⟩, fun q => absurd e q⟩
    · have hi : i + 6 ≤ sl := by omega
      have e : ¬ nI sl - nI 6 < nI i := by
        have t1 := pk_sub_toInt (a := sl) (b := 6) (by omega) (by omega)
        have t2 := nI_toInt (n := i) (by omega)
        rw [Int32.lt_iff_toInt_lt]
        omega
      have hb : uc + 9000 ≤ mc ∧ us + 110000 ≤ ms := by
        have : 1 ≤ (sl - i) / 6 := by omega
        constructor <;> omega
      have hk : opNext (Lw_law_l18 sl sc mc ms K n) R uc us i := fun uc' us' S' hR' b1 b2 => by
        have e6 : (sl - (i + 6)) / 6 + 1 = (sl - i) / 6 := by omega
        refine ih (i + 6) uc' us' S' hi (by omega) ?_ ?_ hR' <;> omega
      refine ⟨fun q => absurd q e, fun _ => ⟨vp_in_nI (by omega) (by omega), ?_⟩⟩
      obtain ⟨k, hk64, hkk⟩ := and63 (sc (nI i).toNatClampNeg)
      refine ⟨k, hk64, hkk, ?_⟩
      exact law_arm h hs hi hb hR hk k

/-- the law out of the ops -/
theorem lawOK_of {R : tS → Prop} (h0 : ∀ n0, R (S0s n0)) (h : opsOK R) : lawOK := fun n0 sl sc hs => ⟨65, law_step h hs (fun _ => rfl) 65 0 70 7279 (S0s n0) (by omega) (by omega) (by omega) (by omega) (h0 n0)⟩

