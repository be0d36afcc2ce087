set_option maxRecDepth 100000
/-! THE EASY OPS -/
theorem Rel.V {S : tS} (h : Rel S) : V 9999 (gn S 48) := by
  obtain ⟨⟨o, h1⟩, _⟩ := h
  exact h1.1.1
theorem Rel.C {S : tS} (h : Rel S) : CR S 1222 (gn S 48) := by
  obtain ⟨⟨o, h1⟩, _⟩ := h
  exact h1.1.2.1
theorem Rel.W {S : tS} (h : Rel S) : CW S 1222 := by
  obtain ⟨⟨o, h1⟩, _⟩ := h
  exact h1.2.1
theorem op0_ok : op0 Rel := fun _ _ _ _ _ => op_no fun S hR => by
  obtain ⟨_, _, ⟨st, _, h1, h2⟩, _⟩ := hR
  exact ⟨nI st, fun K h => by unfold X_status; rw [h2]; exact h, fun K h => by unfold M_status; rw [h1]; exact h⟩
theorem op1_ok : op1 Rel := fun _ _ _ _ _ => op_noL fun S hR => by
  obtain ⟨⟨o, h⟩, _⟩ := hR
  have := h.2.2.2.2.1.1
  exact ⟨gL S 0 3, fun K h => by unfold X_top; rw [this]; exact h, fun K h => h⟩
theorem op2_ok : op2 Rel := fun _ _ _ _ _ => op_noL fun S hR => by
  obtain ⟨⟨o, h⟩, _⟩ := hR
  have := h.2.2.2.2.1.2
  exact ⟨gL S 0 4, fun K h => by unfold X_bottom; rw [this]; exact h, fun K h => h⟩
theorem op10_ok : op10 Rel := fun a1 _ _ _ _ => op_no fun S hR => by
  obtain ⟨⟨o, h⟩, _⟩ := hR
  have e1 := h.2.2.2.2.2.1.1
  have e2 := h.2.2.2.2.2.1.2
  refine ⟨if a1 = nI 0 then gI S 0 16 else if a1 = nI 1 then gI S 0 17 else -1, fun K h => ?_, fun K h => ?_⟩
  · unfold X_fault
    rw [e1, e2]
    by_cases c0 : a1 = nI 0
    · rw [if_pos c0] at h; exact ⟨fun _ => h, fun q => absurd c0 q⟩
    · by_cases c1 : a1 = nI 1
      · rw [if_neg c0, if_pos c1] at h; exact ⟨fun q => absurd q c0, fun _ => ⟨fun _ => h, fun q => absurd c1 q⟩⟩
      · rw [if_neg c0, if_neg c1] at h; exact ⟨fun q => absurd q c0, fun _ => ⟨fun q => absurd q c1, fun _ => h⟩⟩
  · unfold M_fault
    by_cases c0 : a1 = nI 0
    · rw [if_pos c0] at h; exact ⟨fun _ => h, fun q => absurd c0 q⟩
    · by_cases c1 : a1 = nI 1
      · rw [if_neg c0, if_pos c1] at h; exact ⟨fun q => absurd q c0, fun _ => ⟨fun _ => h, fun q => absurd c1 q⟩⟩
      · rw [if_neg c0, if_neg c1] at h; exact ⟨fun q => absurd q c0, fun _ => ⟨fun q => absurd q c1, fun _ => h⟩⟩
/-! checks -/
theorem ck_ok {x : Int32} {n : Nat} {P Q : Prop} : ((x.toInt < 0 → Q) ∧ (¬ x.toInt < 0 → ((n : Int) ≤ x.toInt → Q) ∧ (¬ (n : Int) ≤ x.toInt → P))) ↔ (if okN x n then P else Q) := by
  unfold okN
  by_cases h1 : x.toInt < 0
  · simp [h1, show ¬ 0 ≤ x.toInt by omega]
  · by_cases h2 : (n : Int) ≤ x.toInt
    · simp [h1, h2, show ¬ x.toInt < n by omega]
    · simp [h1, h2, show x.toInt < n by omega, show 0 ≤ x.toInt by omega]
theorem X_isIn_ok {a lo hi : Int64} {S : tS} {K : Int32 → tS → Prop} : X_isIn a lo hi S K ↔ K (nI (bN (decide (lo.toInt ≤ a.toInt ∧ a.toInt ≤ hi.toInt)))) S := by
  unfold X_isIn
  rw [lc_lt, lc_gt]
  by_cases h1 : a.toInt < lo.toInt
  · simp [h1, show ¬ lo.toInt ≤ a.toInt by omega, bN]
  · by_cases h2 : hi.toInt < a.toInt
    · simp [h1, h2, show ¬ a.toInt ≤ hi.toInt by omega, bN]
    · simp [h1, h2, show a.toInt ≤ hi.toInt by omega, show lo.toInt ≤ a.toInt by omega, bN]
theorem M_isFrom_ok {a lo hi : Int64} {S : tS} {K : Int32 → tS → Prop} : M_isFrom a lo hi S K ↔ K (nI (bN (decide (lo.toInt ≤ a.toInt ∧ a.toInt ≤ hi.toInt)))) S := X_isIn_ok
theorem inN {x : Int32} {n : Nat} (hn : n < 1000000) : decide ((lN 0).toInt ≤ x.toInt64.toInt ∧ x.toInt64.toInt ≤ (nI n - nI 1).toInt64.toInt) = okN x n := by
  unfold okN
  rw [tL_toInt, tL_toInt, lN_ti (by omega), pk_sub_toInt (by omega) (by omega)]
  congr 1
  apply propext
  omega
theorem inL {x : Int32} {n : Nat} (hn : n < 1000000) : decide ((lN 0).toInt ≤ x.toInt64.toInt ∧ x.toInt64.toInt ≤ (lN n).toInt) = okN x (n + 1) := by
  unfold okN
  rw [tL_toInt, lN_ti (by omega), lN_ti (by omega)]
  congr 1
  apply propext
  omega
theorem X_isIn0 {x : Int32} {n : Nat} {S : tS} {K : Int32 → tS → Prop} (hn : n < 1000000) : X_isIn x.toInt64 (lN 0) (lN n) S K ↔ K (nI (bN (okN x (n + 1)))) S := by rw [X_isIn_ok, inL hn]
theorem M_isFrom0 {x : Int32} {n : Nat} {S : tS} {K : Int32 → tS → Prop} (hn : n < 1000000) : M_isFrom x.toInt64 (lN 0) (lN n) S K ↔ K (nI (bN (okN x (n + 1)))) S := by rw [M_isFrom_ok, inL hn]
theorem X_isCue_ok {x : Int32} {n : Nat} {S : tS} {K : Int32 → tS → Prop} (h : gI S 1222 1 = nI n) (hn : n < 1000000) : X_isCue x S K ↔ K (nI (bN (okN x n))) S := by simp only [X_isCue, X_at]; rw [X_isIn_ok, h, inN hn]
theorem X_isSmell_ok {x : Int32} {n : Nat} {S : tS} {K : Int32 → tS → Prop} (h : gI S 1222 0 = nI n) (hn : n < 1000000) : X_isSmell x S K ↔ K (nI (bN (okN x n))) S := by simp only [X_isSmell, X_at]; rw [X_isIn_ok, h, inN hn]
theorem X_isRule_ok {x : Int32} {n : Nat} {S : tS} {K : Int32 → tS → Prop} (h : gI S 1222 2 = nI n) (hn : n < 1000000) : X_isRule x S K ↔ K (nI (bN (okN x n))) S := by simp only [X_isRule, X_at]; rw [X_isIn_ok, h, inN hn]
theorem X_isReader_ok {x : Int32} {n : Nat} {S : tS} {K : Int32 → tS → Prop} (h : gI S 1222 4 = nI n) (hn : n < 1000000) : X_isReader x S K ↔ K (nI (bN (okN x n))) S := by simp only [X_isReader, X_at]; rw [X_isIn_ok, h, inN hn]
theorem X_isPerson_ok {x : Int32} {n : Nat} {S : tS} {K : Int32 → tS → Prop} (h : gI S 1222 3 = nI n) (hn : n < 1000000) : X_isPerson x.toInt64 S K ↔ K (nI (bN (okN x n))) S := by simp only [X_isPerson, X_at]; rw [X_isIn_ok, h, inN hn]
theorem ckK {x : Int32} {n : Nat} {S : tS} {K : Int32 → tS → Prop} (hn : n < 1000000) : ((x < nI 0 → K (nI 0) S) ∧ (¬ x < nI 0 → (nI n ≤ x → K (nI 0) S) ∧ (¬ nI n ≤ x → K (nI 1) S))) ↔ K (nI (bN (okN x n))) S := by
  rw [lt_z, nN_le x (by omega), ck_ok]
  cases okN x n <;> simp [bN]
theorem M_isCue_ok {x : Int32} {S : tS} {K : Int32 → tS → Prop} (hn : gn S 48 1 < 1000000) : M_isCue x S K ↔ K (nI (bN (okN x (gn S 48 1)))) S := by unfold M_isCue; rw [gI48, ckK hn]
theorem M_isSmell_ok {x : Int32} {S : tS} {K : Int32 → tS → Prop} (hn : gn S 48 0 < 1000000) : M_isSmell x S K ↔ K (nI (bN (okN x (gn S 48 0)))) S := by unfold M_isSmell; rw [gI48, ckK hn]
theorem M_isRule_ok {x : Int32} {S : tS} {K : Int32 → tS → Prop} (hn : gn S 48 2 < 1000000) : M_isRule x S K ↔ K (nI (bN (okN x (gn S 48 2)))) S := by unfold M_isRule; rw [gI48, ckK hn]
theorem M_isReader_ok {x : Int32} {S : tS} {K : Int32 → tS → Prop} (hn : gn S 48 4 < 1000000) : M_isReader x S K ↔ K (nI (bN (okN x (gn S 48 4)))) S := by unfold M_isReader; rw [gI48, ckK hn]
theorem M_isPerson_ok {x : Int32} {S : tS} {K : Int32 → tS → Prop} (hn : gn S 48 3 < 1000000) : M_isPerson x.toInt64 S K ↔ K (nI (bN (okN x (gn S 48 3)))) S := by
  unfold M_isPerson
  rw [gI48, lc_lt, lc_ge, tL_toInt, tL_toInt, lN_ti (by omega), nI_toInt (by omega)]
  rw [show ((0 : Nat) : Int) = 0 from rfl, ck_ok]
  cases okN x (gn S 48 3) <;> simp [bN]

theorem brI {c : Prop} [Decidable c] {A B : Prop} : ((c → A) ∧ (¬ c → B)) ↔ (if c then A else B) := by
  by_cases h : c <;> simp [h]
theorem nz (b : Bool) : (nI (bN b) = nI 0) = (b = false) := propext (bN_0 b)
theorem M_refuse_ok {n : Int32} {S : tS} {K : Int32 → tS → Prop} : M_refuse n S K ↔ K (-1) (sI S 0 2 n) := by unfold M_refuse; simp only [forall_eq]
theorem M_gives_ok {n : Int32} {S : tS} {K : Int32 → tS → Prop} : M_gives n S K ↔ K n (sI S 0 2 (nI 0)) := by unfold M_gives; simp only [forall_eq]
theorem M_is_ok {n : Nat} {S : tS} {K : Int32 → tS → Prop} (hn : n < 1000000) : M_is (nI n) S K ↔ K (nI (bN (decide (n = 0)))) (sI S 0 2 (nI n)) := by
  unfold M_is
  simp only [forall_eq]
  rw [eq_nI (by omega) (by omega)]
  by_cases h : n = 0 <;> simp [h, bN]
theorem gn7 (S : tS) (x : Int32) : gn (sI S 1025 7 x) 48 = gn S 48 := rfl
theorem st7 (S : tS) (x : Int32) : gI (sI S 1025 7 x) 1025 7 = x := by rw [gI_sI, if_pos rfl, if_pos rfl]
theorem gI7 (S : tS) (x : Int32) {t : Nat} (k : Nat) (h : t ≠ 1025) : gI (sI S 1025 7 x) t k = gI S t k := by rw [gI_sI, if_neg h]
/-- the component's way to its status: an answer where it is 0 -/
theorem stB {st : Nat} {S : tS} {P : tS → Prop} {K : Int32 → tS → Prop} (hst : st ≤ 9) : (∀ S3 : tS, S3 = sI S 1025 7 (nI st) → (gI S3 1025 7 ≤ nI 0 → P S3) ∧ (¬ gI S3 1025 7 ≤ nI 0 → K (-1) S3)) ↔ (if st = 0 then P (sI S 1025 7 (nI 0)) else K (-1) (sI S 1025 7 (nI st))) := by
  simp only [forall_eq]
  rw [st7, le_nI (by omega) (by omega)]
  by_cases h : st = 0
  · subst h; simp
  · simp [h]
theorem op12_ok : op12 Rel := fun a1 _ _ _ _ => op_st fun S hR => by
  have hV := hR.V
  have hC := hR.C
  have h1 : gI S 1222 1 = nI (gn S 48 1) := hC.1 1 (by omega)
  have hb := hV.1.2.1
  cases c : okN a1 (gn S 48 1)
  · refine ⟨-1, 1, by omega, fun K h => ?_, fun K h => ?_⟩
    · unfold X_sense X_sense_b14
      rw [X_isCue_ok h1 (by omega), c]
      refine ⟨fun _ => ?_, fun q => absurd rfl q⟩
      rw [stB (by omega), if_neg (by omega)]
      exact h
    · unfold M_sense
      rw [M_isCue_ok (by rw [gn7]; omega), gn7, c]
      refine ⟨fun _ => ?_, fun q => absurd rfl q⟩
      rw [M_refuse_ok]
      exact h
  · obtain ⟨j, hj, rfl⟩ := (okN_iff (by omega)).mp c
    refine ⟨nI (gn S 48 (10 + j)), 0, by omega, fun K h => ?_, fun K h => ?_⟩
    · unfold X_sense X_sense_b14
      rw [X_isCue_ok h1 (by omega), c]
      refine ⟨fun q => absurd q (by decide), fun _ => ?_⟩
      rw [stB (by omega), if_pos rfl]
      simp only [X_at]
      have e := hC.2.1 j (by omega)
      simp only [Nat.one_mul, Nat.reduceAdd] at e
      rw [cl_nI (by omega), vp_nI (by omega) (by omega), gI7 _ _ _ (by decide), e]
      exact ⟨by omega, h⟩
    · unfold M_sense
      rw [M_isCue_ok (by rw [gn7]; omega), gn7, c]
      refine ⟨fun q => absurd q (by decide), fun _ => ?_⟩
      rw [nI_add, vp_nI (by omega) (by omega), cl_nI (by omega), gI48, gn7, M_gives_ok]
      exact ⟨by omega, h⟩
