set_option maxRecDepth 100000
/-! THE RELATION between the component's world and the twin's. F: a slot of the twin's row, in plain numbers. -/
def cArr (S : tS) (a n b st : Nat) (F : Nat → Nat) : Prop := ∀ k : Nat, k < n → gI S a k = nI (F (b + st * k))
/-- the Court at c holds what the slot F holds -/
def CR (S : tS) (c : Nat) (F : Nat → Nat) : Prop := (∀ j : Nat, j < 8 → gI S c j = nI (F j)) ∧ cArr S (c + 170) 6 10 1 F ∧ cArr S (c + 202) 6 72 5 F ∧ cArr S (c + 234) 6 73 5 F ∧ cArr S (c + 266) 6 74 5 F ∧ cArr S (c + 298) 6 75 5 F ∧ cArr S (c + 330) 6 76 5 F ∧ cArr S (c + 362) 6 102 2 F ∧ cArr S (c + 394) 6 103 2 F ∧ cArr S (c + 426) 10 114 2 F ∧ cArr S (c + 458) 10 115 2 F ∧ (∀ r : Nat, r < F 2 → ∃ t, gR S (c + 497) r = some t ∧ ∀ j : Nat, j < 7 → gI S t j = nI (F (16 + 7 * r + j)))
/-- the Court at c is there with its rows; its rules are rules -/
def CW (S : tS) (c : Nat) : Prop := gN S c ≠ 0 ∧ gN S (c + 170) = 7 ∧ gN S (c + 202) = 7 ∧ gN S (c + 234) = 7 ∧ gN S (c + 266) = 7 ∧ gN S (c + 298) = 7 ∧ gN S (c + 330) = 7 ∧ gN S (c + 362) = 7 ∧ gN S (c + 394) = 7 ∧ gN S (c + 426) = 11 ∧ gN S (c + 458) = 11 ∧ gN S (c + 497) = 9 ∧ (∀ r y : Nat, gR S (c + 497) r = some y → (gN S y ≠ 0 ∧ y % 32 = 7 ∧ 3200 ≤ y))
/-- a slot's numbers are in their ranges; so many sittings at most -/
def V (m : Nat) (F : Nat → Nat) : Prop := (F 0 ≤ 5 ∧ F 1 ≤ 6 ∧ F 2 ≤ 8 ∧ F 3 ≤ 6 ∧ F 4 ≤ 6 ∧ F 5 ≤ 10 ∧ F 6 ≤ 9 ∧ F 7 ≤ m) ∧ (∀ k : Nat, k < 6 → F (10 + k) ≤ 2) ∧ (∀ r : Nat, r < F 2 → F (16 + 7 * r) < F 1 ∧ F (17 + 7 * r) ≤ 2 ∧ (F (18 + 7 * r) = 0 ∨ F (18 + 7 * r) = 60 ∨ F (18 + 7 * r) = 61 ∨ F (18 + 7 * r) = 62) ∧ F (19 + 7 * r) ≤ 99 ∧ (F (20 + 7 * r) = 0 ∨ F (20 + 7 * r) = 60 ∨ F (20 + 7 * r) = 61 ∨ F (20 + 7 * r) = 62) ∧ F (21 + 7 * r) ≤ 9 ∧ (F (22 + 7 * r) < F 0 ∨ F (22 + 7 * r) = 4294967295)) ∧ (∀ p : Nat, p < 6 → F (72 + 5 * p) ≤ 99 ∧ F (73 + 5 * p) < 2 ^ F 0 ∧ F (74 + 5 * p) ≤ 2 ∧ F (75 + 5 * p) ≤ 1 ∧ F (76 + 5 * p) ≤ F 7) ∧ (∀ r : Nat, r < 6 → F (102 + 2 * r) ≤ 16 ∧ F (103 + 2 * r) ≤ 9) ∧ (∀ r : Nat, r < F 4 → 1 ≤ F (103 + 2 * r)) ∧ (∀ w : Nat, w < F 5 → F (114 + 2 * w) < F 3 ∧ 1 ≤ F (115 + 2 * w) ∧ F (115 + 2 * w) ≤ 2)
/-- one name, in the twin's 8 bits and in the component's 5 bits a letter -/
def NmR (a8 a5 : Int64) : Prop := ∃ w : List Nat, 0 < w.length ∧ w.length ≤ 8 ∧ (∀ l ∈ w, 1 ≤ l ∧ l ≤ 26) ∧ a8 = lN (w.foldl (fun v l => v * 256 + (96 + l)) 0) ∧ a5 = lN (w.foldl (fun v l => v * 32 + l) 0)
def nArr (o : Nat → Nat) (S : tS) (c j n : Nat) (m : Nat) (N : Nat → Int64) : Prop := ∃ t, gR S c j = some t ∧ gN S t = n + 1 ∧ t % 32 = 17 ∧ 3200 ≤ t ∧ o t = 10 ∧ ∀ k : Nat, k < m → NmR (N k) (gL S t k)
/-- the names of the Court at c are N's -/
def NR (o : Nat → Nat) (S : tS) (c : Nat) (F : Nat → Nat) (N : Nat → Int64) : Prop := nArr o S c 8 5 (F 0) N ∧ nArr o S c 9 6 (F 1) (fun k => N (5 + k)) ∧ nArr o S c 10 6 (F 3) (fun k => N (11 + k)) ∧ nArr o S c 11 6 (F 4) (fun k => N (17 + k))
/-- an Act, a Loop, a When is the row i -/
def ActR (S : tS) (F : Nat → Nat) (t i : Nat) : Prop := t % 32 = 8 ∧ ((15 ≤ F (134 + 6 * i) ∧ F (134 + 6 * i) ≤ 21 ∧ gI S t 0 = nI (F (134 + 6 * i) - 15)) ∨ (F (134 + 6 * i) = 25 ∧ gI S t 0 = nI 7)) ∧ gI S t 1 = nI (F (135 + 6 * i)) ∧ gI S t 2 = nI (F (136 + 6 * i))
def LoopR (S : tS) (F : Nat → Nat) (t i : Nat) : Prop := t % 32 = 9 ∧ F (134 + 6 * i) = 23 ∧ gI S t 2 = nI (F (135 + 6 * i)) ∧ 1 ≤ F (135 + 6 * i) ∧ F (135 + 6 * i) ≤ 99
def WhenR (S : tS) (F : Nat → Nat) (t i : Nat) : Prop := t % 32 = 10 ∧ ((F (134 + 6 * i) = 2226 ∧ gI S t 2 = nI 0) ∨ (F (134 + 6 * i) = 2227 ∧ gI S t 2 = nI 1) ∨ (F (134 + 6 * i) = 2228 ∧ gI S t 2 = nI 2) ∨ (F (134 + 6 * i) = 2211 ∧ gI S t 2 = nI 3)) ∧ gI S t 3 = nI (F (135 + 6 * i)) ∧ gI S t 4 = nI (F (136 + 6 * i)) ∧ gI S t 5 = nI (F (139 + 6 * i))
/-- the numbers of a row are in their ranges -/
def RowV (F : Nat → Nat) (i : Nat) : Prop := (F (134 + 6 * i) = 15 → F (135 + 6 * i) < F 3) ∧ (F (134 + 6 * i) = 17 → F (135 + 6 * i) < F 3 ∧ 1 ≤ F (136 + 6 * i) ∧ F (136 + 6 * i) ≤ 9) ∧ ((F (134 + 6 * i) = 18 ∨ F (134 + 6 * i) = 19) → F (135 + 6 * i) < F 3 ∧ F (136 + 6 * i) < F 0) ∧ (F (134 + 6 * i) = 2226 → F (135 + 6 * i) < F 3 ∧ F (136 + 6 * i) < F 1) ∧ ((F (134 + 6 * i) = 2227 ∨ F (134 + 6 * i) = 2228) → F (135 + 6 * i) < F 3) ∧ (F (134 + 6 * i) = 2211 → F (136 + 6 * i) ≤ 9 ∧ (F (139 + 6 * i) = 60 ∨ F (139 + 6 * i) = 61 ∨ F (139 + 6 * i) = 62))
/-- the steps of the block b from its k-th on are the rows from i up to j; every block's rows end in a row that closes it -/
def SegR (S : tS) (F : Nat → Nat) : Nat → Nat → Nat → Nat → Nat → Prop
  | 0, _, _, _, _ => False
  | n + 1, b, k, i, j => (i = j ∧ gI S b 1 = nI k) ∨ (i < j ∧ ∃ a t : Nat, gR S b 0 = some a ∧ k + 1 < gN S a ∧ a % 32 = 24 ∧ gR S a k = some t ∧ gN S t ≠ 0 ∧ RowV F i ∧ ((ActR S F t i ∧ SegR S F n b (k + 1) (i + 1) j) ∨ (∃ e : Nat, i < e ∧ e < j ∧ F (138 + 6 * i) = e ∧ F (134 + 6 * e) = 24 ∧ F (138 + 6 * e) = i ∧ (LoopR S F t i ∨ WhenR S F t i) ∧ SegR S F n t 0 (i + 1) e ∧ SegR S F n b (k + 1) (e + 1) j)))
def WR (S : tS) (r : Option Nat) (F : Nat → Nat) : Prop := (r = none ∧ F 8 = 4294967295) ∨ (∃ t : Nat, r = some t ∧ F 8 ≤ 60 ∧ gN S t ≠ 0 ∧ t % 32 = 9 ∧ gI S t 2 = nI 1 ∧ SegR S F 64 t 0 0 (F 8))
/-- the House at h is what the twin keeps in its slot -/
def HR (o : Nat → Nat) (S : tS) (h : Nat) (F : Nat → Nat) (N : Nat → Int64) : Prop := V 9999 F ∧ CR S (h + 33) F ∧ NR o S (h + 33) F N ∧ WR S (gR S h 1) F
/-- the rows of the trays -/
def tkd : Nat → Nat
  | 0 => 18
  | 1 => 19
  | 2 => 16
  | _ => 17
def trV (S : tS) (so u k : Nat) (v : Int64) : Prop := (so < 3 → v = (gI S u k).toInt64) ∧ (so = 0 → -128 ≤ (gI S u k).toInt ∧ (gI S u k).toInt ≤ 127) ∧ (so = 1 → -32768 ≤ (gI S u k).toInt ∧ (gI S u k).toInt ≤ 32767) ∧ (so = 3 → v = gL S u k)
def TR (o : Nat → Nat) (S : tS) (i : Nat) : Prop := ∃ x : Nat, gR S 1077 i = some x ∧ gN S x ≠ 0 ∧ x % 32 = 2 ∧ 3200 ≤ x ∧ o x = 5 + i ∧ ((gR S x 0 = none ∧ gI S 144 i = -1) ∨ (∃ u so n : Nat, gR S x 0 = some u ∧ o u = 1 + i ∧ 3200 ≤ u ∧ so < 4 ∧ n ≤ 60 ∧ gI S 112 i = nI so ∧ gI S 144 i = nI n ∧ gN S u = n + 1 ∧ u % 32 = tkd so ∧ ∀ k : Nat, k < n → trV S so u k (gL S 177 (60 * i + k))))
/-- a mark -/
def MkR (o : Nat → Nat) (S : tS) (m i : Nat) : Prop := (gR S 1750 i = none ∧ m ≤ i) ∨ (∃ h : Nat, gR S 1750 i = some h ∧ gN S h ≠ 0 ∧ h % 32 = 5 ∧ 3200 ≤ h ∧ (∀ a ∈ hTags h, o a = 20 + i) ∧ CW S (h + 33) ∧ (i < m → HR o S h (fun k => gn S 48 (502 * (i + 1) + k)) (fun k => gL S 81 (23 * (i + 1) + k))))
def Rel0 (o : Nat → Nat) (S : tS) : Prop := HR o S 1189 (gn S 48) (gL S 81) ∧ CW S 1222 ∧ (∀ i : Nat, i < 4 → TR o S i) ∧ (∃ m : Nat, m ≤ 3 ∧ gI S 1025 12 = nI m ∧ gI S 0 41 = nI m ∧ ∀ i : Nat, i < 3 → MkR o S m i) ∧ (gL S 1025 8 = gL S 0 3 ∧ gL S 1025 9 = gL S 0 4) ∧ (gI S 1025 3 = gI S 0 16 ∧ gI S 1025 4 = gI S 0 17) ∧ (∃ n : Nat, n ≤ 900 ∧ gI S 1025 2 = nI n ∧ gI S 0 10 = nI n) ∧ (∀ k : Nat, k < 900 → gI S 1106 k = gI S 210 k ∧ -128 ≤ (gI S 210 k).toInt ∧ (gI S 210 k).toInt ≤ 127) ∧ (gI S 1025 27 = gI S 0 40 ∧ (gI S 0 40 = nI 0 ∨ gI S 0 40 = nI 1)) ∧ (∀ k : Nat, k < 5 → gI S 2480 k = gI S 624 k)
def StR (S : tS) : Prop := ∃ st : Nat, st ≤ 9 ∧ gI S 0 2 = nI st ∧ gI S 1025 7 = nI st
/-- things of the kinds of rules and steps stand high -/
def Hi (S : tS) : Prop := ∀ t : Nat, gN S t ≠ 0 → (t % 32 = 7 ∨ t % 32 = 8 ∨ t % 32 = 9 ∨ t % 32 = 10 ∨ t % 32 = 24) → 3200 ≤ t
def Rel (S : tS) : Prop := (∃ o, Rel0 o S) ∧ Hi S ∧ StR S ∧ CW S 1766
/-! what of a world the relation reads -/
def relI (t k : Nat) : Bool := (t == 48 && decide (k < 2008)) || (t == 0 && (k == 10 || k == 16 || k == 17 || k == 40 || k == 41)) || t == 112 || t == 144 || t == 210 || t == 624 || (t == 1025 && (k == 2 || k == 3 || k == 4 || k == 12 || k == 27)) || t == 1106 || t == 2480 || (decide (1222 ≤ t) && decide (t < 1766)) || decide (3200 ≤ t)
def relL (t k : Nat) : Bool := (t == 0 && (k == 3 || k == 4)) || (t == 81 && decide (k < 92)) || t == 177 || (t == 1025 && (k == 8 || k == 9)) || (decide (1222 ≤ t) && decide (t < 1766)) || decide (3200 ≤ t)
def relR (t : Nat) : Bool := t == 1189 || t == 1077 || (decide (1222 ≤ t) && decide (t < 1766)) || decide (3200 ≤ t)
def Agree (S S' : tS) : Prop := (∀ t k : Nat, relI t k = true → gI S' t k = gI S t k) ∧ (∀ t k : Nat, relL t k = true → gL S' t k = gL S t k) ∧ (∀ t k : Nat, relR t = true → gR S' t k = gR S t k) ∧ gN S' = gN S
theorem Agree.rf {S : tS} : Agree S S := ⟨fun _ _ _ => rfl, fun _ _ _ => rfl, fun _ _ _ => rfl, rfl⟩
theorem Agree.tr {S S1 S2 : tS} (h : Agree S S1) (h2 : Agree S1 S2) : Agree S S2 := ⟨fun t k r => (h2.1 t k r).trans (h.1 t k r), fun t k r => (h2.2.1 t k r).trans (h.2.1 t k r), fun t k r => (h2.2.2.1 t k r).trans (h.2.2.1 t k r), h2.2.2.2.trans h.2.2.2⟩
theorem Agree.sI {S S1 : tS} (h : Agree S S1) {t k : Nat} (x : Int32) (hr : relI t k = false) : Agree S (sI S1 t k x) := by
  refine ⟨fun a b r => ?_, h.2.1, h.2.2.1, h.2.2.2⟩
  rw [gI_sI, ← h.1 a b r]
  by_cases e1 : a = t
  · by_cases e2 : b = k
    · subst e1; subst e2; rw [hr] at r; cases r
    · rw [if_pos e1, if_neg e2]
  · rw [if_neg e1]
theorem Agree.sL {S S1 : tS} (h : Agree S S1) {t k : Nat} (x : Int64) (hr : relL t k = false) : Agree S (sL S1 t k x) := by
  refine ⟨h.1, fun a b r => ?_, h.2.2.1, h.2.2.2⟩
  rw [gL_sL, ← h.2.1 a b r]
  by_cases e1 : a = t
  · by_cases e2 : b = k
    · subst e1; subst e2; rw [hr] at r; cases r
    · rw [if_pos e1, if_neg e2]
  · rw [if_neg e1]
theorem Agree.sR {S S1 : tS} (h : Agree S S1) {t k : Nat} (x : Option Nat) (hr : relR t = false) : Agree S (sR S1 t k x) := by
  refine ⟨h.1, h.2.1, fun a b r => ?_, h.2.2.2⟩
  rw [gR_sR, ← h.2.2.1 a b r]
  by_cases e1 : a = t
  · subst e1; rw [hr] at r; cases r
  · rw [if_neg e1]
theorem relI_now {t k : Nat} (h : 1222 ≤ t) (h2 : t < 1766) : relI t k = true := by simp [relI, h, h2]
theorem relI_dyn {t k : Nat} (h : 3200 ≤ t) : relI t k = true := by simp [relI, h]
theorem relL_now {t k : Nat} (h : 1222 ≤ t) (h2 : t < 1766) : relL t k = true := by simp [relL, h, h2]
theorem relL_dyn {t k : Nat} (h : 3200 ≤ t) : relL t k = true := by simp [relL, h]
theorem relR_now {t : Nat} (h : 1222 ≤ t) (h2 : t < 1766) : relR t = true := by simp [relR, h, h2]
theorem relR_dyn {t : Nat} (h : 3200 ≤ t) : relR t = true := by simp [relR, h]
theorem relI_slot {k : Nat} (h : k < 2008) : relI 48 k = true := by simp [relI, h]
