set_option maxRecDepth 100000
/-! PURE BASE: numbers. Everything in sight is brought to the form nI n, lN n. -/
theorem cl_nI {n : Nat} (h : n < 2147483648) : (nI n).toNatClampNeg = n := nI_clamp h
theorem vp_nI {n N : Nat} (hn : n < 2147483648) (hN : N < 2147483648) : vp_in (nI n) N ↔ n < N := by
  unfold vp_in
  rw [nI_clamp hn]
  constructor
  · intro h
    exact Nat.not_le.mp (fun q => h (Or.inr q))
  · intro h q
    rcases q with q | q
    · exact nI_pos hn q
    · omega
theorem eq_nI {a b : Nat} (ha : a < 2147483648) (hb : b < 2147483648) : nI a = nI b ↔ a = b := nI_eq ha hb
theorem le_nI {a b : Nat} (ha : a < 2147483648) (hb : b < 2147483648) : nI a ≤ nI b ↔ a ≤ b := nI_leI ha hb
theorem lt_nI {a b : Nat} (ha : a < 2147483648) (hb : b < 2147483648) : nI a < nI b ↔ a < b := nI_ltI ha hb
theorem m1_nI {a : Nat} (h : a < 2147483648) : ¬ nI a = -1 := by
  intro q
  have h1 := nI_toInt h
  rw [q] at h1
  have : (-1 : Int32).toInt = -1 := by decide
  omega
theorem nI_m1 {a : Nat} (h : a < 2147483648) : ¬ -1 = nI a := fun q => m1_nI h q.symm
theorem neg1 : (-1 : Int32) = nI 4294967295 := by decide
theorem m1_lt0 : (-1 : Int32) < nI 0 := by decide
theorem lt_z (x : Int32) : x < nI 0 ↔ x.toInt < 0 := by rw [Int32.lt_iff_toInt_lt, nI_toInt (by omega)]; rfl
theorem z_le (x : Int32) : nI 0 ≤ x ↔ 0 ≤ x.toInt := by rw [Int32.le_iff_toInt_le, nI_toInt (by omega)]; rfl
theorem lt_nN {n : Nat} (x : Int32) (h : n < 2147483648) : x < nI n ↔ x.toInt < n := by rw [Int32.lt_iff_toInt_lt, nI_toInt h]
theorem nN_lt {n : Nat} (x : Int32) (h : n < 2147483648) : nI n < x ↔ (n : Int) < x.toInt := by rw [Int32.lt_iff_toInt_lt, nI_toInt h]
theorem le_nN {n : Nat} (x : Int32) (h : n < 2147483648) : x ≤ nI n ↔ x.toInt ≤ n := by rw [Int32.le_iff_toInt_le, nI_toInt h]
theorem nN_le {n : Nat} (x : Int32) (h : n < 2147483648) : nI n ≤ x ↔ (n : Int) ≤ x.toInt := by rw [Int32.le_iff_toInt_le, nI_toInt h]
theorem eq_nN {n : Nat} (x : Int32) (h : n < 2147483648) : x = nI n ↔ x.toInt = n := by rw [← Int32.toInt_inj, nI_toInt h]
/-- x is one of 0 .. n - 1 -/
def okN (x : Int32) (n : Nat) : Bool := decide (0 ≤ x.toInt ∧ x.toInt < n)
theorem okN_iff {x : Int32} {n : Nat} (hn : n ≤ 2147483648) : okN x n = true ↔ ∃ j : Nat, j < n ∧ x = nI j := by
  unfold okN
  rw [decide_eq_true_iff]
  constructor
  · rintro ⟨h1, h2⟩
    refine ⟨x.toInt.toNat, by omega, ?_⟩
    rw [← Int32.toInt_inj, nI_toInt (by omega)]
    omega
  · rintro ⟨j, hj, rfl⟩
    rw [nI_toInt (by omega)]
    omega
theorem okN_nI {j n : Nat} (hj : j < 2147483648) : okN (nI j) n = decide (j < n) := by
  unfold okN
  rw [nI_toInt hj]
  congr 1
  apply propext
  omega
theorem okN_f {x : Int32} {n : Nat} : okN x n = false ↔ (x.toInt < 0 ∨ (n : Int) ≤ x.toInt) := by
  unfold okN
  rw [decide_eq_false_iff_not]
  omega
theorem vp_ok {x : Int32} {n : Nat} : vp_in x n ↔ okN x n = true := by
  rw [vp_in_iff]
  unfold okN
  rw [decide_eq_true_iff]
/-- 0 or 1 -/
def bN (b : Bool) : Nat := if b then 1 else 0
theorem bN_lt (b : Bool) : bN b < 2 := by cases b <;> decide
theorem bN_0 (b : Bool) : nI (bN b) = nI 0 ↔ b = false := by cases b <;> decide
theorem bN_1 (b : Bool) : nI (bN b) = nI 1 ↔ b = true := by cases b <;> decide
theorem bN_and (b : Bool) : nI (bN b) &&& 1 = nI (bN b) := by cases b <;> decide
theorem b0_1 : nI 0 &&& 1 = nI 0 := by decide
theorem b1_1 : nI 1 &&& 1 = nI 1 := by decide
/-! bits -/
theorem and_nI (a b : Nat) : nI a &&& nI b = nI (a &&& b) := by
  apply Int32.toBitVec_inj.1
  show BitVec.ofNat 32 a &&& BitVec.ofNat 32 b = BitVec.ofNat 32 (a &&& b)
  apply BitVec.eq_of_getLsbD_eq
  intro i hi
  simp [hi]
theorem or_nI (a b : Nat) : nI a ||| nI b = nI (a ||| b) := by
  apply Int32.toBitVec_inj.1
  show BitVec.ofNat 32 a ||| BitVec.ofNat 32 b = BitVec.ofNat 32 (a ||| b)
  apply BitVec.eq_of_getLsbD_eq
  intro i hi
  simp [hi]
theorem xor_nI (a b : Nat) : nI a ^^^ nI b = nI (a ^^^ b) := by
  apply Int32.toBitVec_inj.1
  show BitVec.ofNat 32 a ^^^ BitVec.ofNat 32 b = BitVec.ofNat 32 (a ^^^ b)
  apply BitVec.eq_of_getLsbD_eq
  intro i hi
  simp [hi]
theorem sh_k : ∀ k, k < 32 → ((nI k &&& 31).toBitVec.smod 32).toNat = k := by decide +kernel
theorem shl_nI {a k : Nat} (hk : k < 32) (h : a * 2 ^ k < 4294967296) : nI a <<< (nI k &&& 31) = nI (a * 2 ^ k) := pk_shlN _ k (sh_k k hk) h
theorem shl1_nI {k : Nat} (hk : k < 32) : nI 1 <<< (nI k &&& 31) = nI (2 ^ k) := by
  rw [shl_nI hk, Nat.one_mul]
  rw [Nat.one_mul]
  exact Nat.lt_of_lt_of_le (Nat.pow_lt_pow_right (by decide) hk) (by decide)
theorem shr_nI {a k : Nat} (ha : a < 2147483648) (hk : k < 32) : nI a >>> (nI k &&& 31) = nI (a / 2 ^ k) := pk_shrN ha _ k (sh_k k hk)
theorem and1 (a : Nat) : a &&& 1 = a % 2 := Nat.and_one_is_mod a
theorem jmin_nI {a b : Nat} (ha : a < 2147483648) (hb : b < 2147483648) : jmin (nI a) (nI b) = nI (min a b) := by
  unfold jmin
  by_cases h : b < a
  · rw [if_pos ((lt_nI hb ha).mpr h), Nat.min_eq_right (by omega)]
  · rw [if_neg (fun q => h ((lt_nI hb ha).mp q)), Nat.min_eq_left (by omega)]
theorem jmax_nI {a b : Nat} (ha : a < 2147483648) (hb : b < 2147483648) : jmax (nI a) (nI b) = nI (max a b) := by
  unfold jmax
  by_cases h : a < b
  · rw [if_pos ((lt_nI ha hb).mpr h), Nat.max_eq_right (by omega)]
  · rw [if_neg (fun q => h ((lt_nI ha hb).mp q)), Nat.max_eq_left (by omega)]
/-- is place k in the set -/
def inS (set k : Nat) : Bool := decide (set / 2 ^ k % 2 = 1)
theorem bit_nI {a k : Nat} (ha : a < 2147483648) (hk : k < 32) : ((nI a >>> (nI k &&& 31)) &&& nI 1) = nI (bN (inS a k)) := by
  rw [shr_nI ha hk, and_nI, and1]
  unfold inS bN
  by_cases h : a / 2 ^ k % 2 = 1
  · simp [h]
  · have : a / 2 ^ k % 2 = 0 := by omega
    simp [this]
/-! longs -/
theorem tL_toInt (x : Int32) : (x.toInt64).toInt = x.toInt := Int32.toInt_toInt64 x
theorem lc_lt (x y : Int64) : lg_cmp x y < nI 0 ↔ x.toInt < y.toInt := by rw [show nI 0 = (0 : Int32) from by decide, lg_cmp_lt, Int64.lt_iff_toInt_lt]
theorem lc_le (x y : Int64) : lg_cmp x y ≤ nI 0 ↔ x.toInt ≤ y.toInt := by rw [show nI 0 = (0 : Int32) from by decide, lg_cmp_le, Int64.le_iff_toInt_le]
theorem lc_gt (x y : Int64) : nI 0 < lg_cmp x y ↔ y.toInt < x.toInt := by rw [show nI 0 = (0 : Int32) from by decide, lg_cmp_gt, Int64.lt_iff_toInt_lt]
theorem lc_ge (x y : Int64) : nI 0 ≤ lg_cmp x y ↔ y.toInt ≤ x.toInt := by rw [show nI 0 = (0 : Int32) from by decide, lg_cmp_ge, Int64.le_iff_toInt_le]
theorem lc_eq (x y : Int64) : lg_cmp x y = nI 0 ↔ x = y := by rw [show nI 0 = (0 : Int32) from by decide, lg_cmp_eq]
theorem lN_ti {n : Nat} (h : n < 2147483648) : (lN n).toInt = (n : Int) := lN_toInt h
/-- the twin's world in plain numbers -/
def gn (S : tS) (t k : Nat) : Nat := (gI S t k).toBitVec.toNat
theorem gI_n (S : tS) (t k : Nat) : gI S t k = nI (gn S t k) := by
  unfold gn
  apply Int32.toBitVec_inj.mp
  show _ = BitVec.ofNat 32 _
  simp
theorem gn_lt (S : tS) (t k : Nat) : gn S t k < 4294967296 := (gI S t k).toBitVec.isLt
theorem gn_of {S : tS} {t k n : Nat} (h : gI S t k = nI n) (hn : n < 4294967296) : gn S t k = n := by
  unfold gn
  rw [h]
  exact pk_tn hn
theorem gI48 (S : tS) (k : Nat) : gI S 48 k = nI (gn S 48 k) := gI_n S 48 k
theorem gn_sI {S : tS} {t k v a b : Nat} (hv : v < 4294967296) : gn (sI S t k (nI v)) a b = if a = t then (if b = k then v else gn S a b) else gn S a b := by
  unfold gn
  rw [gI_sI]
  split
  · split
    · exact pk_tn hv
    · rfl
  · rfl
theorem gn_sL (S : tS) (t k a b : Nat) (x : Int64) : gn (sL S t k x) a b = gn S a b := rfl
theorem gn_sR (S : tS) (t k a b : Nat) (x : Option Nat) : gn (sR S t k x) a b = gn S a b := rfl
