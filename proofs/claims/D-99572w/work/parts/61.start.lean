set_option maxRecDepth 100000
def lkp (L : List (Nat × Nat)) (t : Nat) : Nat := (L.lookup t).getD 0
theorem lkp_mem {L : List (Nat × Nat)} {t : Nat} (h : lkp L t ≠ 0) : t ∈ L.map Prod.fst := by
  induction L with
  | nil => exact absurd rfl h
  | cons a L ih =>
    obtain ⟨k, v⟩ := a
    unfold lkp at h
    rw [List.lookup_cons] at h
    by_cases e : t == k
    · have : t = k := by simpa using e
      rw [this]; exact List.mem_cons_self
    · simp only [e] at h
      exact List.mem_cons_of_mem _ (ih h)
def litL : List (Nat × Nat) := [(1025, 1), (1077, 5), (1106, 901), (1123, 1), (1156, 1), (1189, 1), (1222, 1), (1392, 7), (1424, 7), (1456, 7), (1488, 7), (1520, 7), (1552, 7), (1584, 7), (1616, 7), (1648, 11), (1680, 11), (1719, 9), (1750, 4), (1766, 1), (1936, 7), (1968, 7), (2000, 7), (2032, 7), (2064, 7), (2096, 7), (2128, 7), (2160, 7), (2192, 11), (2224, 11), (2263, 9), (2288, 7), (2320, 9), (2352, 8), (2384, 8), (2416, 7), (2448, 7), (2480, 6), (0, 1), (48, 3549), (81, 139), (112, 5), (144, 5), (177, 241), (210, 901), (242, 901), (272, 4), (308, 65), (336, 8), (368, 10), (400, 10), (432, 65), (464, 5), (496, 5), (528, 5), (560, 81), (592, 6), (624, 6)]
def litA : List (Nat × Nat) := [(1025, 0), (1077, 1), (1106, 6), (1123, 7), (1156, 8), (1189, 9), (1222, 10), (1392, 15), (1424, 16), (1456, 17), (1488, 18), (1520, 19), (1552, 20), (1584, 21), (1616, 22), (1648, 23), (1680, 24), (1719, 25), (1750, 26), (1766, 27), (1936, 32), (1968, 33), (2000, 34), (2032, 35), (2064, 36), (2096, 37), (2128, 38), (2160, 39), (2192, 40), (2224, 41), (2263, 42), (2288, 43), (2320, 44), (2352, 45), (2384, 46), (2416, 47), (2448, 48), (2480, 49), (0, 50), (48, 51), (81, 52), (112, 53), (144, 54), (177, 55), (210, 56), (242, 57), (272, 58), (308, 59), (336, 60), (368, 61), (400, 62), (432, 63), (464, 64), (496, 65), (528, 66), (560, 67), (592, 68), (624, 69)]
def dynL : List (Nat × Nat) := [(66, 1), (98, 1), (130, 1), (162, 1), (369, 6), (401, 7), (433, 7), (465, 7), (913, 6), (945, 7), (977, 7), (1009, 7)]
/-- where the things lie -/
def adS (n0 : Nat) : Nat → Nat := fun t => if 3200 ≤ t then t / 32 - 100 else n0 + lkp litA t
def N0s (n0 : Nat) : Nat → Nat := fun t => if t < 3200 then lkp litL t else if t < 32 * (100 + n0) then 0 else lkp dynL (t - 32 * (100 + n0))
def I0s : Nat → Nat → Int32 := fun t k => if t = 1025 then (if k = 3 then -1 else if k = 4 then -1 else 0) else if t = 0 then (if k = 16 then -1 else if k = 17 then -1 else 0) else if t = 48 then at0 k else if t = 144 then upd (upd (upd (upd (fun _ => 0) (nI 0).toNatClampNeg (-1)) (nI 1).toNatClampNeg (-1)) (nI 2).toNatClampNeg (-1)) (nI 3).toNatClampNeg (-1) k else 0
def L0s : Nat → Nat → Int64 := fun t k => if t = 1025 then (if k = 9 then lN 1 else 0) else if t = 0 then (if k = 4 then lN 1 else 0) else 0
def R0s (n0 : Nat) : Nat → Nat → Option Nat := fun t k => if t = 1077 then (if k < 4 then some (32 * (100 + n0) + (66 + 32 * k)) else none) else if t = 1222 then (if 8 ≤ k ∧ k < 12 then some (32 * (100 + n0) + (369 + 32 * (k - 8))) else none) else if t = 1766 then (if 8 ≤ k ∧ k < 12 then some (32 * (100 + n0) + (913 + 32 * (k - 8))) else none) else none
def S0s (n0 : Nat) : tS := (I0s, L0s, R0s n0, N0s n0)
def Ls0 (n0 : Nat) : List Nat := [1025, 1077, 32 * (100 + n0) + 66, 32 * (100 + n0) + 98, 32 * (100 + n0) + 130, 32 * (100 + n0) + 162, 1106, 1123, 1156, 1189, 1222, 32 * (100 + n0) + 369, 32 * (100 + n0) + 401, 32 * (100 + n0) + 433, 32 * (100 + n0) + 465, 1392, 1424, 1456, 1488, 1520, 1552, 1584, 1616, 1648, 1680, 1719, 1750, 1766, 32 * (100 + n0) + 913, 32 * (100 + n0) + 945, 32 * (100 + n0) + 977, 32 * (100 + n0) + 1009, 1936, 1968, 2000, 2032, 2064, 2096, 2128, 2160, 2192, 2224, 2263, 2288, 2320, 2352, 2384, 2416, 2448, 2480, 0, 48, 81, 112, 144, 177, 210, 242, 272, 308, 336, 368, 400, 432, 464, 496, 528, 560, 592, 624]
theorem adS_dyn (n0 : Nat) : tDyn (adS n0) := fun t h => if_pos h
theorem N0s_lit {n0 t : Nat} (h : t < 3200) : N0s n0 t = lkp litL t := if_pos h
theorem N0s_dyn {n0 u : Nat} : N0s n0 (32 * (100 + n0) + u) = lkp dynL u := by
  unfold N0s
  rw [if_neg (by omega), if_neg (by omega), Nat.add_sub_cancel_left]
theorem N0s_mem (n0 t : Nat) : t ∈ Ls0 n0 ↔ N0s n0 t ≠ 0 := by
  constructor
  · intro h
    simp only [Ls0, List.mem_cons, List.not_mem_nil, or_false] at h
    rcases h with rfl | rfl | rfl | rfl | rfl | rfl | rfl | rfl | rfl | rfl | rfl | rfl | rfl | rfl | rfl | rfl | rfl | rfl | rfl | rfl | rfl | rfl | rfl | rfl | rfl | rfl | rfl | rfl | rfl | rfl | rfl | rfl | rfl | rfl | rfl | rfl | rfl | rfl | rfl | rfl | rfl | rfl | rfl | rfl | rfl | rfl | rfl | rfl | rfl | rfl | rfl | rfl | rfl | rfl | rfl | rfl | rfl | rfl | rfl | rfl | rfl | rfl | rfl | rfl | rfl | rfl | rfl | rfl | rfl | rfl <;> first | (rw [N0s_lit (by decide)]; decide) | (rw [N0s_dyn]; decide)
  · intro h
    by_cases h1 : t < 3200
    · rw [N0s_lit h1] at h
      have h2 := lkp_mem h
      simp only [litL, List.map_cons, List.map_nil, List.mem_cons, List.not_mem_nil, or_false] at h2
      simp only [Ls0, List.mem_cons, List.not_mem_nil, or_false]
      omega
    · by_cases h2 : t < 32 * (100 + n0)
      · unfold N0s at h
        rw [if_neg h1, if_pos h2] at h
        exact absurd rfl h
      · obtain ⟨u, rfl⟩ : ∃ u, t = 32 * (100 + n0) + u := ⟨t - 32 * (100 + n0), by omega⟩
        rw [N0s_dyn] at h
        have h3 := lkp_mem h
        simp only [dynL, List.map_cons, List.map_nil, List.mem_cons, List.not_mem_nil, or_false] at h3
        simp only [Ls0, List.mem_cons, List.not_mem_nil, or_false]
        omega
theorem Ls0_nodup (n0 : Nat) : (Ls0 n0).Nodup := by
  unfold Ls0
  simp only [List.nodup_cons, List.mem_cons, List.not_mem_nil, or_false, not_or, List.nodup_nil, not_false_eq_true, and_true]
  refine ⟨?_, ?_, ?_, ?_, ?_, ?_, ?_, ?_, ?_, ?_, ?_, ?_, ?_, ?_, ?_, ?_, ?_, ?_, ?_, ?_, ?_, ?_, ?_, ?_, ?_, ?_, ?_, ?_, ?_, ?_, ?_, ?_, ?_, ?_, ?_, ?_, ?_, ?_, ?_, ?_, ?_, ?_, ?_, ?_, ?_, ?_, ?_, ?_, ?_, ?_, ?_, ?_, ?_, ?_, ?_, ?_, ?_, ?_, ?_, ?_, ?_, ?_, ?_, ?_, ?_, ?_, ?_, ?_, ?_⟩
  all_goals first | trivial | (repeat' apply And.intro) <;> omega
theorem tWf0 (n0 : Nat) : tWf (N0s n0) := by
  have lit : ∀ t, t < 3200 → N0s n0 t = lkp litL t := fun t h => N0s_lit h
  refine ⟨fun _ => ?_, fun _ => ?_, fun c hc h0 => ?_, fun c hc h0 => ?_⟩
  · repeat' apply And.intro
    all_goals (rw [lit _ (by decide)]; rfl)
  · repeat' apply And.intro
    all_goals (rw [lit _ (by decide)]; rfl)
  · have h1 := (N0s_mem n0 c).mpr h0
    have h2 : c = 1189 := by
      simp only [Ls0, List.mem_cons, List.not_mem_nil, or_false] at h1
      omega
    subst h2
    rw [lit _ (by decide)]; rfl
  · have h1 := (N0s_mem n0 c).mpr h0
    have h2 : c = 1222 ∨ c = 1766 := by
      simp only [Ls0, List.mem_cons, List.not_mem_nil, or_false] at h1
      omega
    rcases h2 with h2 | h2 <;> subst h2
    all_goals (repeat' apply And.intro)
    all_goals (rw [lit _ (by decide)]; rfl)
theorem adS_at {n0 u i : Nat} (h : u / 32 = i) : adS n0 (32 * (100 + n0) + u) = n0 + i := by
  rw [adS_dyn n0 _ (by omega)]; omega
theorem S0_gI (n0 : Nat) : gI (S0s n0) = I0s := rfl
theorem S0_gL (n0 : Nat) : gL (S0s n0) = L0s := rfl
theorem S0_gR (n0 : Nat) : gR (S0s n0) = R0s n0 := rfl
theorem S0_gN (n0 : Nat) : gN (S0s n0) = N0s n0 := rfl
theorem cz_tray {dA : Nat → ClassId} (n0 u i : Nat) (hi : u / 32 = i) (hu : u % 32 = 2) (hn : lkp dynL u = 1) : tcell dA (adS n0) (S0s n0) (32 * (100 + n0) + u) = (n0 + i, .inr (2, [.null])) := by
  unfold tcell
  rw [adS_at hi, tEn_o dA (adS n0) (S0s n0) (show (32 * (100 + n0) + u) % 32 = 2 by omega) (by decide)]
  have : tfs (adS n0) (S0s n0) (32 * (100 + n0) + u) 2 = [.null] := by
    show [fval (adS n0) (S0s n0) (32 * (100 + n0) + u) 0 2] = _
    unfold fval
    rw [if_neg (by decide), if_neg (by decide), if_pos rfl, S0_gR]
    unfold R0s
    rw [if_neg (by omega), if_neg (by omega), if_neg (by omega)]
    rfl
  rw [this]
theorem cz_names {dA : Nat → ClassId} (n0 u i n : Nat) (hi : u / 32 = i) (hu : u % 32 = 17) (hn : lkp dynL u = n + 1) : tcell dA (adS n0) (S0s n0) (32 * (100 + n0) + u) = (n0 + i, .inl (dA 17, n, .inr (.inl fun _ => 0))) := by
  unfold tcell
  rw [adS_at hi, tEn_l dA (adS n0) (S0s n0) (show (32 * (100 + n0) + u) % 32 = 17 by omega) (n := n) (by rw [S0_gN, N0s_dyn, hn])]
  have : gL (S0s n0) (32 * (100 + n0) + u) = fun _ => 0 := by
    rw [S0_gL]
    funext j
    unfold L0s
    rw [if_neg (by omega), if_neg (by omega)]
  rw [this]

