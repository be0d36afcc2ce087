set_option maxRecDepth 100000
theorem cell1222 (dA : Nat → ClassId) (n0 : Nat) : tcell dA (adS n0) (S0s n0) 1222 = (n0 + 10, .inr (6, courtF (n0 + 10))) := by
  have f2 : ∀ (j i : Nat), 8 ≤ j ∧ j < 12 → j + 3 = i → fval (adS n0) (S0s n0) 1222 j 2 = .ref (n0 + i) := fun j i h1 h2 => by
    unfold fval
    rw [if_neg (by decide), if_neg (by decide), if_pos rfl, S0_gR]
    have : R0s n0 1222 j = some (32 * (100 + n0) + (369 + 32 * (j - 8))) := by
      unfold R0s
      rw [if_neg (by decide), if_pos rfl]
      rw [if_pos h1]
    rw [this]
    show Value.ref (adS n0 _) = _
    have h3 : (369 + 32 * (j - 8)) / 32 = i := by
      subst h2
      obtain ⟨q1, q2⟩ := h1
      omega
    rw [adS_at h3]
  unfold tcell
  rw [tEn_o dA (adS n0) (S0s n0) (show 1222 % 32 = 6 by decide) (by decide)]
  have : tfs (adS n0) (S0s n0) 1222 6 = courtF (n0 + 10) := by
    show [fval (adS n0) (S0s n0) 1222 0 0, fval (adS n0) (S0s n0) 1222 1 0, fval (adS n0) (S0s n0) 1222 2 0, fval (adS n0) (S0s n0) 1222 3 0, fval (adS n0) (S0s n0) 1222 4 0, fval (adS n0) (S0s n0) 1222 5 0, fval (adS n0) (S0s n0) 1222 6 0, fval (adS n0) (S0s n0) 1222 7 0, fval (adS n0) (S0s n0) 1222 8 2, fval (adS n0) (S0s n0) 1222 9 2, fval (adS n0) (S0s n0) 1222 10 2, fval (adS n0) (S0s n0) 1222 11 2, fval (adS n0) (S0s n0) 1222 12 173, fval (adS n0) (S0s n0) 1222 13 205, fval (adS n0) (S0s n0) 1222 14 237, fval (adS n0) (S0s n0) 1222 15 269, fval (adS n0) (S0s n0) 1222 16 301, fval (adS n0) (S0s n0) 1222 17 333, fval (adS n0) (S0s n0) 1222 18 365, fval (adS n0) (S0s n0) 1222 19 397, fval (adS n0) (S0s n0) 1222 20 429, fval (adS n0) (S0s n0) 1222 21 461, fval (adS n0) (S0s n0) 1222 22 500] = _
    rw [f2 8 11 (by decide) (by decide), f2 9 12 (by decide) (by decide), f2 10 13 (by decide) (by decide), f2 11 14 (by decide) (by decide)]
    rfl
  rw [this]
  rfl
theorem cell1766 (dA : Nat → ClassId) (n0 : Nat) : tcell dA (adS n0) (S0s n0) 1766 = (n0 + 27, .inr (6, courtF (n0 + 27))) := by
  have f2 : ∀ (j i : Nat), 8 ≤ j ∧ j < 12 → j + 20 = i → fval (adS n0) (S0s n0) 1766 j 2 = .ref (n0 + i) := fun j i h1 h2 => by
    unfold fval
    rw [if_neg (by decide), if_neg (by decide), if_pos rfl, S0_gR]
    have : R0s n0 1766 j = some (32 * (100 + n0) + (913 + 32 * (j - 8))) := by
      unfold R0s
      rw [if_neg (by decide), if_neg (by decide), if_pos rfl]
      rw [if_pos h1]
    rw [this]
    show Value.ref (adS n0 _) = _
    have h3 : (913 + 32 * (j - 8)) / 32 = i := by
      subst h2
      obtain ⟨q1, q2⟩ := h1
      omega
    rw [adS_at h3]
  unfold tcell
  rw [tEn_o dA (adS n0) (S0s n0) (show 1766 % 32 = 6 by decide) (by decide)]
  have : tfs (adS n0) (S0s n0) 1766 6 = courtF (n0 + 27) := by
    show [fval (adS n0) (S0s n0) 1766 0 0, fval (adS n0) (S0s n0) 1766 1 0, fval (adS n0) (S0s n0) 1766 2 0, fval (adS n0) (S0s n0) 1766 3 0, fval (adS n0) (S0s n0) 1766 4 0, fval (adS n0) (S0s n0) 1766 5 0, fval (adS n0) (S0s n0) 1766 6 0, fval (adS n0) (S0s n0) 1766 7 0, fval (adS n0) (S0s n0) 1766 8 2, fval (adS n0) (S0s n0) 1766 9 2, fval (adS n0) (S0s n0) 1766 10 2, fval (adS n0) (S0s n0) 1766 11 2, fval (adS n0) (S0s n0) 1766 12 173, fval (adS n0) (S0s n0) 1766 13 205, fval (adS n0) (S0s n0) 1766 14 237, fval (adS n0) (S0s n0) 1766 15 269, fval (adS n0) (S0s n0) 1766 16 301, fval (adS n0) (S0s n0) 1766 17 333, fval (adS n0) (S0s n0) 1766 18 365, fval (adS n0) (S0s n0) 1766 19 397, fval (adS n0) (S0s n0) 1766 20 429, fval (adS n0) (S0s n0) 1766 21 461, fval (adS n0) (S0s n0) 1766 22 500] = _
    rw [f2 8 28 (by decide) (by decide), f2 9 29 (by decide) (by decide), f2 10 30 (by decide) (by decide), f2 11 31 (by decide) (by decide)]
    rfl
  rw [this]
  rfl
theorem cell1077 (dA : Nat → ClassId) (n0 : Nat) : tcell dA (adS n0) (S0s n0) 1077 = (n0 + 1, .inl (dA 21, 4, .inr (.inr (.inr (.inr (va_up (va_up (va_up (va_up (fun _ => none) (nI 0).toNatClampNeg (some (n0 + 2))) (nI 1).toNatClampNeg (some (n0 + 3))) (nI 2).toNatClampNeg (some (n0 + 4))) (nI 3).toNatClampNeg (some (n0 + 5)))))))) := by
  unfold tcell
  rw [tEn_q dA (adS n0) (S0s n0) (show 1077 % 32 = 21 by decide) (by decide) (n := 4) rfl]
  have : (fun j => (gR (S0s n0) 1077 j).map (adS n0)) = va_up (va_up (va_up (va_up (fun _ => none) (nI 0).toNatClampNeg (some (n0 + 2))) (nI 1).toNatClampNeg (some (n0 + 3))) (nI 2).toNatClampNeg (some (n0 + 4))) (nI 3).toNatClampNeg (some (n0 + 5)) := by
    funext j
    have e : gR (S0s n0) 1077 j = if j < 4 then some (32 * (100 + n0) + (66 + 32 * j)) else none := rfl
    rw [e, nI_clamp (by decide), nI_clamp (by decide), nI_clamp (by decide), nI_clamp (by decide)]
    unfold va_up
    by_cases h : j < 4
    · rw [if_pos h]
      show some (adS n0 _) = _
      have hj : j = 0 ∨ j = 1 ∨ j = 2 ∨ j = 3 := by omega
      rcases hj with hj | hj | hj | hj <;> subst hj
      · rw [adS_at (i := 2) (by decide)]; simp
      · rw [adS_at (i := 3) (by decide)]; simp
      · rw [adS_at (i := 4) (by decide)]; simp
      · rw [adS_at (i := 5) (by decide)]; simp
    · rw [if_neg h, if_neg (by omega), if_neg (by omega), if_neg (by omega), if_neg (by omega)]
      rfl
  rw [this]
  rfl
theorem cells0X (dA : Nat → ClassId) (n0 : Nat) : [1025, 1077, 32 * (100 + n0) + 66, 32 * (100 + n0) + 98, 32 * (100 + n0) + 130, 32 * (100 + n0) + 162, 1106, 1123, 1156, 1189, 1222, 32 * (100 + n0) + 369, 32 * (100 + n0) + 401, 32 * (100 + n0) + 433, 32 * (100 + n0) + 465, 1392, 1424, 1456, 1488, 1520, 1552, 1584, 1616, 1648, 1680, 1719, 1750, 1766, 32 * (100 + n0) + 913, 32 * (100 + n0) + 945, 32 * (100 + n0) + 977, 32 * (100 + n0) + 1009, 1936, 1968, 2000, 2032, 2064, 2096, 2128, 2160, 2192, 2224, 2263, 2288, 2320, 2352, 2384, 2416, 2448, 2480].map (tcell dA (adS n0) (S0s n0)) = xW dA n0 := by
  simp only [List.map_cons, List.map_nil]
  rw [cz_tray n0 66 2 rfl rfl rfl, cz_tray n0 98 3 rfl rfl rfl, cz_tray n0 130 4 rfl rfl rfl, cz_tray n0 162 5 rfl rfl rfl, cz_names n0 369 11 5 rfl rfl rfl, cz_names n0 401 12 6 rfl rfl rfl, cz_names n0 433 13 6 rfl rfl rfl, cz_names n0 465 14 6 rfl rfl rfl, cz_names n0 913 28 5 rfl rfl rfl, cz_names n0 945 29 6 rfl rfl rfl, cz_names n0 977 30 6 rfl rfl rfl, cz_names n0 1009 31 6 rfl rfl rfl, cell1222, cell1766, cell1077]
  rfl
theorem cells0M (dA : Nat → ClassId) (n0 : Nat) : [0, 48, 81, 112, 144, 177, 210, 242, 272, 308, 336, 368, 400, 432, 464, 496, 528, 560, 592, 624].map (tcell dA (adS n0) (S0s n0)) = mW dA (n0 + 50) := rfl
theorem cells0 (dA : Nat → ClassId) (n0 : Nat) : (Ls0 n0).map (tcell dA (adS n0) (S0s n0)) = xW dA n0 ++ mW dA (n0 + 50) := by
  rw [← cells0X, ← cells0M, ← List.map_append]
  rfl
theorem tH_start {G : tG} {A : Nat → Prop} {n0 : Nat} {H : Heap} (hP : va_P G.1 tcl (xW G.2.1 n0 ++ mW G.2.1 (n0 + 50)) H) (hD : va_D A (xW G.2.1 n0 ++ mW G.2.1 (n0 + 50))) : tH G (adS n0) A (S0s n0) H := by
  refine ⟨tWf0 n0, Ls0 n0, Ls0_nodup n0, fun t => N0s_mem n0 t, ?_, ?_⟩
  · rw [cells0]; exact hP
  · rw [cells0]; exact hD
