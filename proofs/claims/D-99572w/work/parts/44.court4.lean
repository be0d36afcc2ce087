set_option maxRecDepth 100000
section TNC
theorem tz_mem {c o : Nat} (h : o ∈ [43, 75, 107, 139, 170, 202, 234, 266, 298, 330, 362, 394, 426, 458, 497]) : c + o ∈ cTags c := by
  simp only [List.mem_cons, List.not_mem_nil, or_false] at h
  simp only [cTags, List.mem_cons, List.not_mem_nil, or_false]
  omega
/-- the entries of a made Court -/
theorem mkC_cells {dA : Nat → ClassId} {ad : Nat → Nat} {S : tS} {q c : Nat} (hE : tDyn ad) (hq : c = 32 * (100 + q) + 6) : (cTags c).map (tcell dA ad (mkC S c)) = courtW dA q := by
  have hc : c % 32 = 6 := by omega
  have ha : ∀ o i, o / 32 = i → o % 32 + 6 < 32 → ad (c + o) = q + i := fun o i h1 h2 => by rw [hE _ (by omega)]; omega
  have hac : ad c = q := by rw [hE _ (by omega)]; omega
  have g := mkC_gN S c
  generalize hS : mkC S c = S' at g
  have gi : ∀ a, a ∈ cTags c → ∀ j, gI S' a j = 0 := fun a h j => by rw [← hS]; exact mkC_gI S c a j h
  have gl : ∀ a, a ∈ cTags c → ∀ j, gL S' a j = 0 := fun a h j => by rw [← hS]; exact mkC_gL S c a j h
  have gr : ∀ a, a ∈ cTags c → a ≠ c → ∀ j, gR S' a j = none := fun a h h2 j => by rw [← hS]; exact mkC_gR S c a j h h2
  have gc : ∀ j, gR S' c j = if j = 11 then some (c + 139) else if j = 10 then some (c + 107) else if j = 9 then some (c + 75) else if j = 8 then some (c + 43) else none := fun j => by rw [← hS]; exact mkC_gRc S c j
  have e16 : ∀ o n i, o ∈ [43, 75, 107, 139, 170, 202, 234, 266, 298, 330, 362, 394, 426, 458, 497] → gN S' (c + o) = n + 1 → o % 32 = 10 → o / 32 = i → tcell dA ad S' (c + o) = (q + i, .inl (dA 16, n, .inl fun _ => 0)) := fun o n i h1 h2 h3 h4 => by
    unfold tcell
    rw [ha o i h4 (by omega), tEn_i dA ad S' (show (c + o) % 32 = 16 by omega) (Or.inl rfl) h2, show gI S' (c + o) = fun _ => 0 from funext (gi _ (tz_mem h1))]
  have e17 : ∀ o n i, o ∈ [43, 75, 107, 139, 170, 202, 234, 266, 298, 330, 362, 394, 426, 458, 497] → gN S' (c + o) = n + 1 → o % 32 = 11 → o / 32 = i → tcell dA ad S' (c + o) = (q + i, .inl (dA 17, n, .inr (.inl fun _ => 0))) := fun o n i h1 h2 h3 h4 => by
    unfold tcell
    rw [ha o i h4 (by omega), tEn_l dA ad S' (show (c + o) % 32 = 17 by omega) h2, show gL S' (c + o) = fun _ => 0 from funext (gl _ (tz_mem h1))]
  have e23 : tcell dA ad S' (c + 497) = (q + 15, .inl (dA 23, 8, .inr (.inr (.inr (.inr fun _ => none))))) := by
    unfold tcell
    rw [ha 497 15 (by decide) (by decide), tEn_q dA ad S' (show (c + 497) % 32 = 23 by omega) (by decide) g.2.2.2.2.2.2.2.2.2.2.2.2.2.2.2, show (fun j => (gR S' (c + 497) j).map ad) = fun _ => none from funext fun j => by rw [gr _ (tz_mem (by decide)) (by omega)]; rfl]
  have hmc : c ∈ cTags c := List.mem_cons_self
  have f0 : ∀ j, fval ad S' c j 0 = .int 0 := fun j => by unfold fval; rw [if_pos rfl, gi c hmc]
  have f2 : ∀ j o i, o / 32 = i → (gR S' c j = some (c + o)) → o % 32 + 6 < 32 → fval ad S' c j 2 = .ref (q + i) := fun j o i h1 h2 h3 => by
    unfold fval
    rw [if_neg (by decide), if_neg (by decide), if_pos rfl, h2]
    show Value.ref (ad (c + o)) = _
    rw [ha o i h1 h3]
  have f3 : ∀ j o i, o / 32 = i → o % 32 + 6 < 32 → 2 < o + 3 → o + 3 < 5000 → fval ad S' c j (o + 3) = .ref (q + i) := fun j o i h1 h2 h3 h4 => by
    unfold fval
    rw [if_neg (by omega), if_neg (by omega), if_neg (by omega), if_pos h4, Nat.add_sub_cancel, ha o i h1 h2]
  have ec : tcell dA ad S' c = (q, .inr (6, courtF q)) := by
    unfold tcell
    rw [hac, tEn_o dA ad S' hc (by decide)]
    have : tfs ad S' c 6 = courtF q := by
      show [fval ad S' c 0 0, fval ad S' c 1 0, fval ad S' c 2 0, fval ad S' c 3 0, fval ad S' c 4 0, fval ad S' c 5 0, fval ad S' c 6 0, fval ad S' c 7 0, fval ad S' c 8 2, fval ad S' c 9 2, fval ad S' c 10 2, fval ad S' c 11 2, fval ad S' c 12 173, fval ad S' c 13 205, fval ad S' c 14 237, fval ad S' c 15 269, fval ad S' c 16 301, fval ad S' c 17 333, fval ad S' c 18 365, fval ad S' c 19 397, fval ad S' c 20 429, fval ad S' c 21 461, fval ad S' c 22 500] = _
      rw [f0 0, f0 1, f0 2, f0 3, f0 4, f0 5, f0 6, f0 7, f2 8 43 1 (by decide) (by rw [gc]; rfl) (by decide), f2 9 75 2 (by decide) (by rw [gc]; rfl) (by decide), f2 10 107 3 (by decide) (by rw [gc]; rfl) (by decide), f2 11 139 4 (by decide) (by rw [gc]; rfl) (by decide), f3 12 170 5 (by decide) (by decide) (by decide) (by decide), f3 13 202 6 (by decide) (by decide) (by decide) (by decide), f3 14 234 7 (by decide) (by decide) (by decide) (by decide), f3 15 266 8 (by decide) (by decide) (by decide) (by decide), f3 16 298 9 (by decide) (by decide) (by decide) (by decide), f3 17 330 10 (by decide) (by decide) (by decide) (by decide), f3 18 362 11 (by decide) (by decide) (by decide) (by decide), f3 19 394 12 (by decide) (by decide) (by decide) (by decide), f3 20 426 13 (by decide) (by decide) (by decide) (by decide), f3 21 458 14 (by decide) (by decide) (by decide) (by decide), f3 22 497 15 (by decide) (by decide) (by decide) (by decide)]
      rfl
    rw [this]
  show [tcell dA ad S' c, tcell dA ad S' (c + 43), tcell dA ad S' (c + 75), tcell dA ad S' (c + 107), tcell dA ad S' (c + 139), tcell dA ad S' (c + 170), tcell dA ad S' (c + 202), tcell dA ad S' (c + 234), tcell dA ad S' (c + 266), tcell dA ad S' (c + 298), tcell dA ad S' (c + 330), tcell dA ad S' (c + 362), tcell dA ad S' (c + 394), tcell dA ad S' (c + 426), tcell dA ad S' (c + 458), tcell dA ad S' (c + 497)] = _
  rw [ec, e17 43 5 1 (by decide) g.2.1 (by decide) (by decide), e17 75 6 2 (by decide) g.2.2.1 (by decide) (by decide), e17 107 6 3 (by decide) g.2.2.2.1 (by decide) (by decide), e17 139 6 4 (by decide) g.2.2.2.2.1 (by decide) (by decide), e16 170 6 5 (by decide) g.2.2.2.2.2.1 (by decide) (by decide), e16 202 6 6 (by decide) g.2.2.2.2.2.2.1 (by decide) (by decide), e16 234 6 7 (by decide) g.2.2.2.2.2.2.2.1 (by decide) (by decide), e16 266 6 8 (by decide) g.2.2.2.2.2.2.2.2.1 (by decide) (by decide), e16 298 6 9 (by decide) g.2.2.2.2.2.2.2.2.2.1 (by decide) (by decide), e16 330 6 10 (by decide) g.2.2.2.2.2.2.2.2.2.2.1 (by decide) (by decide), e16 362 6 11 (by decide) g.2.2.2.2.2.2.2.2.2.2.2.1 (by decide) (by decide), e16 394 6 12 (by decide) g.2.2.2.2.2.2.2.2.2.2.2.2.1 (by decide) (by decide), e16 426 10 13 (by decide) g.2.2.2.2.2.2.2.2.2.2.2.2.2.1 (by decide) (by decide), e16 458 10 14 (by decide) g.2.2.2.2.2.2.2.2.2.2.2.2.2.2.1 (by decide) (by decide), e23]
  rfl
theorem tH_newCourt {G : tG} {ad : Nat → Nat} {A : Nat → Prop} {S : tS} {H H1 : Heap} {Ls : List Nat} {c : Nat} (hE : tDyn ad) (hw : tWf (gN S)) (g1 : Ls.Nodup) (g2 : ∀ t, t ∈ Ls ↔ gN S t ≠ 0) (g3 : va_P G.1 tcl (Ls.map (tcell G.2.1 ad S)) H) (hq : c = 32 * (100 + H.size) + 6) (hP : va_P G.1 tcl (Ls.map (tcell G.2.1 ad S) ++ courtW G.2.1 H.size) H1) (hD : va_D A (Ls.map (tcell G.2.1 ad S) ++ courtW G.2.1 H.size)) : (∀ a ∈ cTags c, gN S a = 0) ∧ tH G ad A (mkC S c) H1 := by
  have hfree : ∀ a ∈ cTags c, gN S a = 0 := fun a ha => by
    by_cases hz : gN S a = 0
    · exact hz
    · exfalso
      obtain ⟨i, hi⟩ := List.getElem?_of_mem ((g2 a).mpr hz)
      have hci : (Ls.map (tcell G.2.1 ad S))[i]? = some (tcell G.2.1 ad S a) := by rw [List.getElem?_map, hi]; rfl
      have hlt : ad a < H.size := (g3 i _ hci).lt
      have hge : c ≤ a := by simp only [cTags, List.mem_cons, List.not_mem_nil, or_false] at ha; omega
      rw [hE a (by omega)] at hlt
      omega
  refine ⟨hfree, (mkC_wf hw (by omega) (by omega) hfree).2, Ls ++ cTags c, ?_, fun u => ?_, ?_, ?_⟩
  · rw [List.nodup_append]
    exact ⟨g1, cTags_nodup c, fun a ha b hb e => by subst e; exact (g2 a).mp ha (hfree a hb)⟩
  · rw [List.mem_append]
    by_cases q : u ∈ cTags c
    · refine ⟨fun _ => ?_, fun _ => Or.inr q⟩
      have g := mkC_gN S c
      simp only [cTags, List.mem_cons, List.not_mem_nil, or_false] at q
      rcases q with rfl | rfl | rfl | rfl | rfl | rfl | rfl | rfl | rfl | rfl | rfl | rfl | rfl | rfl | rfl | rfl <;> simp only [g, ne_eq] <;> decide
    · rw [(mkC_other S c u q).2.2.2, ← g2 u]
      exact ⟨fun h => h.elim id (fun h => absurd h q), Or.inl⟩
  all_goals
    rw [List.map_append, mkC_cells hE hq, show Ls.map (tcell G.2.1 ad (mkC S c)) = Ls.map (tcell G.2.1 ad S) from List.map_congr_left fun x hx => by
      have hxc : x ∉ cTags c := fun q => (g2 x).mp hx (hfree x q)
      obtain ⟨k1, k2, k3, k4⟩ := mkC_other S c x hxc
      unfold tcell
      rw [tEn_congr k1 k2 k3 k4]]
    assumption
variable {Γ : tX} {cc : ByteArray} {own : String} {f L : Nat} {N0 : Nat → Nat} {uc us pc : Nat} {lv lv' : List (Nat × Value)} {st : List Value} {S : tS}
theorem tj_newCourt (C : TC Γ cc own f L) (hE : tDyn (xad Γ)) {i1 i2 : Nat} {host : String} (hcl : Cond.classLink own i1 RX5 ∈ lw_all) (hnl : Cond.methodLinkNest own i2 yX5_init host ∈ lw_tbl) (hf : 2 ≤ f) (hL : 100 ≤ L) (hrest : (st.map fun v => v.category).sum ≤ 7) (hu : uc + 16 ≤ (xR Γ).cells ∧ us + 122 ≤ (xR Γ).slots) (hd0 : decode cc pc = .ok (.new i1, 3)) (hd1 : decode cc (pc + 3) = .ok (.dup, 1)) (hd2 : decode cc (pc + 3 + 1) = .ok (.invokespecial i2, 3))
    (kk : ∀ (c : Nat) (N1 : Nat → Nat), gN (mkC S c) = N1 → tExt N0 N1 → tWf N1 → (N1 c ≠ 0 ∧ c % 32 = 6) → 3200 ≤ c → (∀ a ∈ cTags c, N0 a = 0) → TJ Γ N1 (uc + 16) (us + 122) (pc + 3 + 1 + 3) lv (.ref (xad Γ c) :: st) (mkC S c)) : TJ Γ N0 uc us pc lv st S := by
  intro h1 h2 h3 H locs ls hH hS hl
  obtain ⟨hw, Ls, g1, g2, g3, g4⟩ := hH
  refine cz_newCourt C.x C.b C.ml C.ow C.ts C.K g3 g4 hS C.A hl.1 hcl hnl (Nat.le_trans hf C.fr) (Nat.le_trans hL C.lo) hrest hu hd0 hd1 hd2 (fun H1 locs1 hP hD hS1 hz => ?_)
  obtain ⟨hfree, hH1⟩ := tH_newCourt (c := 32 * (100 + H.size) + 6) hE hw g1 g2 g3 rfl hP hD
  obtain ⟨hx, hw1⟩ := mkC_wf hw (c := 32 * (100 + H.size) + 6) (by omega) (by omega) hfree
  have kk1 := kk (32 * (100 + H.size) + 6) _ rfl (by rw [← h1]; exact hx) hw1 ⟨by rw [(mkC_gN S _).1]; decide, by omega⟩ (by omega) (by rw [← h1]; exact hfree) rfl hu.1 hu.2 H1 locs1 ls hH1 hS1 hl
  rw [show xad Γ (32 * (100 + H.size) + 6) = H.size by rw [hE _ (by omega)]; omega] at kk1
  exact kk1
end TNC
