set_option maxRecDepth 100000
section TNH
def hTags (h : Nat) : List Nat := h :: cTags (h + 33)
theorem hTags_ge {h a : Nat} (ha : a ∈ hTags h) : h ≤ a := by
  simp only [hTags, cTags, List.mem_cons, List.not_mem_nil, or_false] at ha; omega
theorem h_notC (h : Nat) : h ∉ cTags (h + 33) := by
  simp only [cTags, List.mem_cons, List.not_mem_nil, or_false]; omega
theorem mkH_other (S : tS) (h a : Nat) (ha : a ∉ hTags h) : (∀ j, gI (mkH S h) a j = gI S a j) ∧ (∀ j, gL (mkH S h) a j = gL S a j) ∧ (∀ j, gR (mkH S h) a j = gR S a j) ∧ gN (mkH S h) a = gN S a := by
  have h1 : a ≠ h := fun e => ha (by rw [e]; exact List.mem_cons_self)
  have h2 : a ∉ cTags (h + 33) := fun q => ha (List.mem_cons_of_mem _ q)
  obtain ⟨k1, k2, k3, k4⟩ := mkC_other (mk S h 1) (h + 33) a h2
  unfold mkH
  exact ⟨fun j => by rw [k1, gI_mk, if_neg h1], fun j => by rw [k2, gL_mk, if_neg h1], fun j => by rw [k3, gR_mk, if_neg h1], by rw [k4, gN_mk, if_neg h1]⟩
theorem mkH_h (S : tS) (h : Nat) : (∀ j, gI (mkH S h) h j = 0) ∧ (∀ j, gL (mkH S h) h j = 0) ∧ (∀ j, gR (mkH S h) h j = none) ∧ gN (mkH S h) h = 1 := by
  obtain ⟨k1, k2, k3, k4⟩ := mkC_other (mk S h 1) (h + 33) h (h_notC h)
  unfold mkH
  exact ⟨fun j => by rw [k1, gI_mk, if_pos rfl], fun j => by rw [k2, gL_mk, if_pos rfl], fun j => by rw [k3, gR_mk, if_pos rfl], by rw [k4, gN_mk, if_pos rfl]⟩
theorem mkH_wf {S : tS} {h : Nat} (hw : tWf (gN S)) (hc : h % 32 = 5) (h3 : 3200 ≤ h) (hf : ∀ a ∈ hTags h, gN S a = 0) : tExt (gN S) (gN (mkH S h)) ∧ tWf (gN (mkH S h)) := by
  have hx : tExt (gN S) (gN (mkH S h)) := fun u hu => (mkH_other S h u (fun q => hu (hf u q))).2.2.2
  refine ⟨hx, ?_⟩
  have k : ∀ u n, n ≠ 0 → gN S u = n → gN (mkH S h) u = n := fun u n hz e => (hx u (by rw [e]; exact hz)).trans e
  have b : ∀ u, gN (mkH S h) u ≠ 0 → (u = 0 ∨ u = 1025 ∨ u % 32 = 5 ∨ u % 32 = 6) → u ≠ h → u ≠ h + 33 → gN S u ≠ 0 := fun u h1 h2 h9 h8 => by
    by_cases q : u ∈ hTags h
    · have hge := hTags_ge q
      rcases List.mem_cons.mp q with q | q
      · exact absurd q h9
      · have := cTags_kind (c := h + 33) (by omega) q
        omega
    · rw [(mkH_other S h u q).2.2.2] at h1; exact h1
  refine ⟨fun h0 => ?_, fun h0 => ?_, fun x hx h0 => ?_, fun x hx h0 => ?_⟩
  · have g := hw.1 (b 0 h0 (Or.inl rfl) (by omega) (by omega))
    repeat' apply And.intro
    all_goals (apply k _ _ (by decide); first | exact g.1 | simp only [g])
  · have g := hw.2.1 (b 1025 h0 (Or.inr (Or.inl rfl)) (by omega) (by omega))
    repeat' apply And.intro
    all_goals (apply k _ _ (by decide); first | exact g.1 | simp only [g])
  · by_cases q : x = h
    · subst q
      exact (mkC_gN (mk S x 1) (x + 33)).1
    · exact k _ _ (by decide) (hw.2.2.1 x hx (b x h0 (Or.inr (Or.inr (Or.inl hx))) q (by omega)))
  · by_cases q : x = h + 33
    · subst q
      have g := mkC_gN (mk S h 1) (h + 33)
      exact ⟨g.2.2.2.2.2.1, g.2.2.2.2.2.2⟩
    · have g := hw.2.2.2 x hx (b x h0 (Or.inr (Or.inr (Or.inr hx))) (by omega) q)
      repeat' apply And.intro
      all_goals (apply k _ _ (by decide); first | exact g.1 | simp only [g])
theorem mkH_cells {dA : Nat → ClassId} {ad : Nat → Nat} {S : tS} {q h : Nat} (hE : tDyn ad) (hq : h = 32 * (100 + q) + 5) : (hTags h).map (tcell dA ad (mkH S h)) = houseW dA q := by
  show tcell dA ad (mkH S h) h :: (cTags (h + 33)).map (tcell dA ad (mkC (mk S h 1) (h + 33))) = _
  rw [mkC_cells (q := q + 1) hE (by omega)]
  have e : tcell dA ad (mkH S h) h = (q, .inr (5, [.ref (q + 1), .null])) := by
    unfold tcell
    rw [show ad h = q by rw [hE _ (by omega)]; omega, tEn_o dA ad (mkH S h) (show h % 32 = 5 by omega) (by decide)]
    have : tfs ad (mkH S h) h 5 = [.ref (q + 1), .null] := by
      show [fval ad (mkH S h) h 0 36, fval ad (mkH S h) h 1 2] = _
      have a1 : fval ad (mkH S h) h 0 36 = .ref (q + 1) := by
        unfold fval
        rw [if_neg (by decide), if_neg (by decide), if_neg (by decide), if_pos (by decide)]
        show Value.ref (ad (h + 33)) = _
        rw [hE _ (by omega), show (h + 33) / 32 - 100 = q + 1 by omega]
      have a2 : fval ad (mkH S h) h 1 2 = .null := by
        unfold fval
        rw [if_neg (by decide), if_neg (by decide), if_pos rfl, (mkH_h S h).2.2.1]
        rfl
      rw [a1, a2]
    rw [this]
  rw [e]
  rfl
theorem hTags_nodup (h : Nat) : (hTags h).Nodup := List.nodup_cons.mpr ⟨h_notC h, cTags_nodup _⟩
theorem hTags_in (S : tS) {h u : Nat} (q : u ∈ hTags h) : gN (mkH S h) u ≠ 0 := by
  rcases List.mem_cons.mp q with q | q
  · subst q; rw [(mkH_h S u).2.2.2]; decide
  · have g := mkC_gN (mk S h 1) (h + 33)
    show gN (mkC (mk S h 1) (h + 33)) u ≠ 0
    simp only [cTags, List.mem_cons, List.not_mem_nil, or_false] at q
    rcases q with rfl | rfl | rfl | rfl | rfl | rfl | rfl | rfl | rfl | rfl | rfl | rfl | rfl | rfl | rfl | rfl <;> simp only [g, ne_eq] <;> decide
theorem tH_newHouse {G : tG} {ad : Nat → Nat} {A : Nat → Prop} {S : tS} {H H1 : Heap} {Ls : List Nat} {h : Nat} (hE : tDyn ad) (hw : tWf (gN S)) (g1 : Ls.Nodup) (g2 : ∀ t, t ∈ Ls ↔ gN S t ≠ 0) (g3 : va_P G.1 tcl (Ls.map (tcell G.2.1 ad S)) H) (hq : h = 32 * (100 + H.size) + 5) (hP : va_P G.1 tcl (Ls.map (tcell G.2.1 ad S) ++ houseW G.2.1 H.size) H1) (hD : va_D A (Ls.map (tcell G.2.1 ad S) ++ houseW G.2.1 H.size)) : (∀ a ∈ hTags h, gN S a = 0) ∧ tH G ad A (mkH S h) H1 := by
  have hfree : ∀ a ∈ hTags h, gN S a = 0 := fun a ha => by
    by_cases hz : gN S a = 0
    · exact hz
    · exfalso
      obtain ⟨i, hi⟩ := List.getElem?_of_mem ((g2 a).mpr hz)
      have hci : (Ls.map (tcell G.2.1 ad S))[i]? = some (tcell G.2.1 ad S a) := by rw [List.getElem?_map, hi]; rfl
      have hlt : ad a < H.size := (g3 i _ hci).lt
      have hge := hTags_ge ha
      rw [hE a (by omega)] at hlt
      omega
  refine ⟨hfree, (mkH_wf hw (by omega) (by omega) hfree).2, Ls ++ hTags h, ?_, fun u => ?_, ?_, ?_⟩
  · rw [List.nodup_append]
    exact ⟨g1, hTags_nodup h, fun a ha b hb e => by subst e; exact (g2 a).mp ha (hfree a hb)⟩
  · rw [List.mem_append]
    by_cases q : u ∈ hTags h
    · exact ⟨fun _ => hTags_in S q, fun _ => Or.inr q⟩
    · rw [(mkH_other S h u q).2.2.2, ← g2 u]
      exact ⟨fun h => h.elim id (fun h => absurd h q), Or.inl⟩
  all_goals
    rw [List.map_append, mkH_cells hE hq, show Ls.map (tcell G.2.1 ad (mkH S h)) = Ls.map (tcell G.2.1 ad S) from List.map_congr_left fun x hx => by
      have hxc : x ∉ hTags h := fun q => (g2 x).mp hx (hfree x q)
      obtain ⟨k1, k2, k3, k4⟩ := mkH_other S h x hxc
      unfold tcell
      rw [tEn_congr k1 k2 k3 k4]]
    assumption
variable {Γ : tX} {cc : ByteArray} {own : String} {f L : Nat} {N0 : Nat → Nat} {uc us pc : Nat} {lv lv' : List (Nat × Value)} {st : List Value} {S : tS}
theorem tj_newHouse (C : TC Γ cc own f L) (hE : tDyn (xad Γ)) {i1 i2 : Nat} {host : String} (hcl : Cond.classLink own i1 RX4 ∈ lw_all) (hnl : Cond.methodLinkNest own i2 yX4_init host ∈ lw_tbl) (hf : 3 ≤ f) (hL : 120 ≤ L) (hrest : (st.map fun v => v.category).sum ≤ 7) (hu : uc + 17 ≤ (xR Γ).cells ∧ us + 124 ≤ (xR Γ).slots) (hd0 : decode cc pc = .ok (.new i1, 3)) (hd1 : decode cc (pc + 3) = .ok (.dup, 1)) (hd2 : decode cc (pc + 3 + 1) = .ok (.invokespecial i2, 3))
    (kk : ∀ (h : Nat) (N1 : Nat → Nat), gN (mkH S h) = N1 → tExt N0 N1 → tWf N1 → (N1 h ≠ 0 ∧ h % 32 = 5) → 3200 ≤ h → (∀ a ∈ hTags h, N0 a = 0) → TJ Γ N1 (uc + 17) (us + 124) (pc + 3 + 1 + 3) lv (.ref (xad Γ h) :: st) (mkH S h)) : TJ Γ N0 uc us pc lv st S := by
  intro h1 h2 h3 H locs ls hH hS hl
  obtain ⟨hw, Ls, g1, g2, g3, g4⟩ := hH
  refine cz_newHouse C.x C.b C.ml C.ow C.ts C.K g3 g4 hS C.A hl.1 hcl hnl (Nat.le_trans hf C.fr) (Nat.le_trans hL C.lo) hrest hu hd0 hd1 hd2 (fun H1 locs1 hP hD hS1 hz => ?_)
  obtain ⟨hfree, hH1⟩ := tH_newHouse (h := 32 * (100 + H.size) + 5) hE hw g1 g2 g3 rfl hP hD
  obtain ⟨hx, hw1⟩ := mkH_wf hw (h := 32 * (100 + H.size) + 5) (by omega) (by omega) hfree
  have kk1 := kk (32 * (100 + H.size) + 5) _ rfl (by rw [← h1]; exact hx) hw1 ⟨by rw [(mkH_h S _).2.2.2]; decide, by omega⟩ (by omega) (by rw [← h1]; exact hfree) rfl hu.1 hu.2 H1 locs1 ls hH1 hS1 hl
  rw [show xad Γ (32 * (100 + H.size) + 5) = H.size by rw [hE _ (by omega)]; omega] at kk1
  exact kk1
end TNH
