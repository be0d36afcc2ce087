set_option maxRecDepth 100000
/-- what is owed of the pure side: from the first world on, the law's loop answers 1 -/
def lawOK : Prop := ∀ (n0 sl : Nat) (sc : Nat → Int32), sl ≤ 384 → ∃ n : Nat, Lw_law_l18 sl sc 601536 7248490 (fun r _ => r = nI 1) n 70 7279 (nI 0) (S0s n0)
theorem tyOk_X0i : tyOk yX0_init 0 := ⟨by decide +kernel, by decide +kernel, by decide +kernel⟩
theorem tyOk_X6i : tyOk yX6_init 0 := ⟨by decide +kernel, by decide +kernel, by decide +kernel⟩
theorem whole_open (hlaw : lawOK) {p : Program} {e : Env} {s : State} {m : MethodId} {below : List Frame} {meth : Method} {c : Code} (l : Launch) (hst : l.stackTraces = false) {b L : Nat} {xs : Nat → Int32} (hL : L ≤ 384) (hx : p.tables.exec = Jvm.exec) (hb : c.code = code) (hml : c.maxLocals = 4) (hown : s.vm.findClass RL = some m.cls) (hts0 : ∀ w ∈ lw_tbl, w.before #[Value.ref b] s = true) (hX : va_X b L xs s s.heap) (hbl : b < s.heap.size) (hlocks : meth.locks = false) (hgv : (Jvm.Cond.and given_1 narrow_1).before #[Value.ref b] s = true) {Q : State → Prop}
    (hret : ∀ (pc : Nat) (H : Heap) (ls : Array Slot), decode code pc = .ok (.ireturn, 1) → W p l e room_1 s m #[Value.ref b] below meth c H [] 601536 7248490 Q (F0 m pc ls [.int 1])) : W p l e room_1 s m #[Value.ref b] below meth c s.heap [] 0 0 Q (entryFrame m ([Value.ref b] : List Value).toArray 4) := by
  have hts : ∀ w ∈ lw_all, w.before #[Value.ref b] s = true := fun w h => hts0 w (lw_all_tbl h)
  have hA : ∀ q : Nat, s.heap.size ≤ q → (fun q : Nat => s.heap.size ≤ q) q := fun _ h => h
  have hbA : ¬ (fun q : Nat => s.heap.size ≤ q) b := Nat.not_le.mpr hbl
  have hAl : ∀ a : Nat, a < s.heap.size → ¬ (fun q : Nat => s.heap.size ≤ q) a := fun a h => Nat.not_le.mpr h
  have hn : ∀ w ∈ nwL, w.before #[Value.ref b] s = true := flat_of_before _ hgv
  obtain ⟨dC, dI, dA, hK⟩ := start_K hts0
  obtain ⟨adK, adV, hSt, hEv⟩ := start_S hAl hn
  have hK0 : tK ((dC, dI), dA, adK, adV) s := by
    refine ⟨hK, fun w hw ht => ?_, fun q hq => va_Nc.of (hn _ (nw_nc _ (List.mem_map.mpr ⟨q, hq, rfl⟩))), fun i o x tx hi => ?_⟩
    · have h1 := hts0 w hw
      cases w <;> first | exact va_Nw.of rfl h1 | (simp [tnest] at ht; done) | (rename_i ty; cases ty <;> first | exact va_AO.of h1 | (simp [tnest] at ht; done))
    · have hi2 : i < nST := by
        have := (List.getElem?_eq_some_iff.mp hi).1
        exact this
      have e1 := hEv i hi2
      have e2 : tmS i = .string o x := by unfold tmS; rw [hi]
      rw [e2] at e1
      exact vk_R.of (hts0 _ (tb_sr _ (List.mem_map.mpr ⟨(o, x, tx), List.mem_of_getElem? hi, rfl⟩))) e1
  have hZ : tZ ((dC, dI), dA, adK, adV) (fun q : Nat => s.heap.size ≤ q) s s.heap := by
    have l1 := fun w hw => hts0 w (tb_ls w hw)
    have n1 := fun w hw => hn w (nw_st w hw)
    exact ⟨hSt, vx_Zqof (l1 _ (by simp [Bundle.tN])) (l1 _ (by simp [Bundle.tN])) (n1 _ (by simp)) hAl, vx_Zqof (l1 _ (by simp [Bundle.tN])) (l1 _ (by simp [Bundle.tN])) (n1 _ (by simp)) hAl, va_Zof (l1 _ (by simp)) (l1 _ (by simp)) (eq_int (n1 _ (by simp))) hAl, va_Zqof (l1 _ (by simp)) (l1 _ (by simp)) (n1 _ (by simp)) hAl⟩
  have hS : va_S (fun q : Nat => s.heap.size ≤ q) s.heap s.heap [] := va_S.rf
  have hP : va_P (dC, dI) tcl [] s.heap := fun k q h => by simp at h
  have hD : va_D (fun q : Nat => s.heap.size ≤ q) [] := ⟨fun i j p q h => by simp at h, fun k q h => by simp at h⟩
  have hl := lv_entry ([.ref b]) (n := 4) (Nat.le_of_ble_eq_true rfl)
  rw [lg_entry_eq]
  generalize (lg_sl ([.ref b]) ++ List.replicate (4 - (lg_sl ([.ref b])).length) Slot.unset).toArray = ls at hl ⊢
  have hl : lv_has ls 4 [(0, .ref b)] := hl
  refine cz_newBI (G := ((dC, dI), dA, adK, adV)) (y := yX0_init) (ci := 1) (D := xD0) (n := 50) (c1 := 49) (s1 := 1217) (N := 28) (B := xW dA s.heap.size) tyX0 hx hb hml hown hts hK0 hP hD hS hA hZ hl.1 rfl in_X0 tyX0_ok (show ∀ j, j < 28 → defaultValue (tyX0 j) = vp_V xD0 j by decide +kernel) q197 q198 q167 q201 q167 q199 q200 rfl tyOk_X0i (c_X_init (G := ((dC, dI), dA, adK, adV)) _) rfl (Nat.le_of_ble_eq_true rfl) (Nat.le_of_ble_eq_true rfl) (Nat.le_of_ble_eq_true rfl) ⟨Nat.le_of_ble_eq_true rfl, Nat.le_of_ble_eq_true rfl⟩ dL_law_0 dL_law_3 dL_law_4 (fun H locs hP hD hS hz => ?_)
  refine lv_astore_n (lv' := [(1, .ref s.heap.size), (0, .ref b)]) hx hb dL_law_7 rfl hl (by decide) rfl (fun ls hl => ?_)
  refine cz_newBI (G := ((dC, dI), dA, adK, adV)) (y := yX6_init) (ci := 0) (D := mD0) (n := 20) (c1 := 19) (s1 := 5992) (N := 42) (B := mW dA H.size) tyX6 hx hb hml hown hts hK0 hP hD hS hA hZ hl.1 rfl in_X6 tyX6_ok (show ∀ j, j < 42 → defaultValue (tyX6 j) = vp_V mD0 j by decide +kernel) q1611 q1612 q175 q1615 q175 q1613 q1614 rfl tyOk_X6i (c_M_init (G := ((dC, dI), dA, adK, adV)) _) rfl (Nat.le_of_ble_eq_true rfl) (Nat.le_of_ble_eq_true rfl) (Nat.le_of_ble_eq_true rfl) ⟨Nat.le_of_ble_eq_true rfl, Nat.le_of_ble_eq_true rfl⟩ dL_law_8 dL_law_11 dL_law_12 (fun H2 locs hP hD hS hz2 => ?_)
  refine lv_astore_n (lv' := [(2, .ref H.size), (1, .ref s.heap.size), (0, .ref b)]) hx hb dL_law_15 rfl hl (by decide) rfl (fun ls hl => ?_)
  refine lv_iconst (v := nI 0) hx hb dL_law_16 (by decide +kernel) ?_
  refine lv_istore_n (lv' := [(3, .int (nI 0)), (2, .ref H.size), (1, .ref s.heap.size), (0, .ref b)]) hx hb dL_law_17 rfl hl (by decide) rfl (fun ls hl => ?_)
  rw [hz] at hP hD hl
  have hP : va_P (dC, dI) tcl (xW dA s.heap.size ++ mW dA (s.heap.size + 50)) H2 := hP
  have hD : va_D (fun q : Nat => s.heap.size ≤ q) (xW dA s.heap.size ++ mW dA (s.heap.size + 50)) := hD
  have hH := tH_start (G := ((dC, dI), dA, adK, adV)) hP hD
  obtain ⟨n, hf⟩ := hlaw s.heap.size L xs hL
  have hC : TC (((dC, dI), dA, adK, adV), (fun q : Nat => s.heap.size ≤ q), p, l, e, room_1, s, m, #[Value.ref b], below, meth, c, Q, adS s.heap.size, 4) cL_law RL 79 10311 := ⟨hx, hb, hml, hown, hts, hlocks, hK0, hA, Nat.le_of_ble_eq_true rfl, Nat.le_of_ble_eq_true rfl, hZ⟩
  have hJ := w_Lw_law_l18 (Nb := N0s s.heap.size) (K := fun r _ => r = nI 1) (mc := 601536) (ms := 7248490) (b := b) (sl := L) (sc := xs) hC (adS_dyn _) ⟨Nat.le_of_ble_eq_true rfl, Nat.le_of_ble_eq_true rfl⟩ rfl (fun N1 pc lv v S _ hd _ hv => ?_) hst ⟨hX, hbl, hbA⟩ n (N0s s.heap.size) tExt.rf (tWf0 _) (by rw [N0s_lit (by decide)]; decide) (by rw [N0s_lit (by decide)]; decide) 70 7279 (nI 0) (S0s s.heap.size) hf
  · have e1 : adS s.heap.size 1025 = s.heap.size := rfl
    have e0 : adS s.heap.size 0 = s.heap.size + 50 := rfl
    refine hJ rfl (Nat.le_of_ble_eq_true rfl) (Nat.le_of_ble_eq_true rfl) H2 locs ls hH hS ?_
    exact lv_sub hl [3, 2, 1, 0] rfl
  · subst hv
    intro h1 h2 h3 H locs ls hH hS hl
    exact va_forget (fun q hq => hS.2.2 q hq) (hret pc H ls hd)
