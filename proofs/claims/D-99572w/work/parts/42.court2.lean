set_option maxRecDepth 100000
theorem cz_D {A : Nat → Prop} {q0 n : Nat} {ws : va_W} (hw : ws.map Prod.fst = (List.range n).map (fun i => q0 + i)) (hA : ∀ q, q0 ≤ q → A q) : va_D A ws := by
  have key : ∀ (k : Nat) (x : Nat × va_E), ws[k]? = some x → x.1 = q0 + k := by
    intro k x hk
    have e : (ws.map Prod.fst)[k]? = some x.1 := by rw [List.getElem?_map, hk]; rfl
    rw [hw, List.getElem?_map] at e
    obtain ⟨y, hy, he⟩ := Option.map_eq_some_iff.mp e
    have hlt : k < n := by simpa using (List.getElem?_eq_some_iff.mp hy).1
    rw [List.getElem?_range hlt] at hy
    cases hy
    exact he.symm
  exact ⟨fun i j x y hi hj h => by have := key i x hi; have := key j y hj; omega, fun k x hk => hA _ (by rw [key k x hk]; omega)⟩
theorem tyOk_Co : tyOk yX5_init 0 := ⟨by decide +kernel, by decide +kernel, by decide +kernel⟩
theorem tyOk_Ho : tyOk yX4_init 0 := ⟨by decide +kernel, by decide +kernel, by decide +kernel⟩
section CZN
variable {p : Program} {l : Launch} {e : Env} {R : Room} {s : State} {m : MethodId} {args : Array Value} {below : List Frame} {meth : Method} {c : Code} {H : Heap} {locs : List Loc} {cells slots : Nat} {Q : State → Prop}
variable {cc : ByteArray} {own : String} {pc nL : Nat} {ls : Array Slot} {rest : List Value} {G : tG} {A : Nat → Prop} {ws : va_W}
theorem cz_newCourt (hx : p.tables.exec = Jvm.exec) (hb : c.code = cc) (hml : c.maxLocals = nL) (hown : s.vm.findClass own = some m.cls) (hts : ∀ w ∈ lw_all, w.before args s = true) (hK : tK G s) (hP : va_P G.1 tcl ws H) (hD : va_D A ws) (hS : va_S A s.heap H locs) (hA : ∀ q, s.heap.size ≤ q → A q) (hl : ls.size = nL) {i1 i2 : Nat} {host : String} (hcl : Cond.classLink own i1 RX5 ∈ lw_all) (hnl : Cond.methodLinkNest own i2 yX5_init host ∈ lw_tbl) (hf : 2 ≤ R.frames) (hL : 100 ≤ R.locals) (hrest : (rest.map fun v => v.category).sum ≤ 7) (hu : cells + 16 ≤ R.cells ∧ slots + 122 ≤ R.slots) (hd0 : decode cc pc = .ok (.new i1, 3)) (hd1 : decode cc (pc + 3) = .ok (.dup, 1)) (hd2 : decode cc (pc + 3 + 1) = .ok (.invokespecial i2, 3))
    (kk : ∀ (H1 : Heap) (locs1 : List Loc), va_P G.1 tcl (ws ++ courtW G.2.1 H.size) H1 → va_D A (ws ++ courtW G.2.1 H.size) → va_S A s.heap H1 locs1 → H1.size = H.size + 16 → W p l e R s m args below meth c H1 locs1 (cells + 16) (slots + 122) Q (F0 m (pc + 3 + 1 + 3) ls (.ref H.size :: rest))) : W p l e R s m args below meth c H locs cells slots Q (F0 m pc ls rest) := by
  have hKn := hK.1.1 6 (RX5, TX5, 23) rfl
  refine W.newcK hx hb hown (hts _ hcl) (hts _ q313) (hts _ q174) rfl hd0 (by omega) (by omega) hKn.2.1 rfl fun H1 kC hkC e1 z1 o1 => ?_
  refine W.eq (g2 := F0 m (pc + 3) ls (.ref H.size :: rest)) rfl ?_
  have hPc : va_P G.1 tcl [(H.size, .inr (6, court0))] H1 := by
    intro k x hk
    have hz : k < 1 := (List.getElem?_eq_some_iff.mp hk).1
    rw [show k = 0 by omega] at hk
    cases hk
    exact ⟨(RX5, TX5, 23), rfl, (u_born tyX5 hts in_X5 hKn hkC e1 tyX5_ok).to (fun j hj => (show ∀ j, j < 23 → defaultValue (tyX5 j) = vp_V court0 j by decide +kernel) j hj)⟩
  have hS1 : va_S A s.heap H1 locs := ⟨Nat.le_trans hS.1 (by omega), fun x h1 h2 => (o1 x (Nat.lt_of_lt_of_le h1 hS.1)).trans (hS.2.1 x h1 h2), hS.2.2⟩
  refine lv_dup hx hb hd1 rfl ?_
  refine va_callv (va_runIN (As := []) (rest := .ref H.size :: rest) (b := H.size) ⟨hx, hb, hml, hown, hts⟩ (c_Co_init (G := G) H.size) ⟨va_cnB 0 hts (lw_meth q316) rfl rfl rfl (hK.2.1 _ hnl rfl) (hts _ q174) tyOk_Co ⟨hf, Nat.le_trans (Nat.le_of_ble_eq_true rfl : 8 + (1 + 11) + 40 ≤ 100) hL⟩, rfl, hts _ q315⟩ ⟨coPre_blind, fun U hU hW => ⟨rfl, by rw [hU]; exact z1, by rw [hU]; exact hPc, tK_warm hW hK⟩⟩ rfl rfl hl rfl (by show 2 * 0 + (1 + (rest.map fun v => v.category).sum) ≤ 8; omega) hd2 ⟨by omega, by omega⟩) hS1 (fun q h1 h2 => ?_) (fun q h2 => ?_) (fun u t H2 locs2 ht hvm hp hB hz hk hS2 => ?_)
  · rw [z1] at h1
    exact hA q (Nat.le_trans hS.1 h2)
  · exact hA q (Nat.le_trans hS.1 h2)
  · rw [ht] at hB
    refine W.eq (g2 := F0 m (pc + 3 + 1 + 3) ls (.ref H.size :: rest)) rfl ?_
    have hDc : va_D A (courtW G.2.1 H.size) := cz_D (q0 := H.size) (n := 16) rfl (fun q h => hA q (Nat.le_trans hS.1 h))
    refine kk H2 locs2 ((hP.kept (fun k x hx => ?_)).app hB.2) (hD.app hDc (fun i j x y hi hj he => ?_)) hS2 hB.1
    · have hlt := (hP k x hx).lt
      exact (hk x.1 (by omega) (by omega)).trans (o1 x.1 hlt)
    · have hlt := (hP i x hi).lt
      have hge : H.size ≤ y.1 := (cz_D (A := fun a => H.size ≤ a) (q0 := H.size) (n := 16) (ws := courtW G.2.1 H.size) rfl (fun q h => h)).2 j y hj
      omega
end CZN
def hoPre (G : tG) (q0 : Nat) (U : State) : Prop := U.heap.size = q0 + 1 ∧ va_P G.1 tcl [(q0, .inr (5, [.null, .null]))] U.heap ∧ tK G U
theorem hoPre_blind {G : tG} {q0 : Nat} {av : List Value} : FrameBlind (va_Pc av (hoPre G q0)) := by
  intro a U g mk q
  obtain ⟨h0, h1, h2, h3⟩ := q
  exact ⟨h0, h1, h2, tK_calling h3⟩
def houseW (dA : Nat → ClassId) (q0 : Nat) : va_W := (q0, .inr (5, [.ref (q0 + 1), .null])) :: courtW dA (q0 + 1)
theorem c_Ho_init {l : Launch} {G : tG} (q0 : Nat) : Met l yX4_init (ws_ yX4_init cX4_init 1 none) (tRe 2 100 16 122) (va_Pc [.ref q0] (hoPre G q0)) (va_Qv (fun _ : Unit => True) (fun _ t => t.heap.size = q0 + 17 ∧ va_P G.1 tcl (houseW G.2.1 q0) t.heap) (fun a => q0 ≤ a)) 16 122 (fun a => q0 ≤ a) := by
  refine Met.ofW (cc := cX4_init) (maxL := 1) (ret := none) (by decide) rfl ?_
  intro p e s m args below meth c s₁ B hml hv
  obtain ⟨rfl, hsz, hP, hK⟩ := hv
  have hx := B.exec
  have hb := B.bytes
  have hts0 := atoms_spec (ws := ws_ yX4_init cX4_init 1 none) B.pre
  have hts : ∀ w ∈ lw_all, w.before _ s = true := fun w h => hts0 w (List.mem_cons_of_mem _ h)
  have hown : s.vm.findClass RX4 = some m.cls := findClass_of_methodNamed B.named
  have hin : meth.name = "<init>" := (name_of_methodNamed B.named B.method).1
  have hA : ∀ q : Nat, s.heap.size ≤ q → q0 ≤ q := fun q h => by omega
  have hS : va_S (fun a => q0 ≤ a) s.heap s.heap [] := va_S.rf
  have hD : va_D (fun a => q0 ≤ a) [((q0, .inr (5, [.null, .null])) : Nat × va_E)] := cz_D (q0 := q0) (n := 1) rfl (fun q h => h)
  have hl := lv_entry ([.ref q0]) (n := 1) (Nat.le_of_ble_eq_true rfl)
  rw [lg_entry_eq]
  generalize (lg_sl ([.ref q0]) ++ List.replicate (1 - (lg_sl ([.ref q0])).length) Slot.unset).toArray = ls at hl ⊢
  have hl : lv_has ls 1 [(0, .ref q0)] := hl
  refine lv_aload_n hx hb dX4_init_0 rfl (lv_at hl 0 rfl) ?_
  refine W.objInit hx hb hown (hts _ q311) (hts _ q203) (hts _ q204) rfl (by rw [hml]; exact hl.1) rfl dX4_init_1 (Nat.le_of_ble_eq_true rfl) (Nat.le_of_ble_eq_true rfl) ?_
  refine W.eq (g2 := F0 m 4 ls []) rfl ?_
  refine lv_aload_n hx hb dX4_init_4 rfl (lv_at hl 0 rfl) ?_
  refine cz_newCourt hx hb hml hown hts hK hP hD hS hA hl.1 q312 q314 (by decide) (by decide) (Nat.le_of_ble_eq_true rfl) ⟨by decide, by decide⟩ dX4_init_5 dX4_init_8 dX4_init_9 (fun H locs hP hD hS hz => ?_)
  rw [hsz] at hP hD hz
  rw [hsz]
  refine va_putF (D := G.1) (ci := 5) (v := .ref (q0 + 1)) (ty := .object "CatWitness$Court") (C := RX4) (T := TX4) (N := 2) hx hb hts in_X4 tyX4 tyX4_ok nmX4 hown hK.1 hP hD hS 0 rfl rfl 0 (by decide) (hts _ q435) (fun _ h9 => h9) rfl hin rfl rfl rfl rfl (Nat.le_of_ble_eq_true rfl) dX4_init_12 (fun H2 locs2 hP2 hD2 hS2 => cz_size fun hz2 => ?_)
  have hP3 : va_P G.1 tcl (houseW G.2.1 q0) H2 := hP2
  have hlast : q0 + 1 + 15 < H2.size := (hP3 16 _ rfl).lt
  exact W.vret hx hb B.returns (fun t ht hW => ⟨⟨(), rfl, trivial, by rw [ht]; omega, by rw [ht]; exact hP3⟩, hS2.F ht⟩) hS2.2.2 dX4_init_15 B.notSynchronized
theorem houseW_fst (dA : Nat → ClassId) (q0 : Nat) : (houseW dA q0).map Prod.fst = (List.range 17).map (fun i => q0 + i) := rfl
section CZN2
variable {p : Program} {l : Launch} {e : Env} {R : Room} {s : State} {m : MethodId} {args : Array Value} {below : List Frame} {meth : Method} {c : Code} {H : Heap} {locs : List Loc} {cells slots : Nat} {Q : State → Prop}
variable {cc : ByteArray} {own : String} {pc nL : Nat} {ls : Array Slot} {rest : List Value} {G : tG} {A : Nat → Prop} {ws : va_W}
theorem cz_newHouse (hx : p.tables.exec = Jvm.exec) (hb : c.code = cc) (hml : c.maxLocals = nL) (hown : s.vm.findClass own = some m.cls) (hts : ∀ w ∈ lw_all, w.before args s = true) (hK : tK G s) (hP : va_P G.1 tcl ws H) (hD : va_D A ws) (hS : va_S A s.heap H locs) (hA : ∀ q, s.heap.size ≤ q → A q) (hl : ls.size = nL) {i1 i2 : Nat} {host : String} (hcl : Cond.classLink own i1 RX4 ∈ lw_all) (hnl : Cond.methodLinkNest own i2 yX4_init host ∈ lw_tbl) (hf : 3 ≤ R.frames) (hL : 120 ≤ R.locals) (hrest : (rest.map fun v => v.category).sum ≤ 7) (hu : cells + 17 ≤ R.cells ∧ slots + 124 ≤ R.slots) (hd0 : decode cc pc = .ok (.new i1, 3)) (hd1 : decode cc (pc + 3) = .ok (.dup, 1)) (hd2 : decode cc (pc + 3 + 1) = .ok (.invokespecial i2, 3))
    (kk : ∀ (H1 : Heap) (locs1 : List Loc), va_P G.1 tcl (ws ++ houseW G.2.1 H.size) H1 → va_D A (ws ++ houseW G.2.1 H.size) → va_S A s.heap H1 locs1 → H1.size = H.size + 17 → W p l e R s m args below meth c H1 locs1 (cells + 17) (slots + 124) Q (F0 m (pc + 3 + 1 + 3) ls (.ref H.size :: rest))) : W p l e R s m args below meth c H locs cells slots Q (F0 m pc ls rest) := by
  have hKn := hK.1.1 5 (RX4, TX4, 2) rfl
  refine W.newcK hx hb hown (hts _ hcl) (hts _ q307) (hts _ q173) rfl hd0 (by omega) (by omega) hKn.2.1 rfl fun H1 kC hkC e1 z1 o1 => ?_
  refine W.eq (g2 := F0 m (pc + 3) ls (.ref H.size :: rest)) rfl ?_
  have hPc : va_P G.1 tcl [(H.size, .inr (5, [.null, .null]))] H1 := by
    intro k x hk
    have hz : k < 1 := (List.getElem?_eq_some_iff.mp hk).1
    rw [show k = 0 by omega] at hk
    cases hk
    exact ⟨(RX4, TX4, 2), rfl, (u_born tyX4 hts in_X4 hKn hkC e1 tyX4_ok).to (fun j hj => (show ∀ j, j < 2 → defaultValue (tyX4 j) = vp_V [.null, .null] j by decide +kernel) j hj)⟩
  have hS1 : va_S A s.heap H1 locs := ⟨Nat.le_trans hS.1 (by omega), fun x h1 h2 => (o1 x (Nat.lt_of_lt_of_le h1 hS.1)).trans (hS.2.1 x h1 h2), hS.2.2⟩
  refine lv_dup hx hb hd1 rfl ?_
  refine va_callv (va_runIN (As := []) (rest := .ref H.size :: rest) (b := H.size) ⟨hx, hb, hml, hown, hts⟩ (c_Ho_init (G := G) H.size) ⟨va_cnB 0 hts (lw_meth q310) rfl rfl rfl (hK.2.1 _ hnl rfl) (hts _ q173) tyOk_Ho ⟨hf, Nat.le_trans (Nat.le_of_ble_eq_true rfl : 8 + (1 + 11) + 100 ≤ 120) hL⟩, rfl, hts _ q309⟩ ⟨hoPre_blind, fun U hU hW => ⟨rfl, by rw [hU]; exact z1, by rw [hU]; exact hPc, tK_warm hW hK⟩⟩ rfl rfl hl rfl (by show 2 * 0 + (1 + (rest.map fun v => v.category).sum) ≤ 8; omega) hd2 ⟨by omega, by omega⟩) hS1 (fun q h1 h2 => ?_) (fun q h2 => ?_) (fun u t H2 locs2 ht hvm hp hB hz hk hS2 => ?_)
  · exact hA q (Nat.le_trans hS.1 h2)
  · exact hA q (Nat.le_trans hS.1 h2)
  · rw [ht] at hB
    refine W.eq (g2 := F0 m (pc + 3 + 1 + 3) ls (.ref H.size :: rest)) rfl ?_
    have hDc : va_D A (houseW G.2.1 H.size) := cz_D (q0 := H.size) (n := 17) (houseW_fst _ _) (fun q h => hA q (Nat.le_trans hS.1 h))
    refine kk H2 locs2 ((hP.kept (fun k x hx => ?_)).app hB.2) (hD.app hDc (fun i j x y hi hj he => ?_)) hS2 hB.1
    · have hlt := (hP k x hx).lt
      exact (hk x.1 (by omega) (by omega)).trans (o1 x.1 hlt)
    · have hlt := (hP i x hi).lt
      have hge : H.size ≤ y.1 := (cz_D (A := fun a => H.size ≤ a) (q0 := H.size) (n := 17) (ws := houseW G.2.1 H.size) (houseW_fst _ _) (fun q h => h)).2 j y hj
      omega
end CZN2
