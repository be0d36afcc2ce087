set_option maxRecDepth 100000
/-! CONSTRUCTORS: the cells follow each other from the made thing's own on -/
def bPre (G : tG) (ci : Nat) (D : List Value) (q : Nat) (U : State) : Prop := U.heap.size = q + 1 ∧ va_P G.1 tcl [(q, .inr (ci, D))] U.heap ∧ tK G U ∧ tZ G (fun a => q ≤ a) U U.heap
theorem bPre_blind {G : tG} {ci q : Nat} {D av : List Value} : FrameBlind (va_Pc av (bPre G ci D q)) := by
  intro a U g mk h
  obtain ⟨h0, h1, h2, h3, h4⟩ := h
  exact ⟨h0, h1, h2, tK_calling h3, tZ.moved (u := U) (U := U.calling g mk a) (Vm.Alike.refl U.vm) h4⟩
theorem tZ.narrow {G : tG} {A B : Nat → Prop} {U : State} {H : Heap} (h : tZ G A U H) (hAB : ∀ q, B q → A q) : tZ G B U H := ⟨vk_S.narrow h.1 hAB, vx_Zq.narrow h.2.1 hAB, vx_Zq.narrow h.2.2.1 hAB, va_Z.narrow h.2.2.2.1 hAB, va_Zq.narrow h.2.2.2.2 hAB⟩
theorem met_pre {l : Launch} {y : MethodName} {ws : List Cond} {rm : Room} {Pc Pc' : Array Value → State → Prop} {Qc : Array Value → State → Outcome → State → Prop} {mc ms : Nat} {free : Addr → Prop} (h : ∀ a s, Pc' a s → Pc a s) (hM : Met l y ws rm Pc Qc mc ms free) : Met l y ws rm Pc' Qc mc ms free := fun p e h1 h2 h3 s m args below h4 h5 h6 h7 => hM p e h1 h2 h3 s m args below h4 h5 (h _ _ h6) h7
section CZB
variable {p : Program} {l : Launch} {e : Env} {R : Room} {s : State} {m : MethodId} {args : Array Value} {below : List Frame} {meth : Method} {c : Code} {H : Heap} {locs : List Loc} {cells slots : Nat} {Q : State → Prop}
variable {cc : ByteArray} {own : String} {pc nL : Nat} {ls : Array Slot} {rest : List Value} {G : tG} {A : Nat → Prop} {ws : va_W}
theorem cz_gets (hexec : p.tables.exec = Jvm.exec) (hb : c.code = cc) {C n d own ref : String} {index : Nat} {A : Nat → Prop} (hZ : va_Zq C n d A s s.heap) (hS : va_S A s.heap H locs) (hown : s.vm.findClass own = some m.cls) (hlink : (Cond.fieldLink own index ref n d).before args s = true) (hsame : ∀ x, s.fieldFound? C n d = some x → s.fieldFound? ref n d = some x) (hdg : decode cc pc = .ok (.getstatic index, 3)) (kk : ∀ v : Value, (v = .null ∨ ∃ t : Nat, v = .ref t) → W p l e R s m args below meth c H locs cells slots Q (F0 m (pc + 3) ls (v :: rest))) : W p l e R s m args below meth c H locs cells slots Q (F0 m pc ls rest) := by
  rcases hZ with h | ⟨t, h⟩
  · exact va_gets hexec hb h hS hown hlink hsame hdg (kk _ (Or.inl rfl))
  · exact va_gets hexec hb h hS hown hlink hsame hdg (kk _ (Or.inr ⟨t, rfl⟩))
theorem cz_newBN {ci i1 i2 f1 L1 c1 s1 n N maxL : Nat} {host : String} {Cn : String} {T : u_T} {D : List Value} {B : va_W} {y : MethodName} {bytes : ByteArray} (ty : Nat → FieldType) (hx : p.tables.exec = Jvm.exec) (hb : c.code = cc) (hml : c.maxLocals = nL) (hown : s.vm.findClass own = some m.cls) (hts : ∀ w ∈ lw_all, w.before args s = true) (hK : tK G s) (hP : va_P G.1 tcl ws H) (hD : va_D A ws) (hS : va_S A s.heap H locs) (hA : ∀ q, s.heap.size ≤ q → A q) (hZ : tZ G A s s.heap) (hl : ls.size = nL)
    (hc : tcl[ci]? = some (Cn, T, N)) (hin : ∀ w ∈ u_ws Cn T N, w ∈ lw_all) (hty : ∀ j, j < N → parseFieldDescriptor (T j).2.2.1 = some (ty j)) (hdv : ∀ j, j < N → defaultValue (ty j) = vp_V D j) (hcl : Cond.classLink own i1 Cn ∈ lw_all) (hinst : Cond.instantiable Cn N ∈ lw_all) (hini : Cond.initialized Cn ∈ lw_all) (hcode : Cond.code y bytes maxL none ∈ lw_all) (hiniy : Cond.initialized y.cls ∈ lw_all) (hnl : Cond.methodLinkNest own i2 y host ∈ lw_tbl) (hinsty : Cond.instanceMethod y ∈ lw_all) (hnm : y.name = "<init>") (hy : tyOk y 0)
    (hM : Met l y (ws_ y bytes maxL none) (tRe f1 L1 c1 s1) (va_Pc [.ref H.size] (bPre G ci D H.size)) (va_Qv (fun _ : Unit => True) (fun _ t => t.heap.size = H.size + n ∧ va_P G.1 tcl B t.heap) (fun a => H.size ≤ a)) c1 s1 (fun a => H.size ≤ a)) (hB : B.map Prod.fst = (List.range n).map (fun i => H.size + i))
    (hf : f1 + 1 ≤ R.frames) (hL : 8 + (maxL + 11) + L1 ≤ R.locals) (hrest : (rest.map fun v => v.category).sum ≤ 7) (hu : cells + 1 + c1 ≤ R.cells ∧ slots + N + s1 ≤ R.slots) (hd0 : decode cc pc = .ok (.new i1, 3)) (hd1 : decode cc (pc + 3) = .ok (.dup, 1)) (hd2 : decode cc (pc + 3 + 1) = .ok (.invokespecial i2, 3))
    (kk : ∀ (H1 : Heap) (locs1 : List Loc), va_P G.1 tcl (ws ++ B) H1 → va_D A (ws ++ B) → va_S A s.heap H1 locs1 → H1.size = H.size + n → W p l e R s m args below meth c H1 locs1 (cells + 1 + c1) (slots + N + s1) Q (F0 m (pc + 3 + 1 + 3) ls (.ref H.size :: rest))) : W p l e R s m args below meth c H locs cells slots Q (F0 m pc ls rest) := by
  have hKn := hK.1.1 ci (Cn, T, N) hc
  refine W.newcK hx hb hown (hts _ hcl) (hts _ hinst) (hts _ hini) rfl hd0 (by omega) (by omega) hKn.2.1 rfl fun H1 kC hkC e1 z1 o1 => ?_
  refine W.eq (g2 := F0 m (pc + 3) ls (.ref H.size :: rest)) rfl ?_
  have hPc : va_P G.1 tcl [(H.size, .inr (ci, D))] H1 := by
    intro k x hk
    have hz : k < 1 := (List.getElem?_eq_some_iff.mp hk).1
    rw [show k = 0 by omega] at hk
    cases hk
    exact ⟨(Cn, T, N), hc, (u_born ty hts hin hKn hkC e1 hty).to hdv⟩
  have hS1 : va_S A s.heap H1 locs := ⟨Nat.le_trans hS.1 (by omega), fun x h1 h2 => (o1 x (Nat.lt_of_lt_of_le h1 hS.1)).trans (hS.2.1 x h1 h2), hS.2.2⟩
  have hAH : ∀ q, H.size ≤ q → A q := fun q h => hA q (Nat.le_trans hS.1 h)
  refine lv_dup hx hb hd1 rfl ?_
  refine va_callv (va_runIN (As := []) (rest := .ref H.size :: rest) (b := H.size) ⟨hx, hb, hml, hown, hts⟩ hM ⟨va_cnB 0 hts (lw_meth hcode) rfl rfl rfl (hK.2.1 _ hnl rfl) (hts _ hiniy) hy ⟨hf, hL⟩, hnm, hts _ hinsty⟩ ⟨bPre_blind, fun U hU hW => ⟨rfl, by rw [hU]; exact z1, by rw [hU]; exact hPc, tK_warm hW hK, by rw [hU]; exact ((hZ.kept hS1.2.1).narrow hAH).moved hW.alike⟩⟩ rfl rfl hl rfl (by show 2 * 0 + (1 + (rest.map fun v => v.category).sum) ≤ 8; omega) hd2 ⟨by omega, by omega⟩) hS1 (fun q h1 h2 => hAH q h2) (fun q h2 => hAH q h2) (fun u t H2 locs2 ht hvm hp hB2 hz hk hS2 => ?_)
  rw [ht] at hB2
  refine W.eq (g2 := F0 m (pc + 3 + 1 + 3) ls (.ref H.size :: rest)) rfl ?_
  have hDc : va_D A B := cz_D (q0 := H.size) (n := n) hB hAH
  refine kk H2 locs2 ((hP.kept (fun k x hx => ?_)).app hB2.2) (hD.app hDc (fun i j x y hi hj he => ?_)) hS2 hB2.1
  · have hlt := (hP k x hx).lt
    exact (hk x.1 (by omega) (by omega)).trans (o1 x.1 hlt)
  · have hlt := (hP i x hi).lt
    have hge : H.size ≤ y.1 := (cz_D (A := fun a => H.size ≤ a) (q0 := H.size) (n := n) (ws := B) hB (fun q h => h)).2 j y hj
    omega
theorem cz_newBI {ci i1 i2 f1 L1 c1 s1 n N maxL : Nat} {Cn : String} {T : u_T} {D : List Value} {B : va_W} {y : MethodName} {bytes : ByteArray} (ty : Nat → FieldType) (hx : p.tables.exec = Jvm.exec) (hb : c.code = cc) (hml : c.maxLocals = nL) (hown : s.vm.findClass own = some m.cls) (hts : ∀ w ∈ lw_all, w.before args s = true) (hK : tK G s) (hP : va_P G.1 tcl ws H) (hD : va_D A ws) (hS : va_S A s.heap H locs) (hA : ∀ q, s.heap.size ≤ q → A q) (hZ : tZ G A s s.heap) (hl : ls.size = nL)
    (hc : tcl[ci]? = some (Cn, T, N)) (hin : ∀ w ∈ u_ws Cn T N, w ∈ lw_all) (hty : ∀ j, j < N → parseFieldDescriptor (T j).2.2.1 = some (ty j)) (hdv : ∀ j, j < N → defaultValue (ty j) = vp_V D j) (hcl : Cond.classLink own i1 Cn ∈ lw_all) (hinst : Cond.instantiable Cn N ∈ lw_all) (hini : Cond.initialized Cn ∈ lw_all) (hcode : Cond.code y bytes maxL none ∈ lw_all) (hiniy : Cond.initialized y.cls ∈ lw_all) (hnl : Cond.methodLink own i2 y ∈ lw_all) (hinsty : Cond.instanceMethod y ∈ lw_all) (hnm : y.name = "<init>") (hy : tyOk y 0)
    (hM : Met l y (ws_ y bytes maxL none) (tRe f1 L1 c1 s1) (va_Pc [.ref H.size] (bPre G ci D H.size)) (va_Qv (fun _ : Unit => True) (fun _ t => t.heap.size = H.size + n ∧ va_P G.1 tcl B t.heap) (fun a => H.size ≤ a)) c1 s1 (fun a => H.size ≤ a)) (hB : B.map Prod.fst = (List.range n).map (fun i => H.size + i))
    (hf : f1 + 1 ≤ R.frames) (hL : 8 + (maxL + 11) + L1 ≤ R.locals) (hrest : (rest.map fun v => v.category).sum ≤ 7) (hu : cells + 1 + c1 ≤ R.cells ∧ slots + N + s1 ≤ R.slots) (hd0 : decode cc pc = .ok (.new i1, 3)) (hd1 : decode cc (pc + 3) = .ok (.dup, 1)) (hd2 : decode cc (pc + 3 + 1) = .ok (.invokespecial i2, 3))
    (kk : ∀ (H1 : Heap) (locs1 : List Loc), va_P G.1 tcl (ws ++ B) H1 → va_D A (ws ++ B) → va_S A s.heap H1 locs1 → H1.size = H.size + n → W p l e R s m args below meth c H1 locs1 (cells + 1 + c1) (slots + N + s1) Q (F0 m (pc + 3 + 1 + 3) ls (.ref H.size :: rest))) : W p l e R s m args below meth c H locs cells slots Q (F0 m pc ls rest) := by
  have hKn := hK.1.1 ci (Cn, T, N) hc
  refine W.newcK hx hb hown (hts _ hcl) (hts _ hinst) (hts _ hini) rfl hd0 (by omega) (by omega) hKn.2.1 rfl fun H1 kC hkC e1 z1 o1 => ?_
  refine W.eq (g2 := F0 m (pc + 3) ls (.ref H.size :: rest)) rfl ?_
  have hPc : va_P G.1 tcl [(H.size, .inr (ci, D))] H1 := by
    intro k x hk
    have hz : k < 1 := (List.getElem?_eq_some_iff.mp hk).1
    rw [show k = 0 by omega] at hk
    cases hk
    exact ⟨(Cn, T, N), hc, (u_born ty hts hin hKn hkC e1 hty).to hdv⟩
  have hS1 : va_S A s.heap H1 locs := ⟨Nat.le_trans hS.1 (by omega), fun x h1 h2 => (o1 x (Nat.lt_of_lt_of_le h1 hS.1)).trans (hS.2.1 x h1 h2), hS.2.2⟩
  have hAH : ∀ q, H.size ≤ q → A q := fun q h => hA q (Nat.le_trans hS.1 h)
  refine lv_dup hx hb hd1 rfl ?_
  refine va_callv (va_runI (As := []) (rest := .ref H.size :: rest) (b := H.size) ⟨hx, hb, hml, hown, hts⟩ hM (cwI 0 hts (lw_meth hcode) rfl rfl rfl (hts _ hiniy) (hts _ hnl) (hts _ hinsty) hnm hy ⟨hf, hL⟩) ⟨bPre_blind, fun U hU hW => ⟨rfl, by rw [hU]; exact z1, by rw [hU]; exact hPc, tK_warm hW hK, by rw [hU]; exact ((hZ.kept hS1.2.1).narrow hAH).moved hW.alike⟩⟩ rfl rfl hl rfl (by show 2 * 0 + (1 + (rest.map fun v => v.category).sum) ≤ 8; omega) hd2 ⟨by omega, by omega⟩) hS1 (fun q h1 h2 => hAH q h2) (fun q h2 => hAH q h2) (fun u t H2 locs2 ht hvm hp hB2 hz hk hS2 => ?_)
  rw [ht] at hB2
  refine W.eq (g2 := F0 m (pc + 3 + 1 + 3) ls (.ref H.size :: rest)) rfl ?_
  have hDc : va_D A B := cz_D (q0 := H.size) (n := n) hB hAH
  refine kk H2 locs2 ((hP.kept (fun k x hx => ?_)).app hB2.2) (hD.app hDc (fun i j x y hi hj he => ?_)) hS2 hB2.1
  · have hlt := (hP k x hx).lt
    exact (hk x.1 (by omega) (by omega)).trans (o1 x.1 hlt)
  · have hlt := (hP i x hi).lt
    have hge : H.size ≤ y.1 := (cz_D (A := fun a => H.size ≤ a) (q0 := H.size) (n := n) (ws := B) hB (fun q h => h)).2 j y hj
    omega
end CZB
theorem c_Th_init_X2 {l : Launch} {G : tG} (q0 : Nat) : Met l yJ0_init_2 (ws_ yJ0_init_2 cJ0_init_2 5 none) (tRe 1 40 0 0) (va_Pc [.ref q0, .null, .null, .int (nI 0), .int (nI 0)] (bPre G 3 [.null, .null, .null, .null, .null, .int 0, .int 0, .int 0] q0)) (va_Qv (fun _ : Unit => True) (fun _ t => t.heap.size = q0 + 1 ∧ va_P G.1 tcl ([(q0, .inr (3, [.null, .null, .null, .null, .null, .int 0, .int 0, .int 0]))]) t.heap) (fun a => q0 ≤ a)) 0 0 (fun a => q0 ≤ a) := by
  refine Met.ofW (cc := cJ0_init_2) (maxL := 5) (ret := none) (by decide) rfl ?_
  intro p e s m args below meth c s₁ B hml hv
  obtain ⟨rfl, hsz, hP, hK0, hZ⟩ := hv
  have hx := B.exec
  have hb := B.bytes
  have hts0 := atoms_spec (ws := ws_ yJ0_init_2 cJ0_init_2 5 none) B.pre
  have hts : ∀ w ∈ lw_all, w.before _ s = true := fun w h => hts0 w (List.mem_cons_of_mem _ h)
  have hown : s.vm.findClass RJ0 = some m.cls := findClass_of_methodNamed B.named
  have hin : meth.name = "<init>" := (name_of_methodNamed B.named B.method).1
  have hK : va_K G.1 tcl (ttys G.2.1) s := hK0.1
  have hA : ∀ q : Nat, s.heap.size ≤ q → q0 ≤ q := fun q h => by omega
  have hS : va_S (fun a => q0 ≤ a) s.heap s.heap [] := va_S.rf
  have hD : va_D (fun a => q0 ≤ a) [((q0, .inr (3, [.null, .null, .null, .null, .null, .int 0, .int 0, .int 0])) : Nat × va_E)] := cz_D (q0 := q0) (n := 1) rfl (fun q h => h)
  have hl := lv_entry ([.ref q0, .null, .null, .int (nI 0), .int (nI 0)]) (n := 5) (Nat.le_of_ble_eq_true rfl)
  rw [lg_entry_eq]
  generalize (lg_sl ([.ref q0, .null, .null, .int (nI 0), .int (nI 0)]) ++ List.replicate (5 - (lg_sl ([.ref q0, .null, .null, .int (nI 0), .int (nI 0)])).length) Slot.unset).toArray = ls at hl ⊢
  have hl : lv_has ls 5 [(0, .ref q0), (1, .null), (2, .null), (3, .int (nI 0)), (4, .int (nI 0))] := hl
  have hP : va_P G.1 tcl [(q0, .inr (3, [.null, .null, .null, .null, .null, .int 0, .int 0, .int 0]))] s.heap := hP
  refine lv_aload_n hx hb dJ0_init_2_0 rfl (lv_at hl 0 rfl) ?_
  refine W.objInit hx hb hown (hts _ q239) (hts _ q203) (hts _ q204) rfl (by rw [hml]; exact hl.1) rfl dJ0_init_2_1 (Nat.le_of_ble_eq_true rfl) (Nat.le_of_ble_eq_true rfl) ?_
  refine W.eq (g2 := F0 m 4 ls []) rfl ?_
  refine lv_aload_n hx hb dJ0_init_2_4 rfl (lv_at hl 0 rfl) ?_
  refine lv_aload_n hx hb dJ0_init_2_5 rfl (lv_at hl 0 rfl) ?_
  refine va_put (D := G.1) (ci := 3) (v := .ref q0) (ty := (.object "java/lang/Throwable")) (C := RX2) (T := TX2) (N := 8) hx hb hts in_X2 tyX2 tyX2_ok nmX2 hown hK hP hD hS 0 rfl rfl 0 (by decide) (hts _ q271) (fun _ h9 => h9) rfl rfl rfl rfl (Nat.le_of_ble_eq_true rfl) dJ0_init_2_6 (fun H locs hP hD hS => ?_)
  have hP : va_P G.1 tcl ([(q0, .inr (3, [.ref q0, .null, .null, .null, .null, .int 0, .int 0, .int 0]))]) H := hP
  have hD : va_D (fun a => q0 ≤ a) (([(q0, .inr (3, [.ref q0, .null, .null, .null, .null, .int 0, .int 0, .int 0]))]) : va_W) := hD
  refine lv_aload_n hx hb dJ0_init_2_9 rfl (lv_at hl 0 rfl) ?_
  refine cz_gets hx hb hZ.2.1.1 hS hown (hts _ q240) (fun _ h9 => h9) dJ0_init_2_10 (fun v1 hv1 => ?_)
  refine va_put (D := G.1) (ci := 3) (v := v1) (ty := (.array (.object "java/lang/StackTraceElement"))) (C := RX2) (T := TX2) (N := 8) hx hb hts in_X2 tyX2 tyX2_ok nmX2 hown hK hP hD hS 0 rfl rfl 1 (by decide) (hts _ q272) (fun _ h9 => h9) rfl rfl (by rcases hv1 with h | ⟨t, h⟩ <;> subst h <;> rfl) (by rcases hv1 with h | ⟨t, h⟩ <;> subst h <;> rfl) (Nat.le_of_ble_eq_true rfl) dJ0_init_2_13 (fun H locs hP hD hS => ?_)
  have hP : va_P G.1 tcl ([(q0, .inr (3, [.ref q0, v1, .null, .null, .null, .int 0, .int 0, .int 0]))]) H := hP
  have hD : va_D (fun a => q0 ≤ a) (([(q0, .inr (3, [.ref q0, v1, .null, .null, .null, .int 0, .int 0, .int 0]))]) : va_W) := hD
  refine lv_aload_n hx hb dJ0_init_2_16 rfl (lv_at hl 0 rfl) ?_
  refine cz_gets hx hb hZ.2.2.1.1 hS hown (hts _ q242) (fun _ h9 => h9) dJ0_init_2_17 (fun v2 hv2 => ?_)
  refine va_put (D := G.1) (ci := 3) (v := v2) (ty := (.object "java/util/List")) (C := RX2) (T := TX2) (N := 8) hx hb hts in_X2 tyX2 tyX2_ok nmX2 hown hK hP hD hS 0 rfl rfl 2 (by decide) (hts _ q273) (fun _ h9 => h9) rfl rfl (by rcases hv2 with h | ⟨t, h⟩ <;> subst h <;> rfl) (by rcases hv2 with h | ⟨t, h⟩ <;> subst h <;> rfl) (Nat.le_of_ble_eq_true rfl) dJ0_init_2_20 (fun H locs hP hD hS => ?_)
  have hP : va_P G.1 tcl ([(q0, .inr (3, [.ref q0, v1, v2, .null, .null, .int 0, .int 0, .int 0]))]) H := hP
  have hD : va_D (fun a => q0 ≤ a) (([(q0, .inr (3, [.ref q0, v1, v2, .null, .null, .int 0, .int 0, .int 0]))]) : va_W) := hD
  refine lv_iload hx hb dJ0_init_2_23 (lv_at hl 4 rfl) ?_
  refine lv_if_eq (tgt := 36) hx hb dJ0_init_2_25 (by decide) (fun _ => ?_) (fun h9 => absurd rfl h9)
  refine lv_aload_n hx hb dJ0_init_2_36 rfl (lv_at hl 0 rfl) ?_
  refine lv_null hx hb dJ0_init_2_37 ?_
  refine va_put (D := G.1) (ci := 3) (v := .null) (ty := (.array (.object "java/lang/StackTraceElement"))) (C := RX2) (T := TX2) (N := 8) hx hb hts in_X2 tyX2 tyX2_ok nmX2 hown hK hP hD hS 0 rfl rfl 1 (by decide) (hts _ q272) (fun _ h9 => h9) rfl rfl rfl rfl (Nat.le_of_ble_eq_true rfl) dJ0_init_2_38 (fun H locs hP hD hS => ?_)
  have hP : va_P G.1 tcl ([(q0, .inr (3, [.ref q0, .null, v2, .null, .null, .int 0, .int 0, .int 0]))]) H := hP
  have hD : va_D (fun a => q0 ≤ a) (([(q0, .inr (3, [.ref q0, .null, v2, .null, .null, .int 0, .int 0, .int 0]))]) : va_W) := hD
  refine lv_aload_n hx hb dJ0_init_2_41 rfl (lv_at hl 0 rfl) ?_
  refine lv_aload_nN hx hb dJ0_init_2_42 rfl (lv_at hl 1 rfl) ?_
  refine va_put (D := G.1) (ci := 3) (v := .null) (ty := (.object "java/lang/String")) (C := RX2) (T := TX2) (N := 8) hx hb hts in_X2 tyX2 tyX2_ok nmX2 hown hK hP hD hS 0 rfl rfl 3 (by decide) (hts _ q270) (fun _ h9 => h9) rfl rfl rfl rfl (Nat.le_of_ble_eq_true rfl) dJ0_init_2_43 (fun H locs hP hD hS => ?_)
  have hP : va_P G.1 tcl ([(q0, .inr (3, [.ref q0, .null, v2, .null, .null, .int 0, .int 0, .int 0]))]) H := hP
  have hD : va_D (fun a => q0 ≤ a) (([(q0, .inr (3, [.ref q0, .null, v2, .null, .null, .int 0, .int 0, .int 0]))]) : va_W) := hD
  refine lv_aload_n hx hb dJ0_init_2_46 rfl (lv_at hl 0 rfl) ?_
  refine lv_aload_nN hx hb dJ0_init_2_47 rfl (lv_at hl 2 rfl) ?_
  refine va_put (D := G.1) (ci := 3) (v := .null) (ty := (.object "java/lang/Throwable")) (C := RX2) (T := TX2) (N := 8) hx hb hts in_X2 tyX2 tyX2_ok nmX2 hown hK hP hD hS 0 rfl rfl 0 (by decide) (hts _ q271) (fun _ h9 => h9) rfl rfl rfl rfl (Nat.le_of_ble_eq_true rfl) dJ0_init_2_48 (fun H locs hP hD hS => ?_)
  have hP : va_P G.1 tcl ([(q0, .inr (3, [.null, .null, v2, .null, .null, .int 0, .int 0, .int 0]))]) H := hP
  have hD : va_D (fun a => q0 ≤ a) (([(q0, .inr (3, [.null, .null, v2, .null, .null, .int 0, .int 0, .int 0]))]) : va_W) := hD
  refine lv_iload_n hx hb dJ0_init_2_51 rfl (lv_at hl 3 rfl) ?_
  refine lv_if_ne (tgt := 60) hx hb dJ0_init_2_52 (by decide) (fun h9 => absurd rfl h9) (fun _ => ?_)
  refine lv_aload_n hx hb dJ0_init_2_55 rfl (lv_at hl 0 rfl) ?_
  refine lv_null hx hb dJ0_init_2_56 ?_
  refine va_put (D := G.1) (ci := 3) (v := .null) (ty := (.object "java/util/List")) (C := RX2) (T := TX2) (N := 8) hx hb hts in_X2 tyX2 tyX2_ok nmX2 hown hK hP hD hS 0 rfl rfl 2 (by decide) (hts _ q273) (fun _ h9 => h9) rfl rfl rfl rfl (Nat.le_of_ble_eq_true rfl) dJ0_init_2_57 (fun H locs hP hD hS => ?_)
  have hP : va_P G.1 tcl ([(q0, .inr (3, [.null, .null, .null, .null, .null, .int 0, .int 0, .int 0]))]) H := hP
  have hD : va_D (fun a => q0 ≤ a) (([(q0, .inr (3, [.null, .null, .null, .null, .null, .int 0, .int 0, .int 0]))]) : va_W) := hD
  refine cz_size fun hz => ?_
  have hlast : q0 + 0 < H.size := (hP 0 _ rfl).lt
  have hsz2 : H.size = q0 + 1 := by rw [hsz] at hz; omega
  exact W.vret hx hb B.returns (fun t ht hW => ⟨⟨(), rfl, trivial, by rw [ht]; exact hsz2, by rw [ht]; exact hP⟩, hS.F ht⟩) hS.2.2 dJ0_init_2_60 B.notSynchronized
theorem tyOk_Th_X2 : tyOk yJ0_init_2 4 := ⟨by decide +kernel, by decide +kernel, by decide +kernel⟩
theorem tyOk_Ex_X2 : tyOk yJ1_init 4 := ⟨by decide +kernel, by decide +kernel, by decide +kernel⟩
theorem c_Ex_init_X2 {l : Launch} {G : tG} (q0 : Nat) : Met l yJ1_init (ws_ yJ1_init cJ1_init 5 none) (tRe 2 80 0 0) (va_Pc [.ref q0, .null, .null, .int (nI 0), .int (nI 0)] (bPre G 3 [.null, .null, .null, .null, .null, .int 0, .int 0, .int 0] q0)) (va_Qv (fun _ : Unit => True) (fun _ t => t.heap.size = q0 + 1 ∧ va_P G.1 tcl ([(q0, .inr (3, [.null, .null, .null, .null, .null, .int 0, .int 0, .int 0]))]) t.heap) (fun a => q0 ≤ a)) 0 0 (fun a => q0 ≤ a) := by
  refine Met.ofW (cc := cJ1_init) (maxL := 5) (ret := none) (by decide) rfl ?_
  intro p e s m args below meth c s₁ B hml hv
  obtain ⟨rfl, hsz, hP, hK0, hZ⟩ := hv
  have hx := B.exec
  have hb := B.bytes
  have hts0 := atoms_spec (ws := ws_ yJ1_init cJ1_init 5 none) B.pre
  have hts : ∀ w ∈ lw_all, w.before _ s = true := fun w h => hts0 w (List.mem_cons_of_mem _ h)
  have hown : s.vm.findClass RJ1 = some m.cls := findClass_of_methodNamed B.named
  have hin : meth.name = "<init>" := (name_of_methodNamed B.named B.method).1
  have hK : va_K G.1 tcl (ttys G.2.1) s := hK0.1
  have hA : ∀ q : Nat, s.heap.size ≤ q → q0 ≤ q := fun q h => by omega
  have hS : va_S (fun a => q0 ≤ a) s.heap s.heap [] := va_S.rf
  have hD : va_D (fun a => q0 ≤ a) [((q0, .inr (3, [.null, .null, .null, .null, .null, .int 0, .int 0, .int 0])) : Nat × va_E)] := cz_D (q0 := q0) (n := 1) rfl (fun q h => h)
  have hl := lv_entry ([.ref q0, .null, .null, .int (nI 0), .int (nI 0)]) (n := 5) (Nat.le_of_ble_eq_true rfl)
  rw [lg_entry_eq]
  generalize (lg_sl ([.ref q0, .null, .null, .int (nI 0), .int (nI 0)]) ++ List.replicate (5 - (lg_sl ([.ref q0, .null, .null, .int (nI 0), .int (nI 0)])).length) Slot.unset).toArray = ls at hl ⊢
  have hl : lv_has ls 5 [(0, .ref q0), (1, .null), (2, .null), (3, .int (nI 0)), (4, .int (nI 0))] := hl
  have hP : va_P G.1 tcl [(q0, .inr (3, [.null, .null, .null, .null, .null, .int 0, .int 0, .int 0]))] s.heap := hP
  refine lv_aload_n hx hb dJ1_init_0 rfl (lv_at hl 0 rfl) ?_
  refine lv_aload_nN hx hb dJ1_init_1 rfl (lv_at hl 1 rfl) ?_
  refine lv_aload_nN hx hb dJ1_init_2 rfl (lv_at hl 2 rfl) ?_
  refine lv_iload_n hx hb dJ1_init_3 rfl (lv_at hl 3 rfl) ?_
  refine lv_iload hx hb dJ1_init_4 (lv_at hl 4 rfl) ?_
  refine va_callv (va_runI (As := [.null, .null, .int (nI 0), .int (nI 0)]) (rest := []) (b := q0) ⟨hx, hb, hml, hown, hts⟩ (c_Th_init_X2 (G := G) q0) (cwI 4 hts (lw_meth q264) rfl rfl rfl (hts _ q169) (hts _ q262) (hts _ q263) rfl tyOk_Th_X2 ⟨Nat.le_of_ble_eq_true rfl, Nat.le_of_ble_eq_true rfl⟩) ⟨bPre_blind, fun U hU hW => ⟨rfl, by rw [hU]; exact hsz, by rw [hU]; exact hP, tK_warm hW hK0, by rw [hU]; exact hZ.moved hW.alike⟩⟩ rfl rfl hl.1 rfl (Nat.le_of_ble_eq_true rfl) dJ1_init_6 ⟨Nat.le_of_ble_eq_true rfl, Nat.le_of_ble_eq_true rfl⟩) hS (fun q _ h2 => h2) (fun q h2 => h2) (fun u t H2 locs2 ht hvm hp hB2 hz hk hS2 => ?_)
  rw [ht] at hB2
  exact W.vret hx hb B.returns (fun t ht hW => ⟨⟨(), rfl, trivial, by rw [ht]; exact hB2.1, by rw [ht]; exact hB2.2⟩, hS2.F ht⟩) hS2.2.2 dJ1_init_9 B.notSynchronized
theorem c_Bd_init {l : Launch} {G : tG} (q0 : Nat) : Met l yX2_init (ws_ yX2_init cX2_init 1 none) (tRe 3 120 0 0) (va_Pc [.ref q0] (bPre G 3 [.null, .null, .null, .null, .null, .int 0, .int 0, .int 0] q0)) (va_Qv (fun _ : Unit => True) (fun _ t => t.heap.size = q0 + 1 ∧ va_P G.1 tcl ([(q0, .inr (3, [.null, .null, .null, .null, .null, .int 0, .int 0, .int 0]))]) t.heap) (fun a => q0 ≤ a)) 0 0 (fun a => q0 ≤ a) := by
  refine Met.ofW (cc := cX2_init) (maxL := 1) (ret := none) (by decide) rfl ?_
  intro p e s m args below meth c s₁ B hml hv
  obtain ⟨rfl, hsz, hP, hK0, hZ⟩ := hv
  have hx := B.exec
  have hb := B.bytes
  have hts0 := atoms_spec (ws := ws_ yX2_init cX2_init 1 none) B.pre
  have hts : ∀ w ∈ lw_all, w.before _ s = true := fun w h => hts0 w (List.mem_cons_of_mem _ h)
  have hown : s.vm.findClass RX2 = some m.cls := findClass_of_methodNamed B.named
  have hin : meth.name = "<init>" := (name_of_methodNamed B.named B.method).1
  have hK : va_K G.1 tcl (ttys G.2.1) s := hK0.1
  have hA : ∀ q : Nat, s.heap.size ≤ q → q0 ≤ q := fun q h => by omega
  have hS : va_S (fun a => q0 ≤ a) s.heap s.heap [] := va_S.rf
  have hD : va_D (fun a => q0 ≤ a) [((q0, .inr (3, [.null, .null, .null, .null, .null, .int 0, .int 0, .int 0])) : Nat × va_E)] := cz_D (q0 := q0) (n := 1) rfl (fun q h => h)
  have hl := lv_entry ([.ref q0]) (n := 1) (Nat.le_of_ble_eq_true rfl)
  rw [lg_entry_eq]
  generalize (lg_sl ([.ref q0]) ++ List.replicate (1 - (lg_sl ([.ref q0])).length) Slot.unset).toArray = ls at hl ⊢
  have hl : lv_has ls 1 [(0, .ref q0)] := hl
  have hP : va_P G.1 tcl [(q0, .inr (3, [.null, .null, .null, .null, .null, .int 0, .int 0, .int 0]))] s.heap := hP
  refine lv_aload_n hx hb dX2_init_0 rfl (lv_at hl 0 rfl) ?_
  refine lv_null hx hb dX2_init_1 ?_
  refine lv_null hx hb dX2_init_2 ?_
  refine lv_iconst hx hb dX2_init_3 (v := nI 0) (by decide +kernel) ?_
  refine lv_iconst hx hb dX2_init_4 (v := nI 0) (by decide +kernel) ?_
  refine va_callv (va_runI (As := [.null, .null, .int (nI 0), .int (nI 0)]) (rest := []) (b := q0) ⟨hx, hb, hml, hown, hts⟩ (c_Ex_init_X2 (G := G) q0) (cwI 4 hts (lw_meth q261) rfl rfl rfl (hts _ q170) (hts _ q259) (hts _ q260) rfl tyOk_Ex_X2 ⟨Nat.le_of_ble_eq_true rfl, Nat.le_of_ble_eq_true rfl⟩) ⟨bPre_blind, fun U hU hW => ⟨rfl, by rw [hU]; exact hsz, by rw [hU]; exact hP, tK_warm hW hK0, by rw [hU]; exact hZ.moved hW.alike⟩⟩ rfl rfl hl.1 rfl (Nat.le_of_ble_eq_true rfl) dX2_init_5 ⟨Nat.le_of_ble_eq_true rfl, Nat.le_of_ble_eq_true rfl⟩) hS (fun q _ h2 => h2) (fun q h2 => h2) (fun u t H2 locs2 ht hvm hp hB2 hz hk hS2 => ?_)
  rw [ht] at hB2
  exact W.vret hx hb B.returns (fun t ht hW => ⟨⟨(), rfl, trivial, by rw [ht]; exact hB2.1, by rw [ht]; exact hB2.2⟩, hS2.F ht⟩) hS2.2.2 dX2_init_8 B.notSynchronized
theorem c_Th_init_X3 {l : Launch} {G : tG} (q0 : Nat) : Met l yJ0_init_2 (ws_ yJ0_init_2 cJ0_init_2 5 none) (tRe 1 40 0 0) (va_Pc [.ref q0, .null, .null, .int (nI 0), .int (nI 0)] (bPre G 4 [.null, .null, .null, .null, .null, .int 0, .int 0] q0)) (va_Qv (fun _ : Unit => True) (fun _ t => t.heap.size = q0 + 1 ∧ va_P G.1 tcl ([(q0, .inr (4, [.null, .null, .null, .null, .null, .int 0, .int 0]))]) t.heap) (fun a => q0 ≤ a)) 0 0 (fun a => q0 ≤ a) := by
  refine Met.ofW (cc := cJ0_init_2) (maxL := 5) (ret := none) (by decide) rfl ?_
  intro p e s m args below meth c s₁ B hml hv
  obtain ⟨rfl, hsz, hP, hK0, hZ⟩ := hv
  have hx := B.exec
  have hb := B.bytes
  have hts0 := atoms_spec (ws := ws_ yJ0_init_2 cJ0_init_2 5 none) B.pre
  have hts : ∀ w ∈ lw_all, w.before _ s = true := fun w h => hts0 w (List.mem_cons_of_mem _ h)
  have hown : s.vm.findClass RJ0 = some m.cls := findClass_of_methodNamed B.named
  have hin : meth.name = "<init>" := (name_of_methodNamed B.named B.method).1
  have hK : va_K G.1 tcl (ttys G.2.1) s := hK0.1
  have hA : ∀ q : Nat, s.heap.size ≤ q → q0 ≤ q := fun q h => by omega
  have hS : va_S (fun a => q0 ≤ a) s.heap s.heap [] := va_S.rf
  have hD : va_D (fun a => q0 ≤ a) [((q0, .inr (4, [.null, .null, .null, .null, .null, .int 0, .int 0])) : Nat × va_E)] := cz_D (q0 := q0) (n := 1) rfl (fun q h => h)
  have hl := lv_entry ([.ref q0, .null, .null, .int (nI 0), .int (nI 0)]) (n := 5) (Nat.le_of_ble_eq_true rfl)
  rw [lg_entry_eq]
  generalize (lg_sl ([.ref q0, .null, .null, .int (nI 0), .int (nI 0)]) ++ List.replicate (5 - (lg_sl ([.ref q0, .null, .null, .int (nI 0), .int (nI 0)])).length) Slot.unset).toArray = ls at hl ⊢
  have hl : lv_has ls 5 [(0, .ref q0), (1, .null), (2, .null), (3, .int (nI 0)), (4, .int (nI 0))] := hl
  have hP : va_P G.1 tcl [(q0, .inr (4, [.null, .null, .null, .null, .null, .int 0, .int 0]))] s.heap := hP
  refine lv_aload_n hx hb dJ0_init_2_0 rfl (lv_at hl 0 rfl) ?_
  refine W.objInit hx hb hown (hts _ q239) (hts _ q203) (hts _ q204) rfl (by rw [hml]; exact hl.1) rfl dJ0_init_2_1 (Nat.le_of_ble_eq_true rfl) (Nat.le_of_ble_eq_true rfl) ?_
  refine W.eq (g2 := F0 m 4 ls []) rfl ?_
  refine lv_aload_n hx hb dJ0_init_2_4 rfl (lv_at hl 0 rfl) ?_
  refine lv_aload_n hx hb dJ0_init_2_5 rfl (lv_at hl 0 rfl) ?_
  refine va_put (D := G.1) (ci := 4) (v := .ref q0) (ty := (.object "java/lang/Throwable")) (C := RX3) (T := TX3) (N := 7) hx hb hts in_X3 tyX3 tyX3_ok nmX3 hown hK hP hD hS 0 rfl rfl 0 (by decide) (hts _ q271) (fun _ h9 => h9) rfl rfl rfl rfl (Nat.le_of_ble_eq_true rfl) dJ0_init_2_6 (fun H locs hP hD hS => ?_)
  have hP : va_P G.1 tcl ([(q0, .inr (4, [.ref q0, .null, .null, .null, .null, .int 0, .int 0]))]) H := hP
  have hD : va_D (fun a => q0 ≤ a) (([(q0, .inr (4, [.ref q0, .null, .null, .null, .null, .int 0, .int 0]))]) : va_W) := hD
  refine lv_aload_n hx hb dJ0_init_2_9 rfl (lv_at hl 0 rfl) ?_
  refine cz_gets hx hb hZ.2.1.1 hS hown (hts _ q240) (fun _ h9 => h9) dJ0_init_2_10 (fun v1 hv1 => ?_)
  refine va_put (D := G.1) (ci := 4) (v := v1) (ty := (.array (.object "java/lang/StackTraceElement"))) (C := RX3) (T := TX3) (N := 7) hx hb hts in_X3 tyX3 tyX3_ok nmX3 hown hK hP hD hS 0 rfl rfl 1 (by decide) (hts _ q272) (fun _ h9 => h9) rfl rfl (by rcases hv1 with h | ⟨t, h⟩ <;> subst h <;> rfl) (by rcases hv1 with h | ⟨t, h⟩ <;> subst h <;> rfl) (Nat.le_of_ble_eq_true rfl) dJ0_init_2_13 (fun H locs hP hD hS => ?_)
  have hP : va_P G.1 tcl ([(q0, .inr (4, [.ref q0, v1, .null, .null, .null, .int 0, .int 0]))]) H := hP
  have hD : va_D (fun a => q0 ≤ a) (([(q0, .inr (4, [.ref q0, v1, .null, .null, .null, .int 0, .int 0]))]) : va_W) := hD
  refine lv_aload_n hx hb dJ0_init_2_16 rfl (lv_at hl 0 rfl) ?_
  refine cz_gets hx hb hZ.2.2.1.1 hS hown (hts _ q242) (fun _ h9 => h9) dJ0_init_2_17 (fun v2 hv2 => ?_)
  refine va_put (D := G.1) (ci := 4) (v := v2) (ty := (.object "java/util/List")) (C := RX3) (T := TX3) (N := 7) hx hb hts in_X3 tyX3 tyX3_ok nmX3 hown hK hP hD hS 0 rfl rfl 2 (by decide) (hts _ q273) (fun _ h9 => h9) rfl rfl (by rcases hv2 with h | ⟨t, h⟩ <;> subst h <;> rfl) (by rcases hv2 with h | ⟨t, h⟩ <;> subst h <;> rfl) (Nat.le_of_ble_eq_true rfl) dJ0_init_2_20 (fun H locs hP hD hS => ?_)
  have hP : va_P G.1 tcl ([(q0, .inr (4, [.ref q0, v1, v2, .null, .null, .int 0, .int 0]))]) H := hP
  have hD : va_D (fun a => q0 ≤ a) (([(q0, .inr (4, [.ref q0, v1, v2, .null, .null, .int 0, .int 0]))]) : va_W) := hD
  refine lv_iload hx hb dJ0_init_2_23 (lv_at hl 4 rfl) ?_
  refine lv_if_eq (tgt := 36) hx hb dJ0_init_2_25 (by decide) (fun _ => ?_) (fun h9 => absurd rfl h9)
  refine lv_aload_n hx hb dJ0_init_2_36 rfl (lv_at hl 0 rfl) ?_
  refine lv_null hx hb dJ0_init_2_37 ?_
  refine va_put (D := G.1) (ci := 4) (v := .null) (ty := (.array (.object "java/lang/StackTraceElement"))) (C := RX3) (T := TX3) (N := 7) hx hb hts in_X3 tyX3 tyX3_ok nmX3 hown hK hP hD hS 0 rfl rfl 1 (by decide) (hts _ q272) (fun _ h9 => h9) rfl rfl rfl rfl (Nat.le_of_ble_eq_true rfl) dJ0_init_2_38 (fun H locs hP hD hS => ?_)
  have hP : va_P G.1 tcl ([(q0, .inr (4, [.ref q0, .null, v2, .null, .null, .int 0, .int 0]))]) H := hP
  have hD : va_D (fun a => q0 ≤ a) (([(q0, .inr (4, [.ref q0, .null, v2, .null, .null, .int 0, .int 0]))]) : va_W) := hD
  refine lv_aload_n hx hb dJ0_init_2_41 rfl (lv_at hl 0 rfl) ?_
  refine lv_aload_nN hx hb dJ0_init_2_42 rfl (lv_at hl 1 rfl) ?_
  refine va_put (D := G.1) (ci := 4) (v := .null) (ty := (.object "java/lang/String")) (C := RX3) (T := TX3) (N := 7) hx hb hts in_X3 tyX3 tyX3_ok nmX3 hown hK hP hD hS 0 rfl rfl 3 (by decide) (hts _ q270) (fun _ h9 => h9) rfl rfl rfl rfl (Nat.le_of_ble_eq_true rfl) dJ0_init_2_43 (fun H locs hP hD hS => ?_)
  have hP : va_P G.1 tcl ([(q0, .inr (4, [.ref q0, .null, v2, .null, .null, .int 0, .int 0]))]) H := hP
  have hD : va_D (fun a => q0 ≤ a) (([(q0, .inr (4, [.ref q0, .null, v2, .null, .null, .int 0, .int 0]))]) : va_W) := hD
  refine lv_aload_n hx hb dJ0_init_2_46 rfl (lv_at hl 0 rfl) ?_
  refine lv_aload_nN hx hb dJ0_init_2_47 rfl (lv_at hl 2 rfl) ?_
  refine va_put (D := G.1) (ci := 4) (v := .null) (ty := (.object "java/lang/Throwable")) (C := RX3) (T := TX3) (N := 7) hx hb hts in_X3 tyX3 tyX3_ok nmX3 hown hK hP hD hS 0 rfl rfl 0 (by decide) (hts _ q271) (fun _ h9 => h9) rfl rfl rfl rfl (Nat.le_of_ble_eq_true rfl) dJ0_init_2_48 (fun H locs hP hD hS => ?_)
  have hP : va_P G.1 tcl ([(q0, .inr (4, [.null, .null, v2, .null, .null, .int 0, .int 0]))]) H := hP
  have hD : va_D (fun a => q0 ≤ a) (([(q0, .inr (4, [.null, .null, v2, .null, .null, .int 0, .int 0]))]) : va_W) := hD
  refine lv_iload_n hx hb dJ0_init_2_51 rfl (lv_at hl 3 rfl) ?_
  refine lv_if_ne (tgt := 60) hx hb dJ0_init_2_52 (by decide) (fun h9 => absurd rfl h9) (fun _ => ?_)
  refine lv_aload_n hx hb dJ0_init_2_55 rfl (lv_at hl 0 rfl) ?_
  refine lv_null hx hb dJ0_init_2_56 ?_
  refine va_put (D := G.1) (ci := 4) (v := .null) (ty := (.object "java/util/List")) (C := RX3) (T := TX3) (N := 7) hx hb hts in_X3 tyX3 tyX3_ok nmX3 hown hK hP hD hS 0 rfl rfl 2 (by decide) (hts _ q273) (fun _ h9 => h9) rfl rfl rfl rfl (Nat.le_of_ble_eq_true rfl) dJ0_init_2_57 (fun H locs hP hD hS => ?_)
  have hP : va_P G.1 tcl ([(q0, .inr (4, [.null, .null, .null, .null, .null, .int 0, .int 0]))]) H := hP
  have hD : va_D (fun a => q0 ≤ a) (([(q0, .inr (4, [.null, .null, .null, .null, .null, .int 0, .int 0]))]) : va_W) := hD
  refine cz_size fun hz => ?_
  have hlast : q0 + 0 < H.size := (hP 0 _ rfl).lt
  have hsz2 : H.size = q0 + 1 := by rw [hsz] at hz; omega
  exact W.vret hx hb B.returns (fun t ht hW => ⟨⟨(), rfl, trivial, by rw [ht]; exact hsz2, by rw [ht]; exact hP⟩, hS.F ht⟩) hS.2.2 dJ0_init_2_60 B.notSynchronized
theorem tyOk_Th_X3 : tyOk yJ0_init_2 4 := ⟨by decide +kernel, by decide +kernel, by decide +kernel⟩
theorem tyOk_Ex_X3 : tyOk yJ1_init 4 := ⟨by decide +kernel, by decide +kernel, by decide +kernel⟩
theorem c_Ex_init_X3 {l : Launch} {G : tG} (q0 : Nat) : Met l yJ1_init (ws_ yJ1_init cJ1_init 5 none) (tRe 2 80 0 0) (va_Pc [.ref q0, .null, .null, .int (nI 0), .int (nI 0)] (bPre G 4 [.null, .null, .null, .null, .null, .int 0, .int 0] q0)) (va_Qv (fun _ : Unit => True) (fun _ t => t.heap.size = q0 + 1 ∧ va_P G.1 tcl ([(q0, .inr (4, [.null, .null, .null, .null, .null, .int 0, .int 0]))]) t.heap) (fun a => q0 ≤ a)) 0 0 (fun a => q0 ≤ a) := by
  refine Met.ofW (cc := cJ1_init) (maxL := 5) (ret := none) (by decide) rfl ?_
  intro p e s m args below meth c s₁ B hml hv
  obtain ⟨rfl, hsz, hP, hK0, hZ⟩ := hv
  have hx := B.exec
  have hb := B.bytes
  have hts0 := atoms_spec (ws := ws_ yJ1_init cJ1_init 5 none) B.pre
  have hts : ∀ w ∈ lw_all, w.before _ s = true := fun w h => hts0 w (List.mem_cons_of_mem _ h)
  have hown : s.vm.findClass RJ1 = some m.cls := findClass_of_methodNamed B.named
  have hin : meth.name = "<init>" := (name_of_methodNamed B.named B.method).1
  have hK : va_K G.1 tcl (ttys G.2.1) s := hK0.1
  have hA : ∀ q : Nat, s.heap.size ≤ q → q0 ≤ q := fun q h => by omega
  have hS : va_S (fun a => q0 ≤ a) s.heap s.heap [] := va_S.rf
  have hD : va_D (fun a => q0 ≤ a) [((q0, .inr (4, [.null, .null, .null, .null, .null, .int 0, .int 0])) : Nat × va_E)] := cz_D (q0 := q0) (n := 1) rfl (fun q h => h)
  have hl := lv_entry ([.ref q0, .null, .null, .int (nI 0), .int (nI 0)]) (n := 5) (Nat.le_of_ble_eq_true rfl)
  rw [lg_entry_eq]
  generalize (lg_sl ([.ref q0, .null, .null, .int (nI 0), .int (nI 0)]) ++ List.replicate (5 - (lg_sl ([.ref q0, .null, .null, .int (nI 0), .int (nI 0)])).length) Slot.unset).toArray = ls at hl ⊢
  have hl : lv_has ls 5 [(0, .ref q0), (1, .null), (2, .null), (3, .int (nI 0)), (4, .int (nI 0))] := hl
  have hP : va_P G.1 tcl [(q0, .inr (4, [.null, .null, .null, .null, .null, .int 0, .int 0]))] s.heap := hP
  refine lv_aload_n hx hb dJ1_init_0 rfl (lv_at hl 0 rfl) ?_
  refine lv_aload_nN hx hb dJ1_init_1 rfl (lv_at hl 1 rfl) ?_
  refine lv_aload_nN hx hb dJ1_init_2 rfl (lv_at hl 2 rfl) ?_
  refine lv_iload_n hx hb dJ1_init_3 rfl (lv_at hl 3 rfl) ?_
  refine lv_iload hx hb dJ1_init_4 (lv_at hl 4 rfl) ?_
  refine va_callv (va_runI (As := [.null, .null, .int (nI 0), .int (nI 0)]) (rest := []) (b := q0) ⟨hx, hb, hml, hown, hts⟩ (c_Th_init_X3 (G := G) q0) (cwI 4 hts (lw_meth q264) rfl rfl rfl (hts _ q169) (hts _ q262) (hts _ q263) rfl tyOk_Th_X3 ⟨Nat.le_of_ble_eq_true rfl, Nat.le_of_ble_eq_true rfl⟩) ⟨bPre_blind, fun U hU hW => ⟨rfl, by rw [hU]; exact hsz, by rw [hU]; exact hP, tK_warm hW hK0, by rw [hU]; exact hZ.moved hW.alike⟩⟩ rfl rfl hl.1 rfl (Nat.le_of_ble_eq_true rfl) dJ1_init_6 ⟨Nat.le_of_ble_eq_true rfl, Nat.le_of_ble_eq_true rfl⟩) hS (fun q _ h2 => h2) (fun q h2 => h2) (fun u t H2 locs2 ht hvm hp hB2 hz hk hS2 => ?_)
  rw [ht] at hB2
  exact W.vret hx hb B.returns (fun t ht hW => ⟨⟨(), rfl, trivial, by rw [ht]; exact hB2.1, by rw [ht]; exact hB2.2⟩, hS2.F ht⟩) hS2.2.2 dJ1_init_9 B.notSynchronized
theorem c_Rf_init {l : Launch} {G : tG} (q0 : Nat) : Met l yX3_init (ws_ yX3_init cX3_init 1 none) (tRe 3 120 0 0) (va_Pc [.ref q0] (bPre G 4 [.null, .null, .null, .null, .null, .int 0, .int 0] q0)) (va_Qv (fun _ : Unit => True) (fun _ t => t.heap.size = q0 + 1 ∧ va_P G.1 tcl ([(q0, .inr (4, [.null, .null, .null, .null, .null, .int 0, .int 0]))]) t.heap) (fun a => q0 ≤ a)) 0 0 (fun a => q0 ≤ a) := by
  refine Met.ofW (cc := cX3_init) (maxL := 1) (ret := none) (by decide) rfl ?_
  intro p e s m args below meth c s₁ B hml hv
  obtain ⟨rfl, hsz, hP, hK0, hZ⟩ := hv
  have hx := B.exec
  have hb := B.bytes
  have hts0 := atoms_spec (ws := ws_ yX3_init cX3_init 1 none) B.pre
  have hts : ∀ w ∈ lw_all, w.before _ s = true := fun w h => hts0 w (List.mem_cons_of_mem _ h)
  have hown : s.vm.findClass RX3 = some m.cls := findClass_of_methodNamed B.named
  have hin : meth.name = "<init>" := (name_of_methodNamed B.named B.method).1
  have hK : va_K G.1 tcl (ttys G.2.1) s := hK0.1
  have hA : ∀ q : Nat, s.heap.size ≤ q → q0 ≤ q := fun q h => by omega
  have hS : va_S (fun a => q0 ≤ a) s.heap s.heap [] := va_S.rf
  have hD : va_D (fun a => q0 ≤ a) [((q0, .inr (4, [.null, .null, .null, .null, .null, .int 0, .int 0])) : Nat × va_E)] := cz_D (q0 := q0) (n := 1) rfl (fun q h => h)
  have hl := lv_entry ([.ref q0]) (n := 1) (Nat.le_of_ble_eq_true rfl)
  rw [lg_entry_eq]
  generalize (lg_sl ([.ref q0]) ++ List.replicate (1 - (lg_sl ([.ref q0])).length) Slot.unset).toArray = ls at hl ⊢
  have hl : lv_has ls 1 [(0, .ref q0)] := hl
  have hP : va_P G.1 tcl [(q0, .inr (4, [.null, .null, .null, .null, .null, .int 0, .int 0]))] s.heap := hP
  refine lv_aload_n hx hb dX3_init_0 rfl (lv_at hl 0 rfl) ?_
  refine lv_null hx hb dX3_init_1 ?_
  refine lv_null hx hb dX3_init_2 ?_
  refine lv_iconst hx hb dX3_init_3 (v := nI 0) (by decide +kernel) ?_
  refine lv_iconst hx hb dX3_init_4 (v := nI 0) (by decide +kernel) ?_
  refine va_callv (va_runI (As := [.null, .null, .int (nI 0), .int (nI 0)]) (rest := []) (b := q0) ⟨hx, hb, hml, hown, hts⟩ (c_Ex_init_X3 (G := G) q0) (cwI 4 hts (lw_meth q261) rfl rfl rfl (hts _ q170) (hts _ q299) (hts _ q260) rfl tyOk_Ex_X3 ⟨Nat.le_of_ble_eq_true rfl, Nat.le_of_ble_eq_true rfl⟩) ⟨bPre_blind, fun U hU hW => ⟨rfl, by rw [hU]; exact hsz, by rw [hU]; exact hP, tK_warm hW hK0, by rw [hU]; exact hZ.moved hW.alike⟩⟩ rfl rfl hl.1 rfl (Nat.le_of_ble_eq_true rfl) dX3_init_5 ⟨Nat.le_of_ble_eq_true rfl, Nat.le_of_ble_eq_true rfl⟩) hS (fun q _ h2 => h2) (fun q h2 => h2) (fun u t H2 locs2 ht hvm hp hB2 hz hk hS2 => ?_)
  rw [ht] at hB2
  exact W.vret hx hb B.returns (fun t ht hW => ⟨⟨(), rfl, trivial, by rw [ht]; exact hB2.1, by rw [ht]; exact hB2.2⟩, hS2.F ht⟩) hS2.2.2 dX3_init_8 B.notSynchronized
theorem c_Tr_init {l : Launch} {G : tG} (q0 : Nat) : Met l yX1_init (ws_ yX1_init cX1_init 1 none) (tRe 1 40 0 0) (va_Pc [.ref q0] (bPre G 2 [.null] q0)) (va_Qv (fun _ : Unit => True) (fun _ t => t.heap.size = q0 + 1 ∧ va_P G.1 tcl ([(q0, .inr (2, [.null]))]) t.heap) (fun a => q0 ≤ a)) 0 0 (fun a => q0 ≤ a) := by
  refine Met.ofW (cc := cX1_init) (maxL := 1) (ret := none) (by decide) rfl ?_
  intro p e s m args below meth c s₁ B hml hv
  obtain ⟨rfl, hsz, hP, hK0, hZ⟩ := hv
  have hx := B.exec
  have hb := B.bytes
  have hts0 := atoms_spec (ws := ws_ yX1_init cX1_init 1 none) B.pre
  have hts : ∀ w ∈ lw_all, w.before _ s = true := fun w h => hts0 w (List.mem_cons_of_mem _ h)
  have hown : s.vm.findClass RX1 = some m.cls := findClass_of_methodNamed B.named
  have hin : meth.name = "<init>" := (name_of_methodNamed B.named B.method).1
  have hK : va_K G.1 tcl (ttys G.2.1) s := hK0.1
  have hA : ∀ q : Nat, s.heap.size ≤ q → q0 ≤ q := fun q h => by omega
  have hS : va_S (fun a => q0 ≤ a) s.heap s.heap [] := va_S.rf
  have hD : va_D (fun a => q0 ≤ a) [((q0, .inr (2, [.null])) : Nat × va_E)] := cz_D (q0 := q0) (n := 1) rfl (fun q h => h)
  have hl := lv_entry ([.ref q0]) (n := 1) (Nat.le_of_ble_eq_true rfl)
  rw [lg_entry_eq]
  generalize (lg_sl ([.ref q0]) ++ List.replicate (1 - (lg_sl ([.ref q0])).length) Slot.unset).toArray = ls at hl ⊢
  have hl : lv_has ls 1 [(0, .ref q0)] := hl
  have hP : va_P G.1 tcl [(q0, .inr (2, [.null]))] s.heap := hP
  refine lv_aload_n hx hb dX1_init_0 rfl (lv_at hl 0 rfl) ?_
  refine W.objInit hx hb hown (hts _ q211) (hts _ q203) (hts _ q204) rfl (by rw [hml]; exact hl.1) rfl dX1_init_1 (Nat.le_of_ble_eq_true rfl) (Nat.le_of_ble_eq_true rfl) ?_
  refine W.eq (g2 := F0 m 4 ls []) rfl ?_
  exact W.vret hx hb B.returns (fun t ht hW => ⟨⟨(), rfl, trivial, by rw [ht]; exact hsz, by rw [ht]; exact hP⟩, hS.F ht⟩) hS.2.2 dX1_init_4 B.notSynchronized
