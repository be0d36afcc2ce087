set_option maxRecDepth 100000
/-! contracts: start, end, calls -/
def tPre (G : tG) (ad : Nat → Nat) (A : Nat → Prop) (S : tS) (U : State) : Prop := (∀ q : Nat, U.heap.size ≤ q → A q) ∧ tH G ad A S U.heap ∧ tK G U ∧ tZ G A U U.heap
def tB (G : tG) (ad : Nat → Nat) (A : Nat → Prop) (N0 : Nat → Nat) (u : tS) (t : State) : Prop := tH G ad A u t.heap ∧ gN u = N0
theorem tPre_blind {G : tG} {ad : Nat → Nat} {A : Nat → Prop} {S : tS} {av : List Value} : FrameBlind (va_Pc av (tPre G ad A S)) := by
  intro a U g mk q
  obtain ⟨q0, q1, q2, ⟨q3, q4, q5, q6⟩, q7⟩ := q
  exact ⟨q0, q1, q2, ⟨va_K.moved (u := U) (U := U.calling g mk a) (Vm.Alike.refl U.vm) q3, tNW_same (u := U) (U := U.calling g mk a) rfl q4, fun q hq => va_Nc.moved (u := U) (U := U.calling g mk a) (Vm.Alike.refl U.vm) (q5 q hq), fun i o x tx hi => vk_R.same (u := U) (U := U.calling g mk a) rfl (q6 i o x tx hi)⟩, tZ.moved (u := U) (U := U.calling g mk a) (Vm.Alike.refl U.vm) q7⟩
abbrev tyOk (y : MethodName) (n : Nat) : Prop := y.cls ≠ "java/lang/invoke/MethodHandle" ∧ y.cls ≠ "java/lang/invoke/VarHandle" ∧ (parseMethodDescriptor y.desc).map (fun d => d.parameters.length) = some n
abbrev tRm (f L : Nat) : Room := { frames := f, cells := 0, slots := 0, locals := L }
abbrev tSP (Γ : tX) (av : List Value) (S : tS) : Array Value → State → Prop := va_Pc av (tPre (xG Γ) (xad Γ) (xA Γ) S)
abbrev tBB (Γ : tX) (N0 : Nat → Nat) : tS → State → Prop := tB (xG Γ) (xad Γ) (xA Γ) N0
section TCALL
variable {Γ : tX} {cc : ByteArray} {own : String} {f L : Nat} {N0 : Nat → Nat} {uc us pc : Nat} {lv lv' : List (Nat × Value)} {st : List Value} {S : tS}
theorem tj_pre (C : TC Γ cc own f L) {H : Heap} {locs : List Loc} (hH : tH (xG Γ) (xad Γ) (xA Γ) S H) (hS : va_S (xA Γ) (xs Γ).heap H locs) (av : List Value) : ∀ U : State, U.heap = H → (xs Γ).WarmedH U.vm → tSP Γ av S av.toArray U := fun U hU hW =>
  ⟨rfl, fun q hq => C.A q (Nat.le_trans hS.1 (by rw [← hU]; exact hq)), by rw [hU]; exact hH, tK_warm hW C.K, by rw [hU]; exact (C.Z.kept hS.2.1).moved hW.alike⟩
theorem tj_recv (C : TC Γ cc own f L) {H : Heap} {b k : Nat} {q : vw_C} (hH : tH (xG Γ) (xad Γ) (xA Γ) S H) (h0 : gN S b ≠ 0) (hk : b % 32 = k) (hk16 : k < 16) (hc : tcl[k]? = some q) : ∃ cell : Cell, H[xad Γ b]? = some cell ∧ cell.vm.isStatics = false ∧ (xs Γ).vm.findClass q.1 = some cell.cls := by
  have hP := tH_one hH (t := b) h0
  rw [tEn_o _ _ _ hk hk16] at hP
  exact va_recv C.K.1 hP hc (q0 := 0) rfl
theorem tj_callVi (C : TC Γ cc own f L) {y : MethodName} {bytes : ByteArray} {maxL f1 L1 n index : Nat} {post : Int32 → tS → Prop} (As rest : List Value) {b k : Nat} {T : u_T} {N : Nat} (hM : gN S = N0 → Met (xl Γ) y (ws_ y bytes maxL (some .int)) (tRm f1 L1) (tSP Γ (.ref (xad Γ b) :: As) S) (va_Qi post (tBB Γ (gN S)) (xA Γ)) 0 0 (xA Γ)) (hlk : GoodIn lw_all (wsV own index y.cls y (ws_ y bytes maxL (some .int)))) (hy : tyOk y n) (hn : As.length = n) (hf : f1 + 1 ≤ f) (hL : 8 + (maxL + 11) + L1 ≤ L) (hrest : (rest.map fun v => v.category).sum ≤ 8) (h0 : N0 b ≠ 0) (hk : b % 32 = k) (hk16 : k < 16) (hc : tcl[k]? = some (y.cls, T, N)) (hst : st = As.reverse ++ .ref (xad Γ b) :: rest) (hd : decode cc pc = .ok (.invokevirtual index, 3)) (kk : ∀ (r : Int32) (u : tS), post r u → TJ Γ N0 uc us (pc + 3) lv (.int r :: rest) u) : TJ Γ N0 uc us pc lv st S := by
  intro h1 h2 h3 H locs ls hH hS hl
  exact va_calli (va_runV (As := As) (rest := rest) ⟨C.x, C.b, C.ml, C.ow, C.ts⟩ (hM h1) (cwV n C.ts hlk rfl rfl rfl ⟨rfl, hy⟩ ⟨Nat.le_trans hf C.fr, Nat.le_trans hL C.lo⟩) ⟨tPre_blind, tj_recv C hH (by rw [h1]; exact h0) hk hk16 hc, tj_pre C hH hS _⟩ rfl hn hl.1 hst (lv_room hrest) hd ⟨h2, h3⟩) hS (fun q _ h => h) (fun q h => h) (fun r u t H1 locs1 ht hvm hp hB hz hk hS1 => kk r u hp (hB.2.trans h1) h2 h3 H1 locs1 ls (by rw [← ht]; exact hB.1) hS1 hl)
theorem tj_callSi (C : TC Γ cc own f L) {y : MethodName} {bytes : ByteArray} {maxL f1 L1 n index : Nat} {post : Int32 → tS → Prop} (As rest : List Value) (hM : gN S = N0 → Met (xl Γ) y (ws_ y bytes maxL (some .int)) (tRm f1 L1) (tSP Γ (As) S) (va_Qi post (tBB Γ (gN S)) (xA Γ)) 0 0 (xA Γ)) (hlk : GoodIn lw_all (va_wsS own index y (ws_ y bytes maxL (some .int)))) (hy : tyOk y n) (hn : As.length = n) (hf : f1 + 1 ≤ f) (hL : 8 + (maxL + 11) + L1 ≤ L) (hrest : (rest.map fun v => v.category).sum ≤ 8) (hst : st = As.reverse ++ rest) (hd : decode cc pc = .ok (.invokestatic index, 3)) (kk : ∀ (r : Int32) (u : tS), post r u → TJ Γ N0 uc us (pc + 3) lv (.int r :: rest) u) : TJ Γ N0 uc us pc lv st S := by
  intro h1 h2 h3 H locs ls hH hS hl
  exact va_calli (va_runS (As := As) (rest := rest) ⟨C.x, C.b, C.ml, C.ow, C.ts⟩ (hM h1) (va_cwS n C.ts hlk rfl rfl rfl hy ⟨Nat.le_trans hf C.fr, Nat.le_trans hL C.lo⟩) ⟨tPre_blind, tj_pre C hH hS _⟩ rfl hn hl.1 hst (lv_room hrest) hd ⟨h2, h3⟩) hS (fun q _ h => h) (fun q h => h) (fun r u t H1 locs1 ht hvm hp hB hz hk hS1 => kk r u hp (hB.2.trans h1) h2 h3 H1 locs1 ls (by rw [← ht]; exact hB.1) hS1 hl)
theorem tj_callSNi (C : TC Γ cc own f L) {y : MethodName} {bytes : ByteArray} {maxL f1 L1 n index : Nat} {post : Int32 → tS → Prop} (As rest : List Value) {host : String} (hM : gN S = N0 → Met (xl Γ) y (ws_ y bytes maxL (some .int)) (tRm f1 L1) (tSP Γ (As) S) (va_Qi post (tBB Γ (gN S)) (xA Γ)) 0 0 (xA Γ)) (hlk : GoodIn lw_all (ws_ y bytes maxL (some .int))) (hnl : Cond.methodLinkNest own index y host ∈ lw_tbl) (hini : Cond.initialized y.cls ∈ lw_all) (hsta : Cond.static y ∈ lw_all) (hy : tyOk y n) (hn : As.length = n) (hf : f1 + 1 ≤ f) (hL : 8 + (maxL + 11) + L1 ≤ L) (hrest : (rest.map fun v => v.category).sum ≤ 8) (hst : st = As.reverse ++ rest) (hd : decode cc pc = .ok (.invokestatic index, 3)) (kk : ∀ (r : Int32) (u : tS), post r u → TJ Γ N0 uc us (pc + 3) lv (.int r :: rest) u) : TJ Γ N0 uc us pc lv st S := by
  intro h1 h2 h3 H locs ls hH hS hl
  exact va_calli (va_runSN (As := As) (rest := rest) ⟨C.x, C.b, C.ml, C.ow, C.ts⟩ (hM h1) ⟨va_cnB n C.ts hlk rfl rfl rfl (C.K.2.1 _ hnl rfl) (C.ts _ hini) hy ⟨Nat.le_trans hf C.fr, Nat.le_trans hL C.lo⟩, C.ts _ hsta, trivial⟩ ⟨tPre_blind, tj_pre C hH hS _⟩ rfl hn hl.1 hst (lv_room hrest) hd ⟨h2, h3⟩) hS (fun q _ h => h) (fun q h => h) (fun r u t H1 locs1 ht hvm hp hB hz hk hS1 => kk r u hp (hB.2.trans h1) h2 h3 H1 locs1 ls (by rw [← ht]; exact hB.1) hS1 hl)
theorem tj_callVz (C : TC Γ cc own f L) {y : MethodName} {bytes : ByteArray} {maxL f1 L1 n index : Nat} {post : Int32 → tS → Prop} (As rest : List Value) {b k : Nat} {T : u_T} {N : Nat} (hM : gN S = N0 → Met (xl Γ) y (ws_ y bytes maxL (some .boolean)) (tRm f1 L1) (tSP Γ (.ref (xad Γ b) :: As) S) (va_Qi post (tBB Γ (gN S)) (xA Γ)) 0 0 (xA Γ)) (hlk : GoodIn lw_all (wsV own index y.cls y (ws_ y bytes maxL (some .boolean)))) (hy : tyOk y n) (hn : As.length = n) (hf : f1 + 1 ≤ f) (hL : 8 + (maxL + 11) + L1 ≤ L) (hrest : (rest.map fun v => v.category).sum ≤ 8) (h0 : N0 b ≠ 0) (hk : b % 32 = k) (hk16 : k < 16) (hc : tcl[k]? = some (y.cls, T, N)) (hst : st = As.reverse ++ .ref (xad Γ b) :: rest) (hd : decode cc pc = .ok (.invokevirtual index, 3)) (kk : ∀ (r : Int32) (u : tS), post r u → TJ Γ N0 uc us (pc + 3) lv (.int r :: rest) u) : TJ Γ N0 uc us pc lv st S := by
  intro h1 h2 h3 H locs ls hH hS hl
  exact va_calli (va_runV (As := As) (rest := rest) ⟨C.x, C.b, C.ml, C.ow, C.ts⟩ (hM h1) (cwV n C.ts hlk rfl rfl rfl ⟨rfl, hy⟩ ⟨Nat.le_trans hf C.fr, Nat.le_trans hL C.lo⟩) ⟨tPre_blind, tj_recv C hH (by rw [h1]; exact h0) hk hk16 hc, tj_pre C hH hS _⟩ rfl hn hl.1 hst (lv_room hrest) hd ⟨h2, h3⟩) hS (fun q _ h => h) (fun q h => h) (fun r u t H1 locs1 ht hvm hp hB hz hk hS1 => kk r u hp (hB.2.trans h1) h2 h3 H1 locs1 ls (by rw [← ht]; exact hB.1) hS1 hl)
theorem tj_callSz (C : TC Γ cc own f L) {y : MethodName} {bytes : ByteArray} {maxL f1 L1 n index : Nat} {post : Int32 → tS → Prop} (As rest : List Value) (hM : gN S = N0 → Met (xl Γ) y (ws_ y bytes maxL (some .boolean)) (tRm f1 L1) (tSP Γ (As) S) (va_Qi post (tBB Γ (gN S)) (xA Γ)) 0 0 (xA Γ)) (hlk : GoodIn lw_all (va_wsS own index y (ws_ y bytes maxL (some .boolean)))) (hy : tyOk y n) (hn : As.length = n) (hf : f1 + 1 ≤ f) (hL : 8 + (maxL + 11) + L1 ≤ L) (hrest : (rest.map fun v => v.category).sum ≤ 8) (hst : st = As.reverse ++ rest) (hd : decode cc pc = .ok (.invokestatic index, 3)) (kk : ∀ (r : Int32) (u : tS), post r u → TJ Γ N0 uc us (pc + 3) lv (.int r :: rest) u) : TJ Γ N0 uc us pc lv st S := by
  intro h1 h2 h3 H locs ls hH hS hl
  exact va_calli (va_runS (As := As) (rest := rest) ⟨C.x, C.b, C.ml, C.ow, C.ts⟩ (hM h1) (va_cwS n C.ts hlk rfl rfl rfl hy ⟨Nat.le_trans hf C.fr, Nat.le_trans hL C.lo⟩) ⟨tPre_blind, tj_pre C hH hS _⟩ rfl hn hl.1 hst (lv_room hrest) hd ⟨h2, h3⟩) hS (fun q _ h => h) (fun q h => h) (fun r u t H1 locs1 ht hvm hp hB hz hk hS1 => kk r u hp (hB.2.trans h1) h2 h3 H1 locs1 ls (by rw [← ht]; exact hB.1) hS1 hl)
theorem tj_callSNz (C : TC Γ cc own f L) {y : MethodName} {bytes : ByteArray} {maxL f1 L1 n index : Nat} {post : Int32 → tS → Prop} (As rest : List Value) {host : String} (hM : gN S = N0 → Met (xl Γ) y (ws_ y bytes maxL (some .boolean)) (tRm f1 L1) (tSP Γ (As) S) (va_Qi post (tBB Γ (gN S)) (xA Γ)) 0 0 (xA Γ)) (hlk : GoodIn lw_all (ws_ y bytes maxL (some .boolean))) (hnl : Cond.methodLinkNest own index y host ∈ lw_tbl) (hini : Cond.initialized y.cls ∈ lw_all) (hsta : Cond.static y ∈ lw_all) (hy : tyOk y n) (hn : As.length = n) (hf : f1 + 1 ≤ f) (hL : 8 + (maxL + 11) + L1 ≤ L) (hrest : (rest.map fun v => v.category).sum ≤ 8) (hst : st = As.reverse ++ rest) (hd : decode cc pc = .ok (.invokestatic index, 3)) (kk : ∀ (r : Int32) (u : tS), post r u → TJ Γ N0 uc us (pc + 3) lv (.int r :: rest) u) : TJ Γ N0 uc us pc lv st S := by
  intro h1 h2 h3 H locs ls hH hS hl
  exact va_calli (va_runSN (As := As) (rest := rest) ⟨C.x, C.b, C.ml, C.ow, C.ts⟩ (hM h1) ⟨va_cnB n C.ts hlk rfl rfl rfl (C.K.2.1 _ hnl rfl) (C.ts _ hini) hy ⟨Nat.le_trans hf C.fr, Nat.le_trans hL C.lo⟩, C.ts _ hsta, trivial⟩ ⟨tPre_blind, tj_pre C hH hS _⟩ rfl hn hl.1 hst (lv_room hrest) hd ⟨h2, h3⟩) hS (fun q _ h => h) (fun q h => h) (fun r u t H1 locs1 ht hvm hp hB hz hk hS1 => kk r u hp (hB.2.trans h1) h2 h3 H1 locs1 ls (by rw [← ht]; exact hB.1) hS1 hl)
theorem tj_callVl (C : TC Γ cc own f L) {y : MethodName} {bytes : ByteArray} {maxL f1 L1 n index : Nat} {post : Int64 → tS → Prop} (As rest : List Value) {b k : Nat} {T : u_T} {N : Nat} (hM : gN S = N0 → Met (xl Γ) y (ws_ y bytes maxL (some .long)) (tRm f1 L1) (tSP Γ (.ref (xad Γ b) :: As) S) (va_Ql post (tBB Γ (gN S)) (xA Γ)) 0 0 (xA Γ)) (hlk : GoodIn lw_all (wsV own index y.cls y (ws_ y bytes maxL (some .long)))) (hy : tyOk y n) (hn : As.length = n) (hf : f1 + 1 ≤ f) (hL : 8 + (maxL + 11) + L1 ≤ L) (hrest : (rest.map fun v => v.category).sum ≤ 8) (h0 : N0 b ≠ 0) (hk : b % 32 = k) (hk16 : k < 16) (hc : tcl[k]? = some (y.cls, T, N)) (hst : st = As.reverse ++ .ref (xad Γ b) :: rest) (hd : decode cc pc = .ok (.invokevirtual index, 3)) (kk : ∀ (r : Int64) (u : tS), post r u → TJ Γ N0 uc us (pc + 3) lv (.long r :: rest) u) : TJ Γ N0 uc us pc lv st S := by
  intro h1 h2 h3 H locs ls hH hS hl
  exact va_calll (va_runV (As := As) (rest := rest) ⟨C.x, C.b, C.ml, C.ow, C.ts⟩ (hM h1) (cwV n C.ts hlk rfl rfl rfl ⟨rfl, hy⟩ ⟨Nat.le_trans hf C.fr, Nat.le_trans hL C.lo⟩) ⟨tPre_blind, tj_recv C hH (by rw [h1]; exact h0) hk hk16 hc, tj_pre C hH hS _⟩ rfl hn hl.1 hst (lv_room hrest) hd ⟨h2, h3⟩) hS (fun q _ h => h) (fun q h => h) (fun r u t H1 locs1 ht hvm hp hB hz hk hS1 => kk r u hp (hB.2.trans h1) h2 h3 H1 locs1 ls (by rw [← ht]; exact hB.1) hS1 hl)
theorem tj_callSl (C : TC Γ cc own f L) {y : MethodName} {bytes : ByteArray} {maxL f1 L1 n index : Nat} {post : Int64 → tS → Prop} (As rest : List Value) (hM : gN S = N0 → Met (xl Γ) y (ws_ y bytes maxL (some .long)) (tRm f1 L1) (tSP Γ (As) S) (va_Ql post (tBB Γ (gN S)) (xA Γ)) 0 0 (xA Γ)) (hlk : GoodIn lw_all (va_wsS own index y (ws_ y bytes maxL (some .long)))) (hy : tyOk y n) (hn : As.length = n) (hf : f1 + 1 ≤ f) (hL : 8 + (maxL + 11) + L1 ≤ L) (hrest : (rest.map fun v => v.category).sum ≤ 8) (hst : st = As.reverse ++ rest) (hd : decode cc pc = .ok (.invokestatic index, 3)) (kk : ∀ (r : Int64) (u : tS), post r u → TJ Γ N0 uc us (pc + 3) lv (.long r :: rest) u) : TJ Γ N0 uc us pc lv st S := by
  intro h1 h2 h3 H locs ls hH hS hl
  exact va_calll (va_runS (As := As) (rest := rest) ⟨C.x, C.b, C.ml, C.ow, C.ts⟩ (hM h1) (va_cwS n C.ts hlk rfl rfl rfl hy ⟨Nat.le_trans hf C.fr, Nat.le_trans hL C.lo⟩) ⟨tPre_blind, tj_pre C hH hS _⟩ rfl hn hl.1 hst (lv_room hrest) hd ⟨h2, h3⟩) hS (fun q _ h => h) (fun q h => h) (fun r u t H1 locs1 ht hvm hp hB hz hk hS1 => kk r u hp (hB.2.trans h1) h2 h3 H1 locs1 ls (by rw [← ht]; exact hB.1) hS1 hl)
theorem tj_callSNl (C : TC Γ cc own f L) {y : MethodName} {bytes : ByteArray} {maxL f1 L1 n index : Nat} {post : Int64 → tS → Prop} (As rest : List Value) {host : String} (hM : gN S = N0 → Met (xl Γ) y (ws_ y bytes maxL (some .long)) (tRm f1 L1) (tSP Γ (As) S) (va_Ql post (tBB Γ (gN S)) (xA Γ)) 0 0 (xA Γ)) (hlk : GoodIn lw_all (ws_ y bytes maxL (some .long))) (hnl : Cond.methodLinkNest own index y host ∈ lw_tbl) (hini : Cond.initialized y.cls ∈ lw_all) (hsta : Cond.static y ∈ lw_all) (hy : tyOk y n) (hn : As.length = n) (hf : f1 + 1 ≤ f) (hL : 8 + (maxL + 11) + L1 ≤ L) (hrest : (rest.map fun v => v.category).sum ≤ 8) (hst : st = As.reverse ++ rest) (hd : decode cc pc = .ok (.invokestatic index, 3)) (kk : ∀ (r : Int64) (u : tS), post r u → TJ Γ N0 uc us (pc + 3) lv (.long r :: rest) u) : TJ Γ N0 uc us pc lv st S := by
  intro h1 h2 h3 H locs ls hH hS hl
  exact va_calll (va_runSN (As := As) (rest := rest) ⟨C.x, C.b, C.ml, C.ow, C.ts⟩ (hM h1) ⟨va_cnB n C.ts hlk rfl rfl rfl (C.K.2.1 _ hnl rfl) (C.ts _ hini) hy ⟨Nat.le_trans hf C.fr, Nat.le_trans hL C.lo⟩, C.ts _ hsta, trivial⟩ ⟨tPre_blind, tj_pre C hH hS _⟩ rfl hn hl.1 hst (lv_room hrest) hd ⟨h2, h3⟩) hS (fun q _ h => h) (fun q h => h) (fun r u t H1 locs1 ht hvm hp hB hz hk hS1 => kk r u hp (hB.2.trans h1) h2 h3 H1 locs1 ls (by rw [← ht]; exact hB.1) hS1 hl)
theorem tj_callVv (C : TC Γ cc own f L) {y : MethodName} {bytes : ByteArray} {maxL f1 L1 n index : Nat} {post : tS → Prop} (As rest : List Value) {b k : Nat} {T : u_T} {N : Nat} (hM : gN S = N0 → Met (xl Γ) y (ws_ y bytes maxL (none)) (tRm f1 L1) (tSP Γ (.ref (xad Γ b) :: As) S) (va_Qv post (tBB Γ (gN S)) (xA Γ)) 0 0 (xA Γ)) (hlk : GoodIn lw_all (wsV own index y.cls y (ws_ y bytes maxL (none)))) (hy : tyOk y n) (hn : As.length = n) (hf : f1 + 1 ≤ f) (hL : 8 + (maxL + 11) + L1 ≤ L) (hrest : (rest.map fun v => v.category).sum ≤ 8) (h0 : N0 b ≠ 0) (hk : b % 32 = k) (hk16 : k < 16) (hc : tcl[k]? = some (y.cls, T, N)) (hst : st = As.reverse ++ .ref (xad Γ b) :: rest) (hd : decode cc pc = .ok (.invokevirtual index, 3)) (kk : ∀ u : tS, post u → TJ Γ N0 uc us (pc + 3) lv rest u) : TJ Γ N0 uc us pc lv st S := by
  intro h1 h2 h3 H locs ls hH hS hl
  exact va_callv (va_runV (As := As) (rest := rest) ⟨C.x, C.b, C.ml, C.ow, C.ts⟩ (hM h1) (cwV n C.ts hlk rfl rfl rfl ⟨rfl, hy⟩ ⟨Nat.le_trans hf C.fr, Nat.le_trans hL C.lo⟩) ⟨tPre_blind, tj_recv C hH (by rw [h1]; exact h0) hk hk16 hc, tj_pre C hH hS _⟩ rfl hn hl.1 hst (lv_room hrest) hd ⟨h2, h3⟩) hS (fun q _ h => h) (fun q h => h) (fun u t H1 locs1 ht hvm hp hB hz hk hS1 => kk u hp (hB.2.trans h1) h2 h3 H1 locs1 ls (by rw [← ht]; exact hB.1) hS1 hl)
theorem tj_callSv (C : TC Γ cc own f L) {y : MethodName} {bytes : ByteArray} {maxL f1 L1 n index : Nat} {post : tS → Prop} (As rest : List Value) (hM : gN S = N0 → Met (xl Γ) y (ws_ y bytes maxL (none)) (tRm f1 L1) (tSP Γ (As) S) (va_Qv post (tBB Γ (gN S)) (xA Γ)) 0 0 (xA Γ)) (hlk : GoodIn lw_all (va_wsS own index y (ws_ y bytes maxL (none)))) (hy : tyOk y n) (hn : As.length = n) (hf : f1 + 1 ≤ f) (hL : 8 + (maxL + 11) + L1 ≤ L) (hrest : (rest.map fun v => v.category).sum ≤ 8) (hst : st = As.reverse ++ rest) (hd : decode cc pc = .ok (.invokestatic index, 3)) (kk : ∀ u : tS, post u → TJ Γ N0 uc us (pc + 3) lv rest u) : TJ Γ N0 uc us pc lv st S := by
  intro h1 h2 h3 H locs ls hH hS hl
  exact va_callv (va_runS (As := As) (rest := rest) ⟨C.x, C.b, C.ml, C.ow, C.ts⟩ (hM h1) (va_cwS n C.ts hlk rfl rfl rfl hy ⟨Nat.le_trans hf C.fr, Nat.le_trans hL C.lo⟩) ⟨tPre_blind, tj_pre C hH hS _⟩ rfl hn hl.1 hst (lv_room hrest) hd ⟨h2, h3⟩) hS (fun q _ h => h) (fun q h => h) (fun u t H1 locs1 ht hvm hp hB hz hk hS1 => kk u hp (hB.2.trans h1) h2 h3 H1 locs1 ls (by rw [← ht]; exact hB.1) hS1 hl)
theorem tj_callSNv (C : TC Γ cc own f L) {y : MethodName} {bytes : ByteArray} {maxL f1 L1 n index : Nat} {post : tS → Prop} (As rest : List Value) {host : String} (hM : gN S = N0 → Met (xl Γ) y (ws_ y bytes maxL (none)) (tRm f1 L1) (tSP Γ (As) S) (va_Qv post (tBB Γ (gN S)) (xA Γ)) 0 0 (xA Γ)) (hlk : GoodIn lw_all (ws_ y bytes maxL (none))) (hnl : Cond.methodLinkNest own index y host ∈ lw_tbl) (hini : Cond.initialized y.cls ∈ lw_all) (hsta : Cond.static y ∈ lw_all) (hy : tyOk y n) (hn : As.length = n) (hf : f1 + 1 ≤ f) (hL : 8 + (maxL + 11) + L1 ≤ L) (hrest : (rest.map fun v => v.category).sum ≤ 8) (hst : st = As.reverse ++ rest) (hd : decode cc pc = .ok (.invokestatic index, 3)) (kk : ∀ u : tS, post u → TJ Γ N0 uc us (pc + 3) lv rest u) : TJ Γ N0 uc us pc lv st S := by
  intro h1 h2 h3 H locs ls hH hS hl
  exact va_callv (va_runSN (As := As) (rest := rest) ⟨C.x, C.b, C.ml, C.ow, C.ts⟩ (hM h1) ⟨va_cnB n C.ts hlk rfl rfl rfl (C.K.2.1 _ hnl rfl) (C.ts _ hini) hy ⟨Nat.le_trans hf C.fr, Nat.le_trans hL C.lo⟩, C.ts _ hsta, trivial⟩ ⟨tPre_blind, tj_pre C hH hS _⟩ rfl hn hl.1 hst (lv_room hrest) hd ⟨h2, h3⟩) hS (fun q _ h => h) (fun q h => h) (fun u t H1 locs1 ht hvm hp hB hz hk hS1 => kk u hp (hB.2.trans h1) h2 h3 H1 locs1 ls (by rw [← ht]; exact hB.1) hS1 hl)
theorem tj_callVa (C : TC Γ cc own f L) {y : MethodName} {bytes : ByteArray} {maxL f1 L1 n index tg : Nat} {rt : FieldType} {post : tS → Prop} (As rest : List Value) {b k : Nat} {T : u_T} {N : Nat} (hM : gN S = N0 → Met (xl Γ) y (ws_ y bytes maxL (some rt)) (tRm f1 L1) (tSP Γ (.ref (xad Γ b) :: As) S) (va_Qr post (fun u ra t => ra = xad Γ tg ∧ tBB Γ (gN S) u t) (xA Γ)) 0 0 (xA Γ)) (hlk : GoodIn lw_all (wsV own index y.cls y (ws_ y bytes maxL (some rt)))) (hy : tyOk y n) (hn : As.length = n) (hf : f1 + 1 ≤ f) (hL : 8 + (maxL + 11) + L1 ≤ L) (hrest : (rest.map fun v => v.category).sum ≤ 8) (h0 : N0 b ≠ 0) (hk : b % 32 = k) (hk16 : k < 16) (hc : tcl[k]? = some (y.cls, T, N)) (hst : st = As.reverse ++ .ref (xad Γ b) :: rest) (hd : decode cc pc = .ok (.invokevirtual index, 3)) (kk : ∀ u : tS, post u → TJ Γ N0 uc us (pc + 3) lv (.ref (xad Γ tg) :: rest) u) : TJ Γ N0 uc us pc lv st S := by
  intro h1 h2 h3 H locs ls hH hS hl
  exact va_callr (va_runV (As := As) (rest := rest) ⟨C.x, C.b, C.ml, C.ow, C.ts⟩ (hM h1) (cwV n C.ts hlk rfl rfl rfl ⟨rfl, hy⟩ ⟨Nat.le_trans hf C.fr, Nat.le_trans hL C.lo⟩) ⟨tPre_blind, tj_recv C hH (by rw [h1]; exact h0) hk hk16 hc, tj_pre C hH hS _⟩ rfl hn hl.1 hst (lv_room hrest) hd ⟨h2, h3⟩) hS (fun q _ h => h) (fun q h => h) (fun u ra t H1 locs1 ht hvm hp hB hz hk hS1 => by rw [hB.1]; exact kk u hp (hB.2.2.trans h1) h2 h3 H1 locs1 ls (by rw [← ht]; exact hB.2.1) hS1 hl)
end TCALL
def TRi (Γ : tX) (N0 : Nat → Nat) (cc : ByteArray) (K : Int32 → tS → Prop) : Prop := ∀ (pc : Nat) (lv : List (Nat × Value)) (v : Int32) (S : tS), decode cc pc = .ok (.ireturn, 1) → K v S → TJ Γ N0 0 0 pc lv [.int v] S
def TRl (Γ : tX) (N0 : Nat → Nat) (cc : ByteArray) (K : Int64 → tS → Prop) : Prop := ∀ (pc : Nat) (lv : List (Nat × Value)) (v : Int64) (S : tS), decode cc pc = .ok (.lreturn, 1) → K v S → TJ Γ N0 0 0 pc lv [.long v] S
def TRz (Γ : tX) (N0 : Nat → Nat) (cc : ByteArray) (K : Int32 → tS → Prop) : Prop := ∀ (pc : Nat) (lv : List (Nat × Value)) (v : Int32) (S : tS), decode cc pc = .ok (.ireturn, 1) → v &&& 1 = v → K v S → TJ Γ N0 0 0 pc lv [.int v] S
def TRv (Γ : tX) (N0 : Nat → Nat) (cc : ByteArray) (K : tS → Prop) : Prop := ∀ (pc : Nat) (lv : List (Nat × Value)) (S : tS), decode cc pc = .ok (.return_, 1) → K S → TJ Γ N0 0 0 pc lv [] S
theorem tj_met_i {l : Launch} {y : MethodName} {cc : ByteArray} {nL f L : Nat} {av : List Value} (lv : List (Nat × Value)) {G : tG} {ad : Nat → Nat} {A : Nat → Prop} {S : tS} {K : Int32 → tS → Prop} (hy : plainName y.cls = true) (hlv : lv_args 0 av = lv) (hsl : (lg_sl av).length ≤ nL)
    (body : ∀ (p : Program) (e : Env) (R : Room) (s : State) (m : MethodId) (args : Array Value) (below : List Frame) (meth : Method) (c : Code) (Q : State → Prop), TC (G, A, p, l, e, R, s, m, args, below, meth, c, Q, ad, nL) cc y.cls f L → tWf (gN S) → TRi (G, A, p, l, e, R, s, m, args, below, meth, c, Q, ad, nL) (gN S) cc K → TJ (G, A, p, l, e, R, s, m, args, below, meth, c, Q, ad, nL) (gN S) 0 0 0 lv [] S) :
    Met l y (ws_ y cc nL (some .int)) (tRm f L) (va_Pc av (tPre G ad A S)) (va_Qi K (tB G ad A (gN S)) A) 0 0 A := by
  refine Met.ofW (cc := cc) (maxL := nL) (ret := some .int) hy rfl ?_
  intro p e s m args below meth c s₁ B hml hv
  obtain ⟨rfl, hA, hH, hK, hZ⟩ := hv
  rw [lg_entry_eq]
  have hl := lv_entry av hsl
  generalize (lg_sl av ++ List.replicate (nL - (lg_sl av).length) Slot.unset).toArray = ls at hl ⊢
  rw [hlv] at hl
  have hts := atoms_spec (ws := ws_ y cc nL (some .int)) B.pre
  refine body p e _ s m _ below meth c _ ⟨B.exec, B.bytes, hml, findClass_of_methodNamed B.named, fun w h => hts w (List.mem_cons_of_mem _ h), B.notSynchronized, hK, hA, Nat.le_refl _, Nat.le_refl _, hZ⟩ hH.1 ?_ rfl (Nat.zero_le _) (Nat.zero_le _) s.heap [] ls hH va_S.rf hl
  intro pc lv v S1 hd hKv hN _ _ H locs ls hH1 hS _
  exact W.iret (v := v) B.exec B.bytes B.returns (fun t ht hW => ⟨⟨v, S1, rfl, hKv, by rw [ht]; exact hH1, hN⟩, hS.F ht⟩) hS.2.2 hd B.notSynchronized
theorem tj_met_l {l : Launch} {y : MethodName} {cc : ByteArray} {nL f L : Nat} {av : List Value} (lv : List (Nat × Value)) {G : tG} {ad : Nat → Nat} {A : Nat → Prop} {S : tS} {K : Int64 → tS → Prop} (hy : plainName y.cls = true) (hlv : lv_args 0 av = lv) (hsl : (lg_sl av).length ≤ nL)
    (body : ∀ (p : Program) (e : Env) (R : Room) (s : State) (m : MethodId) (args : Array Value) (below : List Frame) (meth : Method) (c : Code) (Q : State → Prop), TC (G, A, p, l, e, R, s, m, args, below, meth, c, Q, ad, nL) cc y.cls f L → tWf (gN S) → TRl (G, A, p, l, e, R, s, m, args, below, meth, c, Q, ad, nL) (gN S) cc K → TJ (G, A, p, l, e, R, s, m, args, below, meth, c, Q, ad, nL) (gN S) 0 0 0 lv [] S) :
    Met l y (ws_ y cc nL (some .long)) (tRm f L) (va_Pc av (tPre G ad A S)) (va_Ql K (tB G ad A (gN S)) A) 0 0 A := by
  refine Met.ofW (cc := cc) (maxL := nL) (ret := some .long) hy rfl ?_
  intro p e s m args below meth c s₁ B hml hv
  obtain ⟨rfl, hA, hH, hK, hZ⟩ := hv
  rw [lg_entry_eq]
  have hl := lv_entry av hsl
  generalize (lg_sl av ++ List.replicate (nL - (lg_sl av).length) Slot.unset).toArray = ls at hl ⊢
  rw [hlv] at hl
  have hts := atoms_spec (ws := ws_ y cc nL (some .long)) B.pre
  refine body p e _ s m _ below meth c _ ⟨B.exec, B.bytes, hml, findClass_of_methodNamed B.named, fun w h => hts w (List.mem_cons_of_mem _ h), B.notSynchronized, hK, hA, Nat.le_refl _, Nat.le_refl _, hZ⟩ hH.1 ?_ rfl (Nat.zero_le _) (Nat.zero_le _) s.heap [] ls hH va_S.rf hl
  intro pc lv v S1 hd hKv hN _ _ H locs ls hH1 hS _
  exact W.lret (v := v) B.exec B.bytes B.returns (fun t ht hW => ⟨⟨v, S1, rfl, hKv, by rw [ht]; exact hH1, hN⟩, hS.F ht⟩) hS.2.2 hd B.notSynchronized
theorem tj_met_z {l : Launch} {y : MethodName} {cc : ByteArray} {nL f L : Nat} {av : List Value} (lv : List (Nat × Value)) {G : tG} {ad : Nat → Nat} {A : Nat → Prop} {S : tS} {K : Int32 → tS → Prop} (hy : plainName y.cls = true) (hlv : lv_args 0 av = lv) (hsl : (lg_sl av).length ≤ nL)
    (body : ∀ (p : Program) (e : Env) (R : Room) (s : State) (m : MethodId) (args : Array Value) (below : List Frame) (meth : Method) (c : Code) (Q : State → Prop), TC (G, A, p, l, e, R, s, m, args, below, meth, c, Q, ad, nL) cc y.cls f L → tWf (gN S) → TRz (G, A, p, l, e, R, s, m, args, below, meth, c, Q, ad, nL) (gN S) cc K → TJ (G, A, p, l, e, R, s, m, args, below, meth, c, Q, ad, nL) (gN S) 0 0 0 lv [] S) :
    Met l y (ws_ y cc nL (some .boolean)) (tRm f L) (va_Pc av (tPre G ad A S)) (va_Qi (fun r u => r &&& 1 = r ∧ K r u) (tB G ad A (gN S)) A) 0 0 A := by
  refine Met.ofW (cc := cc) (maxL := nL) (ret := some .boolean) hy rfl ?_
  intro p e s m args below meth c s₁ B hml hv
  obtain ⟨rfl, hA, hH, hK, hZ⟩ := hv
  rw [lg_entry_eq]
  have hl := lv_entry av hsl
  generalize (lg_sl av ++ List.replicate (nL - (lg_sl av).length) Slot.unset).toArray = ls at hl ⊢
  rw [hlv] at hl
  have hts := atoms_spec (ws := ws_ y cc nL (some .boolean)) B.pre
  refine body p e _ s m _ below meth c _ ⟨B.exec, B.bytes, hml, findClass_of_methodNamed B.named, fun w h => hts w (List.mem_cons_of_mem _ h), B.notSynchronized, hK, hA, Nat.le_refl _, Nat.le_refl _, hZ⟩ hH.1 ?_ rfl (Nat.zero_le _) (Nat.zero_le _) s.heap [] ls hH va_S.rf hl
  intro pc lv v S1 hd hz hKv hN _ _ H locs ls hH1 hS _
  exact W.zret (v := v) B.exec B.bytes B.returns (by show Value.int (v &&& 1) = Value.int v; rw [hz]) (fun t ht hW => ⟨⟨v, S1, rfl, ⟨hz, hKv⟩, by rw [ht]; exact hH1, hN⟩, hS.F ht⟩) hS.2.2 hd B.notSynchronized
theorem tj_met_v {l : Launch} {y : MethodName} {cc : ByteArray} {nL f L : Nat} {av : List Value} (lv : List (Nat × Value)) {G : tG} {ad : Nat → Nat} {A : Nat → Prop} {S : tS} {K : tS → Prop} (hy : plainName y.cls = true) (hlv : lv_args 0 av = lv) (hsl : (lg_sl av).length ≤ nL)
    (body : ∀ (p : Program) (e : Env) (R : Room) (s : State) (m : MethodId) (args : Array Value) (below : List Frame) (meth : Method) (c : Code) (Q : State → Prop), TC (G, A, p, l, e, R, s, m, args, below, meth, c, Q, ad, nL) cc y.cls f L → tWf (gN S) → TRv (G, A, p, l, e, R, s, m, args, below, meth, c, Q, ad, nL) (gN S) cc K → TJ (G, A, p, l, e, R, s, m, args, below, meth, c, Q, ad, nL) (gN S) 0 0 0 lv [] S) :
    Met l y (ws_ y cc nL (none)) (tRm f L) (va_Pc av (tPre G ad A S)) (va_Qv K (tB G ad A (gN S)) A) 0 0 A := by
  refine Met.ofW (cc := cc) (maxL := nL) (ret := none) hy rfl ?_
  intro p e s m args below meth c s₁ B hml hv
  obtain ⟨rfl, hA, hH, hK, hZ⟩ := hv
  rw [lg_entry_eq]
  have hl := lv_entry av hsl
  generalize (lg_sl av ++ List.replicate (nL - (lg_sl av).length) Slot.unset).toArray = ls at hl ⊢
  rw [hlv] at hl
  have hts := atoms_spec (ws := ws_ y cc nL (none)) B.pre
  refine body p e _ s m _ below meth c _ ⟨B.exec, B.bytes, hml, findClass_of_methodNamed B.named, fun w h => hts w (List.mem_cons_of_mem _ h), B.notSynchronized, hK, hA, Nat.le_refl _, Nat.le_refl _, hZ⟩ hH.1 ?_ rfl (Nat.zero_le _) (Nat.zero_le _) s.heap [] ls hH va_S.rf hl
  intro pc lv S1 hd hKv hN _ _ H locs ls hH1 hS _
  exact W.vret B.exec B.bytes B.returns (fun t ht hW => ⟨⟨S1, rfl, hKv, by rw [ht]; exact hH1, hN⟩, hS.F ht⟩) hS.2.2 hd B.notSynchronized
def TRa (Γ : tX) (N0 : Nat → Nat) (cc : ByteArray) (tg : Nat) (K : tS → Prop) : Prop := ∀ (pc : Nat) (lv : List (Nat × Value)) (S : tS), decode cc pc = .ok (.areturn, 1) → K S → TJ Γ N0 0 0 pc lv [.ref (xad Γ tg)] S
theorem tj_met_a {l : Launch} {y : MethodName} {cc : ByteArray} {nL f L tg : Nat} {cn : String} {av : List Value} (lv : List (Nat × Value)) {G : tG} {ad : Nat → Nat} {A : Nat → Prop} {S : tS} {K : tS → Prop} (hy : plainName y.cls = true) (hlv : lv_args 0 av = lv) (hsl : (lg_sl av).length ≤ nL)
    (body : ∀ (p : Program) (e : Env) (R : Room) (s : State) (m : MethodId) (args : Array Value) (below : List Frame) (meth : Method) (c : Code) (Q : State → Prop), TC (G, A, p, l, e, R, s, m, args, below, meth, c, Q, ad, nL) cc y.cls f L → tWf (gN S) → TRa (G, A, p, l, e, R, s, m, args, below, meth, c, Q, ad, nL) (gN S) cc tg K → TJ (G, A, p, l, e, R, s, m, args, below, meth, c, Q, ad, nL) (gN S) 0 0 0 lv [] S) :
    Met l y (ws_ y cc nL (some (.object cn))) (tRm f L) (va_Pc av (tPre G ad A S)) (va_Qr K (fun u ra t => ra = ad tg ∧ tB G ad A (gN S) u t) A) 0 0 A := by
  refine Met.ofW (cc := cc) (maxL := nL) (ret := some (.object cn)) hy rfl ?_
  intro p e s m args below meth c s₁ B hml hv
  obtain ⟨rfl, hA, hH, hK, hZ⟩ := hv
  rw [lg_entry_eq]
  have hl := lv_entry av hsl
  generalize (lg_sl av ++ List.replicate (nL - (lg_sl av).length) Slot.unset).toArray = ls at hl ⊢
  rw [hlv] at hl
  have hts := atoms_spec (ws := ws_ y cc nL (some (.object cn))) B.pre
  refine body p e _ s m _ below meth c _ ⟨B.exec, B.bytes, hml, findClass_of_methodNamed B.named, fun w h => hts w (List.mem_cons_of_mem _ h), B.notSynchronized, hK, hA, Nat.le_refl _, Nat.le_refl _, hZ⟩ hH.1 ?_ rfl (Nat.zero_le _) (Nat.zero_le _) s.heap [] ls hH va_S.rf hl
  intro pc lv S1 hd hKv hN _ _ H locs ls hH1 hS _
  exact W.aret (v := .ref (ad tg)) B.exec B.bytes B.returns (Or.inl ⟨_, rfl⟩) (Or.inr ⟨_, rfl⟩) (fun t ht hW => ⟨⟨S1, ad tg, rfl, hKv, rfl, by rw [ht]; exact hH1, hN⟩, hS.F ht⟩) hS.2.2 hd B.notSynchronized
theorem zb0 : nI 0 &&& 1 = nI 0 := by decide +kernel
theorem zb1 : nI 1 &&& 1 = nI 1 := by decide +kernel
theorem tsw_out {x : Int32} {lo n : Nat} (hn : lo + n < 2 ^ 31) (h : ∀ k : Nat, k < n → ¬ x = nI (lo + k)) : x.toInt < (lo : Int) ∨ (lo : Int) + n - 1 < x.toInt := by
  rcases Int.lt_or_le x.toInt lo with h1 | h1
  · exact Or.inl h1
  · rcases Int.lt_or_le ((lo : Int) + n - 1) x.toInt with h2 | h2
    · exact Or.inr h2
    · exfalso
      refine h (x.toInt - lo).toNat (by omega) ?_
      apply Int32.toInt_inj.mp
      rw [nI_toInt (by omega)]
      omega
section TSW
variable {Γ : tX} {cc : ByteArray} {own : String} {f L : Nat} {N0 : Nat → Nat} {uc us pc : Nat} {lv lv' : List (Nat × Value)} {st : List Value} {S : tS}
theorem tj_tswIn (C : TC Γ cc own f L) {dflt lo hi : Int} {offs : Array Int} {len : Nat} {x : Int32} (k : Nat) {off : Int} (tgt : Nat) (hk : k < 2 ^ 31) (hx : x = nI k) (h1 : ¬ (k : Int) < lo) (h2 : ¬ hi < (k : Int)) (ho : offs[((k : Int) - lo).toNat]? = some off) (ht : (pc : Int) + off = (tgt : Int)) (hd : decode cc pc = .ok (.tableswitch dflt lo hi offs, len)) (kk : TJ Γ N0 uc us tgt lv st S) : TJ Γ N0 uc us pc lv (.int x :: st) S := by
  intro g1 g2 g3 H locs ls hH hS hl
  have e : x.toInt = (k : Int) := by rw [hx, nI_toInt hk]
  exact lv_tableIn C.x C.b hd (by rw [e]; exact h1) (by rw [e]; exact h2) (by rw [e]; exact ho) ht (kk g1 g2 g3 H locs ls hH hS hl)
theorem tj_tswOut (C : TC Γ cc own f L) {dflt lo hi : Int} {offs : Array Int} {len : Nat} {x : Int32} (l0 n tgt : Nat) (hn : l0 + n < 2 ^ 31) (h : ∀ k : Nat, k < n → ¬ x = nI (l0 + k)) (hlo : lo = (l0 : Int)) (hhi : hi = (l0 : Int) + n - 1) (ht : (pc : Int) + dflt = (tgt : Int)) (hd : decode cc pc = .ok (.tableswitch dflt lo hi offs, len)) (kk : TJ Γ N0 uc us tgt lv st S) : TJ Γ N0 uc us pc lv (.int x :: st) S := by
  intro g1 g2 g3 H locs ls hH hS hl
  refine lv_tableOut C.x C.b hd ?_ ht (kk g1 g2 g3 H locs ls hH hS hl)
  rw [hlo, hhi]
  exact tsw_out hn h
def jmin (x y : Int32) : Int32 := if y < x then y else x
def jmax (x y : Int32) : Int32 := if x < y then y else x
def jabs (x : Int64) : Int64 := if 0 < x then x else -x
theorem tj_mmin (C : TC Γ cc own f L) {index : Nat} {x y : Int32} (hlink : Cond.methodLink own index Lib.Math.min.name ∈ lw_all) (hf : 1 ≤ f) (hL : 40 ≤ L) (hrest : (st.map fun v => v.category).sum ≤ 8) (hd : decode cc pc = .ok (.invokestatic index, 3)) (kk : TJ Γ N0 uc us (pc + 3) lv (.int (jmin x y) :: st) S) : TJ Γ N0 uc us pc lv (.int y :: .int x :: st) S := by
  intro h1 h2 h3 H locs ls hH hS hl
  exact va_mmin C.x C.b (by rw [C.ml]; exact hl.1.symm) C.ow (C.ts _ hlink) (C.ts _ q1170) (C.ts _ q187) (C.ts _ q1171) (Nat.le_trans hf C.fr) (by have := C.lo; omega) h2 h3 hd (kk h1 h2 h3 H locs ls hH hS hl)
theorem tj_mmax (C : TC Γ cc own f L) {index : Nat} {x y : Int32} (hlink : Cond.methodLink own index Lib.Math.max.name ∈ lw_all) (hf : 1 ≤ f) (hL : 40 ≤ L) (hrest : (st.map fun v => v.category).sum ≤ 8) (hd : decode cc pc = .ok (.invokestatic index, 3)) (kk : TJ Γ N0 uc us (pc + 3) lv (.int (jmax x y) :: st) S) : TJ Γ N0 uc us pc lv (.int y :: .int x :: st) S := by
  intro h1 h2 h3 H locs ls hH hS hl
  exact va_mmax C.x C.b (by rw [C.ml]; exact hl.1.symm) C.ow (C.ts _ hlink) (C.ts _ q2226) (C.ts _ q187) (C.ts _ q2227) (Nat.le_trans hf C.fr) (by have := C.lo; omega) h2 h3 hd (kk h1 h2 h3 H locs ls hH hS hl)
theorem tj_mabs_long (C : TC Γ cc own f L) {index : Nat} {x : Int64} (hlink : Cond.methodLink own index Lib.MathLoose.abs_long.x ∈ lw_all) (hf : 1 ≤ f) (hL : 40 ≤ L) (hrest : (st.map fun v => v.category).sum ≤ 8) (hd : decode cc pc = .ok (.invokestatic index, 3)) (kk : TJ Γ N0 uc us (pc + 3) lv (.long (jabs x) :: st) S) : TJ Γ N0 uc us pc lv (.long x :: st) S := by
  intro h1 h2 h3 H locs ls hH hS hl
  exact va_mabs_long C.x C.b (by rw [C.ml]; exact hl.1.symm) C.ow (C.ts _ hlink) (C.ts _ q1322) (C.ts _ q187) (C.ts _ q1323) (Nat.le_trans hf C.fr) (by have := C.lo; omega) h2 h3 hd (kk h1 h2 h3 H locs ls hH hS hl)
end TSW
