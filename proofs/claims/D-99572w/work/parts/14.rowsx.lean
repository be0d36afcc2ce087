set_option maxRecDepth 100000
/-! EXCEPTIONS: TXJ: q of class E is being thrown at pc; contracts of methods that return or throw one kept object -/
def TXJ (Γ : tX) (N0 : Nat → Nat) (uc us pc : Nat) (lv : List (Nat × Value)) (S : tS) (E : String) (q : Nat) : Prop :=
  gN S = N0 → uc ≤ (xR Γ).cells → us ≤ (xR Γ).slots → ∀ (H : Heap) (locs : List Loc) (ls : Array Slot) (st : List Value) (ce : Cell), tH (xG Γ) (xad Γ) (xA Γ) S H → va_S (xA Γ) (xs Γ).heap H locs → lv_has ls (xnL Γ) lv →
    H[q]? = some ce → ce.vm = .none → (xs Γ).vm.findClass E = some ce.cls → vx_W (xp Γ) (xl Γ) (xe Γ) (xR Γ) (xs Γ) (xm Γ) (xargs Γ) (xbelow Γ) (xmeth Γ) (xc Γ) H locs uc us (xQ Γ) (F0 (xm Γ) pc ls st) q
def tBX (G : tG) (ad : Nat → Nat) (A : Nat → Prop) (N0 : Nat → Nat) (En : String) (tg : Nat) : String → Addr → tS → State → Prop := fun E q u t => E = En ∧ q = ad tg ∧ tB G ad A N0 u t
/-- thrown on to the caller -/
def TRX (Γ : tX) (N0 : Nat → Nat) (En : String) (tg : Nat) (KX : tS → Prop) : Prop := ∀ (pc : Nat) (lv : List (Nat × Value)) (S : tS), KX S → TXJ Γ N0 0 0 pc lv S En (xad Γ tg)
section TXROWS
variable {Γ : tX} {cc : ByteArray} {own : String} {f L : Nat} {N0 : Nat → Nat} {uc us pc : Nat} {lv lv' : List (Nat × Value)} {st : List Value} {S : tS}
theorem tj_athrow (C : TC Γ cc own f L) {E : String} {T : u_T} {N : Nat} (k t : Nat) (h0 : N0 t ≠ 0) (hk : t % 32 = k) (hk16 : k < 16) (hc : tcl[k]? = some (E, T, N)) (hd : decode cc pc = .ok (.athrow, 1)) (kk : TXJ Γ N0 uc us pc lv S E (xad Γ t)) : TJ Γ N0 uc us pc lv (.ref (xad Γ t) :: st) S := by
  intro h1 h2 h3 H locs ls hH hS hl
  have hP := tH_one hH (t := t) (by rw [h1]; exact h0)
  rw [tEn_o _ _ _ hk hk16] at hP
  obtain ⟨r, g1, cell, g2, g3, g4, g5⟩ := hP 0 _ rfl
  have hr : r = (E, T, N) := Option.some.inj (g1.symm.trans hc)
  subst hr
  have hfc := (C.K.1.1 k _ hc).2.1
  exact vx_athrow C.x C.b hd (kk h1 h2 h3 H locs ls st cell hH hS hl g2 g4 (by rw [g3]; exact hfc))
theorem tj_catch (C : TC Γ cc own f L) {E name : String} {q : Nat} (pre : List ExceptionTableEntry) (x : ExceptionTableEntry) (suf : List ExceptionTableEntry) (hT : (xc Γ).exceptionTable.toList = pre ++ x :: suf) (hpass : ∀ z ∈ pre, covers z pc = false ∨ (z.catchType ≠ 0 ∧ ∃ nm : String, Cond.classLink own z.catchType nm ∈ lw_all ∧ va_Nc E nm (xs Γ))) (hx : covers x pc = true) (h0 : x.catchType ≠ 0) (hlink : Cond.classLink own x.catchType name ∈ lw_all) (hcast : Cond.castable E name ∈ lw_tbl)
    (kk : TJ Γ N0 uc us x.handlerPc lv [.ref q] S) : TXJ Γ N0 uc us pc lv S E q := by
  intro h1 h2 h3 H locs ls st ce hH hS hl g1 g2 g3
  exact vx_catch C.ow pre x suf hT (fun z hz => (hpass z hz).elim Or.inl (fun h => Or.inr ⟨h.1, h.2.elim fun nm h => ⟨nm, C.ts _ h.1, h.2⟩⟩)) hx h0 (C.ts _ hlink) ((C.K.2.1 _ hcast rfl).use rfl) g1 g2 g3 (kk h1 h2 h3 H locs ls hH hS hl)
theorem tj_xVi (C : TC Γ cc own f L) {y : MethodName} {bytes : ByteArray} {maxL f1 L1 n index tg : Nat} {En : String} {post : Int32 → tS → Prop} {px : tS → Prop} (As rest : List Value) {b k : Nat} {T : u_T} {N : Nat}
    (hM : gN S = N0 → vx_Met (xl Γ) y (ws_ y bytes maxL (some .int)) (tRm f1 L1) (tSP Γ (.ref (xad Γ b) :: As) S) (va_Qi post (tBB Γ (gN S)) (xA Γ)) (vx_X px (tBX (xG Γ) (xad Γ) (xA Γ) (gN S) En tg) (xA Γ)) 0 0 (xA Γ)) (hlk : GoodIn lw_all (wsV own index y.cls y (ws_ y bytes maxL (some .int)))) (hy : tyOk y n) (hn : As.length = n) (hf : f1 + 1 ≤ f) (hL : 8 + (maxL + 11) + L1 ≤ L) (hrest : (rest.map fun v => v.category).sum ≤ 8) (h0 : N0 b ≠ 0) (hk : b % 32 = k) (hk16 : k < 16) (hc : tcl[k]? = some (y.cls, T, N)) (hst : st = As.reverse ++ .ref (xad Γ b) :: rest) (hd : decode cc pc = .ok (.invokevirtual index, 3))
    (kx : ∀ u : tS, px u → TXJ Γ N0 uc us pc lv u En (xad Γ tg)) (kk : ∀ (r : Int32) (u : tS), post r u → TJ Γ N0 uc us (pc + 3) lv (.int r :: rest) u) : TJ Γ N0 uc us pc lv st S := by
  intro h1 h2 h3 H locs ls hH hS hl
  exact vx_calli (vx_runV (As := As) (rest := rest) ⟨C.x, C.b, C.ml, C.ow, C.ts⟩ (hM h1) (cwV n C.ts hlk rfl rfl rfl ⟨rfl, hy⟩ ⟨Nat.le_trans hf C.fr, Nat.le_trans hL C.lo⟩) ⟨tPre_blind, tj_recv C hH (by rw [h1]; exact h0) hk hk16 hc, tj_pre C hH hS _⟩ rfl hn hl.1 hst (lv_room hrest) hd ⟨h2, h3⟩) hS (fun q _ h => h) (fun q h => h) (fun q _ h => h)
    (fun E ce q9 u t H1 locs1 ht hvm hp hB hz hk hS1 g1 g2 g3 => by obtain ⟨e1, e2, e3⟩ := hB; subst e1; subst e2; exact kx u hp (e3.2.trans h1) h2 h3 H1 locs1 ls rest ce (by rw [← ht]; exact e3.1) hS1 hl g1 g2 g3) (fun r u t H1 locs1 ht hvm hp hB hz hk hS1 => kk r u hp (hB.2.trans h1) h2 h3 H1 locs1 ls (by rw [← ht]; exact hB.1) hS1 hl)
theorem tj_xVWi (C : TC Γ cc own f L) {y : MethodName} {bytes : ByteArray} {maxL f1 L1 n index tg : Nat} {En : String} {hh : List (Nat × Nat × Nat × Nat)} {post : Int32 → tS → Prop} {px : tS → Prop} (As rest : List Value) {b k : Nat} {T : u_T} {N : Nat}
    (hM : gN S = N0 → vx_Met (xl Γ) y (wsW_ y bytes maxL (some .int) hh) (tRm f1 L1) (tSP Γ (.ref (xad Γ b) :: As) S) (va_Qi post (tBB Γ (gN S)) (xA Γ)) (vx_X px (tBX (xG Γ) (xad Γ) (xA Γ) (gN S) En tg) (xA Γ)) 0 0 (xA Γ)) (hlk : GoodIn lw_all (wsV own index y.cls y (wsW_ y bytes maxL (some .int) hh))) (hy : tyOk y n) (hn : As.length = n) (hf : f1 + 1 ≤ f) (hL : 8 + (maxL + 11) + L1 ≤ L) (hrest : (rest.map fun v => v.category).sum ≤ 8) (h0 : N0 b ≠ 0) (hk : b % 32 = k) (hk16 : k < 16) (hc : tcl[k]? = some (y.cls, T, N)) (hst : st = As.reverse ++ .ref (xad Γ b) :: rest) (hd : decode cc pc = .ok (.invokevirtual index, 3))
    (kx : ∀ u : tS, px u → TXJ Γ N0 uc us pc lv u En (xad Γ tg)) (kk : ∀ (r : Int32) (u : tS), post r u → TJ Γ N0 uc us (pc + 3) lv (.int r :: rest) u) : TJ Γ N0 uc us pc lv st S := by
  intro h1 h2 h3 H locs ls hH hS hl
  exact vx_calli (vx_runVX (As := As) (rest := rest) ⟨C.x, C.b, C.ml, C.ow, C.ts⟩ (hM h1) (vx_cwVW n C.ts hlk rfl rfl rfl ⟨rfl, hy⟩ ⟨Nat.le_trans hf C.fr, Nat.le_trans hL C.lo⟩) ⟨tPre_blind, tj_recv C hH (by rw [h1]; exact h0) hk hk16 hc, tj_pre C hH hS _⟩ rfl hn hl.1 hst (lv_room hrest) hd ⟨h2, h3⟩) hS (fun q _ h => h) (fun q h => h) (fun q _ h => h)
    (fun E ce q9 u t H1 locs1 ht hvm hp hB hz hk hS1 g1 g2 g3 => by obtain ⟨e1, e2, e3⟩ := hB; subst e1; subst e2; exact kx u hp (e3.2.trans h1) h2 h3 H1 locs1 ls rest ce (by rw [← ht]; exact e3.1) hS1 hl g1 g2 g3) (fun r u t H1 locs1 ht hvm hp hB hz hk hS1 => kk r u hp (hB.2.trans h1) h2 h3 H1 locs1 ls (by rw [← ht]; exact hB.1) hS1 hl)
theorem tj_xVz (C : TC Γ cc own f L) {y : MethodName} {bytes : ByteArray} {maxL f1 L1 n index tg : Nat} {En : String} {post : Int32 → tS → Prop} {px : tS → Prop} (As rest : List Value) {b k : Nat} {T : u_T} {N : Nat}
    (hM : gN S = N0 → vx_Met (xl Γ) y (ws_ y bytes maxL (some .boolean)) (tRm f1 L1) (tSP Γ (.ref (xad Γ b) :: As) S) (va_Qi post (tBB Γ (gN S)) (xA Γ)) (vx_X px (tBX (xG Γ) (xad Γ) (xA Γ) (gN S) En tg) (xA Γ)) 0 0 (xA Γ)) (hlk : GoodIn lw_all (wsV own index y.cls y (ws_ y bytes maxL (some .boolean)))) (hy : tyOk y n) (hn : As.length = n) (hf : f1 + 1 ≤ f) (hL : 8 + (maxL + 11) + L1 ≤ L) (hrest : (rest.map fun v => v.category).sum ≤ 8) (h0 : N0 b ≠ 0) (hk : b % 32 = k) (hk16 : k < 16) (hc : tcl[k]? = some (y.cls, T, N)) (hst : st = As.reverse ++ .ref (xad Γ b) :: rest) (hd : decode cc pc = .ok (.invokevirtual index, 3))
    (kx : ∀ u : tS, px u → TXJ Γ N0 uc us pc lv u En (xad Γ tg)) (kk : ∀ (r : Int32) (u : tS), post r u → TJ Γ N0 uc us (pc + 3) lv (.int r :: rest) u) : TJ Γ N0 uc us pc lv st S := by
  intro h1 h2 h3 H locs ls hH hS hl
  exact vx_calli (vx_runV (As := As) (rest := rest) ⟨C.x, C.b, C.ml, C.ow, C.ts⟩ (hM h1) (cwV n C.ts hlk rfl rfl rfl ⟨rfl, hy⟩ ⟨Nat.le_trans hf C.fr, Nat.le_trans hL C.lo⟩) ⟨tPre_blind, tj_recv C hH (by rw [h1]; exact h0) hk hk16 hc, tj_pre C hH hS _⟩ rfl hn hl.1 hst (lv_room hrest) hd ⟨h2, h3⟩) hS (fun q _ h => h) (fun q h => h) (fun q _ h => h)
    (fun E ce q9 u t H1 locs1 ht hvm hp hB hz hk hS1 g1 g2 g3 => by obtain ⟨e1, e2, e3⟩ := hB; subst e1; subst e2; exact kx u hp (e3.2.trans h1) h2 h3 H1 locs1 ls rest ce (by rw [← ht]; exact e3.1) hS1 hl g1 g2 g3) (fun r u t H1 locs1 ht hvm hp hB hz hk hS1 => kk r u hp (hB.2.trans h1) h2 h3 H1 locs1 ls (by rw [← ht]; exact hB.1) hS1 hl)
theorem tj_xVWz (C : TC Γ cc own f L) {y : MethodName} {bytes : ByteArray} {maxL f1 L1 n index tg : Nat} {En : String} {hh : List (Nat × Nat × Nat × Nat)} {post : Int32 → tS → Prop} {px : tS → Prop} (As rest : List Value) {b k : Nat} {T : u_T} {N : Nat}
    (hM : gN S = N0 → vx_Met (xl Γ) y (wsW_ y bytes maxL (some .boolean) hh) (tRm f1 L1) (tSP Γ (.ref (xad Γ b) :: As) S) (va_Qi post (tBB Γ (gN S)) (xA Γ)) (vx_X px (tBX (xG Γ) (xad Γ) (xA Γ) (gN S) En tg) (xA Γ)) 0 0 (xA Γ)) (hlk : GoodIn lw_all (wsV own index y.cls y (wsW_ y bytes maxL (some .boolean) hh))) (hy : tyOk y n) (hn : As.length = n) (hf : f1 + 1 ≤ f) (hL : 8 + (maxL + 11) + L1 ≤ L) (hrest : (rest.map fun v => v.category).sum ≤ 8) (h0 : N0 b ≠ 0) (hk : b % 32 = k) (hk16 : k < 16) (hc : tcl[k]? = some (y.cls, T, N)) (hst : st = As.reverse ++ .ref (xad Γ b) :: rest) (hd : decode cc pc = .ok (.invokevirtual index, 3))
    (kx : ∀ u : tS, px u → TXJ Γ N0 uc us pc lv u En (xad Γ tg)) (kk : ∀ (r : Int32) (u : tS), post r u → TJ Γ N0 uc us (pc + 3) lv (.int r :: rest) u) : TJ Γ N0 uc us pc lv st S := by
  intro h1 h2 h3 H locs ls hH hS hl
  exact vx_calli (vx_runVX (As := As) (rest := rest) ⟨C.x, C.b, C.ml, C.ow, C.ts⟩ (hM h1) (vx_cwVW n C.ts hlk rfl rfl rfl ⟨rfl, hy⟩ ⟨Nat.le_trans hf C.fr, Nat.le_trans hL C.lo⟩) ⟨tPre_blind, tj_recv C hH (by rw [h1]; exact h0) hk hk16 hc, tj_pre C hH hS _⟩ rfl hn hl.1 hst (lv_room hrest) hd ⟨h2, h3⟩) hS (fun q _ h => h) (fun q h => h) (fun q _ h => h)
    (fun E ce q9 u t H1 locs1 ht hvm hp hB hz hk hS1 g1 g2 g3 => by obtain ⟨e1, e2, e3⟩ := hB; subst e1; subst e2; exact kx u hp (e3.2.trans h1) h2 h3 H1 locs1 ls rest ce (by rw [← ht]; exact e3.1) hS1 hl g1 g2 g3) (fun r u t H1 locs1 ht hvm hp hB hz hk hS1 => kk r u hp (hB.2.trans h1) h2 h3 H1 locs1 ls (by rw [← ht]; exact hB.1) hS1 hl)
theorem tj_xVl (C : TC Γ cc own f L) {y : MethodName} {bytes : ByteArray} {maxL f1 L1 n index tg : Nat} {En : String} {post : Int64 → tS → Prop} {px : tS → Prop} (As rest : List Value) {b k : Nat} {T : u_T} {N : Nat}
    (hM : gN S = N0 → vx_Met (xl Γ) y (ws_ y bytes maxL (some .long)) (tRm f1 L1) (tSP Γ (.ref (xad Γ b) :: As) S) (va_Ql post (tBB Γ (gN S)) (xA Γ)) (vx_X px (tBX (xG Γ) (xad Γ) (xA Γ) (gN S) En tg) (xA Γ)) 0 0 (xA Γ)) (hlk : GoodIn lw_all (wsV own index y.cls y (ws_ y bytes maxL (some .long)))) (hy : tyOk y n) (hn : As.length = n) (hf : f1 + 1 ≤ f) (hL : 8 + (maxL + 11) + L1 ≤ L) (hrest : (rest.map fun v => v.category).sum ≤ 8) (h0 : N0 b ≠ 0) (hk : b % 32 = k) (hk16 : k < 16) (hc : tcl[k]? = some (y.cls, T, N)) (hst : st = As.reverse ++ .ref (xad Γ b) :: rest) (hd : decode cc pc = .ok (.invokevirtual index, 3))
    (kx : ∀ u : tS, px u → TXJ Γ N0 uc us pc lv u En (xad Γ tg)) (kk : ∀ (r : Int64) (u : tS), post r u → TJ Γ N0 uc us (pc + 3) lv (.long r :: rest) u) : TJ Γ N0 uc us pc lv st S := by
  intro h1 h2 h3 H locs ls hH hS hl
  exact vx_calll (vx_runV (As := As) (rest := rest) ⟨C.x, C.b, C.ml, C.ow, C.ts⟩ (hM h1) (cwV n C.ts hlk rfl rfl rfl ⟨rfl, hy⟩ ⟨Nat.le_trans hf C.fr, Nat.le_trans hL C.lo⟩) ⟨tPre_blind, tj_recv C hH (by rw [h1]; exact h0) hk hk16 hc, tj_pre C hH hS _⟩ rfl hn hl.1 hst (lv_room hrest) hd ⟨h2, h3⟩) hS (fun q _ h => h) (fun q h => h) (fun q _ h => h)
    (fun E ce q9 u t H1 locs1 ht hvm hp hB hz hk hS1 g1 g2 g3 => by obtain ⟨e1, e2, e3⟩ := hB; subst e1; subst e2; exact kx u hp (e3.2.trans h1) h2 h3 H1 locs1 ls rest ce (by rw [← ht]; exact e3.1) hS1 hl g1 g2 g3) (fun r u t H1 locs1 ht hvm hp hB hz hk hS1 => kk r u hp (hB.2.trans h1) h2 h3 H1 locs1 ls (by rw [← ht]; exact hB.1) hS1 hl)
theorem tj_xVWl (C : TC Γ cc own f L) {y : MethodName} {bytes : ByteArray} {maxL f1 L1 n index tg : Nat} {En : String} {hh : List (Nat × Nat × Nat × Nat)} {post : Int64 → tS → Prop} {px : tS → Prop} (As rest : List Value) {b k : Nat} {T : u_T} {N : Nat}
    (hM : gN S = N0 → vx_Met (xl Γ) y (wsW_ y bytes maxL (some .long) hh) (tRm f1 L1) (tSP Γ (.ref (xad Γ b) :: As) S) (va_Ql post (tBB Γ (gN S)) (xA Γ)) (vx_X px (tBX (xG Γ) (xad Γ) (xA Γ) (gN S) En tg) (xA Γ)) 0 0 (xA Γ)) (hlk : GoodIn lw_all (wsV own index y.cls y (wsW_ y bytes maxL (some .long) hh))) (hy : tyOk y n) (hn : As.length = n) (hf : f1 + 1 ≤ f) (hL : 8 + (maxL + 11) + L1 ≤ L) (hrest : (rest.map fun v => v.category).sum ≤ 8) (h0 : N0 b ≠ 0) (hk : b % 32 = k) (hk16 : k < 16) (hc : tcl[k]? = some (y.cls, T, N)) (hst : st = As.reverse ++ .ref (xad Γ b) :: rest) (hd : decode cc pc = .ok (.invokevirtual index, 3))
    (kx : ∀ u : tS, px u → TXJ Γ N0 uc us pc lv u En (xad Γ tg)) (kk : ∀ (r : Int64) (u : tS), post r u → TJ Γ N0 uc us (pc + 3) lv (.long r :: rest) u) : TJ Γ N0 uc us pc lv st S := by
  intro h1 h2 h3 H locs ls hH hS hl
  exact vx_calll (vx_runVX (As := As) (rest := rest) ⟨C.x, C.b, C.ml, C.ow, C.ts⟩ (hM h1) (vx_cwVW n C.ts hlk rfl rfl rfl ⟨rfl, hy⟩ ⟨Nat.le_trans hf C.fr, Nat.le_trans hL C.lo⟩) ⟨tPre_blind, tj_recv C hH (by rw [h1]; exact h0) hk hk16 hc, tj_pre C hH hS _⟩ rfl hn hl.1 hst (lv_room hrest) hd ⟨h2, h3⟩) hS (fun q _ h => h) (fun q h => h) (fun q _ h => h)
    (fun E ce q9 u t H1 locs1 ht hvm hp hB hz hk hS1 g1 g2 g3 => by obtain ⟨e1, e2, e3⟩ := hB; subst e1; subst e2; exact kx u hp (e3.2.trans h1) h2 h3 H1 locs1 ls rest ce (by rw [← ht]; exact e3.1) hS1 hl g1 g2 g3) (fun r u t H1 locs1 ht hvm hp hB hz hk hS1 => kk r u hp (hB.2.trans h1) h2 h3 H1 locs1 ls (by rw [← ht]; exact hB.1) hS1 hl)
theorem tj_xVv (C : TC Γ cc own f L) {y : MethodName} {bytes : ByteArray} {maxL f1 L1 n index tg : Nat} {En : String} {post : tS → Prop} {px : tS → Prop} (As rest : List Value) {b k : Nat} {T : u_T} {N : Nat}
    (hM : gN S = N0 → vx_Met (xl Γ) y (ws_ y bytes maxL (none)) (tRm f1 L1) (tSP Γ (.ref (xad Γ b) :: As) S) (va_Qv post (tBB Γ (gN S)) (xA Γ)) (vx_X px (tBX (xG Γ) (xad Γ) (xA Γ) (gN S) En tg) (xA Γ)) 0 0 (xA Γ)) (hlk : GoodIn lw_all (wsV own index y.cls y (ws_ y bytes maxL (none)))) (hy : tyOk y n) (hn : As.length = n) (hf : f1 + 1 ≤ f) (hL : 8 + (maxL + 11) + L1 ≤ L) (hrest : (rest.map fun v => v.category).sum ≤ 8) (h0 : N0 b ≠ 0) (hk : b % 32 = k) (hk16 : k < 16) (hc : tcl[k]? = some (y.cls, T, N)) (hst : st = As.reverse ++ .ref (xad Γ b) :: rest) (hd : decode cc pc = .ok (.invokevirtual index, 3))
    (kx : ∀ u : tS, px u → TXJ Γ N0 uc us pc lv u En (xad Γ tg)) (kk : ∀ u : tS, post u → TJ Γ N0 uc us (pc + 3) lv rest u) : TJ Γ N0 uc us pc lv st S := by
  intro h1 h2 h3 H locs ls hH hS hl
  exact vx_callv (vx_runV (As := As) (rest := rest) ⟨C.x, C.b, C.ml, C.ow, C.ts⟩ (hM h1) (cwV n C.ts hlk rfl rfl rfl ⟨rfl, hy⟩ ⟨Nat.le_trans hf C.fr, Nat.le_trans hL C.lo⟩) ⟨tPre_blind, tj_recv C hH (by rw [h1]; exact h0) hk hk16 hc, tj_pre C hH hS _⟩ rfl hn hl.1 hst (lv_room hrest) hd ⟨h2, h3⟩) hS (fun q _ h => h) (fun q h => h) (fun q _ h => h)
    (fun E ce q9 u t H1 locs1 ht hvm hp hB hz hk hS1 g1 g2 g3 => by obtain ⟨e1, e2, e3⟩ := hB; subst e1; subst e2; exact kx u hp (e3.2.trans h1) h2 h3 H1 locs1 ls rest ce (by rw [← ht]; exact e3.1) hS1 hl g1 g2 g3) (fun u t H1 locs1 ht hvm hp hB hz hk hS1 => kk u hp (hB.2.trans h1) h2 h3 H1 locs1 ls (by rw [← ht]; exact hB.1) hS1 hl)
theorem tj_xVWv (C : TC Γ cc own f L) {y : MethodName} {bytes : ByteArray} {maxL f1 L1 n index tg : Nat} {En : String} {hh : List (Nat × Nat × Nat × Nat)} {post : tS → Prop} {px : tS → Prop} (As rest : List Value) {b k : Nat} {T : u_T} {N : Nat}
    (hM : gN S = N0 → vx_Met (xl Γ) y (wsW_ y bytes maxL (none) hh) (tRm f1 L1) (tSP Γ (.ref (xad Γ b) :: As) S) (va_Qv post (tBB Γ (gN S)) (xA Γ)) (vx_X px (tBX (xG Γ) (xad Γ) (xA Γ) (gN S) En tg) (xA Γ)) 0 0 (xA Γ)) (hlk : GoodIn lw_all (wsV own index y.cls y (wsW_ y bytes maxL (none) hh))) (hy : tyOk y n) (hn : As.length = n) (hf : f1 + 1 ≤ f) (hL : 8 + (maxL + 11) + L1 ≤ L) (hrest : (rest.map fun v => v.category).sum ≤ 8) (h0 : N0 b ≠ 0) (hk : b % 32 = k) (hk16 : k < 16) (hc : tcl[k]? = some (y.cls, T, N)) (hst : st = As.reverse ++ .ref (xad Γ b) :: rest) (hd : decode cc pc = .ok (.invokevirtual index, 3))
    (kx : ∀ u : tS, px u → TXJ Γ N0 uc us pc lv u En (xad Γ tg)) (kk : ∀ u : tS, post u → TJ Γ N0 uc us (pc + 3) lv rest u) : TJ Γ N0 uc us pc lv st S := by
  intro h1 h2 h3 H locs ls hH hS hl
  exact vx_callv (vx_runVX (As := As) (rest := rest) ⟨C.x, C.b, C.ml, C.ow, C.ts⟩ (hM h1) (vx_cwVW n C.ts hlk rfl rfl rfl ⟨rfl, hy⟩ ⟨Nat.le_trans hf C.fr, Nat.le_trans hL C.lo⟩) ⟨tPre_blind, tj_recv C hH (by rw [h1]; exact h0) hk hk16 hc, tj_pre C hH hS _⟩ rfl hn hl.1 hst (lv_room hrest) hd ⟨h2, h3⟩) hS (fun q _ h => h) (fun q h => h) (fun q _ h => h)
    (fun E ce q9 u t H1 locs1 ht hvm hp hB hz hk hS1 g1 g2 g3 => by obtain ⟨e1, e2, e3⟩ := hB; subst e1; subst e2; exact kx u hp (e3.2.trans h1) h2 h3 H1 locs1 ls rest ce (by rw [← ht]; exact e3.1) hS1 hl g1 g2 g3) (fun u t H1 locs1 ht hvm hp hB hz hk hS1 => kk u hp (hB.2.trans h1) h2 h3 H1 locs1 ls (by rw [← ht]; exact hB.1) hS1 hl)
def anm (k : Nat) : String := if k = 16 then "[I" else if k = 17 then "[J" else if k = 18 then "[B" else "[S"
theorem anm_cls (C : TC Γ cc own f L) {k : Nat} (h1 : 16 ≤ k) (h2 : k ≤ 19) : (xs Γ).vm.findClass (anm k) = some ((xG Γ).2.1 k) := by
  obtain ⟨j, rfl⟩ : ∃ j, k = 16 + j := ⟨k - 16, by omega⟩
  match j, h2 with
  | 0, _ => exact va_nm_int (C.K.1.2 0 _ rfl).2
  | 1, _ => exact va_nm_long (C.K.1.2 1 _ rfl).2
  | 2, _ => exact va_nm_byte (C.K.1.2 2 _ rfl).2
  | 3, _ => exact va_nm_short (C.K.1.2 3 _ rfl).2
  | n + 4, h => exact absurd h (by omega)
theorem anm_cell (C : TC Γ cc own f L) {t : Nat} {H : Heap} (hH : tH (xG Γ) (xad Γ) (xA Γ) S H) (h0 : gN S t ≠ 0) (h1 : 16 ≤ t % 32) (h2 : t % 32 ≤ 19) : ∃ cell : Cell, H[xad Γ t]? = some cell ∧ cell.vm.isStatics = false ∧ (xs Γ).vm.findClass (anm (t % 32)) = some cell.cls := by
  have hP := tH_one hH (t := t) h0
  obtain ⟨x, hx⟩ := tEn_arr (xG Γ).2.1 (xad Γ) S (t := t) rfl h1 (show gN S t = (gN S t - 1) + 1 by omega)
  rw [hx] at hP
  refine ⟨vp_cell ((xG Γ).2.1 (t % 32)) (gN S t - 1, x), hP 0 _ rfl, ?_, ?_⟩
  · rcases x with f | f | f | f | f <;> rfl
  · rw [anm_cls C h1 h2]
    rcases x with f | f | f | f | f <;> rfl
theorem tj_instY (C : TC Γ cc own f L) (k t : Nat) {index : Nat} {nm : String} (hk : t % 32 = k) (h1 : 16 ≤ k) (h2 : k ≤ 19) (hnm : nm = anm k) (h0 : N0 t ≠ 0) (hlink : Cond.classLink own index nm ∈ lw_all) (hd : decode cc pc = .ok (.instanceof index, 3)) (kk : TJ Γ N0 uc us (pc + 3) lv (.int (nI 1) :: st) S) : TJ Γ N0 uc us pc lv (.ref (xad Γ t) :: st) S := by
  intro g1 g2 g3 H locs ls hH hS hl
  subst hk; subst hnm
  exact va_instE C.x C.b C.ow (C.ts _ hlink) (anm_cell C hH (by rw [g1]; exact h0) h1 h2) hd (kk g1 g2 g3 H locs ls hH hS hl)
theorem anm_nc {a b : Nat} (h1 : 16 ≤ a) (h2 : a ≤ 19) (hb : b = 16 ∨ b = 18 ∨ b = 19) (hne : ¬ a = b) : (anm a, anm b) ∈ tncs := by
  have ha : a = 16 ∨ a = 17 ∨ a = 18 ∨ a = 19 := by omega
  rcases ha with rfl | rfl | rfl | rfl <;> rcases hb with rfl | rfl | rfl <;> first | (exact absurd rfl hne) | decide
theorem tj_instN (C : TC Γ cc own f L) (k t : Nat) {index : Nat} {nm : String} (h1 : 16 ≤ t % 32) (h2 : t % 32 ≤ 19) (hk : k = 16 ∨ k = 18 ∨ k = 19) (hne : ¬ t % 32 = k) (hnm : nm = anm k) (h0 : N0 t ≠ 0) (hlink : Cond.classLink own index nm ∈ lw_all) (hd : decode cc pc = .ok (.instanceof index, 3)) (kk : TJ Γ N0 uc us (pc + 3) lv (.int (nI 0) :: st) S) : TJ Γ N0 uc us pc lv (.ref (xad Γ t) :: st) S := by
  intro g1 g2 g3 H locs ls hH hS hl
  subst hnm
  exact va_instNo C.x C.b C.ow (C.ts _ hlink) (C.K.2.2.1 _ (anm_nc h1 h2 hk hne)) (anm_cell C hH (by rw [g1]; exact h0) h1 h2) hd (kk g1 g2 g3 H locs ls hH hS hl)
theorem tj_castA (C : TC Γ cc own f L) (k t : Nat) {index : Nat} {nm : String} (hk : t % 32 = k) (h1 : 16 ≤ k) (h2 : k ≤ 19) (hnm : nm = anm k) (h0 : N0 t ≠ 0) (hlink : Cond.classLink own index nm ∈ lw_all) (hd : decode cc pc = .ok (.checkcast index, 3)) (kk : TJ Γ N0 uc us (pc + 3) lv (.ref (xad Γ t) :: st) S) : TJ Γ N0 uc us pc lv (.ref (xad Γ t) :: st) S := by
  intro g1 g2 g3 H locs ls hH hS hl
  have hP := tH_one hH (t := t) (by rw [g1]; exact h0)
  obtain ⟨x, hx⟩ := tEn_arr (xG Γ).2.1 (xad Γ) S hk h1 (show gN S t = (gN S t - 1) + 1 by rw [g1]; omega)
  rw [hx] at hP
  subst hnm
  exact va_castA C.x C.b C.ow (C.ts _ hlink) hP 0 rfl (anm_cls C h1 h2) hd (kk g1 g2 g3 H locs ls hH hS hl)
/-- the String constants: an address of one of them -/
abbrev xK (Γ : tX) : Nat → Nat := (xG Γ).2.2.1
theorem tj_ldcS (C : TC Γ cc own f L) {index : Nat} (i : Nat) {tx : String} (hi : strT[i]? = some (own, index, tx)) (hd : decode cc pc = .ok (.ldc index, 2)) (kk : TJ Γ N0 uc us (pc + 2) lv (.ref (xK Γ i) :: st) S) : TJ Γ N0 uc us pc lv st S := by
  intro g1 g2 g3 H locs ls hH hS hl
  exact va_ldcS C.x C.b C.ow (C.K.2.2.2 i _ _ _ hi) hd (kk g1 g2 g3 H locs ls hH hS hl)
theorem tj_xVa (C : TC Γ cc own f L) {y : MethodName} {bytes : ByteArray} {maxL f1 L1 n index tg : Nat} {En : String} {rt : FieldType} {post : Nat → tS → Prop} {px : tS → Prop} (As rest : List Value) {b k : Nat} {T : u_T} {N : Nat}
    (hM : gN S = N0 → vx_Met (xl Γ) y (ws_ y bytes maxL (some rt)) (tRm f1 L1) (tSP Γ (.ref (xad Γ b) :: As) S) (va_Qq (fun r (u : tS × Nat) => r = some (xad Γ u.2) ∧ post u.2 u.1) (fun u t => tBB Γ (gN S) u.1 t) (xA Γ)) (vx_X px (tBX (xG Γ) (xad Γ) (xA Γ) (gN S) En tg) (xA Γ)) 0 0 (xA Γ)) (hlk : GoodIn lw_all (wsV own index y.cls y (ws_ y bytes maxL (some rt)))) (hy : tyOk y n) (hn : As.length = n) (hf : f1 + 1 ≤ f) (hL : 8 + (maxL + 11) + L1 ≤ L) (hrest : (rest.map fun v => v.category).sum ≤ 8) (h0 : N0 b ≠ 0) (hk : b % 32 = k) (hk16 : k < 16) (hc : tcl[k]? = some (y.cls, T, N)) (hst : st = As.reverse ++ .ref (xad Γ b) :: rest) (hd : decode cc pc = .ok (.invokevirtual index, 3))
    (kx : ∀ u : tS, px u → TXJ Γ N0 uc us pc lv u En (xad Γ tg)) (kk : ∀ (r : Nat) (u : tS), post r u → gN u = N0 → TJ Γ N0 uc us (pc + 3) lv (.ref (xad Γ r) :: rest) u) : TJ Γ N0 uc us pc lv st S := by
  intro h1 h2 h3 H locs ls hH hS hl
  exact vx_callq (vx_runV (As := As) (rest := rest) ⟨C.x, C.b, C.ml, C.ow, C.ts⟩ (hM h1) (cwV n C.ts hlk rfl rfl rfl ⟨rfl, hy⟩ ⟨Nat.le_trans hf C.fr, Nat.le_trans hL C.lo⟩) ⟨tPre_blind, tj_recv C hH (by rw [h1]; exact h0) hk hk16 hc, tj_pre C hH hS _⟩ rfl hn hl.1 hst (lv_room hrest) hd ⟨h2, h3⟩) hS (fun q _ h => h) (fun q h => h) (fun q _ h => h)
    (fun E ce q9 u t H1 locs1 ht hvm hp hB hz hk hS1 g1 g2 g3 => by obtain ⟨e1, e2, e3⟩ := hB; subst e1; subst e2; exact kx u hp (e3.2.trans h1) h2 h3 H1 locs1 ls rest ce (by rw [← ht]; exact e3.1) hS1 hl g1 g2 g3)
    (fun r u t H1 locs1 ht hvm hp hB hz hk hS1 => by rw [hp.1]; exact kk u.2 u.1 hp.2 (hB.2.trans h1) (hB.2.trans h1) h2 h3 H1 locs1 ls (by rw [← ht]; exact hB.1) hS1 hl)
/-- an answer that is an array of one of the four kinds -/
def tRow (K : Nat → tS → Prop) : Nat → tS → Prop := fun t u => (gN u t ≠ 0 ∧ (16 ≤ t % 32 ∧ t % 32 ≤ 19)) ∧ K t u
def TRr (Γ : tX) (N0 : Nat → Nat) (cc : ByteArray) (K : Nat → tS → Prop) : Prop := ∀ (pc : Nat) (lv : List (Nat × Value)) (t : Nat) (S : tS), decode cc pc = .ok (.areturn, 1) → K t S → TJ Γ N0 0 0 pc lv [.ref (xad Γ t)] S
end TXROWS
theorem tj_xmet_i {l : Launch} {y : MethodName} {cc : ByteArray} {nL f L tg : Nat} {En : String} {av : List Value} (lv : List (Nat × Value)) {G : tG} {ad : Nat → Nat} {A : Nat → Prop} {S : tS} {K : Int32 → tS → Prop} {KX : tS → Prop} (hy : plainName y.cls = true) (hlv : lv_args 0 av = lv) (hsl : (lg_sl av).length ≤ nL)
    (body : ∀ (p : Program) (e : Env) (R : Room) (s : State) (m : MethodId) (args : Array Value) (below : List Frame) (meth : Method) (c : Code) (Q : State → Prop), TC (G, A, p, l, e, R, s, m, args, below, meth, c, Q, ad, nL) cc y.cls f L → tWf (gN S) → TRi (G, A, p, l, e, R, s, m, args, below, meth, c, Q, ad, nL) (gN S) cc K → TRX (G, A, p, l, e, R, s, m, args, below, meth, c, Q, ad, nL) (gN S) En tg KX → TJ (G, A, p, l, e, R, s, m, args, below, meth, c, Q, ad, nL) (gN S) 0 0 0 lv [] S) :
    vx_Met l y (ws_ y cc nL (some .int)) (tRm f L) (va_Pc av (tPre G ad A S)) (va_Qi K (tB G ad A (gN S)) A) (vx_X KX (tBX G ad A (gN S) En tg) A) 0 0 A := by
  refine vx_ofW (cc := cc) (maxL := nL) (ret := some .int) hy rfl ?_
  intro p e s m args below meth c s₁ B hml htab hv
  obtain ⟨rfl, hA, hH, hK, hZ⟩ := hv
  rw [lg_entry_eq]
  have hl := lv_entry av hsl
  generalize (lg_sl av ++ List.replicate (nL - (lg_sl av).length) Slot.unset).toArray = ls at hl ⊢
  rw [hlv] at hl
  have hts := atoms_spec (ws := ws_ y cc nL (some .int)) B.pre
  refine body p e _ s m _ below meth c _ ⟨B.exec, B.bytes, hml, findClass_of_methodNamed B.named, fun w h => hts w (List.mem_cons_of_mem _ h), B.notSynchronized, hK, hA, Nat.le_refl _, Nat.le_refl _, hZ⟩ hH.1 ?_ ?_ rfl (Nat.zero_le _) (Nat.zero_le _) s.heap [] ls hH va_S.rf hl
  · intro pc lv v S1 hd hKv hN _ _ H locs ls hH1 hS _
    exact vx_ret (W.iret (v := v) B.exec B.bytes B.returns (fun t ht hW => ⟨⟨v, S1, rfl, hKv, by rw [ht]; exact hH1, hN⟩, hS.F ht⟩) hS.2.2 hd B.notSynchronized)
  · intro pc lv S1 hKX hN _ _ H locs ls st ce hH1 hS _ g1 g2 g3
    exact vx_out (fun x hx => (htab x hx).elim) B.notSynchronized g1 g2 g3 (fun t ht hvm => ⟨S1, hKX, ⟨rfl, rfl, by rw [ht]; exact hH1, hN⟩, hS.F ht⟩) hS.2.2 (Nat.le_refl _) (Nat.le_refl _)
theorem tj_xmetW_i {l : Launch} {y : MethodName} {cc : ByteArray} {nL f L tg : Nat} {En : String} {hh : List (Nat × Nat × Nat × Nat)} {av : List Value} (lv : List (Nat × Value)) {G : tG} {ad : Nat → Nat} {A : Nat → Prop} {S : tS} {K : Int32 → tS → Prop} (hy : plainName y.cls = true) (hlv : lv_args 0 av = lv) (hsl : (lg_sl av).length ≤ nL)
    (body : ∀ (p : Program) (e : Env) (R : Room) (s : State) (m : MethodId) (args : Array Value) (below : List Frame) (meth : Method) (c : Code) (Q : State → Prop), TC (G, A, p, l, e, R, s, m, args, below, meth, c, Q, ad, nL) cc y.cls f L → tWf (gN S) → (xc (G, A, p, l, e, R, s, m, args, below, meth, c, Q, ad, nL)).exceptionTable.toList = tableOf hh → TRi (G, A, p, l, e, R, s, m, args, below, meth, c, Q, ad, nL) (gN S) cc K → TJ (G, A, p, l, e, R, s, m, args, below, meth, c, Q, ad, nL) (gN S) 0 0 0 lv [] S) :
    vx_Met l y (wsW_ y cc nL (some .int) hh) (tRm f L) (va_Pc av (tPre G ad A S)) (va_Qi K (tB G ad A (gN S)) A) (vx_X (fun _ => False) (tBX G ad A (gN S) En tg) A) 0 0 A := by
  refine vx_ofWH (cc := cc) (maxL := nL) (ret := some .int) (hh := hh) hy rfl ?_
  intro p e s m args below meth c s₁ B hml hv
  obtain ⟨rfl, hA, hH, hK, hZ⟩ := hv
  rw [lg_entry_eq]
  have hl := lv_entry av hsl
  generalize (lg_sl av ++ List.replicate (nL - (lg_sl av).length) Slot.unset).toArray = ls at hl ⊢
  rw [hlv] at hl
  have hts := atoms_spec (ws := wsW_ y cc nL (some .int) hh) B.pre
  refine body p e _ s m _ below meth c _ ⟨B.exec, B.bytes, hml, findClass_of_methodNamed B.named, fun w h => hts w (List.mem_cons_of_mem _ h), B.notSynchronized, hK, hA, Nat.le_refl _, Nat.le_refl _, hZ⟩ hH.1 (vx_table (x := y) B (hts _ List.mem_cons_self)) ?_ rfl (Nat.zero_le _) (Nat.zero_le _) s.heap [] ls hH va_S.rf hl
  · intro pc lv v S1 hd hKv hN _ _ H locs ls hH1 hS _
    exact vx_ret (W.iret (v := v) B.exec B.bytes B.returns (fun t ht hW => ⟨⟨v, S1, rfl, hKv, by rw [ht]; exact hH1, hN⟩, hS.F ht⟩) hS.2.2 hd B.notSynchronized)
theorem tj_xmet_z {l : Launch} {y : MethodName} {cc : ByteArray} {nL f L tg : Nat} {En : String} {av : List Value} (lv : List (Nat × Value)) {G : tG} {ad : Nat → Nat} {A : Nat → Prop} {S : tS} {K : Int32 → tS → Prop} {KX : tS → Prop} (hy : plainName y.cls = true) (hlv : lv_args 0 av = lv) (hsl : (lg_sl av).length ≤ nL)
    (body : ∀ (p : Program) (e : Env) (R : Room) (s : State) (m : MethodId) (args : Array Value) (below : List Frame) (meth : Method) (c : Code) (Q : State → Prop), TC (G, A, p, l, e, R, s, m, args, below, meth, c, Q, ad, nL) cc y.cls f L → tWf (gN S) → TRz (G, A, p, l, e, R, s, m, args, below, meth, c, Q, ad, nL) (gN S) cc K → TRX (G, A, p, l, e, R, s, m, args, below, meth, c, Q, ad, nL) (gN S) En tg KX → TJ (G, A, p, l, e, R, s, m, args, below, meth, c, Q, ad, nL) (gN S) 0 0 0 lv [] S) :
    vx_Met l y (ws_ y cc nL (some .boolean)) (tRm f L) (va_Pc av (tPre G ad A S)) (va_Qi (fun r u => r &&& 1 = r ∧ K r u) (tB G ad A (gN S)) A) (vx_X KX (tBX G ad A (gN S) En tg) A) 0 0 A := by
  refine vx_ofW (cc := cc) (maxL := nL) (ret := some .boolean) hy rfl ?_
  intro p e s m args below meth c s₁ B hml htab hv
  obtain ⟨rfl, hA, hH, hK, hZ⟩ := hv
  rw [lg_entry_eq]
  have hl := lv_entry av hsl
  generalize (lg_sl av ++ List.replicate (nL - (lg_sl av).length) Slot.unset).toArray = ls at hl ⊢
  rw [hlv] at hl
  have hts := atoms_spec (ws := ws_ y cc nL (some .boolean)) B.pre
  refine body p e _ s m _ below meth c _ ⟨B.exec, B.bytes, hml, findClass_of_methodNamed B.named, fun w h => hts w (List.mem_cons_of_mem _ h), B.notSynchronized, hK, hA, Nat.le_refl _, Nat.le_refl _, hZ⟩ hH.1 ?_ ?_ rfl (Nat.zero_le _) (Nat.zero_le _) s.heap [] ls hH va_S.rf hl
  · intro pc lv v S1 hd hz hKv hN _ _ H locs ls hH1 hS _
    exact vx_ret (W.zret (v := v) B.exec B.bytes B.returns (by show Value.int (v &&& 1) = Value.int v; rw [hz]) (fun t ht hW => ⟨⟨v, S1, rfl, ⟨hz, hKv⟩, by rw [ht]; exact hH1, hN⟩, hS.F ht⟩) hS.2.2 hd B.notSynchronized)
  · intro pc lv S1 hKX hN _ _ H locs ls st ce hH1 hS _ g1 g2 g3
    exact vx_out (fun x hx => (htab x hx).elim) B.notSynchronized g1 g2 g3 (fun t ht hvm => ⟨S1, hKX, ⟨rfl, rfl, by rw [ht]; exact hH1, hN⟩, hS.F ht⟩) hS.2.2 (Nat.le_refl _) (Nat.le_refl _)
theorem tj_xmetW_z {l : Launch} {y : MethodName} {cc : ByteArray} {nL f L tg : Nat} {En : String} {hh : List (Nat × Nat × Nat × Nat)} {av : List Value} (lv : List (Nat × Value)) {G : tG} {ad : Nat → Nat} {A : Nat → Prop} {S : tS} {K : Int32 → tS → Prop} (hy : plainName y.cls = true) (hlv : lv_args 0 av = lv) (hsl : (lg_sl av).length ≤ nL)
    (body : ∀ (p : Program) (e : Env) (R : Room) (s : State) (m : MethodId) (args : Array Value) (below : List Frame) (meth : Method) (c : Code) (Q : State → Prop), TC (G, A, p, l, e, R, s, m, args, below, meth, c, Q, ad, nL) cc y.cls f L → tWf (gN S) → (xc (G, A, p, l, e, R, s, m, args, below, meth, c, Q, ad, nL)).exceptionTable.toList = tableOf hh → TRz (G, A, p, l, e, R, s, m, args, below, meth, c, Q, ad, nL) (gN S) cc K → TJ (G, A, p, l, e, R, s, m, args, below, meth, c, Q, ad, nL) (gN S) 0 0 0 lv [] S) :
    vx_Met l y (wsW_ y cc nL (some .boolean) hh) (tRm f L) (va_Pc av (tPre G ad A S)) (va_Qi (fun r u => r &&& 1 = r ∧ K r u) (tB G ad A (gN S)) A) (vx_X (fun _ => False) (tBX G ad A (gN S) En tg) A) 0 0 A := by
  refine vx_ofWH (cc := cc) (maxL := nL) (ret := some .boolean) (hh := hh) hy rfl ?_
  intro p e s m args below meth c s₁ B hml hv
  obtain ⟨rfl, hA, hH, hK, hZ⟩ := hv
  rw [lg_entry_eq]
  have hl := lv_entry av hsl
  generalize (lg_sl av ++ List.replicate (nL - (lg_sl av).length) Slot.unset).toArray = ls at hl ⊢
  rw [hlv] at hl
  have hts := atoms_spec (ws := wsW_ y cc nL (some .boolean) hh) B.pre
  refine body p e _ s m _ below meth c _ ⟨B.exec, B.bytes, hml, findClass_of_methodNamed B.named, fun w h => hts w (List.mem_cons_of_mem _ h), B.notSynchronized, hK, hA, Nat.le_refl _, Nat.le_refl _, hZ⟩ hH.1 (vx_table (x := y) B (hts _ List.mem_cons_self)) ?_ rfl (Nat.zero_le _) (Nat.zero_le _) s.heap [] ls hH va_S.rf hl
  · intro pc lv v S1 hd hz hKv hN _ _ H locs ls hH1 hS _
    exact vx_ret (W.zret (v := v) B.exec B.bytes B.returns (by show Value.int (v &&& 1) = Value.int v; rw [hz]) (fun t ht hW => ⟨⟨v, S1, rfl, ⟨hz, hKv⟩, by rw [ht]; exact hH1, hN⟩, hS.F ht⟩) hS.2.2 hd B.notSynchronized)
theorem tj_xmet_l {l : Launch} {y : MethodName} {cc : ByteArray} {nL f L tg : Nat} {En : String} {av : List Value} (lv : List (Nat × Value)) {G : tG} {ad : Nat → Nat} {A : Nat → Prop} {S : tS} {K : Int64 → tS → Prop} {KX : tS → Prop} (hy : plainName y.cls = true) (hlv : lv_args 0 av = lv) (hsl : (lg_sl av).length ≤ nL)
    (body : ∀ (p : Program) (e : Env) (R : Room) (s : State) (m : MethodId) (args : Array Value) (below : List Frame) (meth : Method) (c : Code) (Q : State → Prop), TC (G, A, p, l, e, R, s, m, args, below, meth, c, Q, ad, nL) cc y.cls f L → tWf (gN S) → TRl (G, A, p, l, e, R, s, m, args, below, meth, c, Q, ad, nL) (gN S) cc K → TRX (G, A, p, l, e, R, s, m, args, below, meth, c, Q, ad, nL) (gN S) En tg KX → TJ (G, A, p, l, e, R, s, m, args, below, meth, c, Q, ad, nL) (gN S) 0 0 0 lv [] S) :
    vx_Met l y (ws_ y cc nL (some .long)) (tRm f L) (va_Pc av (tPre G ad A S)) (va_Ql K (tB G ad A (gN S)) A) (vx_X KX (tBX G ad A (gN S) En tg) A) 0 0 A := by
  refine vx_ofW (cc := cc) (maxL := nL) (ret := some .long) hy rfl ?_
  intro p e s m args below meth c s₁ B hml htab hv
  obtain ⟨rfl, hA, hH, hK, hZ⟩ := hv
  rw [lg_entry_eq]
  have hl := lv_entry av hsl
  generalize (lg_sl av ++ List.replicate (nL - (lg_sl av).length) Slot.unset).toArray = ls at hl ⊢
  rw [hlv] at hl
  have hts := atoms_spec (ws := ws_ y cc nL (some .long)) B.pre
  refine body p e _ s m _ below meth c _ ⟨B.exec, B.bytes, hml, findClass_of_methodNamed B.named, fun w h => hts w (List.mem_cons_of_mem _ h), B.notSynchronized, hK, hA, Nat.le_refl _, Nat.le_refl _, hZ⟩ hH.1 ?_ ?_ rfl (Nat.zero_le _) (Nat.zero_le _) s.heap [] ls hH va_S.rf hl
  · intro pc lv v S1 hd hKv hN _ _ H locs ls hH1 hS _
    exact vx_ret (W.lret (v := v) B.exec B.bytes B.returns (fun t ht hW => ⟨⟨v, S1, rfl, hKv, by rw [ht]; exact hH1, hN⟩, hS.F ht⟩) hS.2.2 hd B.notSynchronized)
  · intro pc lv S1 hKX hN _ _ H locs ls st ce hH1 hS _ g1 g2 g3
    exact vx_out (fun x hx => (htab x hx).elim) B.notSynchronized g1 g2 g3 (fun t ht hvm => ⟨S1, hKX, ⟨rfl, rfl, by rw [ht]; exact hH1, hN⟩, hS.F ht⟩) hS.2.2 (Nat.le_refl _) (Nat.le_refl _)
theorem tj_xmetW_l {l : Launch} {y : MethodName} {cc : ByteArray} {nL f L tg : Nat} {En : String} {hh : List (Nat × Nat × Nat × Nat)} {av : List Value} (lv : List (Nat × Value)) {G : tG} {ad : Nat → Nat} {A : Nat → Prop} {S : tS} {K : Int64 → tS → Prop} (hy : plainName y.cls = true) (hlv : lv_args 0 av = lv) (hsl : (lg_sl av).length ≤ nL)
    (body : ∀ (p : Program) (e : Env) (R : Room) (s : State) (m : MethodId) (args : Array Value) (below : List Frame) (meth : Method) (c : Code) (Q : State → Prop), TC (G, A, p, l, e, R, s, m, args, below, meth, c, Q, ad, nL) cc y.cls f L → tWf (gN S) → (xc (G, A, p, l, e, R, s, m, args, below, meth, c, Q, ad, nL)).exceptionTable.toList = tableOf hh → TRl (G, A, p, l, e, R, s, m, args, below, meth, c, Q, ad, nL) (gN S) cc K → TJ (G, A, p, l, e, R, s, m, args, below, meth, c, Q, ad, nL) (gN S) 0 0 0 lv [] S) :
    vx_Met l y (wsW_ y cc nL (some .long) hh) (tRm f L) (va_Pc av (tPre G ad A S)) (va_Ql K (tB G ad A (gN S)) A) (vx_X (fun _ => False) (tBX G ad A (gN S) En tg) A) 0 0 A := by
  refine vx_ofWH (cc := cc) (maxL := nL) (ret := some .long) (hh := hh) hy rfl ?_
  intro p e s m args below meth c s₁ B hml hv
  obtain ⟨rfl, hA, hH, hK, hZ⟩ := hv
  rw [lg_entry_eq]
  have hl := lv_entry av hsl
  generalize (lg_sl av ++ List.replicate (nL - (lg_sl av).length) Slot.unset).toArray = ls at hl ⊢
  rw [hlv] at hl
  have hts := atoms_spec (ws := wsW_ y cc nL (some .long) hh) B.pre
  refine body p e _ s m _ below meth c _ ⟨B.exec, B.bytes, hml, findClass_of_methodNamed B.named, fun w h => hts w (List.mem_cons_of_mem _ h), B.notSynchronized, hK, hA, Nat.le_refl _, Nat.le_refl _, hZ⟩ hH.1 (vx_table (x := y) B (hts _ List.mem_cons_self)) ?_ rfl (Nat.zero_le _) (Nat.zero_le _) s.heap [] ls hH va_S.rf hl
  · intro pc lv v S1 hd hKv hN _ _ H locs ls hH1 hS _
    exact vx_ret (W.lret (v := v) B.exec B.bytes B.returns (fun t ht hW => ⟨⟨v, S1, rfl, hKv, by rw [ht]; exact hH1, hN⟩, hS.F ht⟩) hS.2.2 hd B.notSynchronized)
theorem tj_xmet_v {l : Launch} {y : MethodName} {cc : ByteArray} {nL f L tg : Nat} {En : String} {av : List Value} (lv : List (Nat × Value)) {G : tG} {ad : Nat → Nat} {A : Nat → Prop} {S : tS} {K : tS → Prop} {KX : tS → Prop} (hy : plainName y.cls = true) (hlv : lv_args 0 av = lv) (hsl : (lg_sl av).length ≤ nL)
    (body : ∀ (p : Program) (e : Env) (R : Room) (s : State) (m : MethodId) (args : Array Value) (below : List Frame) (meth : Method) (c : Code) (Q : State → Prop), TC (G, A, p, l, e, R, s, m, args, below, meth, c, Q, ad, nL) cc y.cls f L → tWf (gN S) → TRv (G, A, p, l, e, R, s, m, args, below, meth, c, Q, ad, nL) (gN S) cc K → TRX (G, A, p, l, e, R, s, m, args, below, meth, c, Q, ad, nL) (gN S) En tg KX → TJ (G, A, p, l, e, R, s, m, args, below, meth, c, Q, ad, nL) (gN S) 0 0 0 lv [] S) :
    vx_Met l y (ws_ y cc nL (none)) (tRm f L) (va_Pc av (tPre G ad A S)) (va_Qv K (tB G ad A (gN S)) A) (vx_X KX (tBX G ad A (gN S) En tg) A) 0 0 A := by
  refine vx_ofW (cc := cc) (maxL := nL) (ret := none) hy rfl ?_
  intro p e s m args below meth c s₁ B hml htab hv
  obtain ⟨rfl, hA, hH, hK, hZ⟩ := hv
  rw [lg_entry_eq]
  have hl := lv_entry av hsl
  generalize (lg_sl av ++ List.replicate (nL - (lg_sl av).length) Slot.unset).toArray = ls at hl ⊢
  rw [hlv] at hl
  have hts := atoms_spec (ws := ws_ y cc nL (none)) B.pre
  refine body p e _ s m _ below meth c _ ⟨B.exec, B.bytes, hml, findClass_of_methodNamed B.named, fun w h => hts w (List.mem_cons_of_mem _ h), B.notSynchronized, hK, hA, Nat.le_refl _, Nat.le_refl _, hZ⟩ hH.1 ?_ ?_ rfl (Nat.zero_le _) (Nat.zero_le _) s.heap [] ls hH va_S.rf hl
  · intro pc lv S1 hd hKv hN _ _ H locs ls hH1 hS _
    exact vx_ret (W.vret B.exec B.bytes B.returns (fun t ht hW => ⟨⟨S1, rfl, hKv, by rw [ht]; exact hH1, hN⟩, hS.F ht⟩) hS.2.2 hd B.notSynchronized)
  · intro pc lv S1 hKX hN _ _ H locs ls st ce hH1 hS _ g1 g2 g3
    exact vx_out (fun x hx => (htab x hx).elim) B.notSynchronized g1 g2 g3 (fun t ht hvm => ⟨S1, hKX, ⟨rfl, rfl, by rw [ht]; exact hH1, hN⟩, hS.F ht⟩) hS.2.2 (Nat.le_refl _) (Nat.le_refl _)
theorem tj_xmetW_v {l : Launch} {y : MethodName} {cc : ByteArray} {nL f L tg : Nat} {En : String} {hh : List (Nat × Nat × Nat × Nat)} {av : List Value} (lv : List (Nat × Value)) {G : tG} {ad : Nat → Nat} {A : Nat → Prop} {S : tS} {K : tS → Prop} (hy : plainName y.cls = true) (hlv : lv_args 0 av = lv) (hsl : (lg_sl av).length ≤ nL)
    (body : ∀ (p : Program) (e : Env) (R : Room) (s : State) (m : MethodId) (args : Array Value) (below : List Frame) (meth : Method) (c : Code) (Q : State → Prop), TC (G, A, p, l, e, R, s, m, args, below, meth, c, Q, ad, nL) cc y.cls f L → tWf (gN S) → (xc (G, A, p, l, e, R, s, m, args, below, meth, c, Q, ad, nL)).exceptionTable.toList = tableOf hh → TRv (G, A, p, l, e, R, s, m, args, below, meth, c, Q, ad, nL) (gN S) cc K → TJ (G, A, p, l, e, R, s, m, args, below, meth, c, Q, ad, nL) (gN S) 0 0 0 lv [] S) :
    vx_Met l y (wsW_ y cc nL (none) hh) (tRm f L) (va_Pc av (tPre G ad A S)) (va_Qv K (tB G ad A (gN S)) A) (vx_X (fun _ => False) (tBX G ad A (gN S) En tg) A) 0 0 A := by
  refine vx_ofWH (cc := cc) (maxL := nL) (ret := none) (hh := hh) hy rfl ?_
  intro p e s m args below meth c s₁ B hml hv
  obtain ⟨rfl, hA, hH, hK, hZ⟩ := hv
  rw [lg_entry_eq]
  have hl := lv_entry av hsl
  generalize (lg_sl av ++ List.replicate (nL - (lg_sl av).length) Slot.unset).toArray = ls at hl ⊢
  rw [hlv] at hl
  have hts := atoms_spec (ws := wsW_ y cc nL (none) hh) B.pre
  refine body p e _ s m _ below meth c _ ⟨B.exec, B.bytes, hml, findClass_of_methodNamed B.named, fun w h => hts w (List.mem_cons_of_mem _ h), B.notSynchronized, hK, hA, Nat.le_refl _, Nat.le_refl _, hZ⟩ hH.1 (vx_table (x := y) B (hts _ List.mem_cons_self)) ?_ rfl (Nat.zero_le _) (Nat.zero_le _) s.heap [] ls hH va_S.rf hl
  · intro pc lv S1 hd hKv hN _ _ H locs ls hH1 hS _
    exact vx_ret (W.vret B.exec B.bytes B.returns (fun t ht hW => ⟨⟨S1, rfl, hKv, by rw [ht]; exact hH1, hN⟩, hS.F ht⟩) hS.2.2 hd B.notSynchronized)
theorem tj_xmet_r {l : Launch} {y : MethodName} {cc : ByteArray} {nL f L tg : Nat} {En cn : String} {av : List Value} (lv : List (Nat × Value)) {G : tG} {ad : Nat → Nat} {A : Nat → Prop} {S : tS} {K : Nat → tS → Prop} {KX : tS → Prop} (hy : plainName y.cls = true) (hlv : lv_args 0 av = lv) (hsl : (lg_sl av).length ≤ nL)
    (body : ∀ (p : Program) (e : Env) (R : Room) (s : State) (m : MethodId) (args : Array Value) (below : List Frame) (meth : Method) (c : Code) (Q : State → Prop), TC (G, A, p, l, e, R, s, m, args, below, meth, c, Q, ad, nL) cc y.cls f L → tWf (gN S) → TRr (G, A, p, l, e, R, s, m, args, below, meth, c, Q, ad, nL) (gN S) cc K → TRX (G, A, p, l, e, R, s, m, args, below, meth, c, Q, ad, nL) (gN S) En tg KX → TJ (G, A, p, l, e, R, s, m, args, below, meth, c, Q, ad, nL) (gN S) 0 0 0 lv [] S) :
    vx_Met l y (ws_ y cc nL (some (.object cn))) (tRm f L) (va_Pc av (tPre G ad A S)) (va_Qq (fun r (u : tS × Nat) => r = some (ad u.2) ∧ K u.2 u.1) (fun u t => tB G ad A (gN S) u.1 t) A) (vx_X KX (tBX G ad A (gN S) En tg) A) 0 0 A := by
  refine vx_ofW (cc := cc) (maxL := nL) (ret := some (.object cn)) hy rfl ?_
  intro p e s m args below meth c s₁ B hml htab hv
  obtain ⟨rfl, hA, hH, hK, hZ⟩ := hv
  rw [lg_entry_eq]
  have hl := lv_entry av hsl
  generalize (lg_sl av ++ List.replicate (nL - (lg_sl av).length) Slot.unset).toArray = ls at hl ⊢
  rw [hlv] at hl
  have hts := atoms_spec (ws := ws_ y cc nL (some (.object cn))) B.pre
  refine body p e _ s m _ below meth c _ ⟨B.exec, B.bytes, hml, findClass_of_methodNamed B.named, fun w h => hts w (List.mem_cons_of_mem _ h), B.notSynchronized, hK, hA, Nat.le_refl _, Nat.le_refl _, hZ⟩ hH.1 ?_ ?_ rfl (Nat.zero_le _) (Nat.zero_le _) s.heap [] ls hH va_S.rf hl
  · intro pc lv v S1 hd hKv hN _ _ H locs ls hH1 hS _
    exact vx_ret (W.aret (v := .ref (ad v)) B.exec B.bytes B.returns (Or.inl ⟨_, rfl⟩) (Or.inr ⟨_, rfl⟩) (fun t ht hW => ⟨⟨some (ad v), (S1, v), rfl, ⟨rfl, hKv⟩, by rw [ht]; exact hH1, hN⟩, hS.F ht⟩) hS.2.2 hd B.notSynchronized)
  · intro pc lv S1 hKX hN _ _ H locs ls st ce hH1 hS _ g1 g2 g3
    exact vx_out (fun x hx => (htab x hx).elim) B.notSynchronized g1 g2 g3 (fun t ht hvm => ⟨S1, hKX, ⟨rfl, rfl, by rw [ht]; exact hH1, hN⟩, hS.F ht⟩) hS.2.2 (Nat.le_refl _) (Nat.le_refl _)
