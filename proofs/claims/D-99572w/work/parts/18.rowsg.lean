/-! constructors of made things -/
set_option maxRecDepth 100000
section TINIT
variable {Γ : tX} {cc : ByteArray} {own : String} {f L : Nat} {N0 : Nat → Nat} {uc us pc : Nat} {lv lv' : List (Nat × Value)} {st : List Value} {S : tS}
theorem te_callI (C : TC Γ cc own f L) {y : MethodName} {bytes : ByteArray} {maxL f1 L1 mc ms n index t : Nat} {post : tS → Prop} (As rest : List Value) (hM : gN S = N0 → Met (xl Γ) y (ws_ y bytes maxL none) (tRe f1 L1 mc ms) (tSP Γ (.ref (xad Γ t) :: As) S) (va_Qv post (tBBE Γ (gN S)) (xA Γ)) mc ms (xA Γ)) (hcode : Cond.code y bytes maxL none ∈ lw_all) (hini : Cond.initialized y.cls ∈ lw_all) (hlink : Cond.methodLink own index y ∈ lw_all) (hinst : Cond.instanceMethod y ∈ lw_all) (hnm : y.name = "<init>") (hy : tyOk y n) (hn : As.length = n) (hf : f1 + 1 ≤ f) (hL : 8 + (maxL + 11) + L1 ≤ L) (hu : uc + mc ≤ (xR Γ).cells ∧ us + ms ≤ (xR Γ).slots) (hrest : (rest.map fun v => v.category).sum ≤ 8) (hst : st = As.reverse ++ .ref (xad Γ t) :: rest) (hd : decode cc pc = .ok (.invokespecial index, 3)) (kk : ∀ (u : tS) (N1 : Nat → Nat), post u → gN u = N1 → tExt N0 N1 → tWf N1 → TJ Γ N1 (uc + mc) (us + ms) (pc + 3) lv rest u) : TJ Γ N0 uc us pc lv st S := by
  intro h1 h2 h3 H locs ls hH hS hl
  exact va_callv (va_runI (As := As) (rest := rest) ⟨C.x, C.b, C.ml, C.ow, C.ts⟩ (hM h1) (cwI n C.ts (lw_meth hcode) rfl rfl rfl (C.ts _ hini) (C.ts _ hlink) (C.ts _ hinst) hnm hy ⟨Nat.le_trans hf C.fr, Nat.le_trans hL C.lo⟩) ⟨tPre_blind, tj_pre C hH hS _⟩ rfl hn hl.1 hst (lv_room hrest) hd hu) hS (fun q _ h => h) (fun q h => h) (fun u t H1 locs1 ht hvm hp hB hz hk hS1 => kk u _ hp rfl (by rw [← h1]; exact hB.2) hB.1.1 rfl hu.1 hu.2 H1 locs1 ls (by rw [← ht]; exact hB.1) hS1 hl)
theorem te_callIN (C : TC Γ cc own f L) {y : MethodName} {bytes : ByteArray} {maxL f1 L1 mc ms n index t : Nat} {host : String} {post : tS → Prop} (As rest : List Value) (hM : gN S = N0 → Met (xl Γ) y (ws_ y bytes maxL none) (tRe f1 L1 mc ms) (tSP Γ (.ref (xad Γ t) :: As) S) (va_Qv post (tBBE Γ (gN S)) (xA Γ)) mc ms (xA Γ)) (hcode : Cond.code y bytes maxL none ∈ lw_all) (hini : Cond.initialized y.cls ∈ lw_all) (hnl : Cond.methodLinkNest own index y host ∈ lw_tbl) (hinst : Cond.instanceMethod y ∈ lw_all) (hnm : y.name = "<init>") (hy : tyOk y n) (hn : As.length = n) (hf : f1 + 1 ≤ f) (hL : 8 + (maxL + 11) + L1 ≤ L) (hu : uc + mc ≤ (xR Γ).cells ∧ us + ms ≤ (xR Γ).slots) (hrest : (rest.map fun v => v.category).sum ≤ 8) (hst : st = As.reverse ++ .ref (xad Γ t) :: rest) (hd : decode cc pc = .ok (.invokespecial index, 3)) (kk : ∀ (u : tS) (N1 : Nat → Nat), post u → gN u = N1 → tExt N0 N1 → tWf N1 → TJ Γ N1 (uc + mc) (us + ms) (pc + 3) lv rest u) : TJ Γ N0 uc us pc lv st S := by
  intro h1 h2 h3 H locs ls hH hS hl
  exact va_callv (va_runIN (As := As) (rest := rest) ⟨C.x, C.b, C.ml, C.ow, C.ts⟩ (hM h1) ⟨va_cnB n C.ts (lw_meth hcode) rfl rfl rfl (C.K.2.1 _ hnl rfl) (C.ts _ hini) hy ⟨Nat.le_trans hf C.fr, Nat.le_trans hL C.lo⟩, hnm, C.ts _ hinst⟩ ⟨tPre_blind, tj_pre C hH hS _⟩ rfl hn hl.1 hst (lv_room hrest) hd hu) hS (fun q _ h => h) (fun q h => h) (fun u t H1 locs1 ht hvm hp hB hz hk hS1 => kk u _ hp rfl (by rw [← h1]; exact hB.2) hB.1.1 rfl hu.1 hu.2 H1 locs1 ls (by rw [← ht]; exact hB.1) hS1 hl)
theorem tj_putF (C : TC Γ cc own f L) (hin2 : (xmeth Γ).name = "<init>") {Cn ref : String} {T : u_T} {N : Nat} (k t j index : Nat) {v : Value} {S' : tS} (hk : t % 32 = k) (hk16 : k < 16) (hc : tcl[k]? = some (Cn, T, N)) (hin : ∀ w ∈ u_ws Cn T N, w ∈ lw_all) (tyo : Nat → FieldType) (hty : ∀ k, k < N → parseFieldDescriptor (T k).2.2.1 = some (tyo k)) (hnm : ∀ a, a < N → ∀ b, b < N → a ≠ b → (T a).2.1 ≠ (T b).2.1) (hj : j < N) (hjl : j < (tcode k).length)
    (hlink : Cond.fieldLink own index ref (T j).2.1 (T j).2.2.1 ∈ lw_all) (hsame : (T j).1 = ref) (hdecl : (T j).1 = own) (hfin : (T j).2.2.2 = true) (h0 : N0 t ≠ 0) (hn : narrow (tyo j) v = v) (hfit : fits (tyo j) v = true) (hp : tPut (xad Γ) S S' t k j v) (hd : decode cc pc = .ok (.putfield index, 3))
    (kk : TJ Γ N0 uc us (pc + 3) lv st S') : TJ Γ N0 uc us pc lv (v :: .ref (xad Γ t) :: st) S := by
  intro h1 h2 h3 H locs ls hH hS hl
  obtain ⟨hw, Ls, hn1, hm, hP, hD⟩ := hH
  obtain ⟨i, hi, hci⟩ := tH_idx (G := xG Γ) (ad := xad Γ) (A := xA Γ) hm (t := t) (by rw [h1]; exact h0)
  have hci' : (Ls.map (tcell (xG Γ).2.1 (xad Γ) S))[i]? = some (xad Γ t, .inr (k, tfs (xad Γ) S t k)) := by rw [hci]; unfold tcell; rw [tEn_o _ _ _ hk hk16]
  refine va_putF (D := (xG Γ).1) (ci := k) (C := Cn) (T := T) (N := N) C.x C.b C.ts hin tyo hty hnm C.ow C.K.1 hP hD hS i hci' hc j hj (C.ts _ hlink) (fun x hx => by rw [← hsame]; exact hx) hfin hin2 hdecl (hty j hj) hn hfit (by rw [tfs_len]; exact hjl) hd (fun H1 locs1 hP1 hD1 hS1 => kk (hp.1.trans h1) h2 h3 H1 locs1 ls ?_ hS1 hl)
  refine tH_put hw hn1 hm hi hp.1 hp.2.1 ?_ hP1 hD1
  rw [tfs_set hjl hp.2.2.1 hp.2.2.2, tEn_o _ _ _ hk hk16]
theorem tj_objInit (C : TC Γ cc own f L) {index x : Nat} (hlink : Cond.methodLink own index ⟨"java/lang/Object", "<init>", "()V"⟩ ∈ lw_all) (hf : 1 ≤ f) (hL : 20 ≤ L) (hrest : (st.map fun v => v.category).sum ≤ 8) (hd : decode cc pc = .ok (.invokespecial index, 3)) (kk : TJ Γ N0 uc us (pc + 3) lv st S) : TJ Γ N0 uc us pc lv (.ref x :: st) S := by
  intro h1 h2 h3 H locs ls hH hS hl
  refine W.objInit C.x C.b C.ow (C.ts _ hlink) (C.ts _ q203) (C.ts _ q204) rfl (by rw [C.ml]; exact hl.1) rfl hd ?_ ?_ ?_
  · exact Nat.le_trans hf C.fr
  · have := C.lo; have h9 : (st.map fun v => v.category).sum ≤ 8 := hrest; show _ ≤ _; simp only [F0]; omega
  · exact kk h1 h2 h3 H locs ls hH hS hl
end TINIT
theorem te_metI {l : Launch} {y : MethodName} {cc : ByteArray} {nL f L mc ms : Nat} {av : List Value} (lv : List (Nat × Value)) {G : tG} {ad : Nat → Nat} {A : Nat → Prop} {S : tS} {K : tS → Prop} (hy : plainName y.cls = true) (hyn : y.name = "<init>") (hlv : lv_args 0 av = lv) (hsl : (lg_sl av).length ≤ nL)
    (body : ∀ (p : Program) (e : Env) (R : Room) (s : State) (m : MethodId) (args : Array Value) (below : List Frame) (meth : Method) (c : Code) (Q : State → Prop), TC (G, A, p, l, e, R, s, m, args, below, meth, c, Q, ad, nL) cc y.cls f L → meth.name = "<init>" → tWf (gN S) → (mc ≤ R.cells ∧ ms ≤ R.slots) → TEv (G, A, p, l, e, R, s, m, args, below, meth, c, Q, ad, nL) (gN S) mc ms cc K → TJ (G, A, p, l, e, R, s, m, args, below, meth, c, Q, ad, nL) (gN S) 0 0 0 lv [] S) :
    Met l y (ws_ y cc nL none) (tRe f L mc ms) (va_Pc av (tPre G ad A S)) (va_Qv K (tBE G ad A (gN S)) A) mc ms A := by
  refine Met.ofW (cc := cc) (maxL := nL) (ret := none) hy rfl ?_
  intro p e s m args below meth c s₁ B hml hv
  obtain ⟨rfl, hA, hH, hK, hZ⟩ := hv
  rw [lg_entry_eq]
  have hl := lv_entry av hsl
  generalize (lg_sl av ++ List.replicate (nL - (lg_sl av).length) Slot.unset).toArray = ls at hl ⊢
  rw [hlv] at hl
  have hts := atoms_spec (ws := ws_ y cc nL none) B.pre
  refine body p e _ s m _ below meth c _ ⟨B.exec, B.bytes, hml, findClass_of_methodNamed B.named, fun w h => hts w (List.mem_cons_of_mem _ h), B.notSynchronized, hK, hA, Nat.le_refl _, Nat.le_refl _, hZ⟩ ((name_of_methodNamed B.named B.method).1.trans hyn) hH.1 ⟨Nat.le_refl _, Nat.le_refl _⟩ ?_ rfl (Nat.zero_le _) (Nat.zero_le _) s.heap [] ls hH va_S.rf hl
  intro N1 pc lv S1 hx hd hKv hN _ _ H locs ls hH1 hS _
  exact W.vret B.exec B.bytes B.returns (fun t ht hW => ⟨⟨S1, rfl, hKv, by rw [ht]; exact hH1, (by rw [hN]; exact hx)⟩, hS.F ht⟩) hS.2.2 hd B.notSynchronized
