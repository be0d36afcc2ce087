/-! ROWS: references put into arrays; inherited and abstract methods (Step, Block) -/
set_option maxRecDepth 100000
section TROWSH
variable {Γ : tX} {cc : ByteArray} {own : String} {f L : Nat} {N0 : Nat → Nat} {uc us pc : Nat} {lv lv' : List (Nat × Value)} {st : List Value} {S : tS}
theorem tj_aastX (C : TC Γ cc own f L) (t n v k kv : Nat) {i : Int32} {r : vw_C} (hk : t % 32 = k) (h21 : 21 ≤ k) (hty : ∀ dA : Nat → ClassId, (ttys dA)[k - 16]? = some (dA k, .object r.1)) (hc : tcl[kv]? = some r) (hkv16 : kv < 16) (hv : N0 v ≠ 0) (hkv : v % 32 = kv) (hn : N0 t = n + 1) (j : Nat) (hj : i.toNatClampNeg = j) (hin : vp_in i n) (hd : decode cc pc = .ok (.aastore, 1)) (kk : TJ Γ N0 uc us (pc + 1) lv st (sR S t j (some v))) : TJ Γ N0 uc us pc lv (.ref (xad Γ v) :: .int i :: .ref (xad Γ t) :: st) S := by
  subst hj
  intro h1 h2 h3 H locs ls hH hS hl
  obtain ⟨hw, Ls, hn1, hm, hP, hD⟩ := hH
  obtain ⟨b, hi, hci⟩ := tH_idx (G := xG Γ) (ad := xad Γ) (A := xA Γ) hm (t := t) (by rw [h1, hn]; omega)
  obtain ⟨b2, hi2, hci2⟩ := tH_idx (G := xG Γ) (ad := xad Γ) (A := xA Γ) hm (t := v) (by rw [h1]; exact hv)
  have hci' : (Ls.map (tcell (xG Γ).2.1 (xad Γ) S))[b]? = some (xad Γ t, .inl ((xG Γ).2.1 k, n, .inr (.inr (.inr (.inr (fun j => (gR S t j).map (xad Γ))))))) := by rw [hci]; unfold tcell; rw [tEn_q _ _ _ hk h21 (by rw [h1]; exact hn)]
  have hci2' : (Ls.map (tcell (xG Γ).2.1 (xad Γ) S))[b2]? = some (xad Γ v, .inr (kv, tfs (xad Γ) S v kv)) := by rw [hci2]; unfold tcell; rw [tEn_o _ _ _ hkv hkv16]
  refine va_astq (D := (xG Γ).1) C.x C.b C.K.1 hP hD hS b (k - 16) b2 kv hci' (hty _) hci2' hc hin hd (fun H1 locs1 hP1 hD1 hS1 => kk h1 h2 h3 H1 locs1 ls ?_ hS1 hl)
  refine tH_put hw hn1 hm hi rfl (fun a ha j => ⟨rfl, rfl, by rw [gR_sR, if_neg ha]⟩) ?_ hP1 hD1
  rw [tEn_q _ _ (sR S t i.toNatClampNeg (some v)) hk h21 (show gN S t = n + 1 by rw [h1]; exact hn)]
  congr 7
  funext j
  rw [gR_sR, if_pos rfl]
  unfold va_up
  split <;> rfl
theorem tj_aastC (C : TC Γ cc own f L) (t n v k kv : Nat) {i : Int32} {r : vw_C} {E : String} (hk : t % 32 = k) (h21 : 21 ≤ k) (hty : ∀ dA : Nat → ClassId, (ttys dA)[k - 16]? = some (dA k, .object E)) (hca : Cond.castable r.1 E ∈ lw_tbl) (hc : tcl[kv]? = some r) (hkv16 : kv < 16) (hv : N0 v ≠ 0) (hkv : v % 32 = kv) (hn : N0 t = n + 1) (j : Nat) (hj : i.toNatClampNeg = j) (hin : vp_in i n) (hd : decode cc pc = .ok (.aastore, 1)) (kk : TJ Γ N0 uc us (pc + 1) lv st (sR S t j (some v))) : TJ Γ N0 uc us pc lv (.ref (xad Γ v) :: .int i :: .ref (xad Γ t) :: st) S := by
  subst hj
  intro h1 h2 h3 H locs ls hH hS hl
  obtain ⟨hw, Ls, hn1, hm, hP, hD⟩ := hH
  obtain ⟨b, hi, hci⟩ := tH_idx (G := xG Γ) (ad := xad Γ) (A := xA Γ) hm (t := t) (by rw [h1, hn]; omega)
  obtain ⟨b2, hi2, hci2⟩ := tH_idx (G := xG Γ) (ad := xad Γ) (A := xA Γ) hm (t := v) (by rw [h1]; exact hv)
  have hci' : (Ls.map (tcell (xG Γ).2.1 (xad Γ) S))[b]? = some (xad Γ t, .inl ((xG Γ).2.1 k, n, .inr (.inr (.inr (.inr (fun j => (gR S t j).map (xad Γ))))))) := by rw [hci]; unfold tcell; rw [tEn_q _ _ _ hk h21 (by rw [h1]; exact hn)]
  have hci2' : (Ls.map (tcell (xG Γ).2.1 (xad Γ) S))[b2]? = some (xad Γ v, .inr (kv, tfs (xad Γ) S v kv)) := by rw [hci2]; unfold tcell; rw [tEn_o _ _ _ hkv hkv16]
  refine va_astqO (D := (xG Γ).1) C.x C.b C.K.1 hP hD hS b (k - 16) b2 kv hci' (hty _) (C.K.2.1 _ hca rfl) hci2' hc hin hd (fun H1 locs1 hP1 hD1 hS1 => kk h1 h2 h3 H1 locs1 ls ?_ hS1 hl)
  refine tH_put hw hn1 hm hi rfl (fun a ha j => ⟨rfl, rfl, by rw [gR_sR, if_neg ha]⟩) ?_ hP1 hD1
  rw [tEn_q _ _ (sR S t i.toNatClampNeg (some v)) hk h21 (show gN S t = n + 1 by rw [h1]; exact hn)]
  congr 7
  funext j
  rw [gR_sR, if_pos rfl]
  unfold va_up
  split <;> rfl
/-- a Rule into Rule[], a House into House[], a step into Step[] -/
theorem tj_aast23 (C : TC Γ cc own f L) (t n v : Nat) {i : Int32} (hk : t % 32 = 23) (hv : N0 v ≠ 0 ∧ v % 32 = 7) (hn : N0 t = n + 1) (j : Nat) (hj : i.toNatClampNeg = j) (hin : vp_in i n) (hd : decode cc pc = .ok (.aastore, 1)) (kk : TJ Γ N0 uc us (pc + 1) lv st (sR S t j (some v))) : TJ Γ N0 uc us pc lv (.ref (xad Γ v) :: .int i :: .ref (xad Γ t) :: st) S :=
  tj_aastX C t n v 23 7 (r := (RX8, TX8, 7)) hk (by decide) (fun _ => rfl) rfl (by decide) hv.1 hv.2 hn j hj hin hd kk
theorem tj_aast22 (C : TC Γ cc own f L) (t n v : Nat) {i : Int32} (hk : t % 32 = 22) (hv : N0 v ≠ 0 ∧ v % 32 = 5) (hn : N0 t = n + 1) (j : Nat) (hj : i.toNatClampNeg = j) (hin : vp_in i n) (hd : decode cc pc = .ok (.aastore, 1)) (kk : TJ Γ N0 uc us (pc + 1) lv st (sR S t j (some v))) : TJ Γ N0 uc us pc lv (.ref (xad Γ v) :: .int i :: .ref (xad Γ t) :: st) S :=
  tj_aastX C t n v 22 5 (r := (RX4, TX4, 2)) hk (by decide) (fun _ => rfl) rfl (by decide) hv.1 hv.2 hn j hj hin hd kk
theorem tj_aast24 (C : TC Γ cc own f L) (t n v : Nat) {i : Int32} (hk : t % 32 = 24) (hv : N0 v ≠ 0 ∧ (v % 32 = 8 ∨ v % 32 = 9 ∨ v % 32 = 10)) (hn : N0 t = n + 1) (j : Nat) (hj : i.toNatClampNeg = j) (hin : vp_in i n) (hd : decode cc pc = .ok (.aastore, 1)) (kk : TJ Γ N0 uc us (pc + 1) lv st (sR S t j (some v))) : TJ Γ N0 uc us pc lv (.ref (xad Γ v) :: .int i :: .ref (xad Γ t) :: st) S := by
  rcases hv.2 with h | h | h
  · exact tj_aastC C t n v 24 8 (r := (RX13, TX13, 3)) (E := "CatWitness$Step") hk (by decide) (fun _ => rfl) q2423 rfl (by decide) hv.1 h hn j hj hin hd kk
  · exact tj_aastC C t n v 24 9 (r := (RX11, TX11, 3)) (E := "CatWitness$Step") hk (by decide) (fun _ => rfl) q2421 rfl (by decide) hv.1 h hn j hj hin hd kk
  · exact tj_aastC C t n v 24 10 (r := (RX12, TX12, 6)) (E := "CatWitness$Step") hk (by decide) (fun _ => rfl) q2422 rfl (by decide) hv.1 h hn j hj hin hd kk
theorem tj_aast24d (C : TC Γ cc own f L) (t v : Nat) {i : Int32} (hk : t % 32 = 24) (hv : N0 v ≠ 0 ∧ (v % 32 = 8 ∨ v % 32 = 9 ∨ v % 32 = 10)) (hn : N0 t ≠ 0) (j : Nat) (hj : i.toNatClampNeg = j) (hin : vp_in i (gN S t - 1)) (hd : decode cc pc = .ok (.aastore, 1)) (kk : TJ Γ N0 uc us (pc + 1) lv st (sR S t j (some v))) : TJ Γ N0 uc us pc lv (.ref (xad Γ v) :: .int i :: .ref (xad Γ t) :: st) S := tj_hN (fun hN => tj_aast24 C t (N0 t - 1) v hk hv (by have := hn; omega) j hj (by rw [← hN]; exact hin) hd kk)
/-- the words of a call of a method of a class above -/
theorem lw_U {own : String} {idx : Nat} {Cn owner : String} {x y : MethodName} {b : ByteArray} {M : Nat} {r : Option FieldType} (h1 : Cond.methodLink own idx x ∈ lw_all) (h2 : Cond.sameMethod x.cls owner x.name x.desc ∈ lw_all) (h3 : Cond.selects Cn x y ∈ lw_all) (h4 : Cond.instanceMethod y ∈ lw_all) (h5 : Cond.initialized y.cls ∈ lw_all) (h6 : Cond.code y b M r ∈ lw_all) : GoodIn lw_all (va_wsU own idx Cn owner x y (ws_ y b M r)) :=
  lw_app (fun w h => by
    rcases List.mem_cons.mp h with e | h
    · rw [e]; exact h1
    rcases List.mem_cons.mp h with e | h
    · rw [e]; exact h2
    rcases List.mem_cons.mp h with e | h
    · rw [e]; exact h3
    rcases List.mem_cons.mp h with e | h
    · rw [e]; exact h4
    rcases List.mem_cons.mp h with e | h
    · rw [e]; exact h5
    · cases h) (lw_meth h6)
theorem tj_callUv (C : TC Γ cc own f L) {x y : MethodName} {Cn owner : String} {bytes : ByteArray} {maxL f1 L1 n index : Nat} {post : tS → Prop} (As rest : List Value) {b k : Nat} {T : u_T} {N : Nat} (hM : gN S = N0 → Met (xl Γ) y (ws_ y bytes maxL (none)) (tRm f1 L1) (tSP Γ (.ref (xad Γ b) :: As) S) (va_Qv post (tBB Γ (gN S)) (xA Γ)) 0 0 (xA Γ)) (hlk : GoodIn lw_all (va_wsU own index Cn owner x y (ws_ y bytes maxL (none)))) (hyx : y = ⟨owner, x.name, x.desc⟩) (hdd : owner ≠ "java/lang/invoke/MethodHandle" ∧ owner ≠ "java/lang/invoke/VarHandle" ∧ (parseMethodDescriptor x.desc).map (fun d => d.parameters.length) = some n) (hn : As.length = n) (hf : f1 + 1 ≤ f) (hL : 8 + (maxL + 11) + L1 ≤ L) (hrest : (rest.map fun v => v.category).sum ≤ 8) (h0 : N0 b ≠ 0) (hk : b % 32 = k) (hk16 : k < 16) (hc : tcl[k]? = some (Cn, T, N)) (hst : st = As.reverse ++ .ref (xad Γ b) :: rest) (hd : decode cc pc = .ok (.invokevirtual index, 3)) (kk : ∀ u : tS, post u → TJ Γ N0 uc us (pc + 3) lv rest u) : TJ Γ N0 uc us pc lv st S := by
  intro h1 h2 h3 H locs ls hH hS hl
  exact va_callv (va_runU (As := As) (rest := rest) ⟨C.x, C.b, C.ml, C.ow, C.ts⟩ (hM h1) (va_cwU n C.ts hlk rfl rfl rfl hyx hdd ⟨Nat.le_trans hf C.fr, Nat.le_trans hL C.lo⟩) ⟨tPre_blind, tj_recv C hH (by rw [h1]; exact h0) hk hk16 hc, tj_pre C hH hS _⟩ rfl hn hl.1 hst (lv_room hrest) hd ⟨h2, h3⟩) hS (fun q _ h => h) (fun q h => h) (fun u t H1 locs1 ht hvm hp hB hz hk hS1 => kk u hp (hB.2.trans h1) h2 h3 H1 locs1 ls (by rw [← ht]; exact hB.1) hS1 hl)
theorem tj_callAv (C : TC Γ cc own f L) {x y : MethodName} {Cn owner : String} {bytes : ByteArray} {maxL f1 L1 n index : Nat} {post : tS → Prop} (As rest : List Value) {b k : Nat} {T : u_T} {N : Nat} (hM : gN S = N0 → Met (xl Γ) y (ws_ y bytes maxL (none)) (tRm f1 L1) (tSP Γ (.ref (xad Γ b) :: As) S) (va_Qv post (tBB Γ (gN S)) (xA Γ)) 0 0 (xA Γ)) (hlk : GoodIn lw_all (va_wsU own index Cn owner x y (ws_ y bytes maxL (none)))) (hz : Cond.declares ⟨owner, x.name, x.desc⟩ ∈ lw_tbl) (hdd : owner ≠ "java/lang/invoke/MethodHandle" ∧ owner ≠ "java/lang/invoke/VarHandle" ∧ (parseMethodDescriptor x.desc).map (fun d => d.parameters.length) = some n) (hn : As.length = n) (hf : f1 + 1 ≤ f) (hL : 8 + (maxL + 11) + L1 ≤ L) (hrest : (rest.map fun v => v.category).sum ≤ 8) (h0 : N0 b ≠ 0) (hk : b % 32 = k) (hk16 : k < 16) (hc : tcl[k]? = some (Cn, T, N)) (hst : st = As.reverse ++ .ref (xad Γ b) :: rest) (hd : decode cc pc = .ok (.invokevirtual index, 3)) (kk : ∀ u : tS, post u → TJ Γ N0 uc us (pc + 3) lv rest u) : TJ Γ N0 uc us pc lv st S := by
  intro h1 h2 h3 H locs ls hH hS hl
  exact va_callv (va_runU (As := As) (rest := rest) ⟨C.x, C.b, C.ml, C.ow, C.ts⟩ (hM h1) (va_cwA n C.ts hlk rfl rfl rfl (C.K.2.1 _ hz rfl) hdd ⟨Nat.le_trans hf C.fr, Nat.le_trans hL C.lo⟩) ⟨tPre_blind, tj_recv C hH (by rw [h1]; exact h0) hk hk16 hc, tj_pre C hH hS _⟩ rfl hn hl.1 hst (lv_room hrest) hd ⟨h2, h3⟩) hS (fun q _ h => h) (fun q h => h) (fun u t H1 locs1 ht hvm hp hB hz hk hS1 => kk u hp (hB.2.trans h1) h2 h3 H1 locs1 ls (by rw [← ht]; exact hB.1) hS1 hl)
/-- Block.add, which may make an array -/
theorem te_callUv (C : TC Γ cc own f L) {x y : MethodName} {Cn owner : String} {bytes : ByteArray} {maxL f1 L1 mc ms n index : Nat} {post : tS → Prop} (As rest : List Value) {b k : Nat} {T : u_T} {N : Nat} (hM : gN S = N0 → Met (xl Γ) y (ws_ y bytes maxL (none)) (tRe f1 L1 mc ms) (tSP Γ (.ref (xad Γ b) :: As) S) (va_Qv post (tBBE Γ (gN S)) (xA Γ)) mc ms (xA Γ)) (hlk : GoodIn lw_all (va_wsU own index Cn owner x y (ws_ y bytes maxL (none)))) (hyx : y = ⟨owner, x.name, x.desc⟩) (hdd : owner ≠ "java/lang/invoke/MethodHandle" ∧ owner ≠ "java/lang/invoke/VarHandle" ∧ (parseMethodDescriptor x.desc).map (fun d => d.parameters.length) = some n) (hn : As.length = n) (hf : f1 + 1 ≤ f) (hL : 8 + (maxL + 11) + L1 ≤ L) (hu : uc + mc ≤ (xR Γ).cells ∧ us + ms ≤ (xR Γ).slots) (hrest : (rest.map fun v => v.category).sum ≤ 8) (h0 : N0 b ≠ 0) (hk : b % 32 = k) (hk16 : k < 16) (hc : tcl[k]? = some (Cn, T, N)) (hst : st = As.reverse ++ .ref (xad Γ b) :: rest) (hd : decode cc pc = .ok (.invokevirtual index, 3)) (kk : ∀ (u : tS) (N1 : Nat → Nat), post u → gN u = N1 → tExt N0 N1 → tWf N1 → TJ Γ N1 (uc + mc) (us + ms) (pc + 3) lv rest u) : TJ Γ N0 uc us pc lv st S := by
  intro h1 h2 h3 H locs ls hH hS hl
  exact va_callv (va_runU (As := As) (rest := rest) ⟨C.x, C.b, C.ml, C.ow, C.ts⟩ (hM h1) (va_cwU n C.ts hlk rfl rfl rfl hyx hdd ⟨Nat.le_trans hf C.fr, Nat.le_trans hL C.lo⟩) ⟨tPre_blind, tj_recv C hH (by rw [h1]; exact h0) hk hk16 hc, tj_pre C hH hS _⟩ rfl hn hl.1 hst (lv_room hrest) hd hu) hS (fun q _ h => h) (fun q h => h) (fun u t H1 locs1 ht hvm hp hB hz hk hS1 => kk u _ hp rfl (by rw [← h1]; exact hB.2) hB.1.1 rfl hu.1 hu.2 H1 locs1 ls (by rw [← ht]; exact hB.1) hS1 hl)
theorem tj_callU3v (C : TC Γ cc own f L) {x y : MethodName} {owner : String} {bytes : ByteArray} {maxL f1 L1 n index : Nat} {post : tS → Prop} (As rest : List Value) {b : Nat} (hM : gN S = N0 → Met (xl Γ) y (ws_ y bytes maxL (none)) (tRm f1 L1) (tSP Γ (.ref (xad Γ b) :: As) S) (va_Qv post (tBB Γ (gN S)) (xA Γ)) 0 0 (xA Γ)) (hlk8 : GoodIn lw_all (va_wsU own index RX13 owner x y (ws_ y bytes maxL (none)))) (hlk9 : GoodIn lw_all (va_wsU own index RX11 owner x y (ws_ y bytes maxL (none)))) (hlk10 : GoodIn lw_all (va_wsU own index RX12 owner x y (ws_ y bytes maxL (none)))) (hyx : y = ⟨owner, x.name, x.desc⟩) (hdd : owner ≠ "java/lang/invoke/MethodHandle" ∧ owner ≠ "java/lang/invoke/VarHandle" ∧ (parseMethodDescriptor x.desc).map (fun d => d.parameters.length) = some n) (hn : As.length = n) (hf : f1 + 1 ≤ f) (hL : 8 + (maxL + 11) + L1 ≤ L) (hrest : (rest.map fun v => v.category).sum ≤ 8) (h0 : N0 b ≠ 0) (hk : b % 32 = 8 ∨ b % 32 = 9 ∨ b % 32 = 10) (hst : st = As.reverse ++ .ref (xad Γ b) :: rest) (hd : decode cc pc = .ok (.invokevirtual index, 3)) (kk : ∀ u : tS, post u → TJ Γ N0 uc us (pc + 3) lv rest u) : TJ Γ N0 uc us pc lv st S := by
  rcases hk with h | h | h
  · exact tj_callUv C (k := 8) (T := TX13) (N := 3) As rest hM hlk8 hyx hdd hn hf hL hrest h0 h (by decide) rfl hst hd kk
  · exact tj_callUv C (k := 9) (T := TX11) (N := 3) As rest hM hlk9 hyx hdd hn hf hL hrest h0 h (by decide) rfl hst hd kk
  · exact tj_callUv C (k := 10) (T := TX12) (N := 6) As rest hM hlk10 hyx hdd hn hf hL hrest h0 h (by decide) rfl hst hd kk
theorem te_callU2v (C : TC Γ cc own f L) {x y : MethodName} {owner : String} {bytes : ByteArray} {maxL f1 L1 mc ms n index : Nat} {post : tS → Prop} (As rest : List Value) {b : Nat} (hM : gN S = N0 → Met (xl Γ) y (ws_ y bytes maxL (none)) (tRe f1 L1 mc ms) (tSP Γ (.ref (xad Γ b) :: As) S) (va_Qv post (tBBE Γ (gN S)) (xA Γ)) mc ms (xA Γ)) (hlk9 : GoodIn lw_all (va_wsU own index RX11 owner x y (ws_ y bytes maxL (none)))) (hlk10 : GoodIn lw_all (va_wsU own index RX12 owner x y (ws_ y bytes maxL (none)))) (hyx : y = ⟨owner, x.name, x.desc⟩) (hdd : owner ≠ "java/lang/invoke/MethodHandle" ∧ owner ≠ "java/lang/invoke/VarHandle" ∧ (parseMethodDescriptor x.desc).map (fun d => d.parameters.length) = some n) (hn : As.length = n) (hf : f1 + 1 ≤ f) (hL : 8 + (maxL + 11) + L1 ≤ L) (hu : uc + mc ≤ (xR Γ).cells ∧ us + ms ≤ (xR Γ).slots) (hrest : (rest.map fun v => v.category).sum ≤ 8) (h0 : N0 b ≠ 0) (hk : b % 32 = 9 ∨ b % 32 = 10) (hst : st = As.reverse ++ .ref (xad Γ b) :: rest) (hd : decode cc pc = .ok (.invokevirtual index, 3)) (kk : ∀ (u : tS) (N1 : Nat → Nat), post u → gN u = N1 → tExt N0 N1 → tWf N1 → TJ Γ N1 (uc + mc) (us + ms) (pc + 3) lv rest u) : TJ Γ N0 uc us pc lv st S := by
  rcases hk with h | h
  · exact te_callUv C (k := 9) (T := TX11) (N := 3) As rest hM hlk9 hyx hdd hn hf hL hu hrest h0 h (by decide) rfl hst hd kk
  · exact te_callUv C (k := 10) (T := TX12) (N := 6) As rest hM hlk10 hyx hdd hn hf hL hu hrest h0 h (by decide) rfl hst hd kk
end TROWSH
/-! System.arraycopy of references whose things are of several classes; what the elements must be is said by the cell -/
section TCOPYQ
variable {p : Program} {l : Launch} {e : Env} {R : Room} {s : State} {m : MethodId} {args : Array Value} {below : List Frame} {meth : Method} {c : Code} {H : Heap} {locs : List Loc} {cells slots : Nat} {Q : State → Prop}
variable {pc : Nat} {ls : Array Slot} {rest : List Value} {D : va_G} {cl : List vw_C} {A : Nat → Prop} {a : Nat} {tys : List (ClassId × FieldType)} {ws : va_W} {H0 : Heap}
theorem tz_nn (z : Int32) (hz : ¬ z < 0) : z.toInt = (z.toNatClampNeg : Int) := by
  have h : (0 : Int) ≤ z.toInt := by simpa using Int32.le_iff_toInt_le.mp (Int32.not_lt.mp hz)
  exact (Int.toNat_of_nonneg h).symm
theorem tz_copyq {cc : ByteArray} (hexec : p.tables.exec = Jvm.exec) (hb : c.code = cc) (hml : c.maxLocals = ls.size) {own : String} {index : Nat} (hown : s.vm.findClass own = some m.cls) (hlink : (Cond.methodLink own index arraycopyName).before args s = true) (hnat : (Cond.native arraycopyName).before args s = true) (hstat : (Cond.static arraycopyName).before args s = true) (hini : (Cond.initialized "java/lang/System").before args s = true)
    (hK : va_K D cl tys s) (hP : va_P D cl ws H) (hD : va_D A ws) (hS : va_S A H0 H locs) (q0 q1 t0 t1 : Nat) {a0 : Nat} {c0 c1 : ClassId} {n0 n1 : Nat} {f g : Nat → Option Nat} {E0 E1 : String} (ha0 : ws[q0]? = some (a0, .inl (c0, n0, .inr (.inr (.inr (.inr f)))))) (ha1 : ws[q1]? = some (a, .inl (c1, n1, .inr (.inr (.inr (.inr g)))))) (ht0 : tys[t0]? = some (c0, .object E0)) (ht1 : tys[t1]? = some (c1, .object E1))
    {sp dp n : Int32} (h1 : ¬ sp < 0) (h2 : ¬ dp < 0) (h3 : ¬ n < 0) (h4 : sp.toNatClampNeg + n.toNatClampNeg ≤ n0) (h5 : dp.toNatClampNeg + n.toNatClampNeg ≤ n1) (hel : ∀ i : Nat, i < n.toNatClampNeg → ∀ y : Nat, f (sp.toNatClampNeg + i) = some y → ∃ (cellV : Cell) (kC : Class), H[y]? = some cellV ∧ cellV.vm.isStatics = false ∧ s.vm.classes[cellV.cls]? = some kC ∧ ∀ comp : ClassId, s.vm.findClass E1 = some comp → s.vm.assignable cellV.cls comp = true)
    (hframes : 1 ≤ R.frames) (hlocals : (rest.map fun v => v.category).sum + (nativeFrameWords "java/lang/System" "arraycopy" 5 + 11) ≤ R.locals) (hdg : decode cc pc = .ok (.invokestatic index, 3))
    (kk : ∀ (H1 : Heap) (locs1 : List Loc), va_P D cl (ws.set q1 (a, .inl (c1, n1, .inr (.inr (.inr (.inr (va_cpy f g sp.toNatClampNeg dp.toNatClampNeg n.toNatClampNeg))))))) H1 → va_D A (ws.set q1 (a, .inl (c1, n1, .inr (.inr (.inr (.inr (va_cpy f g sp.toNatClampNeg dp.toNatClampNeg n.toNatClampNeg))))))) → va_S A H0 H1 locs1 → W p l e R s m args below meth c H1 locs1 cells slots Q (F0 m (pc + 3) ls rest)) : W p l e R s m args below meth c H locs cells slots Q (F0 m pc ls (.int n :: .int dp :: .ref a :: .int sp :: .ref a0 :: rest)) := by
  intro T hT X
  have b0 := hP q0 _ ha0
  have b1 := hP q1 _ ha1
  have b0' : H[a0]? = some (vp_cell c0 (n0, .inr (.inr (.inr (.inr f))))) := b0
  have b1' : H[a]? = some (vp_cell c1 (n1, .inr (.inr (.inr (.inr g))))) := b1
  have hsz : a < H.size := (Array.getElem?_eq_some_iff.mp b1').1
  obtain ⟨-, k0, hk0, cm0, hkk0⟩ := (hK.2 t0 _ ht0).1 n0 (fun j => va_rf (f j))
  obtain ⟨-, k1, hk1, cm1, hkk1⟩ := (hK.2 t1 _ ht1).1 n1 (fun j => va_rf (g j))
  have hval : ∀ vm₁, s.vm.Alike vm₁ → ∀ i, i < n.toNatClampNeg → fits (.object E1) ((vp_cell c0 (n0, .inr (.inr (.inr (.inr f))))).slots.getD (sp.toNatClampNeg + i) .null) = true ∧ (T.setVm vm₁).takes cm1 ((vp_cell c0 (n0, .inr (.inr (.inr (.inr f))))).slots.getD (sp.toNatClampNeg + i) .null) := by
    intro vm₁ hal i hi
    have e0 : (vp_cell c0 (n0, .inr (.inr (.inr (.inr f))))).slots.getD (sp.toNatClampNeg + i) .null = va_rf (f (sp.toNatClampNeg + i)) := by
      show (arrV c0 n0 (fun j => va_rf (f j))).slots.getD _ _ = _
      rw [Array.getD_eq_getD_getElem?, arrV_read _ _ (by omega)]
      rfl
    rw [e0]
    cases hy : f (sp.toNatClampNeg + i) with
    | none => exact ⟨rfl, trivial⟩
    | some y =>
      obtain ⟨cv, kC, g1, g2, g3, g4⟩ := hel i hi y hy
      obtain ⟨kA, comp, r1, r2, r3, -⟩ := (hK.2 t1 _ ht1).2
      cases hk1.symm.trans r1
      cases hkk1.symm.trans r2
      obtain ⟨kE, hkE, -⟩ := Vm.findClass_spec r3
      obtain ⟨kC', hkC', -⟩ := hal.2.2 _ _ g3
      obtain ⟨kE', hkE', -⟩ := hal.2.2 _ _ hkE
      refine ⟨rfl, cv, (show T.heap[y]? = some cv by rw [hT]; exact g1), (fun q h => by rw [h] at g2; cases g2), ⟨kC', hkC'⟩, ⟨kE', hkE'⟩, ?_⟩
      show vm₁.assignable _ _ = true
      rw [hal.assignable]
      exact g4 _ r3
  obtain ⟨vm', X', step⟩ := X.arraycopy hexec hown hlink hnat hstat hini (src := a0) (dst := a) (srcPos := sp) (destPos := dp) (n := n) (cs := vp_cell c0 (n0, .inr (.inr (.inr (.inr f))))) (cd := vp_cell c1 (n1, .inr (.inr (.inr (.inr g))))) (by rw [hT]; exact b0') (by rw [hT]; exact b1') (fun _ h => by cases h) (fun _ h => by cases h) (fun h => by cases h) (fun h => by cases h) hk0 hk1 hkk0 hkk1 rfl h1 h2 h3
    (by rw [tz_nn sp h1, tz_nn n h3]; show ¬ _ > ((arrV c0 n0 (fun j => va_rf (f j))).slots.size : Int); rw [arrV_size]; omega)
    (by rw [tz_nn dp h2, tz_nn n h3]; show ¬ _ > ((arrV c1 n1 (fun j => va_rf (g j))).slots.size : Int); rw [arrV_size]; omega)
    hval (g := F0 m pc ls (.int n :: .int dp :: .ref a :: .int sp :: .ref a0 :: rest)) rfl (by rw [hml]) (rest := rest) rfl (by rw [hb]; exact hdg) hframes (by show 2 * 0 + _ + _ ≤ _; omega)
  have ec : copied (vp_cell c0 (n0, .inr (.inr (.inr (.inr f))))) (vp_cell c1 (n1, .inr (.inr (.inr (.inr g))))) sp dp n = vp_cell c1 (n1, .inr (.inr (.inr (.inr (va_cpy f g sp.toNatClampNeg dp.toNatClampNeg n.toNatClampNeg))))) := by
    simp only [vp_cell_q]
    exact va_copied (fun z => va_rf z) c0 c1 f g h4
  rw [ec] at X' step
  generalize hH1 : H.setIfInBounds a (vp_cell c1 (n1, .inr (.inr (.inr (.inr (va_cpy f g sp.toNatClampNeg dp.toNatClampNeg n.toNatClampNeg)))))) = H1
  have hh : ((T.setVm vm').setCell a (vp_cell c1 (n1, .inr (.inr (.inr (.inr (va_cpy f g sp.toNatClampNeg dp.toNatClampNeg n.toNatClampNeg))))))).heap = H1 := by rw [← hH1, ← hT]; rfl
  have z1 : H1.size = H.size := by rw [← hH1]; simp
  have s1 : H1[a]? = some (vp_cell c1 (n1, .inr (.inr (.inr (.inr (va_cpy f g sp.toNatClampNeg dp.toNatClampNeg n.toNatClampNeg)))))) := by rw [← hH1]; simp [Array.getElem?_setIfInBounds, hsz]
  have o1 : ∀ q : Nat, q ≠ a → H1[q]? = H[q]? := fun q hq => by rw [← hH1]; simp [Array.getElem?_setIfInBounds, Ne.symm hq]
  have hAa : A a := hD.2 q1 _ ha1
  obtain ⟨t, w1, w2⟩ := kk H1 _ (hP.set hD ha1 s1 o1) (hD.set ha1) ⟨by rw [z1]; exact hS.1, fun q g1 g2 => by rw [o1 q (fun e => g2 (e ▸ hAa))]; exact hS.2.1 q g1 g2, fun q hq => by
      rcases List.mem_append.mp hq with h | h
      · exact hS.2.2 q h
      · obtain ⟨z, -, hz⟩ := List.mem_map.mp h
        rw [← hz]
        exact hAa⟩ _ hh X'
  exact ⟨t, step t w1, w2⟩
end TCOPYQ
section TCOPY24
variable {Γ : tX} {cc : ByteArray} {own : String} {f L : Nat} {N0 : Nat → Nat} {uc us pc : Nat} {lv lv' : List (Nat × Value)} {st : List Value} {S : tS}
theorem tz_stepC (C : TC Γ cc own f L) {H : Heap} {y kv : Nat} {r : vw_C} {E : String} (hH : tH (xG Γ) (xad Γ) (xA Γ) S H) (g1 : gN S y ≠ 0) (g2 : y % 32 = kv) (h16 : kv < 16) (hc : tcl[kv]? = some r) (hca : Cond.castable r.1 E ∈ lw_tbl) : ∃ (cellV : Cell) (kC : Class), H[xad Γ y]? = some cellV ∧ cellV.vm.isStatics = false ∧ (xs Γ).vm.classes[cellV.cls]? = some kC ∧ ∀ comp : ClassId, (xs Γ).vm.findClass E = some comp → (xs Γ).vm.assignable cellV.cls comp = true := by
  obtain ⟨cell, c1, c2, c3⟩ := tj_recv C hH g1 g2 h16 hc
  obtain ⟨kC, hkC, -⟩ := Vm.findClass_spec c3
  obtain ⟨c0, t1, f1, f2, f3⟩ := Cond.castable_spec (va_Nw.use (A := xargs Γ) rfl (C.K.2.1 _ hca rfl))
  refine ⟨cell, kC, c1, c2, hkC, fun comp hcm => ?_⟩
  cases c3.symm.trans f1
  cases hcm.symm.trans f2
  exact f3
theorem tj_copy24 (C : TC Γ cc own f L) (t0 t1 n0 n1 : Nat) {index : Nat} {sp dp n : Int32} (k0 : t0 % 32 = 24) (k1 : t1 % 32 = 24) (e0 : gN S t0 = n0 + 1) (e1 : gN S t1 = n1 + 1) (hlink : Cond.methodLink own index arraycopyName ∈ lw_all) (hb : ¬ sp < nI 0 ∧ ¬ dp < nI 0 ∧ ¬ n < nI 0 ∧ sp.toNatClampNeg + n.toNatClampNeg ≤ n0 ∧ dp.toNatClampNeg + n.toNatClampNeg ≤ n1 ∧ ∀ i : Nat, i < n.toNatClampNeg → ∀ y : Nat, gR S t0 (sp.toNatClampNeg + i) = some y → gN S y ≠ 0 ∧ (y % 32 = 8 ∨ y % 32 = 9 ∨ y % 32 = 10))
    (hf : 1 ≤ f) (hL : 60 ≤ L) (hrest : (st.map fun v => v.category).sum ≤ 8) (hd : decode cc pc = .ok (.invokestatic index, 3)) (kk : TJ Γ N0 uc us (pc + 3) lv st (wR S t1 (va_cpy (gR S t0) (gR S t1) sp.toNatClampNeg dp.toNatClampNeg n.toNatClampNeg))) : TJ Γ N0 uc us pc lv (.int n :: .int dp :: .ref (xad Γ t1) :: .int sp :: .ref (xad Γ t0) :: st) S := by
  intro h1 h2 h3 H locs ls hH hS hl
  have hH0 := hH
  obtain ⟨hw, Ls, hn1, hm, hP, hD⟩ := hH
  obtain ⟨i0, hi0, hc0⟩ := tH_idx (G := xG Γ) (ad := xad Γ) (A := xA Γ) hm (t := t0) (by rw [e0]; omega)
  obtain ⟨i1, hi1, hc1⟩ := tH_idx (G := xG Γ) (ad := xad Γ) (A := xA Γ) hm (t := t1) (by rw [e1]; omega)
  have hc0' : (Ls.map (tcell (xG Γ).2.1 (xad Γ) S))[i0]? = some (xad Γ t0, .inl ((xG Γ).2.1 24, n0, .inr (.inr (.inr (.inr (fun j => (gR S t0 j).map (xad Γ))))))) := by rw [hc0]; unfold tcell; rw [tEn_q _ _ _ k0 (by omega) e0]
  have hc1' : (Ls.map (tcell (xG Γ).2.1 (xad Γ) S))[i1]? = some (xad Γ t1, .inl ((xG Γ).2.1 24, n1, .inr (.inr (.inr (.inr (fun j => (gR S t1 j).map (xad Γ))))))) := by rw [hc1]; unfold tcell; rw [tEn_q _ _ _ k1 (by omega) e1]
  refine tz_copyq (D := (xG Γ).1) C.x C.b (by rw [C.ml]; exact hl.1.symm) C.ow (C.ts _ hlink) (C.ts _ tw_acnat) (C.ts _ tw_acsta) (C.ts _ tw_acini) C.K.1 hP hD hS i0 i1 8 8 hc0' hc1' rfl rfl hb.1 hb.2.1 hb.2.2.1 hb.2.2.2.1 hb.2.2.2.2.1 ?_ (Nat.le_trans hf C.fr) ?_ hd (fun H1 locs1 hP1 hD1 hS1 => kk h1 h2 h3 H1 locs1 ls ?_ hS1 hl)
  · intro i hi y hy
    cases ht : gR S t0 (sp.toNatClampNeg + i) with
    | none => rw [ht] at hy; cases hy
    | some t =>
      rw [ht] at hy
      cases hy
      obtain ⟨g1, g2⟩ := hb.2.2.2.2.2 i hi t ht
      rcases g2 with g2 | g2 | g2
      · exact tz_stepC C hH0 g1 g2 (by decide) (r := (RX13, TX13, 3)) rfl q2423
      · exact tz_stepC C hH0 g1 g2 (by decide) (r := (RX11, TX11, 3)) rfl q2421
      · exact tz_stepC C hH0 g1 g2 (by decide) (r := (RX12, TX12, 6)) rfl q2422
  · have h9 : nativeFrameWords "java/lang/System" "arraycopy" 5 + 11 ≤ 52 := by decide +kernel
    have := C.lo
    omega
  · refine tH_put hw hn1 hm hi1 rfl (fun a ha j => ⟨rfl, rfl, by rw [gR_wR, if_neg ha]⟩) ?_ hP1 hD1
    rw [tEn_q _ _ (wR S t1 _) k1 (by omega) (show gN S t1 = n1 + 1 from e1)]
    congr 7
    funext j
    rw [gR_wR, if_pos rfl]
    unfold va_cpy
    split <;> rfl
end TCOPY24
section T16
variable {p : Program} {l : Launch} {e : Env} {R : Room} {s : State} {m : MethodId} {args : Array Value} {below : List Frame} {meth : Method} {c : Code} {H : Heap} {locs : List Loc} {cells slots : Nat}
variable {y : MethodName} {bytes cc : ByteArray} {maxL nL mc ms n index : Nat} {ret : Option FieldType} {ws : List Cond} {rm : Room} {Pc : Array Value → State → Prop} {Qc : Array Value → State → Outcome → State → Prop} {XC : String → Addr → State → State → Prop} {free : Addr → Prop} {Ts : List Cond} {own C : String} {b : Addr} {As rest : List Value} {g : JFrame}
theorem vx_runV16 (S : CallFix p m c cc nL s args Ts own) (hM : vx_Met l y ws rm Pc Qc XC mc ms free) (cw : CallW R s args own C index y bytes maxL ret ws rm mc ms n) (hp : PreV s H C b Pc As)
    (hg : g.method = m) (hn : As.length = n) (hsize : g.locals.size = nL) (hstack : g.stack = As.reverse ++ .ref b :: rest) (hW : 2 * g.monitorRoom + (rest.map fun v => v.category).sum ≤ 16) (h16 : 16 + (maxL + 11) + rm.locals ≤ R.locals) (hdg : decode cc g.pc = .ok (.invokevirtual index, 3)) (hf : cells + mc ≤ R.cells ∧ slots + ms ≤ R.slots) :
    vx_Run p l e R s m args below meth c H locs cells slots mc ms g rest (Qc (Value.ref b :: As).toArray) XC free := by
  have hK : vx_Back l R p e below s args y 3 16 (PreOf R mc ms Pc) (PostOf Qc mc ms free) (vx_Post XC mc ms free) := by
    obtain ⟨hrc, hrs, hfr, hlo, hws, hcw, -, hini, -⟩ := cw.1
    exact vx_back (bytes := bytes) (maxL := maxL) (ret := ret) hM hp.1 hrc hrs hfr h16 hws hcw (fun a' U hW => word_at hW (Or.inl (by first | rfl | simp [Cond.onTables, Cond.keeps, Cond.steady])) hini)
  obtain ⟨⟨-, -, -, -, -, -, hcode, -, hy, hlen, hl⟩, hin, hse⟩ := cw
  obtain ⟨hx, hb, hml, ho, -⟩ := S
  obtain ⟨-, ⟨cellB, hcB, hoB, hclB⟩, hPc⟩ := hp
  intro T hT X
  rcases vx_callV X hx (C := C) (bytes := bytes) (maxL := maxL) (ret := ret) ho hl hin hse hcode hy hK (by rw [hT]; exact hcB) hoB hclB hg (hsize.trans hml.symm) (argsL := As) (rest := rest) (fun sig h => hn.trans (hlen sig h)) hstack hW (by rw [hb]; exact hdg)
    (fun vm₁ hW₁ => ⟨hf.1, hf.2, hPc (T.setVm vm₁) hT hW₁⟩) with ⟨v, vm₁, ⟨U', l2, c2, s2⟩, hW₁, X', ⟨g', mk, t, L, e1, e2, hq, h1, hL, h2, h3⟩, st⟩ | ⟨q, vm₁, ⟨U', l2, c2, s2⟩, hW₁, X', ⟨g', mk, t, L, E, ce, e1, e2, hq, hce, hcv, hcl, h1, hL, h2, h3⟩, st⟩
  · dsimp only [Pt.U, Pt.locs, Pt.cells, Pt.slots] at X' e1 e2 h1 h2 h3 st
    subst h1; subst h2; subst h3
    exact Or.inl ⟨v, (T.setVm vm₁).calling g' mk (Value.ref b :: As).toArray, t, U', L, hT, X', hL, e1, e2, hq, st⟩
  · dsimp only [Pt.U, Pt.locs, Pt.cells, Pt.slots] at X' e1 e2 h1 h2 h3 st hcl
    subst h1; subst h2; subst h3
    exact Or.inr ⟨q, (T.setVm vm₁).calling g' mk (Value.ref b :: As).toArray, t, U', L, E, ce, hT, X', hL, e1, e2, hq, hce, hcv, vx_cls hW₁ hcl, st⟩
end T16
theorem vx_of_met {l : Launch} {y : MethodName} {ws : List Cond} {rm : Room} {Pc : Array Value → State → Prop} {Qc : Array Value → State → Outcome → State → Prop} {mc ms : Nat} {free : Addr → Prop} (XC : String → Addr → State → State → Prop) (hM : Met l y ws rm Pc Qc mc ms free) : vx_Met l y ws rm Pc Qc XC mc ms free := by
  intro p e h1 h2 h3 s m args below h4 h5 h6 h7
  obtain ⟨n, o, a, b, c, q⟩ := hM p e h1 h2 h3 s m args below h4 h5 h6 h7
  exact ⟨n, o, a, b, c, Or.inl q⟩
section T16B
variable {Γ : tX} {cc : ByteArray} {own : String} {f L : Nat} {N0 : Nat → Nat} {uc us pc : Nat} {lv lv' : List (Nat × Value)} {st : List Value} {S : tS}
theorem tj_xVi16 (C : TC Γ cc own f L) {y : MethodName} {bytes : ByteArray} {maxL f1 L1 n index tg : Nat} {En : String} {post : Int32 → tS → Prop} {px : tS → Prop} (As rest : List Value) {b k : Nat} {T : u_T} {N : Nat}
    (hM : gN S = N0 → vx_Met (xl Γ) y (ws_ y bytes maxL (some .int)) (tRm f1 L1) (tSP Γ (.ref (xad Γ b) :: As) S) (va_Qi post (tBB Γ (gN S)) (xA Γ)) (vx_X px (tBX (xG Γ) (xad Γ) (xA Γ) (gN S) En tg) (xA Γ)) 0 0 (xA Γ)) (hlk : GoodIn lw_all (wsV own index y.cls y (ws_ y bytes maxL (some .int)))) (hy : tyOk y n) (hn : As.length = n) (hf : f1 + 1 ≤ f) (hL : 16 + (maxL + 11) + L1 ≤ L) (hrest : (rest.map fun v => v.category).sum ≤ 16) (h0 : N0 b ≠ 0) (hk : b % 32 = k) (hk16 : k < 16) (hc : tcl[k]? = some (y.cls, T, N)) (hst : st = As.reverse ++ .ref (xad Γ b) :: rest) (hd : decode cc pc = .ok (.invokevirtual index, 3))
    (kx : ∀ u : tS, px u → TXJ Γ N0 uc us pc lv u En (xad Γ tg)) (kk : ∀ (r : Int32) (u : tS), post r u → TJ Γ N0 uc us (pc + 3) lv (.int r :: rest) u) : TJ Γ N0 uc us pc lv st S := by
  intro h1 h2 h3 H locs ls hH hS hl
  exact vx_calli (vx_runV16 (As := As) (rest := rest) ⟨C.x, C.b, C.ml, C.ow, C.ts⟩ (hM h1) (cwV n C.ts hlk rfl rfl rfl ⟨rfl, hy⟩ ⟨Nat.le_trans hf C.fr, Nat.le_trans (Nat.add_le_add_right (Nat.add_le_add_right (Nat.le_of_ble_eq_true rfl : 8 ≤ 16) _) _) (Nat.le_trans hL C.lo)⟩) ⟨tPre_blind, tj_recv C hH (by rw [h1]; exact h0) hk hk16 hc, tj_pre C hH hS _⟩ rfl hn hl.1 hst (by show 2 * 0 + _ ≤ 16; omega) (Nat.le_trans hL C.lo) hd ⟨h2, h3⟩) hS (fun q _ h => h) (fun q h => h) (fun q _ h => h)
    (fun E ce q9 u t H1 locs1 ht hvm hp hB hz hk hS1 g1 g2 g3 => by obtain ⟨e1, e2, e3⟩ := hB; subst e1; subst e2; exact kx u hp (e3.2.trans h1) h2 h3 H1 locs1 ls rest ce (by rw [← ht]; exact e3.1) hS1 hl g1 g2 g3) (fun r u t H1 locs1 ht hvm hp hB hz hk hS1 => kk r u hp (hB.2.trans h1) h2 h3 H1 locs1 ls (by rw [← ht]; exact hB.1) hS1 hl)
theorem tj_xVz16 (C : TC Γ cc own f L) {y : MethodName} {bytes : ByteArray} {maxL f1 L1 n index tg : Nat} {En : String} {post : Int32 → tS → Prop} {px : tS → Prop} (As rest : List Value) {b k : Nat} {T : u_T} {N : Nat}
    (hM : gN S = N0 → vx_Met (xl Γ) y (ws_ y bytes maxL (some .boolean)) (tRm f1 L1) (tSP Γ (.ref (xad Γ b) :: As) S) (va_Qi post (tBB Γ (gN S)) (xA Γ)) (vx_X px (tBX (xG Γ) (xad Γ) (xA Γ) (gN S) En tg) (xA Γ)) 0 0 (xA Γ)) (hlk : GoodIn lw_all (wsV own index y.cls y (ws_ y bytes maxL (some .boolean)))) (hy : tyOk y n) (hn : As.length = n) (hf : f1 + 1 ≤ f) (hL : 16 + (maxL + 11) + L1 ≤ L) (hrest : (rest.map fun v => v.category).sum ≤ 16) (h0 : N0 b ≠ 0) (hk : b % 32 = k) (hk16 : k < 16) (hc : tcl[k]? = some (y.cls, T, N)) (hst : st = As.reverse ++ .ref (xad Γ b) :: rest) (hd : decode cc pc = .ok (.invokevirtual index, 3))
    (kx : ∀ u : tS, px u → TXJ Γ N0 uc us pc lv u En (xad Γ tg)) (kk : ∀ (r : Int32) (u : tS), post r u → TJ Γ N0 uc us (pc + 3) lv (.int r :: rest) u) : TJ Γ N0 uc us pc lv st S := by
  intro h1 h2 h3 H locs ls hH hS hl
  exact vx_calli (vx_runV16 (As := As) (rest := rest) ⟨C.x, C.b, C.ml, C.ow, C.ts⟩ (hM h1) (cwV n C.ts hlk rfl rfl rfl ⟨rfl, hy⟩ ⟨Nat.le_trans hf C.fr, Nat.le_trans (Nat.add_le_add_right (Nat.add_le_add_right (Nat.le_of_ble_eq_true rfl : 8 ≤ 16) _) _) (Nat.le_trans hL C.lo)⟩) ⟨tPre_blind, tj_recv C hH (by rw [h1]; exact h0) hk hk16 hc, tj_pre C hH hS _⟩ rfl hn hl.1 hst (by show 2 * 0 + _ ≤ 16; omega) (Nat.le_trans hL C.lo) hd ⟨h2, h3⟩) hS (fun q _ h => h) (fun q h => h) (fun q _ h => h)
    (fun E ce q9 u t H1 locs1 ht hvm hp hB hz hk hS1 g1 g2 g3 => by obtain ⟨e1, e2, e3⟩ := hB; subst e1; subst e2; exact kx u hp (e3.2.trans h1) h2 h3 H1 locs1 ls rest ce (by rw [← ht]; exact e3.1) hS1 hl g1 g2 g3) (fun r u t H1 locs1 ht hvm hp hB hz hk hS1 => kk r u hp (hB.2.trans h1) h2 h3 H1 locs1 ls (by rw [← ht]; exact hB.1) hS1 hl)
end T16B
