/-! the String constants: length and charAt -/
set_option maxRecDepth 100000
abbrev xV (Γ : tX) : Nat → Nat := (xG Γ).2.2.2
def chT (i j : Nat) : Int32 := (bytT.getD i []).getD j 0
theorem lenT_lt : ∀ i, i < nST → lenT.getD i 0 < 2 ^ 31 := by decide +kernel
theorem chT_ok : ∀ i, i < nST → ∀ j, j < lenT.getD i 0 → chT i j &&& 255 = chT i j ∧ ((chT i j).toUInt32 % 65536).toInt32 = chT i j ∧ narrow .char (.int (chT i j)) = .int (chT i j) := by decide +kernel
theorem sh0 (x : Int32) : x >>> ((0 : Int32) &&& 31) = x := by
  show x >>> (0 : Int32) = x
  simp
theorem vp_ltS {x : Int32} {n : Nat} (h : vp_in x n) (hn : n < 2 ^ 31) : ¬ x < nI 0 ∧ x < nI n := by
  have h0 : ¬ x < 0 := fun q => h (Or.inl q)
  have h1 : x.toNatClampNeg < n := Nat.not_le.mp fun q => h (Or.inr q)
  have e : x = nI x.toNatClampNeg := by
    have h2 : 0 ≤ x.toInt := by
      have h3 := mt (Int32.lt_iff_toInt_lt (x := x) (y := 0)).mpr h0
      have h4 : (0 : Int32).toInt = 0 := rfl
      omega
    apply Int32.toInt_inj.mp
    rw [nI_toInt (by omega)]
    show x.toInt = ((x.toInt.toNat : Nat) : Int)
    omega
  refine ⟨by rw [nI_0]; exact h0, ?_⟩
  rw [e]
  exact nI_lt h1 hn
def TRn (Γ : tX) (N0 : Nat → Nat) (cc : ByteArray) (ty : FieldType) (K : Int32 → tS → Prop) : Prop := ∀ (pc : Nat) (lv : List (Nat × Value)) (v : Int32) (S : tS), decode cc pc = .ok (.ireturn, 1) → narrow ty (.int v) = .int v → K v S → TJ Γ N0 0 0 pc lv [.int v] S
theorem tj_met_n {l : Launch} {y : MethodName} {cc : ByteArray} {nL f L : Nat} {ty : FieldType} {av : List Value} (lv : List (Nat × Value)) {G : tG} {ad : Nat → Nat} {A : Nat → Prop} {S : tS} {K : Int32 → tS → Prop} (hy : plainName y.cls = true) (hlv : lv_args 0 av = lv) (hsl : (lg_sl av).length ≤ nL)
    (body : ∀ (p : Program) (e : Env) (R : Room) (s : State) (m : MethodId) (args : Array Value) (below : List Frame) (meth : Method) (c : Code) (Q : State → Prop), TC (G, A, p, l, e, R, s, m, args, below, meth, c, Q, ad, nL) cc y.cls f L → tWf (gN S) → TRn (G, A, p, l, e, R, s, m, args, below, meth, c, Q, ad, nL) (gN S) cc ty K → TJ (G, A, p, l, e, R, s, m, args, below, meth, c, Q, ad, nL) (gN S) 0 0 0 lv [] S) :
    Met l y (ws_ y cc nL (some ty)) (tRm f L) (va_Pc av (tPre G ad A S)) (va_Qi K (tB G ad A (gN S)) A) 0 0 A := by
  refine Met.ofW (cc := cc) (maxL := nL) (ret := some ty) hy rfl ?_
  intro p e s m args below meth c s₁ B hml hv
  obtain ⟨rfl, hA, hH, hK, hZ⟩ := hv
  rw [lg_entry_eq]
  have hl := lv_entry av hsl
  generalize (lg_sl av ++ List.replicate (nL - (lg_sl av).length) Slot.unset).toArray = ls at hl ⊢
  rw [hlv] at hl
  have hts := atoms_spec (ws := ws_ y cc nL (some ty)) B.pre
  refine body p e _ s m _ below meth c _ ⟨B.exec, B.bytes, hml, findClass_of_methodNamed B.named, fun w h => hts w (List.mem_cons_of_mem _ h), B.notSynchronized, hK, hA, Nat.le_refl _, Nat.le_refl _, hZ⟩ hH.1 ?_ rfl (Nat.zero_le _) (Nat.zero_le _) s.heap [] ls hH va_S.rf hl
  intro pc lv v S1 hd hz hKv hN _ _ H locs ls hH1 hS _
  exact W.zret (v := v) B.exec B.bytes B.returns hz (fun t ht hW => ⟨⟨v, S1, rfl, hKv, by rw [ht]; exact hH1, hN⟩, hS.F ht⟩) hS.2.2 hd B.notSynchronized
section TSTR
variable {Γ : tX} {cc : ByteArray} {own : String} {f L : Nat} {N0 : Nat → Nat} {uc us pc : Nat} {lv lv' : List (Nat × Value)} {st : List Value} {S : tS}
theorem tj_sval (C : TC Γ cc RJ4 f L) (i : Nat) (hi : i < nST) (hd : decode cc pc = .ok (.getfield 9, 3)) (kk : TJ Γ N0 uc us (pc + 3) lv (.ref (xV Γ i) :: st) S) : TJ Γ N0 uc us pc lv (.ref (xK Γ i) :: st) S := by
  intro g1 g2 g3 H locs ls hH hS hl
  exact vk_getf C.x C.b (C.Z.1.1 i hi).2.2.1 hS C.ow (C.ts _ q2424) (fun _ h => h) hd (kk g1 g2 g3 H locs ls hH hS hl)
theorem tj_scod (C : TC Γ cc RJ4 f L) (i : Nat) (hi : i < nST) (hd : decode cc pc = .ok (.getfield 15, 3)) (kk : TJ Γ N0 uc us (pc + 3) lv (.int 0 :: st) S) : TJ Γ N0 uc us pc lv (.ref (xK Γ i) :: st) S := by
  intro g1 g2 g3 H locs ls hH hS hl
  exact vk_getf C.x C.b (C.Z.1.1 i hi).2.1 hS C.ow (C.ts _ q2425) (fun _ h => h) hd (kk g1 g2 g3 H locs ls hH hS hl)
theorem tj_scomp (C : TC Γ cc RJ4 f L) (hd : decode cc pc = .ok (.getstatic 38, 3)) (kk : TJ Γ N0 uc us (pc + 3) lv (.int 1 :: st) S) : TJ Γ N0 uc us pc lv st S := by
  intro g1 g2 g3 H locs ls hH hS hl
  exact va_gets C.x C.b C.Z.2.2.2.1 hS C.ow (C.ts _ q726) (fun _ h => h) hd (kk g1 g2 g3 H locs ls hH hS hl)
theorem tj_ssio (C : TC Γ cc RJ4 f L) (hd : decode cc pc = .ok (.getstatic 1053, 3)) (kk : ∀ v : Value, (v = .null ∨ ∃ t : Nat, v = .ref t) → TJ Γ N0 uc us (pc + 3) lv (v :: st) S) : TJ Γ N0 uc us pc lv st S := by
  intro g1 g2 g3 H locs ls hH hS hl
  rcases C.Z.2.2.2.2 with h | ⟨t, h⟩
  · exact va_gets C.x C.b h hS C.ow (C.ts _ q742) (fun _ h => h) hd (kk _ (Or.inl rfl) g1 g2 g3 H locs ls hH hS hl)
  · exact va_gets C.x C.b h hS C.ow (C.ts _ q742) (fun _ h => h) hd (kk _ (Or.inr ⟨t, rfl⟩) g1 g2 g3 H locs ls hH hS hl)
theorem tj_salen (C : TC Γ cc own f L) (i : Nat) (hi : i < nST) (hd : decode cc pc = .ok (.arraylength, 1)) (kk : TJ Γ N0 uc us (pc + 1) lv (.int (nI (lenT.getD i 0)) :: st) S) : TJ Γ N0 uc us pc lv (.ref (xV Γ i) :: st) S := by
  intro g1 g2 g3 H locs ls hH hS hl
  exact va_tlen C.x C.b (C.Z.1.1 i hi).2.2.2 hS rfl hd (kk g1 g2 g3 H locs ls hH hS hl)
theorem tj_sbald (C : TC Γ cc own f L) (i : Nat) (hi : i < nST) {x : Int32} (hx : vp_in x (lenT.getD i 0)) (hd : decode cc pc = .ok (.baload, 1)) (kk : TJ Γ N0 uc us (pc + 1) lv (.int (chT i x.toNatClampNeg) :: st) S) : TJ Γ N0 uc us pc lv (.int x :: .ref (xV Γ i) :: st) S := by
  intro g1 g2 g3 H locs ls hH hS hl
  exact va_tb C.x C.b (C.Z.1.1 i hi).2.2.2 hS hx rfl hd (kk g1 g2 g3 H locs ls hH hS hl)
theorem tj_recvS (C : TC Γ cc own f L) {H : Heap} {locs : List Loc} (hS : va_S (xA Γ) (xs Γ).heap H locs) {i : Nat} (hi : i < nST) : ∃ cell : Cell, H[xK Γ i]? = some cell ∧ cell.vm.isStatics = false ∧ (xs Γ).vm.findClass "java/lang/String" = some cell.cls := vk_recv C.Z.1 hi hS
theorem tj_callK (C : TC Γ cc own f L) {y : MethodName} {bytes : ByteArray} {maxL f1 L1 n index i : Nat} {ty : FieldType} {post : Int32 → tS → Prop} (As rest : List Value) (hi : i < nST) (hM : gN S = N0 → Met (xl Γ) y (ws_ y bytes maxL (some ty)) (tRm f1 L1) (tSP Γ (.ref (xK Γ i) :: As) S) (va_Qi post (tBB Γ (gN S)) (xA Γ)) 0 0 (xA Γ)) (hlk : GoodIn lw_all (wsV own index y.cls y (ws_ y bytes maxL (some ty)))) (hy : tyOk y n) (hc : y.cls = "java/lang/String") (hn : As.length = n) (hf : f1 + 1 ≤ f) (hL : 8 + (maxL + 11) + L1 ≤ L) (hrest : (rest.map fun v => v.category).sum ≤ 8) (hst : st = As.reverse ++ .ref (xK Γ i) :: rest) (hd : decode cc pc = .ok (.invokevirtual index, 3)) (kk : ∀ (r : Int32) (u : tS), post r u → TJ Γ N0 uc us (pc + 3) lv (.int r :: rest) u) : TJ Γ N0 uc us pc lv st S := by
  intro h1 h2 h3 H locs ls hH hS hl
  exact va_calli (va_runV (As := As) (rest := rest) ⟨C.x, C.b, C.ml, C.ow, C.ts⟩ (hM h1) (cwV n C.ts hlk rfl rfl rfl ⟨rfl, hy⟩ ⟨Nat.le_trans hf C.fr, Nat.le_trans hL C.lo⟩) ⟨tPre_blind, by rw [hc]; exact tj_recvS C hS hi, tj_pre C hH hS _⟩ rfl hn hl.1 hst (lv_room hrest) hd ⟨h2, h3⟩) hS (fun q _ h => h) (fun q h => h) (fun r u t H1 locs1 ht hvm hp hB hz hk hS1 => kk r u hp (hB.2.trans h1) h2 h3 H1 locs1 ls (by rw [← ht]; exact hB.1) hS1 hl)
theorem tj_callSc (C : TC Γ cc own f L) {y : MethodName} {bytes : ByteArray} {maxL f1 L1 n index : Nat} {ty : FieldType} {post : Int32 → tS → Prop} (As rest : List Value) (hM : gN S = N0 → Met (xl Γ) y (ws_ y bytes maxL (some ty)) (tRm f1 L1) (tSP Γ As S) (va_Qi post (tBB Γ (gN S)) (xA Γ)) 0 0 (xA Γ)) (hlk : GoodIn lw_all (va_wsS own index y (ws_ y bytes maxL (some ty)))) (hy : tyOk y n) (hn : As.length = n) (hf : f1 + 1 ≤ f) (hL : 8 + (maxL + 11) + L1 ≤ L) (hrest : (rest.map fun v => v.category).sum ≤ 8) (hst : st = As.reverse ++ rest) (hd : decode cc pc = .ok (.invokestatic index, 3)) (kk : ∀ (r : Int32) (u : tS), post r u → TJ Γ N0 uc us (pc + 3) lv (.int r :: rest) u) : TJ Γ N0 uc us pc lv st S := by
  intro h1 h2 h3 H locs ls hH hS hl
  exact va_calli (va_runS (As := As) (rest := rest) ⟨C.x, C.b, C.ml, C.ow, C.ts⟩ (hM h1) (va_cwS n C.ts hlk rfl rfl rfl hy ⟨Nat.le_trans hf C.fr, Nat.le_trans hL C.lo⟩) ⟨tPre_blind, tj_pre C hH hS _⟩ rfl hn hl.1 hst (lv_room hrest) hd ⟨h2, h3⟩) hS (fun q _ h => h) (fun q h => h) (fun r u t H1 locs1 ht hvm hp hB hz hk hS1 => kk r u hp (hB.2.trans h1) h2 h3 H1 locs1 ls (by rw [← ht]; exact hB.1) hS1 hl)
end TSTR
theorem pnS_4 : plainName RJ4 = true := by decide +kernel
theorem pnS_7 : plainName RJ7 = true := by decide +kernel
theorem pnS_8 : plainName RJ8 = true := by decide +kernel
theorem tyS_coder : tyOk yJ4_coder 0 := ⟨by decide +kernel, by decide +kernel, by decide +kernel⟩
theorem tyS_isLatin1 : tyOk yJ4_isLatin1 0 := ⟨by decide +kernel, by decide +kernel, by decide +kernel⟩
theorem tyS_length : tyOk yJ4_length 0 := ⟨by decide +kernel, by decide +kernel, by decide +kernel⟩
theorem tyS_charAt : tyOk yJ4_charAt 1 := ⟨by decide +kernel, by decide +kernel, by decide +kernel⟩
theorem tyS_checkIndex : tyOk yJ4_checkIndex 2 := ⟨by decide +kernel, by decide +kernel, by decide +kernel⟩
theorem tyS_charAt7 : tyOk yJ7_charAt 2 := ⟨by decide +kernel, by decide +kernel, by decide +kernel⟩
theorem tyS_checkIndex8 : tyOk yJ8_checkIndex 3 := ⟨by decide +kernel, by decide +kernel, by decide +kernel⟩
theorem c_S_coder {l : Launch} {G : tG} {ad : Nat → Nat} {A : Nat → Prop} {S : tS} {K : Int32 → tS → Prop} {i : Nat} (hi : i < nST) (hf : K 0 S) : Met l yJ4_coder (ws_ yJ4_coder cJ4_coder 1 (some .byte)) (tRm 0 0) (va_Pc [.ref (G.2.2.1 i)] (tPre G ad A S)) (va_Qi K (tB G ad A (gN S)) A) 0 0 A :=
  tj_met_n [(0, .ref (G.2.2.1 i))] pnS_4 rfl (Nat.le_of_ble_eq_true rfl) (fun p e R s m args below meth c Q C hw r => by
    refine tj_scomp C dJ4_coder_0 ?_
    refine tj_if_eq C 13 (by decide) dJ4_coder_3 (fun q => absurd q (by decide)) (fun _ => ?_)
    refine tj_aload_n C 0 rfl rfl dJ4_coder_6 ?_
    refine tj_scod C i hi dJ4_coder_7 ?_
    refine tj_goto C 14 (by decide) dJ4_coder_10 ?_
    exact r _ _ _ _ dJ4_coder_14 (by decide) hf)
theorem c_S_isLatin1 {l : Launch} {G : tG} {ad : Nat → Nat} {A : Nat → Prop} {S : tS} {K : Int32 → tS → Prop} {i : Nat} (hi : i < nST) (hf : K 1 S) : Met l yJ4_isLatin1 (ws_ yJ4_isLatin1 cJ4_isLatin1 1 (some .boolean)) (tRm 0 0) (va_Pc [.ref (G.2.2.1 i)] (tPre G ad A S)) (va_Qi K (tB G ad A (gN S)) A) 0 0 A :=
  tj_met_n [(0, .ref (G.2.2.1 i))] pnS_4 rfl (Nat.le_of_ble_eq_true rfl) (fun p e R s m args below meth c Q C hw r => by
    refine tj_scomp C dJ4_isLatin1_0 ?_
    refine tj_if_eq C 17 (by decide) dJ4_isLatin1_3 (fun q => absurd q (by decide)) (fun _ => ?_)
    refine tj_aload_n C 0 rfl rfl dJ4_isLatin1_6 ?_
    refine tj_scod C i hi dJ4_isLatin1_7 ?_
    refine tj_if_ne C 17 (by decide) dJ4_isLatin1_10 (fun q => absurd rfl q) (fun _ => ?_)
    refine tj_iconst C rfl dJ4_isLatin1_13 ?_
    refine tj_goto C 18 (by decide) dJ4_isLatin1_14 ?_
    exact r _ _ _ _ dJ4_isLatin1_18 (by decide) hf)
theorem c_S_length {l : Launch} {G : tG} {ad : Nat → Nat} {A : Nat → Prop} {S : tS} {K : Int32 → tS → Prop} {i : Nat} (hi : i < nST) (hf : K (nI (lenT.getD i 0)) S) : Met l yJ4_length (ws_ yJ4_length cJ4_length 1 (some .int)) (tRm 1 20) (va_Pc [.ref (G.2.2.1 i)] (tPre G ad A S)) (va_Qi K (tB G ad A (gN S)) A) 0 0 A :=
  tj_met_i [(0, .ref (G.2.2.1 i))] pnS_4 rfl (Nat.le_of_ble_eq_true rfl) (fun p e R s m args below meth c Q C hw r => by
    refine tj_aload_n C 0 rfl rfl dJ4_length_0 ?_
    refine tj_sval C i hi dJ4_length_1 ?_
    refine tj_salen C i hi dJ4_length_4 ?_
    refine tj_aload_n C 0 rfl rfl dJ4_length_5 ?_
    refine tj_callK C [] [.int (nI (lenT.getD i 0))] hi (fun hN => c_S_coder (K := fun r u => r = 0 ∧ u = S) hi ⟨rfl, rfl⟩) (lw_V q722 q723 q724 q178 q725) tyS_coder rfl rfl (Nat.le_of_ble_eq_true rfl) (Nat.le_of_ble_eq_true rfl) (Nat.le_of_ble_eq_true rfl) rfl dJ4_length_6 (fun r1 S1 h1 => ?_)
    obtain ⟨rfl, rfl⟩ := h1
    refine tj_ishr C dJ4_length_9 ?_
    rw [sh0]
    exact r _ _ _ _ dJ4_length_10 hf)
theorem c_S_pci {l : Launch} {G : tG} {ad : Nat → Nat} {A : Nat → Prop} {S : tS} {K : Int32 → tS → Prop} {a b : Int32} {v : Value} (hv : v = .null ∨ ∃ t : Nat, v = .ref t) (h0 : ¬ a < nI 0) (h1 : a < b) (hf : K a S) : Met l yJ8_checkIndex (ws_ yJ8_checkIndex cJ8_checkIndex 3 (some .int)) (tRm 0 0) (va_Pc [.int a, .int b, v] (tPre G ad A S)) (va_Qi K (tB G ad A (gN S)) A) 0 0 A := by
  rcases hv with rfl | ⟨t, rfl⟩
  · exact tj_met_i [(0, .int a), (1, .int b), (2, .null)] pnS_8 rfl (Nat.le_of_ble_eq_true rfl) (fun p e R s m args below meth c Q C hw r => by
      refine tj_iload_n C 0 rfl rfl dJ8_checkIndex_0 ?_
      refine tj_if_lt C 9 (by decide) dJ8_checkIndex_1 (fun q => absurd q h0) (fun _ => ?_)
      refine tj_iload_n C 0 rfl rfl dJ8_checkIndex_4 ?_
      refine tj_iload_n C 1 rfl rfl dJ8_checkIndex_5 ?_
      refine tj_icmp_lt C 16 (by decide) dJ8_checkIndex_6 (fun _ => ?_) (fun q => absurd h1 q)
      refine tj_iload_n C 0 rfl rfl dJ8_checkIndex_16 ?_
      exact r _ _ _ _ dJ8_checkIndex_17 hf)
  · exact tj_met_i [(0, .int a), (1, .int b), (2, .ref t)] pnS_8 rfl (Nat.le_of_ble_eq_true rfl) (fun p e R s m args below meth c Q C hw r => by
      refine tj_iload_n C 0 rfl rfl dJ8_checkIndex_0 ?_
      refine tj_if_lt C 9 (by decide) dJ8_checkIndex_1 (fun q => absurd q h0) (fun _ => ?_)
      refine tj_iload_n C 0 rfl rfl dJ8_checkIndex_4 ?_
      refine tj_iload_n C 1 rfl rfl dJ8_checkIndex_5 ?_
      refine tj_icmp_lt C 16 (by decide) dJ8_checkIndex_6 (fun _ => ?_) (fun q => absurd h1 q)
      refine tj_iload_n C 0 rfl rfl dJ8_checkIndex_16 ?_
      exact r _ _ _ _ dJ8_checkIndex_17 hf)
theorem c_S_sci {l : Launch} {G : tG} {ad : Nat → Nat} {A : Nat → Prop} {S : tS} {K : tS → Prop} {a b : Int32} (h0 : ¬ a < nI 0) (h1 : a < b) (hf : K S) : Met l yJ4_checkIndex (ws_ yJ4_checkIndex cJ4_checkIndex 2 none) (tRm 1 22) (va_Pc [.int a, .int b] (tPre G ad A S)) (va_Qv K (tB G ad A (gN S)) A) 0 0 A :=
  tj_met_v [(0, .int a), (1, .int b)] pnS_4 rfl (Nat.le_of_ble_eq_true rfl) (fun p e R s m args below meth c Q C hw r => by
    refine tj_iload_n C 0 rfl rfl dJ4_checkIndex_0 ?_
    refine tj_iload_n C 1 rfl rfl dJ4_checkIndex_1 ?_
    refine tj_ssio C dJ4_checkIndex_2 (fun v hv => ?_)
    refine tj_callSi C [.int a, .int b, v] [] (fun hN => c_S_pci (K := fun r u => u = S) hv h0 h1 rfl) (lw_S q744 q745 q184 q746) tyS_checkIndex8 rfl (Nat.le_of_ble_eq_true rfl) (Nat.le_of_ble_eq_true rfl) (Nat.le_of_ble_eq_true rfl) rfl dJ4_checkIndex_5 (fun r1 S1 h2 => ?_)
    subst h2
    refine tj_pop C rfl dJ4_checkIndex_8 ?_
    exact r _ _ _ dJ4_checkIndex_9 hf)
theorem c_S_char7 {l : Launch} {G : tG} {ad : Nat → Nat} {A : Nat → Prop} {S : tS} {K : Int32 → tS → Prop} {i : Nat} {x : Int32} (hi : i < nST) (hx : vp_in x (lenT.getD i 0)) (hf : K (chT i x.toNatClampNeg) S) : Met l yJ7_charAt (ws_ yJ7_charAt cJ7_charAt 2 (some .char)) (tRm 2 43) (va_Pc [.ref (G.2.2.2 i), .int x] (tPre G ad A S)) (va_Qi K (tB G ad A (gN S)) A) 0 0 A :=
  tj_met_n [(0, .ref (G.2.2.2 i)), (1, .int x)] pnS_7 rfl (Nat.le_of_ble_eq_true rfl) (fun p e R s m args below meth c Q C hw r => by
    have hlt : x.toNatClampNeg < lenT.getD i 0 := Nat.not_le.mp fun q => hx (Or.inr q)
    obtain ⟨e1, e2, e3⟩ := chT_ok i hi _ hlt
    refine tj_iload_n C 1 rfl rfl dJ7_charAt_0 ?_
    refine tj_aload_n C 0 rfl rfl dJ7_charAt_1 ?_
    refine tj_salen C i hi dJ7_charAt_2 ?_
    refine tj_callSv C [.int x, .int (nI (lenT.getD i 0))] [] (fun hN => c_S_sci (K := fun u => u = S) (vp_ltS hx (lenT_lt i hi)).1 (vp_ltS hx (lenT_lt i hi)).2 rfl) (lw_S q739 q740 q178 q741) tyS_checkIndex rfl (Nat.le_of_ble_eq_true rfl) (Nat.le_of_ble_eq_true rfl) (Nat.le_of_ble_eq_true rfl) rfl dJ7_charAt_3 (fun S1 h2 => ?_)
    subst h2
    refine tj_aload_n C 0 rfl rfl dJ7_charAt_6 ?_
    refine tj_iload_n C 1 rfl rfl dJ7_charAt_7 ?_
    refine tj_sbald C i hi hx dJ7_charAt_8 ?_
    refine tj_sipush C (v := 255) rfl dJ7_charAt_9 ?_
    refine tj_iand C dJ7_charAt_12 ?_
    refine tj_i2c C dJ7_charAt_13 ?_
    rw [e1, e2]
    exact r _ _ _ _ dJ7_charAt_14 e3 hf)
theorem c_S_charAt {l : Launch} {G : tG} {ad : Nat → Nat} {A : Nat → Prop} {S : tS} {K : Int32 → tS → Prop} {i : Nat} {x : Int32} (hi : i < nST) (hx : vp_in x (lenT.getD i 0)) (hf : K (chT i x.toNatClampNeg) S) : Met l yJ4_charAt (ws_ yJ4_charAt cJ4_charAt 2 (some .char)) (tRm 3 64) (va_Pc [.ref (G.2.2.1 i), .int x] (tPre G ad A S)) (va_Qi K (tB G ad A (gN S)) A) 0 0 A :=
  tj_met_n [(0, .ref (G.2.2.1 i)), (1, .int x)] pnS_4 rfl (Nat.le_of_ble_eq_true rfl) (fun p e R s m args below meth c Q C hw r => by
    have hlt : x.toNatClampNeg < lenT.getD i 0 := Nat.not_le.mp fun q => hx (Or.inr q)
    obtain ⟨e1, e2, e3⟩ := chT_ok i hi _ hlt
    refine tj_aload_n C 0 rfl rfl dJ4_charAt_0 ?_
    refine tj_callK C [] [] hi (fun hN => c_S_isLatin1 (K := fun r u => r = 1 ∧ u = S) hi ⟨rfl, rfl⟩) (lw_V q732 q733 q734 q178 q735) tyS_isLatin1 rfl rfl (Nat.le_of_ble_eq_true rfl) (Nat.le_of_ble_eq_true rfl) (Nat.le_of_ble_eq_true rfl) rfl dJ4_charAt_1 (fun r1 S1 h1 => ?_)
    obtain ⟨rfl, rfl⟩ := h1
    refine tj_if_eq C 16 (by decide) dJ4_charAt_4 (fun q => absurd q (by decide)) (fun _ => ?_)
    refine tj_aload_n C 0 rfl rfl dJ4_charAt_7 ?_
    refine tj_sval C i hi dJ4_charAt_8 ?_
    refine tj_iload_n C 1 rfl rfl dJ4_charAt_11 ?_
    refine tj_callSc C [.ref (G.2.2.2 i), .int x] [] (fun hN => c_S_char7 (K := fun r u => r = chT i x.toNatClampNeg ∧ u = S1) hi hx ⟨rfl, rfl⟩) (lw_S q736 q737 q183 q738) tyS_charAt7 rfl (Nat.le_of_ble_eq_true rfl) (Nat.le_of_ble_eq_true rfl) (Nat.le_of_ble_eq_true rfl) rfl dJ4_charAt_12 (fun r2 S2 h2 => ?_)
    obtain ⟨rfl, rfl⟩ := h2
    exact r _ _ _ _ dJ4_charAt_15 e3 hf)
section TSTR2
variable {Γ : tX} {cc : ByteArray} {own : String} {f L : Nat} {N0 : Nat → Nat} {uc us pc : Nat} {lv lv' : List (Nat × Value)} {st : List Value} {S : tS}
theorem tj_slength (C : TC Γ cc own f L) {index : Nat} (i : Nat) (hi : i < nST) (hlink : Cond.methodLink own index yJ4_length ∈ lw_all) (hf : 2 ≤ f) (hL : 40 ≤ L) (hrest : (st.map fun v => v.category).sum ≤ 8) (hd : decode cc pc = .ok (.invokevirtual index, 3)) (kk : TJ Γ N0 uc us (pc + 3) lv (.int (nI (lenT.getD i 0)) :: st) S) : TJ Γ N0 uc us pc lv (.ref (xK Γ i) :: st) S :=
  tj_callK C [] st hi (fun hN => c_S_length (K := fun r u => r = nI (lenT.getD i 0) ∧ u = S) hi ⟨rfl, rfl⟩) (lw_V hlink q719 q720 q178 q721) tyS_length rfl rfl hf hL hrest rfl hd (fun r1 S1 h1 => by obtain ⟨rfl, rfl⟩ := h1; exact kk)
theorem tj_scharAt (C : TC Γ cc own f L) {index : Nat} (i : Nat) {x : Int32} (hi : i < nST) (hx : vp_in x (lenT.getD i 0)) (hlink : Cond.methodLink own index yJ4_charAt ∈ lw_all) (hf : 4 ≤ f) (hL : 85 ≤ L) (hrest : (st.map fun v => v.category).sum ≤ 8) (hd : decode cc pc = .ok (.invokevirtual index, 3)) (kk : TJ Γ N0 uc us (pc + 3) lv (.int (chT i x.toNatClampNeg) :: st) S) : TJ Γ N0 uc us pc lv (.int x :: .ref (xK Γ i) :: st) S :=
  tj_callK C [.int x] st hi (fun hN => c_S_charAt (K := fun r u => r = chT i x.toNatClampNeg ∧ u = S) hi hx ⟨rfl, rfl⟩) (lw_V hlink q729 q730 q178 q731) tyS_charAt rfl rfl hf hL hrest rfl hd (fun r1 S1 h1 => by obtain ⟨rfl, rfl⟩ := h1; exact kk)
end TSTR2
