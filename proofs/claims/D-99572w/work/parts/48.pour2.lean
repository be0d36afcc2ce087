set_option maxRecDepth 100000
theorem tz_text100 {what : String} (h : what.toList.length ≤ 89) : (("arraycopy: " ++ what) == notModelled) = false ∧ (stringBytes (stringToUtf16 ("arraycopy: " ++ what))).size ≤ 400 := by
  constructor
  · rw [beq_eq_false_iff_ne]
    intro e
    have h2 := congrArg String.toList e
    rw [String.toList_append] at h2
    have h3 : "arraycopy: ".toList = 'a' :: "rraycopy: ".toList := by decide
    have h4 : notModelled.toList = '\u0000' :: " a message that is not modelled".toList := by decide
    rw [h3, h4] at h2
    simp at h2
  · have b1 := stringBytes_size_le (stringToUtf16 ("arraycopy: " ++ what))
    have b2 := utf16_size_le ("arraycopy: " ++ what)
    rw [String.toList_append, List.length_append] at b2
    have b3 : "arraycopy: ".toList.length = 11 := by decide
    omega
theorem tz_intp (m : Nat) (h : m < 10 ^ 10) : (toString (m : Int)).toList.length ≤ 10 := nat_print h
theorem tz_fault {sT dT : FieldType} {a b : Nat} {sp dp n : Int32} (h1 : ¬ sp < 0) (h2 : ¬ dp < 0) (h3 : ¬ n < 0) (ha : a < 10 ^ 9) (hb : b < 10 ^ 9) (hks : (Native.java_lang_System.arraycopy.kindName sT).toList.length ≤ 12) (hkd : (Native.java_lang_System.arraycopy.kindName dT).toList.length ≤ 12) (hout : ¬ (sp.toNatClampNeg + n.toNatClampNeg ≤ a ∧ dp.toNatClampNeg + n.toNatClampNeg ≤ b)) : ∃ what, copyFault sT dT a b sp dp n = some what ∧ what.toList.length ≤ 89 := by
  have s31 : sp.toNatClampNeg < 2 ^ 31 := by have := Int32.toInt_lt sp; have := tz_nn sp h1; omega
  have d31 : dp.toNatClampNeg < 2 ^ 31 := by have := Int32.toInt_lt dp; have := tz_nn dp h2; omega
  have n31 : n.toNatClampNeg < 2 ^ 31 := by have := Int32.toInt_lt n; have := tz_nn n h3; omega
  unfold copyFault
  rw [if_neg h1, if_neg h2, if_neg h3, tz_nn sp h1, tz_nn dp h2, tz_nn n h3, ← Int.natCast_add, ← Int.natCast_add]
  by_cases c1 : sp.toNatClampNeg + n.toNatClampNeg ≤ a
  · have c2 : ¬ dp.toNatClampNeg + n.toNatClampNeg ≤ b := fun q => hout ⟨c1, q⟩
    rw [if_neg (by omega), if_pos (by omega)]
    refine ⟨_, rfl, ?_⟩
    have p1 := tz_intp (dp.toNatClampNeg + n.toNatClampNeg) (by omega)
    have p2 := nat_print (n := b) (by omega)
    have p3 : (toString "last destination index ").toList.length = 23 := by decide
    have p4 : (toString " out of bounds for ").toList.length = 19 := by decide
    have p5 : (toString "[").toList.length = 1 := by decide
    have p6 : (toString "]").toList.length = 1 := by decide
    show (toString "last destination index " ++ toString ((dp.toNatClampNeg + n.toNatClampNeg : Nat) : Int) ++ toString " out of bounds for " ++ (Native.java_lang_System.arraycopy.kindName dT ++ toString "[" ++ toString b ++ toString "]")).toList.length ≤ 89
    simp only [String.toList_append, List.length_append]
    omega
  · rw [if_pos (by omega)]
    refine ⟨_, rfl, ?_⟩
    have p1 := tz_intp (sp.toNatClampNeg + n.toNatClampNeg) (by omega)
    have p2 := nat_print (n := a) (by omega)
    have p3 : (toString "last source index ").toList.length = 18 := by decide
    have p4 : (toString " out of bounds for ").toList.length = 19 := by decide
    have p5 : (toString "[").toList.length = 1 := by decide
    have p6 : (toString "]").toList.length = 1 := by decide
    show (toString "last source index " ++ toString ((sp.toNatClampNeg + n.toNatClampNeg : Nat) : Int) ++ toString " out of bounds for " ++ (Native.java_lang_System.arraycopy.kindName sT ++ toString "[" ++ toString a ++ toString "]")).toList.length ≤ 89
    simp only [String.toList_append, List.length_append]
    omega
/-- what a copy between two rows of a kind makes of the world -/
def cpP (S : tS) (t0 t1 sp dp n : Nat) : tS := if t0 % 32 = 17 then wL S t1 (va_cpy (gL S t0) (gL S t1) sp dp n) else wI S t1 (va_cpy (gI S t0) (gI S t1) sp dp n)
/-- what may stand in a row of a kind -/
def tFit (k : Nat) (x : Int32) : Prop := (k = 18 → fits .byte (.int x) = true) ∧ (k = 19 → fits .short (.int x) = true)
section TPOUR
variable {Γ : tX} {cc : ByteArray} {own : String} {f L : Nat} {N0 : Nat → Nat} {uc us pc : Nat} {lv lv' : List (Nat × Value)} {st : List Value} {S : tS}
theorem tj_copyI (C : TC Γ cc own f L) (k t0 t1 n0 n1 : Nat) {ty : FieldType} {index : Nat} {sp dp n : Int32} (hk : k = 16 ∨ k = 18 ∨ k = 19 ∨ k = 20) (hty : ∀ dA : Nat → ClassId, (ttys dA)[k - 16]? = some (dA k, ty)) (hpr : refKind ty = false) (hfit : ∀ i : Nat, i < n.toNatClampNeg → fits ty (.int (gI S t0 (sp.toNatClampNeg + i))) = true) (k0 : t0 % 32 = k) (k1 : t1 % 32 = k) (e0 : gN S t0 = n0 + 1) (e1 : gN S t1 = n1 + 1) (hlink : Cond.methodLink own index arraycopyName ∈ lw_all) (hb : ¬ sp < 0 ∧ ¬ dp < 0 ∧ ¬ n < 0 ∧ sp.toNatClampNeg + n.toNatClampNeg ≤ n0 ∧ dp.toNatClampNeg + n.toNatClampNeg ≤ n1)
    (hf : 1 ≤ f) (hL : 60 ≤ L) (hrest : (st.map fun v => v.category).sum ≤ 8) (hd : decode cc pc = .ok (.invokestatic index, 3)) (kk : TJ Γ N0 uc us (pc + 3) lv st (wI S t1 (va_cpy (gI S t0) (gI S t1) sp.toNatClampNeg dp.toNatClampNeg n.toNatClampNeg))) : TJ Γ N0 uc us pc lv (.int n :: .int dp :: .ref (xad Γ t1) :: .int sp :: .ref (xad Γ t0) :: st) S := by
  intro h1 h2 h3 H locs ls hH hS hl
  obtain ⟨hw, Ls, hn1, hm, hP, hD⟩ := hH
  obtain ⟨i0, hi0, hc0⟩ := tH_idx (G := xG Γ) (ad := xad Γ) (A := xA Γ) hm (t := t0) (by rw [e0]; omega)
  obtain ⟨i1, hi1, hc1⟩ := tH_idx (G := xG Γ) (ad := xad Γ) (A := xA Γ) hm (t := t1) (by rw [e1]; omega)
  have hc0' : (Ls.map (tcell (xG Γ).2.1 (xad Γ) S))[i0]? = some (xad Γ t0, .inl ((xG Γ).2.1 k, n0, .inl (gI S t0))) := by rw [hc0]; unfold tcell; rw [tEn_i _ _ _ k0 hk e0]
  have hc1' : (Ls.map (tcell (xG Γ).2.1 (xad Γ) S))[i1]? = some (xad Γ t1, .inl ((xG Γ).2.1 k, n1, .inl (gI S t1))) := by rw [hc1]; unfold tcell; rw [tEn_i _ _ _ k1 hk e1]
  refine va_copyi (D := (xG Γ).1) (ty := ty) C.x C.b (by rw [C.ml]; exact hl.1.symm) C.ow (C.ts _ hlink) (C.ts _ tw_acnat) (C.ts _ tw_acsta) (C.ts _ tw_acini) C.K.1 hP hD hS i0 i1 (k - 16) (k - 16) hc0' hc1' (hty _) (hty _) hpr hb.1 hb.2.1 hb.2.2.1 hb.2.2.2.1 hb.2.2.2.2 hfit (Nat.le_trans hf C.fr) ?_ hd (fun H1 locs1 hP1 hD1 hS1 => kk h1 h2 h3 H1 locs1 ls ?_ hS1 hl)
  · have h9 : nativeFrameWords "java/lang/System" "arraycopy" 5 + 11 ≤ 52 := by decide +kernel
    have := C.lo
    omega
  · refine tH_put hw hn1 hm hi1 rfl (fun a ha j => ⟨by rw [gI_wI, if_neg ha], rfl, rfl⟩) ?_ hP1 hD1
    rw [tEn_i _ _ (wI S t1 _) k1 hk (show gN S t1 = n1 + 1 from e1)]
    congr 4
    funext j
    rw [gI_wI, if_pos rfl]
theorem tj_copyL (C : TC Γ cc own f L) (t0 t1 n0 n1 : Nat) {index : Nat} {sp dp n : Int32} (k0 : t0 % 32 = 17) (k1 : t1 % 32 = 17) (e0 : gN S t0 = n0 + 1) (e1 : gN S t1 = n1 + 1) (hlink : Cond.methodLink own index arraycopyName ∈ lw_all) (hb : ¬ sp < 0 ∧ ¬ dp < 0 ∧ ¬ n < 0 ∧ sp.toNatClampNeg + n.toNatClampNeg ≤ n0 ∧ dp.toNatClampNeg + n.toNatClampNeg ≤ n1)
    (hf : 1 ≤ f) (hL : 60 ≤ L) (hrest : (st.map fun v => v.category).sum ≤ 8) (hd : decode cc pc = .ok (.invokestatic index, 3)) (kk : TJ Γ N0 uc us (pc + 3) lv st (wL S t1 (va_cpy (gL S t0) (gL S t1) sp.toNatClampNeg dp.toNatClampNeg n.toNatClampNeg))) : TJ Γ N0 uc us pc lv (.int n :: .int dp :: .ref (xad Γ t1) :: .int sp :: .ref (xad Γ t0) :: st) S := by
  intro h1 h2 h3 H locs ls hH hS hl
  obtain ⟨hw, Ls, hn1, hm, hP, hD⟩ := hH
  obtain ⟨i0, hi0, hc0⟩ := tH_idx (G := xG Γ) (ad := xad Γ) (A := xA Γ) hm (t := t0) (by rw [e0]; omega)
  obtain ⟨i1, hi1, hc1⟩ := tH_idx (G := xG Γ) (ad := xad Γ) (A := xA Γ) hm (t := t1) (by rw [e1]; omega)
  have hc0' : (Ls.map (tcell (xG Γ).2.1 (xad Γ) S))[i0]? = some (xad Γ t0, .inl ((xG Γ).2.1 17, n0, .inr (.inl (gL S t0)))) := by rw [hc0]; unfold tcell; rw [tEn_l _ _ _ k0 e0]
  have hc1' : (Ls.map (tcell (xG Γ).2.1 (xad Γ) S))[i1]? = some (xad Γ t1, .inl ((xG Γ).2.1 17, n1, .inr (.inl (gL S t1)))) := by rw [hc1]; unfold tcell; rw [tEn_l _ _ _ k1 e1]
  refine va_copyl (D := (xG Γ).1) (ty := .long) C.x C.b (by rw [C.ml]; exact hl.1.symm) C.ow (C.ts _ hlink) (C.ts _ tw_acnat) (C.ts _ tw_acsta) (C.ts _ tw_acini) C.K.1 hP hD hS i0 i1 1 1 hc0' hc1' rfl rfl rfl hb.1 hb.2.1 hb.2.2.1 hb.2.2.2.1 hb.2.2.2.2 (fun i _ => rfl) (Nat.le_trans hf C.fr) ?_ hd (fun H1 locs1 hP1 hD1 hS1 => kk h1 h2 h3 H1 locs1 ls ?_ hS1 hl)
  · have h9 : nativeFrameWords "java/lang/System" "arraycopy" 5 + 11 ≤ 52 := by decide +kernel
    have := C.lo
    omega
  · refine tH_put hw hn1 hm hi1 rfl (fun a ha j => ⟨rfl, by rw [gL_wL, if_neg ha], rfl⟩) ?_ hP1 hD1
    rw [tEn_l _ _ (wL S t1 _) k1 (show gN S t1 = n1 + 1 from e1)]
    congr 5
    funext j
    rw [gL_wL, if_pos rfl]
/-- a copy between two rows of a kind that stays inside -/
theorem tj_pourY (C : TC Γ cc own f L) (t0 t1 : Nat) {index : Nat} {sp dp n : Int32} (h0 : N0 t0 ≠ 0 ∧ (16 ≤ t0 % 32 ∧ t0 % 32 ≤ 19)) (h1 : N0 t1 ≠ 0 ∧ (16 ≤ t1 % 32 ∧ t1 % 32 ≤ 19)) (hkk : t0 % 32 = t1 % 32) (hlink : Cond.methodLink own index arraycopyName ∈ lw_all) (hp : ¬ sp < nI 0 ∧ ¬ dp < nI 0 ∧ ¬ n < nI 0) (hb : sp.toNatClampNeg + n.toNatClampNeg ≤ gN S t0 - 1 ∧ dp.toNatClampNeg + n.toNatClampNeg ≤ gN S t1 - 1) (hfit : ∀ i : Nat, i < n.toNatClampNeg → tFit (t0 % 32) (gI S t0 (sp.toNatClampNeg + i)))
    (hf : 1 ≤ f) (hL : 60 ≤ L) (hrest : (st.map fun v => v.category).sum ≤ 8) (hd : decode cc pc = .ok (.invokestatic index, 3)) (kk : TJ Γ N0 uc us (pc + 3) lv st (cpP S t0 t1 sp.toNatClampNeg dp.toNatClampNeg n.toNatClampNeg)) : TJ Γ N0 uc us pc lv (.int n :: .int dp :: .ref (xad Γ t1) :: .int sp :: .ref (xad Γ t0) :: st) S := by
  refine tj_hN (fun hN => ?_)
  rw [nI_0] at hp
  have e0 : gN S t0 = (gN S t0 - 1) + 1 := by rw [hN]; have := h0.1; omega
  have e1 : gN S t1 = (gN S t1 - 1) + 1 := by rw [hN]; have := h1.1; omega
  have hb5 : ¬ sp < 0 ∧ ¬ dp < 0 ∧ ¬ n < 0 ∧ sp.toNatClampNeg + n.toNatClampNeg ≤ gN S t0 - 1 ∧ dp.toNatClampNeg + n.toNatClampNeg ≤ gN S t1 - 1 := ⟨hp.1, hp.2.1, hp.2.2, hb.1, hb.2⟩
  unfold cpP at kk
  have hc : t0 % 32 = 16 ∨ t0 % 32 = 17 ∨ t0 % 32 = 18 ∨ t0 % 32 = 19 := by have := h0.2; omega
  rcases hc with q | q | q | q
  · rw [if_neg (by omega)] at kk
    exact tj_copyI C 16 t0 t1 _ _ (ty := .int) (Or.inl rfl) (fun _ => rfl) rfl (fun _ _ => rfl) q (by omega) e0 e1 hlink hb5 hf hL hrest hd kk
  · rw [if_pos q] at kk
    exact tj_copyL C t0 t1 _ _ q (by omega) e0 e1 hlink hb5 hf hL hrest hd kk
  · rw [if_neg (by omega)] at kk
    exact tj_copyI C 18 t0 t1 _ _ (ty := .byte) (Or.inr (Or.inl rfl)) (fun _ => rfl) rfl (fun i hi => (hfit i hi).1 q) q (by omega) e0 e1 hlink hb5 hf hL hrest hd kk
  · rw [if_neg (by omega)] at kk
    exact tj_copyI C 19 t0 t1 _ _ (ty := .short) (Or.inr (Or.inr (Or.inl rfl))) (fun _ => rfl) rfl (fun i hi => (hfit i hi).2 q) q (by omega) e0 e1 hlink hb5 hf hL hrest hd kk
/-- the cell of a row -/
theorem tz_rowcell (C : TC Γ cc own f L) {H : Heap} {t : Nat} (h0 : gN S t ≠ 0) (hk : 16 ≤ t % 32 ∧ t % 32 ≤ 19) (hH : tH (xG Γ) (xad Γ) (xA Γ) S H) : ∃ (cs : Cell) (ks : Class) (sC : ClassId), H[xad Γ t]? = some cs ∧ (∀ k, cs.vm ≠ .statics k) ∧ (xs Γ).vm.classes[cs.cls]? = some ks ∧ ks.kind = .array sC (if t % 32 = 16 then .int else if t % 32 = 17 then .long else if t % 32 = 18 then .byte else .short) ∧ cs.slots.size = gN S t - 1 := by
  have hP := tH_one hH (t := t) h0
  have hc : t % 32 = 16 ∨ t % 32 = 17 ∨ t % 32 = 18 ∨ t % 32 = 19 := by omega
  have e : gN S t = (gN S t - 1) + 1 := by omega
  rcases hc with q | q | q | q
  · rw [tEn_i _ _ _ q (by omega) e] at hP
    obtain ⟨g1, k, g2, cm, g3⟩ := (C.K.1.2 0 ((xG Γ).2.1 16, .int) rfl).1 (gN S t - 1) (fun j => .int (gI S t j))
    exact ⟨_, k, cm, hP 0 _ rfl, fun k h => (by cases h), g2, by rw [if_pos q]; exact g3, arrV_size ..⟩
  · rw [tEn_l _ _ _ q e] at hP
    obtain ⟨g1, k, g2, cm, g3⟩ := (C.K.1.2 1 ((xG Γ).2.1 17, .long) rfl).1 (gN S t - 1) (fun j => .long (gL S t j))
    exact ⟨_, k, cm, hP 0 _ rfl, fun k h => (by cases h), g2, by rw [if_neg (by omega), if_pos q]; exact g3, arrV_size ..⟩
  · rw [tEn_i _ _ _ q (by omega) e] at hP
    obtain ⟨g1, k, g2, cm, g3⟩ := (C.K.1.2 2 ((xG Γ).2.1 18, .byte) rfl).1 (gN S t - 1) (fun j => .int (gI S t j))
    exact ⟨_, k, cm, hP 0 _ rfl, fun k h => (by cases h), g2, by rw [if_neg (by omega), if_neg (by omega), if_pos q]; exact g3, arrV_size ..⟩
  · rw [tEn_i _ _ _ q (by omega) e] at hP
    obtain ⟨g1, k, g2, cm, g3⟩ := (C.K.1.2 3 ((xG Γ).2.1 19, .short) rfl).1 (gN S t - 1) (fun j => .int (gI S t j))
    exact ⟨_, k, cm, hP 0 _ rfl, fun k h => (by cases h), g2, by rw [if_neg (by omega), if_neg (by omega), if_neg (by omega)]; exact g3, arrV_size ..⟩
/-- .. and one that doesn't: the machine throws -/
theorem tj_pourZ (C : TC Γ cc own f L) (hst : (xl Γ).stackTraces = false) (t0 t1 : Nat) {index : Nat} {sp dp n : Int32} (h0 : N0 t0 ≠ 0 ∧ (16 ≤ t0 % 32 ∧ t0 % 32 ≤ 19)) (h1 : N0 t1 ≠ 0 ∧ (16 ≤ t1 % 32 ∧ t1 % 32 ≤ 19)) (hkk : t0 % 32 = t1 % 32) (hlink : Cond.methodLink own index arraycopyName ∈ lw_all) (hp : ¬ sp < nI 0 ∧ ¬ dp < nI 0 ∧ ¬ n < nI 0) (hsz : gN S t0 ≤ 1000 ∧ gN S t1 ≤ 1000) (hb : ¬ (sp.toNatClampNeg + n.toNatClampNeg ≤ gN S t0 - 1 ∧ dp.toNatClampNeg + n.toNatClampNeg ≤ gN S t1 - 1))
    (hf : 12 ≤ f) (hL : 10260 ≤ L) (hrest : (st.map fun v => v.category).sum ≤ 8) (hu : uc + 3 ≤ (xR Γ).cells ∧ us + 410 ≤ (xR Γ).slots) (hd : decode cc pc = .ok (.invokestatic index, 3)) (kx : ∀ q : Nat, TXJ Γ N0 (uc + 3) (us + 410) pc lv S tz_AIO q) : TJ Γ N0 uc us pc lv (.int n :: .int dp :: .ref (xad Γ t1) :: .int sp :: .ref (xad Γ t0) :: st) S := by
  intro g1 g2 g3 H locs ls hH hS hl
  rw [nI_0] at hp
  obtain ⟨cs, ks, sC, a1, a2, a3, a4, a5⟩ := tz_rowcell C (t := t0) (by rw [g1]; exact h0.1) h0.2 hH
  obtain ⟨cd, kd, dC, b1, b2, b3, b4, b5⟩ := tz_rowcell C (t := t1) (by rw [g1]; exact h1.1) h1.2 hH
  obtain ⟨w1, w2⟩ := tz_at C tz_atA tz_okA
  have hfr := C.fr
  have hlo := C.lo
  rw [← hkk] at b4
  have hpr : ∀ k, (refKind (if k = 16 then FieldType.int else if k = 17 then .long else if k = 18 then .byte else .short)) = false := fun k => by (repeat' split) <;> rfl
  have hkn : ∀ k, (Native.java_lang_System.arraycopy.kindName (if k = 16 then FieldType.int else if k = 17 then .long else if k = 18 then .byte else .short)).toList.length ≤ 12 := fun k => by (repeat' split) <;> decide
  generalize hT : (if t0 % 32 = 16 then FieldType.int else if t0 % 32 = 17 then .long else if t0 % 32 = 18 then .byte else .short) = ty at a4 b4
  have hpr := hpr (t0 % 32)
  have hkn := hkn (t0 % 32)
  rw [hT] at hpr hkn
  obtain ⟨what, f1, f2⟩ := tz_fault (sT := ty) (dT := ty) (a := cs.slots.size) (b := cd.slots.size) hp.1 hp.2.1 hp.2.2 (by rw [a5]; omega) (by rw [b5]; omega) hkn hkn (by rw [a5, b5]; exact hb)
  obtain ⟨x1, x2⟩ := tz_text100 f2
  exact tz_copyZ (nb := 400) C.x C.b hst (by rw [hl.1]; exact C.ml.symm) C.ow (C.ts _ hlink) (C.ts _ tw_acnat) (C.ts _ tw_acsta) (C.ts _ tw_acini) a1 b1 a2 b2 a3 b3 a4 b4 (by rw [hpr]; simp) f1 (names := tz_upA) (by decide +kernel) w1 w2 C.Z.2.1 C.Z.2.2.1 hS x1 x2 (by omega) (by show 3 + 5 < _; omega) (by omega) (by decide) hu.1 hu.2 C.lk hd (fun H1 q9 ce z1 z2 z3 z4 z5 z6 => kx q9 g1 hu.1 hu.2 H1 locs ls st ce (tH_grow hH z2) z3 hl z4 z5 z6)
end TPOUR
