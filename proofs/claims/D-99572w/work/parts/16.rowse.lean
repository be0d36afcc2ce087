/-! NEW THINGS. A thing made in a run stands under the tag 32 * (100 + its address) + its kind: so the naming ad never changes. -/
set_option maxRecDepth 100000
def tDyn (ad : Nat → Nat) : Prop := ∀ t, 3200 ≤ t → ad t = t / 32 - 100
def tExt (N N' : Nat → Nat) : Prop := ∀ t, N t ≠ 0 → N' t = N t
theorem tExt.rf {N : Nat → Nat} : tExt N N := fun _ _ => rfl
theorem tExt.tr {N N' M : Nat → Nat} (h : tExt N N') (g : tExt N' M) : tExt N M := fun t ht => (g t (by rw [h t ht]; exact ht)).trans (h t ht)
theorem tExt.ne {N N' : Nat → Nat} (h : tExt N N') {t : Nat} (ht : N t ≠ 0) : N' t ≠ 0 := by rw [h t ht]; exact ht
theorem tExt.kd {N N' : Nat → Nat} (h : tExt N N') {t : Nat} {p : Prop} (ht : N t ≠ 0 ∧ p) : N' t ≠ 0 ∧ p := ⟨h.ne ht.1, ht.2⟩
theorem tWf_ext {N N' : Nat → Nat} (h : tWf N) (he : tExt N N') (hn : ∀ u, N u = 0 → N' u ≠ 0 → u ≠ 0 ∧ u ≠ 1025 ∧ u % 32 ≠ 5 ∧ u % 32 ≠ 6) : tWf N' := by
  have k : ∀ u n, n ≠ 0 → N u = n → N' u = n := fun u n hz e => (he u (by rw [e]; exact hz)).trans e
  have b : ∀ u, N' u ≠ 0 → (u = 0 ∨ u = 1025 ∨ u % 32 = 5 ∨ u % 32 = 6) → N u ≠ 0 := fun u h1 h2 h3 => by
    obtain ⟨a1, a2, a3, a4⟩ := hn u h3 h1
    rcases h2 with q | q | q | q <;> contradiction
  refine ⟨fun h0 => ?_, fun h0 => ?_, fun c hc h0 => ?_, fun c hc h0 => ?_⟩
  · have g := h.1 (b 0 h0 (Or.inl rfl))
    repeat' apply And.intro
    all_goals (apply k _ _ (by decide); first | exact g.1 | simp only [g])
  · have g := h.2.1 (b 1025 h0 (Or.inr (Or.inl rfl)))
    repeat' apply And.intro
    all_goals (apply k _ _ (by decide); first | exact g.1 | simp only [g])
  · exact k _ _ (by decide) (h.2.2.1 c hc (b c h0 (Or.inr (Or.inr (Or.inl hc)))))
  · have g := h.2.2.2 c hc (b c h0 (Or.inr (Or.inr (Or.inr hc))))
    repeat' apply And.intro
    all_goals (apply k _ _ (by decide); first | exact g.1 | simp only [g])
theorem tExt_mk {S : tS} {t n : Nat} (ht : gN S t = 0) : tExt (gN S) (gN (mk S t n)) := fun u hu => by
  rw [gN_mk, if_neg (fun e => hu (by rw [e]; exact ht))]
theorem tWf_mk {S : tS} {t n : Nat} (h : tWf (gN S)) (ht : gN S t = 0) (h3 : 3200 ≤ t) (h5 : t % 32 ≠ 5) (h6 : t % 32 ≠ 6) : tWf (gN (mk S t n)) :=
  tWf_ext h (tExt_mk ht) (fun u h1 h2 => by
    rw [gN_mk] at h2
    by_cases e : u = t
    · subst e; exact ⟨by omega, by omega, h5, h6⟩
    · rw [if_neg e] at h2; exact absurd h1 h2)
def tdv (c : Nat) : Value := if c = 0 then .int 0 else if c = 1 then .long 0 else .null
theorem tfs_mk {ad : Nat → Nat} {S : tS} {t n k : Nat} (hc : ∀ c ∈ tcode k, c ≤ 2) : tfs ad (mk S t n) t k = (tcode k).map tdv := by
  unfold tfs
  apply List.ext_getElem?
  intro i
  rw [List.getElem?_map, List.getElem?_map]
  by_cases hi : i < (tcode k).length
  · rw [List.getElem?_range hi, List.getElem?_eq_getElem hi]
    have h2 := hc _ (List.getElem_mem hi)
    have e : (tcode k).getD i 0 = (tcode k)[i] := by simp [hi]
    simp only [Option.map_some]
    rw [e]
    generalize (tcode k)[i] = c at h2
    have h3 : c = 0 ∨ c = 1 ∨ c = 2 := by omega
    unfold fval tdv
    rw [gI_mk, gL_mk, gR_mk, if_pos rfl, if_pos rfl, if_pos rfl]
    rcases h3 with rfl | rfl | rfl <;> rfl
  · rw [List.getElem?_eq_none (by simpa using hi), List.getElem?_eq_none (by simpa using hi)]; rfl
theorem tH_add {G : tG} {ad : Nat → Nat} {A : Nat → Prop} {S : tS} {H1 : Heap} {t n : Nat} {Ls : List Nat} (h1 : Ls.Nodup) (h2 : ∀ u, u ∈ Ls ↔ gN S u ≠ 0) (ht : gN S t = 0) (hn : n ≠ 0) (hw : tWf (gN (mk S t n))) (hP : va_P G.1 tcl (Ls.map (tcell G.2.1 ad S) ++ [(ad t, tEn G.2.1 ad (mk S t n) t)]) H1) (hD : va_D A (Ls.map (tcell G.2.1 ad S) ++ [(ad t, tEn G.2.1 ad (mk S t n) t)])) : tH G ad A (mk S t n) H1 := by
  have hne : t ∉ Ls := fun q => (h2 t).mp q ht
  have e : Ls.map (tcell G.2.1 ad S) = Ls.map (tcell G.2.1 ad (mk S t n)) := List.map_congr_left fun x hx => by
    have hxt : x ≠ t := fun q => hne (q ▸ hx)
    unfold tcell
    rw [tEn_congr (S' := mk S t n) (S := S)]
    · intro j; rw [gI_mk, if_neg hxt]
    · intro j; rw [gL_mk, if_neg hxt]
    · intro j; rw [gR_mk, if_neg hxt]
    · rw [gN_mk, if_neg hxt]
  have e2 : (Ls ++ [t]).map (tcell G.2.1 ad (mk S t n)) = Ls.map (tcell G.2.1 ad S) ++ [(ad t, tEn G.2.1 ad (mk S t n) t)] := by rw [List.map_append, e]; rfl
  refine ⟨hw, Ls ++ [t], ?_, fun u => ?_, by rw [e2]; exact hP, by rw [e2]; exact hD⟩
  · rw [List.nodup_append]
    exact ⟨h1, by simp, fun a ha b hb => by rw [List.mem_singleton.mp hb]; exact fun q => hne (q ▸ ha)⟩
  · rw [List.mem_append, List.mem_singleton, gN_mk]
    by_cases q : u = t
    · subst q; simp [hn]
    · rw [if_neg q, ← h2 u]; simp [q]
theorem tH_free {G : tG} {ad : Nat → Nat} {A : Nat → Prop} {S : tS} {q t : Nat} {x : va_E} {Ls : List Nat} (h2 : ∀ u, u ∈ Ls ↔ gN S u ≠ 0) (hq : ad t = q) (hD : va_D A (Ls.map (tcell G.2.1 ad S) ++ [(q, x)])) : gN S t = 0 := by
  by_cases hz : gN S t = 0
  · exact hz
  · exfalso
    obtain ⟨i, hi, hc⟩ := tH_idx (G := G) (ad := ad) (A := A) h2 hz
    have hl : i < (Ls.map (tcell G.2.1 ad S)).length := (List.getElem?_eq_some_iff.mp hc).1
    have e := hD.1 i (Ls.map (tcell G.2.1 ad S)).length (tcell G.2.1 ad S t) (q, x) (by rw [List.getElem?_append_left hl]; exact hc) (by rw [List.getElem?_append_right (Nat.le_refl _)]; simp) hq
    omega
section TNEW
variable {Γ : tX} {cc : ByteArray} {own : String} {f L : Nat} {N0 : Nat → Nat} {uc us pc : Nat} {lv lv' : List (Nat × Value)} {st : List Value} {S : tS}
/-- what a new thing of size n (2 more: n = length + 1, or 1) brings -/
abbrev tNew (Γ : tX) (N0 : Nat → Nat) (uc us pc : Nat) (lv : List (Nat × Value)) (st : List Value) (S : tS) (k n : Nat) : Prop := ∀ (t : Nat) (N1 : Nat → Nat), gN (mk S t n) = N1 → tExt N0 N1 → tWf N1 → N1 t = n → (N1 t ≠ 0 ∧ t % 32 = k) → 3200 ≤ t → N0 t = 0 → TJ Γ N1 uc us pc lv (.ref (xad Γ t) :: st) (mk S t n)
theorem tj_new (C : TC Γ cc own f L) (hE : tDyn (xad Γ)) {index : Nat} (k : Nat) {Cn : String} {T : u_T} {N : Nat} (hk16 : k < 16) (hk5 : k ≠ 5) (hk6 : k ≠ 6) (hc : tcl[k]? = some (Cn, T, N)) (hin : ∀ w ∈ u_ws Cn T N, w ∈ lw_all) {ty : Nat → FieldType} (hty : ∀ j, j < N → parseFieldDescriptor (T j).2.2.1 = some (ty j)) (hcd : ∀ c ∈ tcode k, c ≤ 2) (hdv : ∀ j, j < N → defaultValue (ty j) = vp_V ((tcode k).map tdv) j)
    (hcl : Cond.classLink own index Cn ∈ lw_all) (hinst : Cond.instantiable Cn N ∈ lw_all) (hini : Cond.initialized Cn ∈ lw_all) (hu : uc + 1 ≤ (xR Γ).cells ∧ us + N ≤ (xR Γ).slots) (hd : decode cc pc = .ok (.new index, 3)) (kk : tNew Γ N0 (uc + 1) (us + N) (pc + 3) lv st S k 1) : TJ Γ N0 uc us pc lv st S := by
  intro h1 h2 h3 H locs ls hH hS hl
  obtain ⟨hw, Ls, g1, g2, g3, g4⟩ := hH
  refine va_new C.x C.b C.ts hin ty hty C.ow (C.ts _ hcl) (C.ts _ hinst) (C.ts _ hini) C.K.1 g3 g4 hS C.A hc hdv hu.1 hu.2 hd (fun q H1 hP hD hS1 => ?_)
  have ha : xad Γ (32 * (100 + q) + k) = q := by rw [hE _ (by omega)]; omega
  have hm : (32 * (100 + q) + k) % 32 = k := by omega
  have hz := tH_free (S := S) g2 ha hD
  have e : tEn (xG Γ).2.1 (xad Γ) (mk S (32 * (100 + q) + k) 1) (32 * (100 + q) + k) = .inr (k, (tcode k).map tdv) := by rw [tEn_o _ _ _ hm hk16, tfs_mk hcd]
  have hw1 : tWf (gN (mk S (32 * (100 + q) + k) 1)) := tWf_mk hw hz (by omega) (by omega) (by omega)
  have hH1 : tH (xG Γ) (xad Γ) (xA Γ) (mk S (32 * (100 + q) + k) 1) H1 := tH_add g1 g2 hz (by decide) hw1 (by rw [e, ha]; exact hP) (by rw [e, ha]; exact hD)
  have hN1 : gN (mk S (32 * (100 + q) + k) 1) (32 * (100 + q) + k) = 1 := by rw [gN_mk, if_pos rfl]
  have kk1 := kk (32 * (100 + q) + k) _ rfl (by rw [← h1]; exact tExt_mk hz) hw1 hN1 ⟨by rw [hN1]; decide, hm⟩ (by omega) (by rw [← h1]; exact hz) rfl hu.1 hu.2 H1 locs ls hH1 hS1 hl
  rw [ha] at kk1
  exact kk1
end TNEW
section TNEWA
variable {Γ : tX} {cc : ByteArray} {own : String} {f L : Nat} {N0 : Nat → Nat} {uc us pc : Nat} {lv lv' : List (Nat × Value)} {st : List Value} {S : tS}
theorem tH_fin {S : tS} {k q n : Nat} {Ls : List Nat} {H1 : Heap} {locs : List Loc} {ls : Array Slot} {x : va_E} (C : TC Γ cc own f L) (hE : tDyn (xad Γ)) (hk : k < 32) (hk5 : k ≠ 5) (hk6 : k ≠ 6) (hw : tWf (gN S)) (g1 : Ls.Nodup) (g2 : ∀ u, u ∈ Ls ↔ gN S u ≠ 0) (h1 : gN S = N0) (hn : n ≠ 0) (hx : ∀ t, t % 32 = k → tEn (xG Γ).2.1 (xad Γ) (mk S t n) t = x)
    (hP : va_P (xG Γ).1 tcl (Ls.map (tcell (xG Γ).2.1 (xad Γ) S) ++ [(q, x)]) H1) (hD : va_D (xA Γ) (Ls.map (tcell (xG Γ).2.1 (xad Γ) S) ++ [(q, x)])) (hS1 : va_S (xA Γ) (xs Γ).heap H1 locs) (hl : lv_has ls (xnL Γ) lv) (hu : uc ≤ (xR Γ).cells ∧ us ≤ (xR Γ).slots) (kk : tNew Γ N0 uc us pc lv st S k n) :
    W (xp Γ) (xl Γ) (xe Γ) (xR Γ) (xs Γ) (xm Γ) (xargs Γ) (xbelow Γ) (xmeth Γ) (xc Γ) H1 locs uc us (xQ Γ) (F0 (xm Γ) pc ls (.ref q :: st)) := by
  have ha : xad Γ (32 * (100 + q) + k) = q := by rw [hE _ (by omega)]; omega
  have hm : (32 * (100 + q) + k) % 32 = k := by omega
  have hz := tH_free (S := S) g2 ha hD
  have e := hx _ hm
  have hw1 : tWf (gN (mk S (32 * (100 + q) + k) n)) := tWf_mk hw hz (by omega) (by omega) (by omega)
  have hH1 : tH (xG Γ) (xad Γ) (xA Γ) (mk S (32 * (100 + q) + k) n) H1 := tH_add g1 g2 hz hn hw1 (by rw [e, ha]; exact hP) (by rw [e, ha]; exact hD)
  have hN1 : gN (mk S (32 * (100 + q) + k) n) (32 * (100 + q) + k) = n := by rw [gN_mk, if_pos rfl]
  have kk1 := kk (32 * (100 + q) + k) _ rfl (by rw [← h1]; exact tExt_mk hz) hw1 hN1 ⟨by rw [hN1]; exact hn, hm⟩ (by omega) (by rw [← h1]; exact hz) rfl hu.1 hu.2 H1 locs ls hH1 hS1 hl
  rw [ha] at kk1
  exact kk1
theorem tj_newarr (C : TC Γ cc own f L) (hE : tDyn (xad Γ)) (k : Nat) (hk : k = 16 ∨ k = 18 ∨ k = 19 ∨ k = 20) {atype : ArrayType} {ty : FieldType} (hty : newarray.typeOf atype = ty) (harr : Cond.arrayClass (newarray.typeOf atype) ∈ lw_all) (htys : ∀ dA : Nat → ClassId, (ttys dA)[k - 16]? = some (dA k, ty)) (hdef : defaultValue ty = .int 0) (hra : ∀ (U : State) (cA : ClassId), va_RA U cA ty → U.vm.findClass ("[" ++ ty.toString) = some cA)
    {x : Int32} (hx : ¬ x < nI 0) (hby : x.toNatClampNeg * componentBytes ty ≤ 536870912) (hu : uc + 1 ≤ (xR Γ).cells ∧ us + x.toNatClampNeg ≤ (xR Γ).slots) (hd : decode cc pc = .ok (.newarray atype, 2)) (kk : tNew Γ N0 (uc + 1) (us + x.toNatClampNeg) (pc + 2) lv st S k (x.toNatClampNeg + 1)) : TJ Γ N0 uc us pc lv (.int x :: st) S := by
  intro h1 h2 h3 H locs ls hH hS hl
  obtain ⟨hw, Ls, g1, g2, g3, g4⟩ := hH
  refine va_newa (a0 := (x.toNatClampNeg, .inl fun _ => 0)) C.x C.b (C.ts _ harr) hty C.K.1 g3 g4 hS C.A (fun cA => by rw [hdef]; rfl) (by rw [nI_0] at hx; exact hx) rfl hby hu.1 hu.2 hd (fun q cA H1 hK1 hP hD hS1 => ?_)
  have f1 := hra _ _ (hK1.2 9 (cA, ty) rfl).2
  have f2 := hra _ _ (C.K.1.2 (k - 16) ((xG Γ).2.1 k, ty) (htys _)).2
  have f3 : cA = (xG Γ).2.1 k := Option.some.inj (f1.symm.trans f2)
  subst f3
  exact tH_fin C hE (by omega) (by omega) (by omega) hw g1 g2 h1 (by omega) (fun t ht => by
    rw [tEn_i _ _ _ ht hk (n := x.toNatClampNeg) (by rw [gN_mk, if_pos rfl])]
    have : gI (mk S t (x.toNatClampNeg + 1)) t = fun _ => 0 := funext fun j => by rw [gI_mk, if_pos rfl]
    rw [this]) hP hD hS1 hl hu kk
theorem tj_newlong (C : TC Γ cc own f L) (hE : tDyn (xad Γ)) (harr : Cond.arrayClass (newarray.typeOf .long) ∈ lw_all) {x : Int32} (hx : ¬ x < nI 0) (hby : x.toNatClampNeg * componentBytes .long ≤ 536870912) (hu : uc + 1 ≤ (xR Γ).cells ∧ us + x.toNatClampNeg ≤ (xR Γ).slots) (hd : decode cc pc = .ok (.newarray .long, 2)) (kk : tNew Γ N0 (uc + 1) (us + x.toNatClampNeg) (pc + 2) lv st S 17 (x.toNatClampNeg + 1)) : TJ Γ N0 uc us pc lv (.int x :: st) S := by
  intro h1 h2 h3 H locs ls hH hS hl
  obtain ⟨hw, Ls, g1, g2, g3, g4⟩ := hH
  refine va_newa (a0 := (x.toNatClampNeg, .inr (.inl fun _ => 0))) C.x C.b (C.ts _ harr) rfl C.K.1 g3 g4 hS C.A (fun cA => rfl) (by rw [nI_0] at hx; exact hx) rfl hby hu.1 hu.2 hd (fun q cA H1 hK1 hP hD hS1 => ?_)
  have f1 : (xs Γ).vm.findClass ("[" ++ FieldType.long.toString) = some cA := (hK1.2 9 (cA, .long) rfl).2
  have f2 : (xs Γ).vm.findClass ("[" ++ FieldType.long.toString) = some ((xG Γ).2.1 17) := (C.K.1.2 1 ((xG Γ).2.1 17, .long) rfl).2
  have f3 : cA = (xG Γ).2.1 17 := Option.some.inj (f1.symm.trans f2)
  subst f3
  exact tH_fin C hE (by omega) (by omega) (by omega) hw g1 g2 h1 (by omega) (fun t ht => by
    rw [tEn_l _ _ _ ht (n := x.toNatClampNeg) (by rw [gN_mk, if_pos rfl])]
    have : gL (mk S t (x.toNatClampNeg + 1)) t = fun _ => 0 := funext fun j => by rw [gL_mk, if_pos rfl]
    rw [this]) hP hD hS1 hl hu kk
end TNEWA
section TNEWQ
variable {Γ : tX} {cc : ByteArray} {own : String} {f L : Nat} {N0 : Nat → Nat} {uc us pc : Nat} {lv lv' : List (Nat × Value)} {st : List Value} {S : tS}
theorem tj_newq (C : TC Γ cc own f L) (hE : tDyn (xad Γ)) {index : Nat} (k : Nat) (hk : 21 ≤ k) (hk' : k ≤ 24) {nm : String} (hcl : Cond.classLink own index nm ∈ lw_all) (hao : Cond.arrayOver (.object nm) ∈ lw_tbl) (htys : ∀ dA : Nat → ClassId, (ttys dA)[k - 16]? = some (dA k, .object nm))
    {x : Int32} (hx : ¬ x < nI 0) (hby : x.toNatClampNeg * 4 ≤ 536870912) (hu : uc + 1 ≤ (xR Γ).cells ∧ us + x.toNatClampNeg ≤ (xR Γ).slots) (hd : decode cc pc = .ok (.anewarray index, 3)) (kk : tNew Γ N0 (uc + 1) (us + x.toNatClampNeg) (pc + 3) lv st S k (x.toNatClampNeg + 1)) : TJ Γ N0 uc us pc lv (.int x :: st) S := by
  intro h1 h2 h3 H locs ls hH hS hl
  obtain ⟨hw, Ls, g1, g2, g3, g4⟩ := hH
  refine va_newq C.x C.b C.ow (C.ts _ hcl) (C.K.2.1 _ hao rfl) C.K.1 g3 g4 hS C.A (by rw [nI_0] at hx; exact hx) rfl hby hu.1 hu.2 hd (fun q cA H1 hK1 hP hD hS1 => ?_)
  obtain ⟨-, -, -, -, -, f1⟩ := (hK1.2 9 (cA, .object nm) rfl).2
  obtain ⟨-, -, -, -, -, f2⟩ := (C.K.1.2 (k - 16) ((xG Γ).2.1 k, .object nm) (htys _)).2
  have f3 : cA = (xG Γ).2.1 k := Option.some.inj (f1.symm.trans f2)
  subst f3
  exact tH_fin C hE (by omega) (by omega) (by omega) hw g1 g2 h1 (by omega) (fun t ht => by
    rw [tEn_q _ _ _ ht hk (n := x.toNatClampNeg) (by rw [gN_mk, if_pos rfl])]
    have : (fun j => (gR (mk S t (x.toNatClampNeg + 1)) t j).map (xad Γ)) = fun _ => none := funext fun j => by rw [gR_mk, if_pos rfl]; rfl
    rw [this]) hP hD hS1 hl hu kk
end TNEWQ
