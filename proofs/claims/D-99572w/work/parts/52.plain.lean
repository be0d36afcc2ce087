set_option maxRecDepth 100000
theorem tyOk_plain : tyOk yX6_plain 1 := ⟨by decide +kernel, by decide +kernel, by decide +kernel⟩
def plPre (G : tG) (q0 : Nat) (ws : va_W) (U : State) : Prop := va_P G.1 tcl ws U.heap ∧ va_D (fun a => q0 ≤ a) ws ∧ tK G U ∧ (∀ q, U.heap.size ≤ q → q0 ≤ q)
theorem plPre_blind {G : tG} {q0 : Nat} {ws : va_W} {av : List Value} : FrameBlind (va_Pc av (plPre G q0 ws)) := by
  intro a U g mk h
  obtain ⟨h0, h1, h2, h3, h4⟩ := h
  exact ⟨h0, h1, h2, tK_calling h3, h4⟩
def at0 (k : Nat) : Int32 := if k = 8 then -1 else 0
/-- plain(0), on an array of zeros -/
theorem cL_plain {l : Launch} {G : tG} (q0 : Nat) (fs : List Value) (ws : va_W) (h0 : ws[0]? = some (q0, .inr (0, fs))) (hf : fs[0]? = some (.ref (q0 + 1))) (h1 : ws[1]? = some (q0 + 1, .inl (G.2.1 16, 3548, .inl fun _ => 0))) : Met l yX6_plain (ws_ yX6_plain cX6_plain 3 none) (tRe 0 0 0 0) (va_Pc [.ref q0, .int (nI 0)] (plPre G q0 ws)) (va_Qv (fun _ : Unit => True) (fun _ t => va_P G.1 tcl (ws.set 1 (q0 + 1, .inl (G.2.1 16, 3548, .inl at0))) t.heap) (fun a => q0 ≤ a)) 0 0 (fun a => q0 ≤ a) := by
  refine Met.ofW (cc := cX6_plain) (maxL := 3) (ret := none) (by decide) rfl ?_
  intro p e s m args below meth c s₁ B hml hv
  obtain ⟨rfl, hP, hD, hK0, hA⟩ := hv
  have hx := B.exec
  have hb := B.bytes
  have hts0 := atoms_spec (ws := ws_ yX6_plain cX6_plain 3 none) B.pre
  have hts : ∀ w ∈ lw_all, w.before _ s = true := fun w h => hts0 w (List.mem_cons_of_mem _ h)
  have hown : s.vm.findClass RX6 = some m.cls := findClass_of_methodNamed B.named
  have hK : va_K G.1 tcl (ttys G.2.1) s := hK0.1
  have hS : va_S (fun a => q0 ≤ a) s.heap s.heap [] := va_S.rf
  have hl := lv_entry ([.ref q0, .int (nI 0)]) (n := 3) (Nat.le_of_ble_eq_true rfl)
  rw [lg_entry_eq]
  generalize (lg_sl ([.ref q0, .int (nI 0)]) ++ List.replicate (3 - (lg_sl ([.ref q0, .int (nI 0)])).length) Slot.unset).toArray = ls at hl ⊢
  have hl : lv_has ls 3 [(0, .ref q0), (1, .int (nI 0))] := hl
  have hlen : 1 < ws.length := (List.getElem?_eq_some_iff.mp h1).1
  have hset : ws.set 1 (q0 + 1, .inl (G.2.1 16, 3548, .inl fun _ => 0)) = ws := by
    apply List.ext_getElem?
    intro i
    by_cases hi : i = 1
    · subst hi; rw [List.getElem?_set_self hlen, h1]
    · rw [List.getElem?_set_ne (Ne.symm hi)]
  have loop : ∀ (n k : Nat), k + n = 502 → ∀ (H : Heap) (locs : List Loc) (ls : Array Slot), va_P G.1 tcl ws H → va_D (fun a => q0 ≤ a) ws → va_S (fun a => q0 ≤ a) s.heap H locs → lv_has ls 3 [(2, .int (nI k)), (0, .ref q0), (1, .int (nI 0))] → W p l e (headSpec (ws_ yX6_plain cX6_plain 3 none) (tRe 0 0 0 0)).room s m #[Value.ref q0, Value.int (nI 0)] below meth c H locs 0 0 (MQ below (va_Qv (fun _ : Unit => True) (fun _ t => va_P G.1 tcl (ws.set 1 (q0 + 1, .inl (G.2.1 16, 3548, .inl at0))) t.heap) (fun a => q0 ≤ a)) #[Value.ref q0, Value.int (nI 0)] s 0 0 (fun a => q0 ≤ a)) (F0 m 2 ls []) := by
    intro n
    induction n with
    | zero =>
      intro k hk H locs ls hP hD hS hl
      refine lv_iload_n hx hb dX6_plain_2 rfl (lv_at hl 0 rfl) ?_
      refine lv_sipush hx hb dX6_plain_3 (v := nI 502) (by decide +kernel) ?_
      refine lv_icmp_ge (tgt := 24) hx hb dX6_plain_6 (by decide) (fun _ => ?_) (fun h9 => absurd (nI_le (by omega) (by omega)) h9)
      refine lv_aload_n hx hb dX6_plain_24 rfl (lv_at hl 1 rfl) ?_
      refine va_get (D := G.1) (ci := 0) (C := RX6) (T := TX6) (N := 42) hx hb hts in_X6 hown hK hP 0 h0 rfl 0 (by decide) (hts _ q1621) (fun _ h9 => h9) hf dX6_plain_25 ?_
      refine lv_iload_n hx hb dX6_plain_28 rfl (lv_at hl 2 rfl) ?_
      refine lv_bipush hx hb dX6_plain_29 (v := nI 8) (by decide +kernel) ?_
      refine lv_iadd hx hb dX6_plain_31 ?_
      refine lv_iconst hx hb dX6_plain_32 (v := -1) (by decide +kernel) ?_
      refine va_iast (D := G.1) hx hb hK hP hD hS 1 0 h1 rfl (by rw [nI_add]; exact vp_in_nI (by decide) (by decide)) dX6_plain_33 (fun H locs hP hD hS => ?_)
      have e : upd (fun _ => (0 : Int32)) (nI 0 + nI 8).toNatClampNeg (-1) = at0 := by
        funext j
        rw [nI_add, nI_clamp (by decide)]
        rfl
      rw [e] at hP
      exact W.vret hx hb B.returns (fun t ht hW => ⟨⟨(), rfl, trivial, by subst ht; exact hP⟩, hS.F ht⟩) hS.2.2 dX6_plain_34 B.notSynchronized
    | succ n ih =>
      intro k hk H locs ls hP hD hS hl
      refine lv_iload_n hx hb dX6_plain_2 rfl (lv_at hl 0 rfl) ?_
      refine lv_sipush hx hb dX6_plain_3 (v := nI 502) (by decide +kernel) ?_
      refine lv_icmp_ge (tgt := 24) hx hb dX6_plain_6 (by decide) (fun h9 => absurd h9 (nI_ge (by omega) (by omega))) (fun _ => ?_)
      refine lv_aload_n hx hb dX6_plain_9 rfl (lv_at hl 1 rfl) ?_
      refine va_get (D := G.1) (ci := 0) (C := RX6) (T := TX6) (N := 42) hx hb hts in_X6 hown hK hP 0 h0 rfl 0 (by decide) (hts _ q1621) (fun _ h9 => h9) hf dX6_plain_10 ?_
      refine lv_iload_n hx hb dX6_plain_13 rfl (lv_at hl 2 rfl) ?_
      refine lv_iload_n hx hb dX6_plain_14 rfl (lv_at hl 0 rfl) ?_
      refine lv_iadd hx hb dX6_plain_15 ?_
      refine lv_iconst hx hb dX6_plain_16 (v := nI 0) (by decide +kernel) ?_
      refine va_iast (D := G.1) hx hb hK hP hD hS 1 0 h1 rfl (by rw [nI_add]; exact vp_in_nI (by omega) (by decide)) dX6_plain_17 (fun H locs hP hD hS => ?_)
      have e : upd (fun _ => (0 : Int32)) (nI 0 + nI k).toNatClampNeg (nI 0) = fun _ => 0 := by
        funext j
        unfold upd
        split <;> rfl
      rw [e, hset] at hP hD
      refine lv_iinc hx hb (k := 0) (v := nI (k + 1)) dX6_plain_18 hl rfl (by rw [show Int32.ofInt 1 = nI 1 by decide +kernel, nI_add]) (by decide) (lv' := [(2, .int (nI (k + 1))), (0, .ref q0), (1, .int (nI 0))]) rfl (fun ls hl => ?_)
      refine lv_goto (tgt := 2) hx hb dX6_plain_21 (by decide) ?_
      exact ih (k + 1) (by omega) H locs ls hP hD hS hl
  refine lv_iconst hx hb dX6_plain_0 (v := nI 0) (by decide +kernel) ?_
  refine lv_istore_n (nL := 3) (lv' := [(2, .int (nI 0)), (0, .ref q0), (1, .int (nI 0))]) hx hb dX6_plain_1 rfl hl (by decide) rfl (fun ls hl => ?_)
  exact loop 502 0 rfl _ _ ls hP hD hS hl
