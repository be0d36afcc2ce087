set_option maxRecDepth 100000
theorem w_X_blame_b70 {Γ : tX} {N0 : Nat → Nat} {K : Int32 → tS → Prop} (C : TC Γ cX0_blame RX0 2 47) (hw : tWf N0) (hR : xnL Γ = 3) (r : TRz Γ N0 cX0_blame K) {a1 : Int32} {a2 : Int32} (hX : N0 1025 ≠ 0) {S : tS} (hf : X_blame_b70 a1 a2 K  S) : TJ Γ N0 0 0 70 [(0, .ref (xad Γ 1025))] [] S := by
  unfold X_blame_b70 at hf
  refine tj_aload_n C 0 rfl rfl dX0_blame_70 ?_
  refine gf_X0_91 C hX dX0_blame_71 ?_
  refine tj_if_ne C 81 (by decide) dX0_blame_74 (fun hc => ?_) (fun hc => ?_)
  · replace hf := hf.2 hc
    refine tj_iconst C kc_0 dX0_blame_81 ?_
    exact r _ _ _ _ dX0_blame_82 zb0 hf
  · replace hf := hf.1 hc
    refine tj_iconst C kc_1 dX0_blame_77 ?_
    refine tj_goto C 82 (by decide) dX0_blame_78 ?_
    exact r _ _ _ _ dX0_blame_82 zb1 hf
theorem w_X_blame_b69 {Γ : tX} {N0 : Nat → Nat} {K : Int32 → tS → Prop} (C : TC Γ cX0_blame RX0 2 47) (hw : tWf N0) (hR : xnL Γ = 3) (r : TRz Γ N0 cX0_blame K) {a1 : Int32} {a2 : Int32} (hX : N0 1025 ≠ 0) {s1 : Int32} {s2 : Int32} {S : tS} (hf : X_blame_b69 a1 a2 K s1 s2 S) : TJ Γ N0 0 0 69 [(0, .ref (xad Γ 1025))] [.int s2, .int s1, .ref (xad Γ 1520)] S := by
  unfold X_blame_b69 at hf
  refine tj_iast C 1520 6 rfl (ln_1520 hw hX) _ rfl hf.1 dX0_blame_69 ?_
  replace hf := hf.2
  refine tj_topS (fun S6 eS => ?_)
  replace hf := hf S6 eS
  exact w_X_blame_b70 C hw hR r hX hf
theorem w_X_blame_b42 {Γ : tX} {N0 : Nat → Nat} {K : Int32 → tS → Prop} (C : TC Γ cX0_blame RX0 2 47) (hw : tWf N0) (hR : xnL Γ = 3) (r : TRz Γ N0 cX0_blame K) {a1 : Int32} {a2 : Int32} (hX : N0 1025 ≠ 0) {s1 : Int32} {S : tS} (hf : X_blame_b42 a1 a2 K s1 S) : TJ Γ N0 0 0 42 [(0, .ref (xad Γ 1025)), (1, .int a1), (2, .int a2)] [.int s1, .ref (xad Γ 1025)] S := by
  unfold X_blame_b42 at hf
  refine pf_X0_91 C hX dX0_blame_42 ?_
  refine tj_topS (fun S4 eS => ?_)
  replace hf := hf S4 eS
  refine tj_aload_n C 0 rfl rfl dX0_blame_45 ?_
  refine gf_X0_91 C hX dX0_blame_46 ?_
  refine tj_if_ne C 70 (by decide) dX0_blame_49 (fun hc => ?_) (fun hc => ?_)
  · replace hf := hf.2 hc
    exact tj_sub [0] (w_X_blame_b70 C hw hR r hX hf) rfl
  · replace hf := hf.1 hc
    refine tj_aload_n C 0 rfl rfl dX0_blame_52 ?_
    refine tj_callVa C (k := 1) [] [] (fun hN => c_X_at (by rw [hN]; exact hX) hf) lk_X0_168 ty_X0_at rfl (Nat.le_of_ble_eq_true rfl) (Nat.le_of_ble_eq_true rfl) (Nat.le_of_ble_eq_true rfl) hX rfl (by decide) rfl rfl dX0_blame_53 (fun S5 hf => ?_)
    refine gf_X0_237 C rfl (ne0 (ln_1222 hw hX)) dX0_blame_56 ?_
    refine tj_iload_n C 1 rfl rfl dX0_blame_59 ?_
    refine tj_iload_n C 2 rfl rfl dX0_blame_60 ?_
    refine tj_if_eq C 68 (by decide) dX0_blame_61 (fun hc => ?_) (fun hc => ?_)
    · replace hf := hf.1 hc
      refine tj_iconst C kc_0 dX0_blame_68 ?_
      exact tj_sub [0] (w_X_blame_b69 C hw hR r hX hf) rfl
    · replace hf := hf.2 hc
      refine tj_iconst C kc_1 dX0_blame_64 ?_
      refine tj_goto C 69 (by decide) dX0_blame_65 ?_
      exact tj_sub [0] (w_X_blame_b69 C hw hR r hX hf) rfl
theorem w_X_blame_b32 {Γ : tX} {N0 : Nat → Nat} {K : Int32 → tS → Prop} (C : TC Γ cX0_blame RX0 2 47) (hw : tWf N0) (hR : xnL Γ = 3) (r : TRz Γ N0 cX0_blame K) {a1 : Int32} {a2 : Int32} (hX : N0 1025 ≠ 0) {s1 : Int32} {S : tS} (hf : X_blame_b32 a1 a2 K s1 S) : TJ Γ N0 0 0 32 [(0, .ref (xad Γ 1025)), (1, .int a1), (2, .int a2)] [.int s1, .ref (xad Γ 1025)] S := by
  unfold X_blame_b32 at hf
  refine tj_iload_n C 2 rfl rfl dX0_blame_32 ?_
  refine tj_icmp_ne C 41 (by decide) dX0_blame_33 (fun hc => ?_) (fun hc => ?_)
  · replace hf := hf.2 hc
    refine tj_iconst C kc_0 dX0_blame_41 ?_
    exact w_X_blame_b42 C hw hR r hX hf
  · replace hf := hf.1 hc
    refine tj_bipush C kb_7 dX0_blame_36 ?_
    refine tj_goto C 42 (by decide) dX0_blame_38 ?_
    exact w_X_blame_b42 C hw hR r hX hf
theorem w_X_blame_b0 {Γ : tX} {N0 : Nat → Nat} {K : Int32 → tS → Prop} (C : TC Γ cX0_blame RX0 2 47) (hw : tWf N0) (hR : xnL Γ = 3) (r : TRz Γ N0 cX0_blame K) {a1 : Int32} {a2 : Int32} (hX : N0 1025 ≠ 0) {S : tS} (hf : X_blame a1 a2 S K) : TJ Γ N0 0 0 0 [(0, .ref (xad Γ 1025)), (1, .int a1), (2, .int a2)] [] S := by
  unfold X_blame at hf
  refine tj_aload_n C 0 rfl rfl dX0_blame_0 ?_
  refine tj_aload_n C 0 rfl rfl dX0_blame_1 ?_
  refine tj_iload_n C 1 rfl rfl dX0_blame_2 ?_
  refine tj_i2l C dX0_blame_3 ?_
  refine tj_callVz C (k := 1) [.long (a1.toInt64)] [.ref (xad Γ 1025)] (fun hN => c_X_isPerson (by rw [hN]; exact hX) hf) lk_X0_304 ty_X0_isPerson rfl (Nat.le_of_ble_eq_true rfl) (Nat.le_of_ble_eq_true rfl) (Nat.le_of_ble_eq_true rfl) hX rfl (by decide) rfl rfl dX0_blame_4 (fun r2 S1 hf => ?_)
  have hz_r2 := hf.1
  replace hf := hf.2
  refine tj_if_ne C 14 (by decide) dX0_blame_7 (fun hc => ?_) (fun hc => ?_)
  · replace hf := hf.2 hc
    refine tj_aload_n C 0 rfl rfl dX0_blame_14 ?_
    refine tj_callVa C (k := 1) [] [.ref (xad Γ 1025)] (fun hN => c_X_at (by rw [hN]; exact hX) hf) lk_X0_168 ty_X0_at rfl (Nat.le_of_ble_eq_true rfl) (Nat.le_of_ble_eq_true rfl) (Nat.le_of_ble_eq_true rfl) hX rfl (by decide) rfl rfl dX0_blame_15 (fun S3 hf => ?_)
    refine gf_X0_237 C rfl (ne0 (ln_1222 hw hX)) dX0_blame_18 ?_
    refine tj_iload_n C 1 rfl rfl dX0_blame_21 ?_
    refine tj_iald C 1520 6 rfl (ln_1520 hw hX) _ rfl hf.1 dX0_blame_22 ?_
    replace hf := hf.2
    refine tj_iconst C kc_1 dX0_blame_23 ?_
    refine tj_icmp_ne C 31 (by decide) dX0_blame_24 (fun hc => ?_) (fun hc => ?_)
    · replace hf := hf.2 hc
      refine tj_iconst C kc_0 dX0_blame_31 ?_
      exact w_X_blame_b32 C hw hR r hX hf
    · replace hf := hf.1 hc
      refine tj_iconst C kc_1 dX0_blame_27 ?_
      refine tj_goto C 32 (by decide) dX0_blame_28 ?_
      exact w_X_blame_b32 C hw hR r hX hf
  · replace hf := hf.1 hc
    refine tj_iconst C kc_1 dX0_blame_10 ?_
    refine tj_goto C 42 (by decide) dX0_blame_11 ?_
    exact w_X_blame_b42 C hw hR r hX hf
theorem c_X_blame {l : Launch} {G : tG} {ad : Nat → Nat} {A : Nat → Prop} {S : tS} {K : Int32 → tS → Prop} {a1 : Int32} {a2 : Int32} (hX : gN S 1025 ≠ 0) (hf : X_blame a1 a2 S K) : Met l yX0_blame (ws_ yX0_blame cX0_blame 3 (some .boolean)) (tRm 2 47) (va_Pc [.ref (ad 1025), .int a1, .int a2] (tPre G ad A S)) (va_Qi (fun r u => r &&& 1 = r ∧ K r u) (tB G ad A (gN S)) A) 0 0 A :=
  tj_met_z [(0, .ref (ad 1025)), (1, .int a1), (2, .int a2)] pn_X0 rfl (Nat.le_of_ble_eq_true rfl) (fun p e R s m args below meth c Q C hw r => w_X_blame_b0 C hw rfl r hX hf)
theorem w_X_bottom_b0 {Γ : tX} {N0 : Nat → Nat} {K : Int64 → tS → Prop} (C : TC Γ cX0_bottom RX0 0 0) (hw : tWf N0) (hR : xnL Γ = 1) (r : TRl Γ N0 cX0_bottom K) (hX : N0 1025 ≠ 0) {S : tS} (hf : X_bottom S K) : TJ Γ N0 0 0 0 [(0, .ref (xad Γ 1025))] [] S := by
  unfold X_bottom at hf
  refine tj_aload_n C 0 rfl rfl dX0_bottom_0 ?_
  refine gf_X0_48 C hX dX0_bottom_1 ?_
  exact r _ _ _ _ dX0_bottom_4 hf
theorem c_X_bottom {l : Launch} {G : tG} {ad : Nat → Nat} {A : Nat → Prop} {S : tS} {K : Int64 → tS → Prop} (hX : gN S 1025 ≠ 0) (hf : X_bottom S K) : Met l yX0_bottom (ws_ yX0_bottom cX0_bottom 1 (some .long)) (tRm 0 0) (va_Pc [.ref (ad 1025)] (tPre G ad A S)) (va_Ql K (tB G ad A (gN S)) A) 0 0 A :=
  tj_met_l [(0, .ref (ad 1025))] pn_X0 rfl (Nat.le_of_ble_eq_true rfl) (fun p e R s m args below meth c Q C hw r => w_X_bottom_b0 C hw rfl r hX hf)
theorem w_Co_showsNow_b0 {Γ : tX} {N0 : Nat → Nat} {K : Int32 → tS → Prop} (C : TC Γ cX5_showsNow RX5 5 118) (hw : tWf N0) (hR : xnL Γ = 2) (r : TRi Γ N0 cX5_showsNow K) {t0 : Nat} {a1 : Int32} (h_t0 : N0 t0 ≠ 0 ∧ t0 % 32 = 6) {S : tS} (hf : Co_showsNow t0 a1 S K) : TJ Γ N0 0 0 0 [(0, .ref (xad Γ t0)), (1, .int a1)] [] S := by
  unfold Co_showsNow at hf
  refine tj_aload_n C 0 rfl rfl dX5_showsNow_0 ?_
  refine tj_iload_n C 1 rfl rfl dX5_showsNow_1 ?_
  refine tj_aload_n C 0 rfl rfl dX5_showsNow_2 ?_
  refine gf_X5_80 C h_t0.2 h_t0.1 dX5_showsNow_3 ?_
  refine tj_callVi C (k := 6) [.int a1, .int (gI S t0 6)] [] (fun hN => c_Co_showsAt (by rw [hN]; exact ⟨h_t0.1, h_t0.2⟩) hf) lk_X5_114 ty_X5_showsAt rfl (Nat.le_of_ble_eq_true rfl) (Nat.le_of_ble_eq_true rfl) (Nat.le_of_ble_eq_true rfl) h_t0.1 h_t0.2 (by decide) rfl rfl dX5_showsNow_6 (fun r2 S1 hf => ?_)
  exact r _ _ _ _ dX5_showsNow_9 hf
theorem c_Co_showsNow {l : Launch} {G : tG} {ad : Nat → Nat} {A : Nat → Prop} {S : tS} {K : Int32 → tS → Prop} {t0 : Nat} {a1 : Int32} (h_t0 : gN S t0 ≠ 0 ∧ t0 % 32 = 6) (hf : Co_showsNow t0 a1 S K) : Met l yX5_showsNow (ws_ yX5_showsNow cX5_showsNow 2 (some .int)) (tRm 5 118) (va_Pc [.ref (ad t0), .int a1] (tPre G ad A S)) (va_Qi K (tB G ad A (gN S)) A) 0 0 A :=
  tj_met_i [(0, .ref (ad t0)), (1, .int a1)] pn_X5 rfl (Nat.le_of_ble_eq_true rfl) (fun p e R s m args below meth c Q C hw r => w_Co_showsNow_b0 C hw rfl r h_t0 hf)
theorem w_X_meant_b0 {Γ : tX} {N0 : Nat → Nat} {K : Int32 → tS → Prop} (C : TC Γ cX0_meant RX0 6 139) (hw : tWf N0) (hR : xnL Γ = 2) (r : TRi Γ N0 cX0_meant K) {a1 : Int32} (hX : N0 1025 ≠ 0) {S : tS} (hf : X_meant a1 S K) : TJ Γ N0 0 0 0 [(0, .ref (xad Γ 1025)), (1, .int a1)] [] S := by
  unfold X_meant at hf
  refine tj_aload_n C 0 rfl rfl dX0_meant_0 ?_
  refine tj_callVa C (k := 1) [] [] (fun hN => c_X_at (by rw [hN]; exact hX) hf) lk_X0_168 ty_X0_at rfl (Nat.le_of_ble_eq_true rfl) (Nat.le_of_ble_eq_true rfl) (Nat.le_of_ble_eq_true rfl) hX rfl (by decide) rfl rfl dX0_meant_1 (fun S1 hf => ?_)
  refine tj_aload_n C 0 rfl rfl dX0_meant_4 ?_
  refine tj_callVa C (k := 1) [] [.ref (xad Γ 1222)] (fun hN => c_X_at (by rw [hN]; exact hX) hf) lk_X0_168 ty_X0_at rfl (Nat.le_of_ble_eq_true rfl) (Nat.le_of_ble_eq_true rfl) (Nat.le_of_ble_eq_true rfl) hX rfl (by decide) rfl rfl dX0_meant_5 (fun S2 hf => ?_)
  refine tj_iload_n C 1 rfl rfl dX0_meant_8 ?_
  refine tj_callVi C (k := 6) [.int a1] [.ref (xad Γ 1222)] (fun hN => c_Co_showsNow (by rw [hN]; exact ⟨(ne0 (ln_1222 hw hX)), rfl⟩) hf) lk_X0_364 ty_X5_showsNow rfl (Nat.le_of_ble_eq_true rfl) (Nat.le_of_ble_eq_true rfl) (Nat.le_of_ble_eq_true rfl) (ne0 (ln_1222 hw hX)) rfl (by decide) rfl rfl dX0_meant_9 (fun r4 S3 hf => ?_)
  refine tj_callVi C (k := 6) [.int r4] [] (fun hN => c_Co_senseOf (by rw [hN]; exact ⟨(ne0 (ln_1222 hw hX)), rfl⟩) hf) lk_X0_452 ty_X5_senseOf rfl (Nat.le_of_ble_eq_true rfl) (Nat.le_of_ble_eq_true rfl) (Nat.le_of_ble_eq_true rfl) (ne0 (ln_1222 hw hX)) rfl (by decide) rfl rfl dX0_meant_12 (fun r6 S5 hf => ?_)
  exact r _ _ _ _ dX0_meant_15 hf
theorem c_X_meant {l : Launch} {G : tG} {ad : Nat → Nat} {A : Nat → Prop} {S : tS} {K : Int32 → tS → Prop} {a1 : Int32} (hX : gN S 1025 ≠ 0) (hf : X_meant a1 S K) : Met l yX0_meant (ws_ yX0_meant cX0_meant 2 (some .int)) (tRm 6 139) (va_Pc [.ref (ad 1025), .int a1] (tPre G ad A S)) (va_Qi K (tB G ad A (gN S)) A) 0 0 A :=
  tj_met_i [(0, .ref (ad 1025)), (1, .int a1)] pn_X0 rfl (Nat.le_of_ble_eq_true rfl) (fun p e R s m args below meth c Q C hw r => w_X_meant_b0 C hw rfl r hX hf)
theorem w_X_clashing_b66 {Γ : tX} {N0 : Nat → Nat} {K : Int32 → tS → Prop} (C : TC Γ cX0_clashing RX0 7 160) (hw : tWf N0) (hR : xnL Γ = 3) (r : TRi Γ N0 cX0_clashing K) (hX : N0 1025 ≠ 0) {κ4 : Int32 → Int32 → tS → Prop} (hκ4 : ∀ (a1 : Int32) (a2 : Int32) (S : tS), κ4 a1 a2 S → TJ Γ N0 0 0 4 [(0, .ref (xad Γ 1025)), (1, .int a1), (2, .int a2)] [] S) {a2 : Int32} {s0 : Int32} {s1 : Int32} {S : tS} (hf : X_clashing_b66 K κ4 a2 s0 s1 S) : TJ Γ N0 0 0 66 [(0, .ref (xad Γ 1025)), (2, .int a2)] [.int s1, .int s0] S := by
  unfold X_clashing_b66 at hf
  refine tj_ior C dX0_clashing_66 ?_
  refine tj_topi (fun x9 ex => ?_)
  replace hf := hf x9 ex
  refine tj_istore_n C (by rw [hR]; decide) [(1, .int x9), (0, .ref (xad Γ 1025)), (2, .int a2)] rfl rfl dX0_clashing_67 ?_
  obtain ⟨x10, ex⟩ : ∃ y : Int32, y = a2 + nI 1 := ⟨_, rfl⟩
  refine tj_iinc C (by rw [hR]; decide) 2 [(2, .int x10), (1, .int x9), (0, .ref (xad Γ 1025))] rfl (by rw [ex]; exact ki_1 _) rfl dX0_clashing_68 ?_
  replace hf := hf x10 ex
  refine tj_goto C 4 (by decide) dX0_clashing_71 ?_
  exact tj_sub [2, 1, 0] (hκ4 _ _ _ hf) rfl
theorem w_X_clashing_b65 {Γ : tX} {N0 : Nat → Nat} {K : Int32 → tS → Prop} (C : TC Γ cX0_clashing RX0 7 160) (hw : tWf N0) (hR : xnL Γ = 3) (r : TRi Γ N0 cX0_clashing K) (hX : N0 1025 ≠ 0) {κ4 : Int32 → Int32 → tS → Prop} (hκ4 : ∀ (a1 : Int32) (a2 : Int32) (S : tS), κ4 a1 a2 S → TJ Γ N0 0 0 4 [(0, .ref (xad Γ 1025)), (1, .int a1), (2, .int a2)] [] S) {a2 : Int32} {s0 : Int32} {S : tS} (hf : X_clashing_b65 K κ4 a2 s0 S) : TJ Γ N0 0 0 65 [(0, .ref (xad Γ 1025)), (2, .int a2)] [.int s0] S := by
  unfold X_clashing_b65 at hf
  refine tj_iconst C kc_0 dX0_clashing_65 ?_
  exact w_X_clashing_b66 C hw hR r hX hκ4 hf
theorem w_X_clashing_l4 {Γ : tX} {N0 : Nat → Nat} {K : Int32 → tS → Prop} (C : TC Γ cX0_clashing RX0 7 160) (hw : tWf N0) (hR : xnL Γ = 3) (r : TRi Γ N0 cX0_clashing K) (hX : N0 1025 ≠ 0) : ∀ (n : Nat) (a1 : Int32) (a2 : Int32) (S : tS), X_clashing_l4 K n a1 a2 S → TJ Γ N0 0 0 4 [(0, .ref (xad Γ 1025)), (1, .int a1), (2, .int a2)] [] S := by
  intro n
  induction n with
  | zero => intro a1 a2 S hf; exact hf.elim
  | succ n ih =>
    intro a1 a2 S hf
    unfold X_clashing_l4 at hf
    refine tj_iload_n C 2 rfl rfl dX0_clashing_4 ?_
    refine tj_aload_n C 0 rfl rfl dX0_clashing_5 ?_
    refine tj_callVa C (k := 1) [] [.int a2] (fun hN => c_X_at (by rw [hN]; exact hX) hf) lk_X0_168 ty_X0_at rfl (Nat.le_of_ble_eq_true rfl) (Nat.le_of_ble_eq_true rfl) (Nat.le_of_ble_eq_true rfl) hX rfl (by decide) rfl rfl dX0_clashing_6 (fun S1 hf => ?_)
    refine gf_X0_242 C rfl (ne0 (ln_1222 hw hX)) dX0_clashing_9 ?_
    refine tj_icmp_ge C 74 (by decide) dX0_clashing_12 (fun hc => ?_) (fun hc => ?_)
    · replace hf := hf.1 hc
      refine tj_iload_n C 1 rfl rfl dX0_clashing_74 ?_
      exact r _ _ _ _ dX0_clashing_75 hf
    · replace hf := hf.2 hc
      refine tj_iload_n C 1 rfl rfl dX0_clashing_15 ?_
      refine tj_aload_n C 0 rfl rfl dX0_clashing_16 ?_
      refine tj_aload_n C 0 rfl rfl dX0_clashing_17 ?_
      refine tj_callVa C (k := 1) [] [.ref (xad Γ 1025), .int a1] (fun hN => c_X_at (by rw [hN]; exact hX) hf) lk_X0_168 ty_X0_at rfl (Nat.le_of_ble_eq_true rfl) (Nat.le_of_ble_eq_true rfl) (Nat.le_of_ble_eq_true rfl) hX rfl (by decide) rfl rfl dX0_clashing_18 (fun S2 hf => ?_)
      refine gf_X0_329 C rfl (ne0 (ln_1222 hw hX)) dX0_clashing_21 ?_
      refine tj_iload_n C 2 rfl rfl dX0_clashing_24 ?_
      refine tj_iald C 1648 10 rfl (ln_1648 hw hX) _ rfl hf.1 dX0_clashing_25 ?_
      replace hf := hf.2
      refine tj_callVi C (k := 1) [.int (gI S2 1648 (a2.toNatClampNeg))] [.int a1] (fun hN => c_X_meant (by rw [hN]; exact hX) hf) lk_X0_455 ty_X0_meant rfl (Nat.le_of_ble_eq_true rfl) (Nat.le_of_ble_eq_true rfl) (Nat.le_of_ble_eq_true rfl) hX rfl (by decide) rfl rfl dX0_clashing_26 (fun r4 S3 hf => ?_)
      refine tj_aload_n C 0 rfl rfl dX0_clashing_29 ?_
      refine tj_callVa C (k := 1) [] [.int r4, .int a1] (fun hN => c_X_at (by rw [hN]; exact hX) hf) lk_X0_168 ty_X0_at rfl (Nat.le_of_ble_eq_true rfl) (Nat.le_of_ble_eq_true rfl) (Nat.le_of_ble_eq_true rfl) hX rfl (by decide) rfl rfl dX0_clashing_30 (fun S5 hf => ?_)
      refine gf_X0_332 C rfl (ne0 (ln_1222 hw hX)) dX0_clashing_33 ?_
      refine tj_iload_n C 2 rfl rfl dX0_clashing_36 ?_
      refine tj_iald C 1680 10 rfl (ln_1680 hw hX) _ rfl hf.1 dX0_clashing_37 ?_
      replace hf := hf.2
      refine tj_iadd C dX0_clashing_38 ?_
      refine tj_iconst C kc_3 dX0_clashing_39 ?_
      refine tj_icmp_ne C 65 (by decide) dX0_clashing_40 (fun hc => ?_) (fun hc => ?_)
      · replace hf := hf.2 hc
        exact tj_sub [0, 2] (w_X_clashing_b65 C hw hR r hX ih hf) rfl
      · replace hf := hf.1 hc
        refine tj_aload_n C 0 rfl rfl dX0_clashing_43 ?_
        refine tj_aload_n C 0 rfl rfl dX0_clashing_44 ?_
        refine tj_callVa C (k := 1) [] [.ref (xad Γ 1025), .int a1] (fun hN => c_X_at (by rw [hN]; exact hX) hf) lk_X0_168 ty_X0_at rfl (Nat.le_of_ble_eq_true rfl) (Nat.le_of_ble_eq_true rfl) (Nat.le_of_ble_eq_true rfl) hX rfl (by decide) rfl rfl dX0_clashing_45 (fun S6 hf => ?_)
        refine gf_X0_329 C rfl (ne0 (ln_1222 hw hX)) dX0_clashing_48 ?_
        refine tj_iload_n C 2 rfl rfl dX0_clashing_51 ?_
        refine tj_iald C 1648 10 rfl (ln_1648 hw hX) _ rfl hf.1 dX0_clashing_52 ?_
        replace hf := hf.2
        refine tj_callVi C (k := 1) [.int (gI S6 1648 (a2.toNatClampNeg))] [.int a1] (fun hN => c_X_meant (by rw [hN]; exact hX) hf) lk_X0_455 ty_X0_meant rfl (Nat.le_of_ble_eq_true rfl) (Nat.le_of_ble_eq_true rfl) (Nat.le_of_ble_eq_true rfl) hX rfl (by decide) rfl rfl dX0_clashing_53 (fun r8 S7 hf => ?_)
        refine tj_if_eq C 65 (by decide) dX0_clashing_56 (fun hc => ?_) (fun hc => ?_)
        · replace hf := hf.1 hc
          exact tj_sub [0, 2] (w_X_clashing_b65 C hw hR r hX ih hf) rfl
        · replace hf := hf.2 hc
          refine tj_iconst C kc_1 dX0_clashing_59 ?_
          refine tj_iload_n C 2 rfl rfl dX0_clashing_60 ?_
          refine tj_ishl C dX0_clashing_61 ?_
          refine tj_goto C 66 (by decide) dX0_clashing_62 ?_
          exact tj_sub [0, 2] (w_X_clashing_b66 C hw hR r hX ih hf) rfl
theorem w_X_clashing_b0 {Γ : tX} {N0 : Nat → Nat} {K : Int32 → tS → Prop} (C : TC Γ cX0_clashing RX0 7 160) (hw : tWf N0) (hR : xnL Γ = 3) (r : TRi Γ N0 cX0_clashing K) (hX : N0 1025 ≠ 0) {S : tS} (hf : X_clashing S K) : TJ Γ N0 0 0 0 [(0, .ref (xad Γ 1025))] [] S := by
  unfold X_clashing at hf
  refine tj_iconst C kc_0 dX0_clashing_0 ?_
  refine tj_istore_n C (by rw [hR]; decide) [(1, .int (nI 0)), (0, .ref (xad Γ 1025))] rfl rfl dX0_clashing_1 ?_
  refine tj_iconst C kc_0 dX0_clashing_2 ?_
  refine tj_istore_n C (by rw [hR]; decide) [(2, .int (nI 0)), (1, .int (nI 0)), (0, .ref (xad Γ 1025))] rfl rfl dX0_clashing_3 ?_
  exact tj_sub [2, 1, 0] (hf.elim fun k hf => w_X_clashing_l4 C hw hR r hX k _ _ _ hf) rfl
theorem c_X_clashing {l : Launch} {G : tG} {ad : Nat → Nat} {A : Nat → Prop} {S : tS} {K : Int32 → tS → Prop} (hX : gN S 1025 ≠ 0) (hf : X_clashing S K) : Met l yX0_clashing (ws_ yX0_clashing cX0_clashing 3 (some .int)) (tRm 7 160) (va_Pc [.ref (ad 1025)] (tPre G ad A S)) (va_Qi K (tB G ad A (gN S)) A) 0 0 A :=
  tj_met_i [(0, .ref (ad 1025))] pn_X0 rfl (Nat.le_of_ble_eq_true rfl) (fun p e R s m args below meth c Q C hw r => w_X_clashing_b0 C hw rfl r hX hf)
theorem w_X_clash_b0 {Γ : tX} {N0 : Nat → Nat} {K : Int32 → tS → Prop} (C : TC Γ cX0_clash RX0 8 182) (hw : tWf N0) (hR : xnL Γ = 1) (r : TRi Γ N0 cX0_clash K) (hX : N0 1025 ≠ 0) {S : tS} (hf : X_clash S K) : TJ Γ N0 0 0 0 [(0, .ref (xad Γ 1025))] [] S := by
  unfold X_clash at hf
  refine tj_aload_n C 0 rfl rfl dX0_clash_0 ?_
  refine tj_iconst C kc_0 dX0_clash_1 ?_
  refine pf_X0_91 C hX dX0_clash_2 ?_
  refine tj_topS (fun S1 eS => ?_)
  replace hf := hf S1 eS
  refine tj_aload_n C 0 rfl rfl dX0_clash_5 ?_
  refine tj_callVi C (k := 1) [] [] (fun hN => c_X_clashing (by rw [hN]; exact hX) hf) lk_X0_458 ty_X0_clashing rfl (Nat.le_of_ble_eq_true rfl) (Nat.le_of_ble_eq_true rfl) (Nat.le_of_ble_eq_true rfl) hX rfl (by decide) rfl rfl dX0_clash_6 (fun r3 S2 hf => ?_)
  exact r _ _ _ _ dX0_clash_9 hf
theorem c_X_clash {l : Launch} {G : tG} {ad : Nat → Nat} {A : Nat → Prop} {S : tS} {K : Int32 → tS → Prop} (hX : gN S 1025 ≠ 0) (hf : X_clash S K) : Met l yX0_clash (ws_ yX0_clash cX0_clash 1 (some .int)) (tRm 8 182) (va_Pc [.ref (ad 1025)] (tPre G ad A S)) (va_Qi K (tB G ad A (gN S)) A) 0 0 A :=
  tj_met_i [(0, .ref (ad 1025))] pn_X0 rfl (Nat.le_of_ble_eq_true rfl) (fun p e R s m args below meth c Q C hw r => w_X_clash_b0 C hw rfl r hX hf)
theorem w_X_put_b0 {Γ : tX} {N0 : Nat → Nat} {K : tS → Prop} (C : TC Γ cX0_put RX0 0 0) (hw : tWf N0) (hR : xnL Γ = 7) (r : TRv Γ N0 cX0_put K) {a0 : Nat} {a1 : Int32} {a2 : Int64} (h_a0 : N0 a0 ≠ 0 ∧ (16 ≤ a0 % 32 ∧ a0 % 32 ≤ 19)) {S : tS} (hf : X_put a0 a1 a2 S K) : TJ Γ N0 0 0 0 [(0, .ref (xad Γ a0)), (1, .int a1), (2, .long a2)] [] S := by
  unfold X_put at hf
  refine tj_aload_n C 0 rfl rfl dX0_put_0 ?_
  by_cases hk1 : a0 % 32 = 18
  · replace hf := hf.1 hk1
    refine tj_instY C 18 a0 hk1 (by decide) (by decide) rfl h_a0.1 q625 dX0_put_1 ?_
    refine tj_if_eq C 23 (by decide) dX0_put_4 (fun hc => absurd hc (by decide +kernel)) (fun hc => ?_)
    refine tj_aload_n C 0 rfl rfl dX0_put_7 ?_
    refine tj_castA C 18 a0 hk1 (by decide) (by decide) rfl h_a0.1 q625 dX0_put_8 ?_
    refine tj_astore C (by rw [hR]; decide) [(4, .ref (xad Γ a0)), (0, .ref (xad Γ a0)), (1, .int a1), (2, .long a2)] rfl dX0_put_11 ?_
    refine tj_aload C 0 rfl dX0_put_13 ?_
    refine tj_iload_n C 2 rfl rfl dX0_put_15 ?_
    refine tj_lload_n C 3 rfl rfl dX0_put_16 ?_
    refine tj_l2i C dX0_put_17 ?_
    refine tj_i2b C dX0_put_18 ?_
    refine tj_bastd C a0 hk1 h_a0.1 _ rfl hf.1 dX0_put_19 ?_
    replace hf := hf.2
    refine tj_topS (fun S2 eS => ?_)
    replace hf := hf S2 eS
    refine tj_goto C 75 (by decide) dX0_put_20 ?_
    exact r _ _ _ dX0_put_75 hf
  · replace hf := hf.2 hk1
    refine tj_instN C 18 a0 h_a0.2.1 h_a0.2.2 (by decide) hk1 rfl h_a0.1 q625 dX0_put_1 ?_
    refine tj_if_eq C 23 (by decide) dX0_put_4 (fun hc => ?_) (fun hc => absurd hc (by decide +kernel))
    refine tj_aload_n C 0 rfl rfl dX0_put_23 ?_
    by_cases hk3 : a0 % 32 = 19
    · replace hf := hf.1 hk3
      refine tj_instY C 19 a0 hk3 (by decide) (by decide) rfl h_a0.1 q626 dX0_put_24 ?_
      refine tj_if_eq C 46 (by decide) dX0_put_27 (fun hc => absurd hc (by decide +kernel)) (fun hc => ?_)
      refine tj_aload_n C 0 rfl rfl dX0_put_30 ?_
      refine tj_castA C 19 a0 hk3 (by decide) (by decide) rfl h_a0.1 q626 dX0_put_31 ?_
      refine tj_astore C (by rw [hR]; decide) [(5, .ref (xad Γ a0)), (0, .ref (xad Γ a0)), (1, .int a1), (2, .long a2)] rfl dX0_put_34 ?_
      refine tj_aload C 0 rfl dX0_put_36 ?_
      refine tj_iload_n C 2 rfl rfl dX0_put_38 ?_
      refine tj_lload_n C 3 rfl rfl dX0_put_39 ?_
      refine tj_l2i C dX0_put_40 ?_
      refine tj_i2s C dX0_put_41 ?_
      refine tj_sastd C a0 hk3 h_a0.1 _ rfl hf.1 dX0_put_42 ?_
      replace hf := hf.2
      refine tj_topS (fun S4 eS => ?_)
      replace hf := hf S4 eS
      refine tj_goto C 75 (by decide) dX0_put_43 ?_
      exact r _ _ _ dX0_put_75 hf
    · replace hf := hf.2 hk3
      refine tj_instN C 19 a0 h_a0.2.1 h_a0.2.2 (by decide) hk3 rfl h_a0.1 q626 dX0_put_24 ?_
      refine tj_if_eq C 46 (by decide) dX0_put_27 (fun hc => ?_) (fun hc => absurd hc (by decide +kernel))
      refine tj_aload_n C 0 rfl rfl dX0_put_46 ?_
      by_cases hk5 : a0 % 32 = 16
      · replace hf := hf.1 hk5
        refine tj_instY C 16 a0 hk5 (by decide) (by decide) rfl h_a0.1 q627 dX0_put_47 ?_
        refine tj_if_eq C 68 (by decide) dX0_put_50 (fun hc => absurd hc (by decide +kernel)) (fun hc => ?_)
        refine tj_aload_n C 0 rfl rfl dX0_put_53 ?_
        refine tj_castA C 16 a0 hk5 (by decide) (by decide) rfl h_a0.1 q627 dX0_put_54 ?_
        refine tj_astore C (by rw [hR]; decide) [(6, .ref (xad Γ a0)), (0, .ref (xad Γ a0)), (1, .int a1), (2, .long a2)] rfl dX0_put_57 ?_
        refine tj_aload C 0 rfl dX0_put_59 ?_
        refine tj_iload_n C 2 rfl rfl dX0_put_61 ?_
        refine tj_lload_n C 3 rfl rfl dX0_put_62 ?_
        refine tj_l2i C dX0_put_63 ?_
        refine tj_iastd C a0 hk5 h_a0.1 _ rfl hf.1 dX0_put_64 ?_
        replace hf := hf.2
        refine tj_topS (fun S6 eS => ?_)
        replace hf := hf S6 eS
        refine tj_goto C 75 (by decide) dX0_put_65 ?_
        exact r _ _ _ dX0_put_75 hf
      · replace hf := hf.2 hk5
        refine tj_instN C 16 a0 h_a0.2.1 h_a0.2.2 (by decide) hk5 rfl h_a0.1 q627 dX0_put_47 ?_
        refine tj_if_eq C 68 (by decide) dX0_put_50 (fun hc => ?_) (fun hc => absurd hc (by decide +kernel))
        refine tj_aload_n C 0 rfl rfl dX0_put_68 ?_
        have hk7 : a0 % 32 = 17 := by have := h_a0.2; omega
        refine tj_castA C 17 a0 hk7 (by decide) (by decide) rfl h_a0.1 q628 dX0_put_69 ?_
        refine tj_iload_n C 1 rfl rfl dX0_put_72 ?_
        refine tj_lload_n C 2 rfl rfl dX0_put_73 ?_
        refine tj_lastd C a0 hk7 h_a0.1 _ rfl hf.1 dX0_put_74 ?_
        replace hf := hf.2
        refine tj_topS (fun S8 eS => ?_)
        replace hf := hf S8 eS
        exact r _ _ _ dX0_put_75 hf
theorem c_X_put {l : Launch} {G : tG} {ad : Nat → Nat} {A : Nat → Prop} {S : tS} {K : tS → Prop} {a0 : Nat} {a1 : Int32} {a2 : Int64} (h_a0 : gN S a0 ≠ 0 ∧ (16 ≤ a0 % 32 ∧ a0 % 32 ≤ 19)) (hf : X_put a0 a1 a2 S K) : Met l yX0_put (ws_ yX0_put cX0_put 7 (none)) (tRm 0 0) (va_Pc [.ref (ad a0), .int a1, .long a2] (tPre G ad A S)) (va_Qv K (tB G ad A (gN S)) A) 0 0 A :=
  tj_met_v [(0, .ref (ad a0)), (1, .int a1), (2, .long a2)] pn_X0 rfl (Nat.le_of_ble_eq_true rfl) (fun p e R s m args below meth c Q C hw r => w_X_put_b0 C hw rfl r h_a0 hf)
theorem w_X_no_b0 {Γ : tX} {N0 : Nat → Nat} {K : Int32 → tS → Prop} (C : TC Γ cX0_no RX0 0 0) (hw : tWf N0) (hR : xnL Γ = 2) (r : TRz Γ N0 cX0_no K) (hX : N0 1025 ≠ 0) {S : tS} (hf : X_no S K) : TJ Γ N0 0 0 0 [(0, .ref (xad Γ 1025)), (1, .ref (xad Γ 1156))] [] S := by
  unfold X_no at hf
  refine tj_aload_n C 0 rfl rfl dX0_no_0 ?_
  refine tj_aload_n C 1 rfl rfl dX0_no_1 ?_
  refine gf_X0_101 C (ne0 (ln_1156 hw hX)) dX0_no_2 ?_
  refine pf_X0_91 C hX dX0_no_5 ?_
  refine tj_topS (fun S1 eS => ?_)
  replace hf := hf S1 eS
  refine tj_iconst C kc_0 dX0_no_8 ?_
  exact r _ _ _ _ dX0_no_9 zb0 hf
theorem c_X_no {l : Launch} {G : tG} {ad : Nat → Nat} {A : Nat → Prop} {S : tS} {K : Int32 → tS → Prop} (hX : gN S 1025 ≠ 0) (hf : X_no S K) : Met l yX0_no (ws_ yX0_no cX0_no 2 (some .boolean)) (tRm 0 0) (va_Pc [.ref (ad 1025), .ref (ad 1156)] (tPre G ad A S)) (va_Qi (fun r u => r &&& 1 = r ∧ K r u) (tB G ad A (gN S)) A) 0 0 A :=
  tj_met_z [(0, .ref (ad 1025)), (1, .ref (ad 1156))] pn_X0 rfl (Nat.le_of_ble_eq_true rfl) (fun p e R s m args below meth c Q C hw r => w_X_no_b0 C hw rfl r hX hf)
theorem w_X_write_b26 {Γ : tX} {N0 : Nat → Nat} {K : Int32 → tS → Prop} (C : TC Γ cX0_write RX0 3 64) (hw : tWf N0) (hR : xnL Γ = 6) (r : TRz Γ N0 cX0_write K) {a1 : Int32} {a2 : Int32} {a3 : Int64} (hX : N0 1025 ≠ 0) (hT : (xc Γ).exceptionTable.toList = tableOf [(5, 16, 17, 141), (5, 16, 26, 41)]) {S : tS} (hf : X_write_b26 a1 a2 a3 K  S) : TJ Γ N0 0 0 26 [(0, .ref (xad Γ 1025))] [.ref (xad Γ 1156)] S := by
  unfold X_write_b26 at hf
  refine tj_astore C (by rw [hR]; decide) [(5, .ref (xad Γ 1156)), (0, .ref (xad Γ 1025))] rfl dX0_write_26 ?_
  refine tj_aload_n C 1 rfl rfl dX0_write_28 ?_
  refine tj_aload C 0 rfl dX0_write_29 ?_
  refine tj_callVz C (k := 1) [.ref (xad Γ 1156)] [] (fun hN => c_X_no (by rw [hN]; exact hX) hf) lk_X0_129 ty_X0_no rfl (Nat.le_of_ble_eq_true rfl) (Nat.le_of_ble_eq_true rfl) (Nat.le_of_ble_eq_true rfl) hX rfl (by decide) rfl rfl dX0_write_31 (fun r7 S6 hf => ?_)
  have hz_r7 := hf.1
  replace hf := hf.2
  exact r _ _ _ _ dX0_write_34 hz_r7 hf
theorem w_X_write_b0 {Γ : tX} {N0 : Nat → Nat} {K : Int32 → tS → Prop} (C : TC Γ cX0_write RX0 3 64) (hw : tWf N0) (hR : xnL Γ = 6) (r : TRz Γ N0 cX0_write K) {a1 : Int32} {a2 : Int32} {a3 : Int64} (hX : N0 1025 ≠ 0) (hT : (xc Γ).exceptionTable.toList = tableOf [(5, 16, 17, 141), (5, 16, 26, 41)]) {S : tS} (hf : X_write a1 a2 a3 S K) : TJ Γ N0 0 0 0 [(0, .ref (xad Γ 1025)), (1, .int a1), (2, .int a2), (3, .long a3)] [] S := by
  unfold X_write at hf
  refine tj_aload_n C 0 rfl rfl dX0_write_0 ?_
  refine tj_iconst C kc_0 dX0_write_1 ?_
  refine pf_X0_91 C hX dX0_write_2 ?_
  refine tj_topS (fun S1 eS => ?_)
  replace hf := hf S1 eS
  refine tj_aload_n C 0 rfl rfl dX0_write_5 ?_
  refine tj_iload_n C 1 rfl rfl dX0_write_6 ?_
  refine tj_xVa C (k := 1) [.int a1] [] (fun hN => c_X_on (by rw [hN]; exact hX) hf) lk_X0_133 ty_X0_on rfl (Nat.le_of_ble_eq_true rfl) (Nat.le_of_ble_eq_true rfl) (Nat.le_of_ble_eq_true rfl) hX rfl (by decide) rfl rfl dX0_write_7 (fun S3 hf => ?_) (fun t4 S2 hf hN => ?_)
  · refine tj_catch C [⟨5, 16, 17, 141⟩] ⟨5, 16, 26, 41⟩ [] hT (fun z hz => by rw [List.mem_singleton.mp hz]; exact Or.inr ⟨by decide, _, q599, C.K.2.2.1 ("CatWitness$Refused", "java/lang/ArrayIndexOutOfBoundsException") (by decide)⟩) (by decide) (by decide) q287 q289 ?_
    exact tj_sub [0] (w_X_write_b26 C hw hR r hX hT hf) rfl
  · have h_t4 := hf.1
    rw [hN] at h_t4
    replace hf := hf.2
    refine tj_iload_n C 2 rfl rfl dX0_write_10 ?_
    refine tj_lload_n C 3 rfl rfl dX0_write_11 ?_
    refine tj_callSv C [.ref (xad Γ t4), .int a2, .long a3] [] (fun hN => c_X_put (by rw [hN]; exact ⟨h_t4.1, h_t4.2⟩) hf) lk_X0_137 ty_X0_put rfl (Nat.le_of_ble_eq_true rfl) (Nat.le_of_ble_eq_true rfl) (Nat.le_of_ble_eq_true rfl) rfl dX0_write_12 (fun S5 hf => ?_)
    refine tj_iconst C kc_1 dX0_write_15 ?_
    exact r _ _ _ _ dX0_write_16 zb1 hf
theorem c_X_write {l : Launch} {G : tG} {ad : Nat → Nat} {A : Nat → Prop} {S : tS} {K : Int32 → tS → Prop} {a1 : Int32} {a2 : Int32} {a3 : Int64} (hX : gN S 1025 ≠ 0) (hf : X_write a1 a2 a3 S K) : vx_Met l yX0_write (wsW_ yX0_write cX0_write 6 (some .boolean) [(5, 16, 17, 141), (5, 16, 26, 41)]) (tRm 3 64) (va_Pc [.ref (ad 1025), .int a1, .int a2, .long a3] (tPre G ad A S)) (va_Qi (fun r u => r &&& 1 = r ∧ K r u) (tB G ad A (gN S)) A) (vx_X (fun _ => False) (tBX G ad A (gN S) RX3 1156) A) 0 0 A :=
  tj_xmetW_z [(0, .ref (ad 1025)), (1, .int a1), (2, .int a2), (3, .long a3)] pn_X0 rfl (Nat.le_of_ble_eq_true rfl) (fun p e R s m args below meth c Q C hw hT r => w_X_write_b0 C hw rfl r hX hT hf)
theorem w_X_copyFed_b50 {Γ : tX} {N0 : Nat → Nat} {K : Int32 → tS → Prop} (C : TC Γ cX0_copyFed RX0 4 89) (hw : tWf N0) (hR : xnL Γ = 3) (r : TRi Γ N0 cX0_copyFed K) {a1 : Int32} (hX : N0 1025 ≠ 0) (hT : (xc Γ).exceptionTable.toList = tableOf [(5, 47, 50, 41)]) {S : tS} (hf : X_copyFed_b50 a1 K  S) : TJ Γ N0 0 0 50 [(0, .ref (xad Γ 1025))] [.ref (xad Γ 1156)] S := by
  unfold X_copyFed_b50 at hf
  refine tj_astore_n C (by rw [hR]; decide) [(2, .ref (xad Γ 1156)), (0, .ref (xad Γ 1025))] rfl rfl dX0_copyFed_50 ?_
  refine tj_aload_n C 1 rfl rfl dX0_copyFed_51 ?_
  refine tj_aload_n C 0 rfl rfl dX0_copyFed_52 ?_
  refine tj_callVi C (k := 1) [.ref (xad Γ 1156)] [] (fun hN => c_X_none (by rw [hN]; exact hX) hf) lk_X0_149 ty_X0_none rfl (Nat.le_of_ble_eq_true rfl) (Nat.le_of_ble_eq_true rfl) (Nat.le_of_ble_eq_true rfl) hX rfl (by decide) rfl rfl dX0_copyFed_53 (fun r13 S12 hf => ?_)
  exact r _ _ _ _ dX0_copyFed_56 hf
theorem w_X_copyFed_l59 {Γ : tX} {N0 : Nat → Nat} {K : Int32 → tS → Prop} (C : TC Γ cX0_copyFed RX0 4 89) (hw : tWf N0) (hR : xnL Γ = 3) (r : TRi Γ N0 cX0_copyFed K) {a1 : Int32} (hX : N0 1025 ≠ 0) (hT : (xc Γ).exceptionTable.toList = tableOf [(5, 47, 50, 41)]) : ∀ (n : Nat) (a2 : Int32) (S : tS), X_copyFed_l59 a1 K n a2 S → TJ Γ N0 0 0 59 [(0, .ref (xad Γ 1025)), (1, .int a1), (2, .int a2)] [] S := by
  intro n
  induction n with
  | zero => intro a2 S hf; exact hf.elim
  | succ n ih =>
    intro a2 S hf
    unfold X_copyFed_l59 at hf
    refine tj_iload_n C 2 rfl rfl dX0_copyFed_59 ?_
    refine tj_aload_n C 0 rfl rfl dX0_copyFed_60 ?_
    refine tj_callVa C (k := 1) [] [.int a2] (fun hN => c_X_at (by rw [hN]; exact hX) hf) lk_X0_168 ty_X0_at rfl (Nat.le_of_ble_eq_true rfl) (Nat.le_of_ble_eq_true rfl) (Nat.le_of_ble_eq_true rfl) hX rfl (by decide) rfl rfl dX0_copyFed_61 (fun S16 hf => ?_)
    refine gf_X0_185 C rfl (ne0 (ln_1222 hw hX)) dX0_copyFed_64 ?_
    refine tj_icmp_ge C 93 (by decide) dX0_copyFed_67 (fun hc => ?_) (fun hc => ?_)
    · replace hf := hf.1 hc
      refine tj_aload_n C 0 rfl rfl dX0_copyFed_93 ?_
      refine tj_callVa C (k := 1) [] [] (fun hN => c_X_at (by rw [hN]; exact hX) hf) lk_X0_168 ty_X0_at rfl (Nat.le_of_ble_eq_true rfl) (Nat.le_of_ble_eq_true rfl) (Nat.le_of_ble_eq_true rfl) hX rfl (by decide) rfl rfl dX0_copyFed_94 (fun S17 hf => ?_)
      refine gf_X0_185 C rfl (ne0 (ln_1222 hw hX)) dX0_copyFed_97 ?_
      exact r _ _ _ _ dX0_copyFed_100 hf
    · replace hf := hf.2 hc
      refine tj_aload_n C 0 rfl rfl dX0_copyFed_70 ?_
      refine tj_iload_n C 1 rfl rfl dX0_copyFed_71 ?_
      refine tj_iload_n C 2 rfl rfl dX0_copyFed_72 ?_
      refine tj_aload_n C 0 rfl rfl dX0_copyFed_73 ?_
      refine tj_callVa C (k := 1) [] [.int a2, .int a1, .ref (xad Γ 1025)] (fun hN => c_X_at (by rw [hN]; exact hX) hf) lk_X0_168 ty_X0_at rfl (Nat.le_of_ble_eq_true rfl) (Nat.le_of_ble_eq_true rfl) (Nat.le_of_ble_eq_true rfl) hX rfl (by decide) rfl rfl dX0_copyFed_74 (fun S18 hf => ?_)
      refine gf_X0_308 C rfl (ne0 (ln_1222 hw hX)) dX0_copyFed_77 ?_
      refine tj_iload_n C 2 rfl rfl dX0_copyFed_80 ?_
      refine tj_iald C 1424 6 rfl (ln_1424 hw hX) _ rfl hf.1 dX0_copyFed_81 ?_
      replace hf := hf.2
      refine tj_i2l C dX0_copyFed_82 ?_
      refine tj_xVWz C (k := 1) [.int a1, .int a2, .long ((gI S18 1424 (a2.toNatClampNeg)).toInt64)] [] (fun hN => c_X_write (by rw [hN]; exact hX) hf) lk_X0_498 ty_X0_write rfl (Nat.le_of_ble_eq_true rfl) (Nat.le_of_ble_eq_true rfl) (Nat.le_of_ble_eq_true rfl) hX rfl (by decide) rfl rfl dX0_copyFed_83 (fun _ hu => hu.elim) (fun r20 S19 hf => ?_)
      have hz_r20 := hf.1
      replace hf := hf.2
      refine tj_pop C rfl dX0_copyFed_86 ?_
      obtain ⟨x21, ex⟩ : ∃ y : Int32, y = a2 + nI 1 := ⟨_, rfl⟩
      refine tj_iinc C (by rw [hR]; decide) 2 [(2, .int x21), (0, .ref (xad Γ 1025)), (1, .int a1)] rfl (by rw [ex]; exact ki_1 _) rfl dX0_copyFed_87 ?_
      replace hf := hf x21 ex
      refine tj_goto C 59 (by decide) dX0_copyFed_90 ?_
      exact tj_sub [1, 2, 0] (ih _ _ hf) rfl
theorem w_X_copyFed_b43 {Γ : tX} {N0 : Nat → Nat} {K : Int32 → tS → Prop} (C : TC Γ cX0_copyFed RX0 4 89) (hw : tWf N0) (hR : xnL Γ = 3) (r : TRi Γ N0 cX0_copyFed K) {a1 : Int32} (hX : N0 1025 ≠ 0) (hT : (xc Γ).exceptionTable.toList = tableOf [(5, 47, 50, 41)]) {s1 : Int32} {S : tS} (hf : X_copyFed_b43 a1 K s1 S) : TJ Γ N0 0 0 43 [(0, .ref (xad Γ 1025)), (1, .int a1)] [.int s1, .ref (xad Γ 1025)] S := by
  unfold X_copyFed_b43 at hf
  refine tj_iconst C kc_3 dX0_copyFed_43 ?_
  refine tj_xVv C (k := 1) [.int s1, .int (nI 3)] [] (fun hN => c_X_want (by rw [hN]; exact hX) hf) lk_X0_116 ty_X0_want rfl (Nat.le_of_ble_eq_true rfl) (Nat.le_of_ble_eq_true rfl) (Nat.le_of_ble_eq_true rfl) hX rfl (by decide) rfl rfl dX0_copyFed_44 (fun S15 hf => ?_) (fun S14 hf => ?_)
  · refine tj_catch C [] ⟨5, 47, 50, 41⟩ [] hT (fun z hz => nomatch hz) (by decide) (by decide) q287 q289 ?_
    exact tj_sub [0] (w_X_copyFed_b50 C hw hR r hX hT hf) rfl
  · refine tj_goto C 57 (by decide) dX0_copyFed_47 ?_
    refine tj_iconst C kc_0 dX0_copyFed_57 ?_
    refine tj_istore_n C (by rw [hR]; decide) [(2, .int (nI 0)), (0, .ref (xad Γ 1025)), (1, .int a1)] rfl rfl dX0_copyFed_58 ?_
    exact tj_sub [1, 2, 0] (hf.elim fun k hf => w_X_copyFed_l59 C hw hR r hX hT k _ _ hf) rfl
theorem w_X_copyFed_b0 {Γ : tX} {N0 : Nat → Nat} {K : Int32 → tS → Prop} (C : TC Γ cX0_copyFed RX0 4 89) (hw : tWf N0) (hR : xnL Γ = 3) (r : TRi Γ N0 cX0_copyFed K) {a1 : Int32} (hX : N0 1025 ≠ 0) (hT : (xc Γ).exceptionTable.toList = tableOf [(5, 47, 50, 41)]) {S : tS} (hf : X_copyFed a1 S K) : TJ Γ N0 0 0 0 [(0, .ref (xad Γ 1025)), (1, .int a1)] [] S := by
  unfold X_copyFed at hf
  refine tj_aload_n C 0 rfl rfl dX0_copyFed_0 ?_
  refine tj_iconst C kc_0 dX0_copyFed_1 ?_
  refine pf_X0_91 C hX dX0_copyFed_2 ?_
  refine tj_topS (fun S1 eS => ?_)
  replace hf := hf S1 eS
  refine tj_aload_n C 0 rfl rfl dX0_copyFed_5 ?_
  refine tj_iload_n C 1 rfl rfl dX0_copyFed_6 ?_
  refine tj_i2l C dX0_copyFed_7 ?_
  refine tj_lconst C (v := lN 0) rfl dX0_copyFed_8 ?_
  refine tj_ldc2 C kl_X0_388 dX0_copyFed_9 ?_
  refine tj_callSz C [.long (a1.toInt64), .long (lN 0), .long (lN 3)] [.ref (xad Γ 1025)] (fun hN => c_X_isIn hf) lk_X0_175 ty_X0_isIn rfl (Nat.le_of_ble_eq_true rfl) (Nat.le_of_ble_eq_true rfl) (Nat.le_of_ble_eq_true rfl) rfl dX0_copyFed_12 (fun r3 S2 hf => ?_)
  have hz_r3 := hf.1
  replace hf := hf.2
  refine tj_iconst C kc_1 dX0_copyFed_15 ?_
  refine tj_xVv C (k := 1) [.int r3, .int (nI 1)] [] (fun hN => c_X_want (by rw [hN]; exact hX) hf) lk_X0_116 ty_X0_want rfl (Nat.le_of_ble_eq_true rfl) (Nat.le_of_ble_eq_true rfl) (Nat.le_of_ble_eq_true rfl) hX rfl (by decide) rfl rfl dX0_copyFed_16 (fun S5 hf => ?_) (fun S4 hf => ?_)
  · refine tj_catch C [] ⟨5, 47, 50, 41⟩ [] hT (fun z hz => nomatch hz) (by decide) (by decide) q287 q289 ?_
    exact tj_sub [0] (w_X_copyFed_b50 C hw hR r hX hT hf) rfl
  · refine tj_aload_n C 0 rfl rfl dX0_copyFed_19 ?_
    refine tj_aload_n C 0 rfl rfl dX0_copyFed_20 ?_
    refine tj_iload_n C 1 rfl rfl dX0_copyFed_21 ?_
    refine tj_xVa C (k := 1) [.int a1] [.ref (xad Γ 1025)] (fun hN => c_X_on (by rw [hN]; exact hX) hf) lk_X0_133 ty_X0_on rfl (Nat.le_of_ble_eq_true rfl) (Nat.le_of_ble_eq_true rfl) (Nat.le_of_ble_eq_true rfl) hX rfl (by decide) rfl rfl dX0_copyFed_22 (fun S7 hf => ?_) (fun t8 S6 hf hN => ?_)
    · refine tj_catch C [] ⟨5, 47, 50, 41⟩ [] hT (fun z hz => nomatch hz) (by decide) (by decide) q287 q289 ?_
      exact tj_sub [0] (w_X_copyFed_b50 C hw hR r hX hT hf) rfl
    · have h_t8 := hf.1
      rw [hN] at h_t8
      replace hf := hf.2
      refine tj_callSi C [.ref (xad Γ t8)] [.ref (xad Γ 1025)] (fun hN => c_X_sizeOf (by rw [hN]; exact ⟨h_t8.1, h_t8.2⟩) hf) lk_X0_390 ty_X0_sizeOf rfl (Nat.le_of_ble_eq_true rfl) (Nat.le_of_ble_eq_true rfl) (Nat.le_of_ble_eq_true rfl) rfl dX0_copyFed_25 (fun r10 S9 hf => ?_)
      refine tj_aload_n C 0 rfl rfl dX0_copyFed_28 ?_
      refine tj_callVa C (k := 1) [] [.int r10, .ref (xad Γ 1025)] (fun hN => c_X_at (by rw [hN]; exact hX) hf) lk_X0_168 ty_X0_at rfl (Nat.le_of_ble_eq_true rfl) (Nat.le_of_ble_eq_true rfl) (Nat.le_of_ble_eq_true rfl) hX rfl (by decide) rfl rfl dX0_copyFed_29 (fun S11 hf => ?_)
      refine gf_X0_185 C rfl (ne0 (ln_1222 hw hX)) dX0_copyFed_32 ?_
      refine tj_icmp_lt C 42 (by decide) dX0_copyFed_35 (fun hc => ?_) (fun hc => ?_)
      · replace hf := hf.1 hc
        refine tj_iconst C kc_0 dX0_copyFed_42 ?_
        exact w_X_copyFed_b43 C hw hR r hX hT hf
      · replace hf := hf.2 hc
        refine tj_iconst C kc_1 dX0_copyFed_38 ?_
        refine tj_goto C 43 (by decide) dX0_copyFed_39 ?_
        exact w_X_copyFed_b43 C hw hR r hX hT hf
theorem c_X_copyFed {l : Launch} {G : tG} {ad : Nat → Nat} {A : Nat → Prop} {S : tS} {K : Int32 → tS → Prop} {a1 : Int32} (hX : gN S 1025 ≠ 0) (hf : X_copyFed a1 S K) : vx_Met l yX0_copyFed (wsW_ yX0_copyFed cX0_copyFed 3 (some .int) [(5, 47, 50, 41)]) (tRm 4 89) (va_Pc [.ref (ad 1025), .int a1] (tPre G ad A S)) (va_Qi K (tB G ad A (gN S)) A) (vx_X (fun _ => False) (tBX G ad A (gN S) RX3 1156) A) 0 0 A :=
  tj_xmetW_i [(0, .ref (ad 1025)), (1, .int a1)] pn_X0 rfl (Nat.le_of_ble_eq_true rfl) (fun p e R s m args below meth c Q C hw hT r => w_X_copyFed_b0 C hw rfl r hX hT hf)
theorem w_X_opens_b23 {Γ : tX} {N0 : Nat → Nat} {K : Int32 → tS → Prop} (C : TC Γ cX0_opens RX0 0 0) (hw : tWf N0) (hR : xnL Γ = 3) (r : TRz Γ N0 cX0_opens K) {a1 : Int32} {a2 : Int32} (hX : N0 1025 ≠ 0) {s1 : Int32} {S : tS} (hf : X_opens_b23 a1 a2 K s1 S) : TJ Γ N0 0 0 23 [(0, .ref (xad Γ 1025))] [.int s1, .ref (xad Γ 1025)] S := by
  unfold X_opens_b23 at hf
  refine pf_X0_91 C hX dX0_opens_23 ?_
  refine tj_topS (fun S1 eS => ?_)
  replace hf := hf S1 eS
  refine tj_aload_n C 0 rfl rfl dX0_opens_26 ?_
  refine gf_X0_91 C hX dX0_opens_27 ?_
  refine tj_if_le C 35 (by decide) dX0_opens_30 (fun hc => ?_) (fun hc => ?_)
  · replace hf := hf.1 hc
    refine tj_aload_n C 0 rfl rfl dX0_opens_35 ?_
    refine tj_iconst C kc_0 dX0_opens_36 ?_
    refine pf_X0_191 C hX dX0_opens_37 ?_
    refine tj_topS (fun S2 eS => ?_)
    replace hf := hf S2 eS
    refine tj_aload_n C 0 rfl rfl dX0_opens_40 ?_
    refine tj_iconst C kc_0 dX0_opens_41 ?_
    refine pf_X0_27 C hX dX0_opens_42 ?_
    refine tj_topS (fun S3 eS => ?_)
    replace hf := hf S3 eS
    refine tj_aload_n C 0 rfl rfl dX0_opens_45 ?_
    refine tj_iconst C kc_m1 dX0_opens_46 ?_
    refine pf_X0_31 C hX dX0_opens_47 ?_
    refine tj_topS (fun S4 eS => ?_)
    replace hf := hf S4 eS
    refine tj_iconst C kc_1 dX0_opens_50 ?_
    exact r _ _ _ _ dX0_opens_51 zb1 hf
  · replace hf := hf.2 hc
    refine tj_iconst C kc_0 dX0_opens_33 ?_
    exact r _ _ _ _ dX0_opens_34 zb0 hf
theorem w_X_opens_b18 {Γ : tX} {N0 : Nat → Nat} {K : Int32 → tS → Prop} (C : TC Γ cX0_opens RX0 0 0) (hw : tWf N0) (hR : xnL Γ = 3) (r : TRz Γ N0 cX0_opens K) {a1 : Int32} {a2 : Int32} (hX : N0 1025 ≠ 0) {S : tS} (hf : X_opens_b18 a1 a2 K  S) : TJ Γ N0 0 0 18 [(0, .ref (xad Γ 1025))] [.ref (xad Γ 1025)] S := by
  unfold X_opens_b18 at hf
  refine tj_iconst C kc_1 dX0_opens_18 ?_
  refine tj_goto C 23 (by decide) dX0_opens_19 ?_
  exact w_X_opens_b23 C hw hR r hX hf
theorem w_X_opens_b0 {Γ : tX} {N0 : Nat → Nat} {K : Int32 → tS → Prop} (C : TC Γ cX0_opens RX0 0 0) (hw : tWf N0) (hR : xnL Γ = 3) (r : TRz Γ N0 cX0_opens K) {a1 : Int32} {a2 : Int32} (hX : N0 1025 ≠ 0) {S : tS} (hf : X_opens a1 a2 S K) : TJ Γ N0 0 0 0 [(0, .ref (xad Γ 1025)), (1, .int a1), (2, .int a2)] [] S := by
  unfold X_opens at hf
  refine tj_aload_n C 0 rfl rfl dX0_opens_0 ?_
  refine tj_iload_n C 1 rfl rfl dX0_opens_1 ?_
  refine tj_if_lt C 18 (by decide) dX0_opens_2 (fun hc => ?_) (fun hc => ?_)
  · replace hf := hf.1 hc
    exact tj_sub [0] (w_X_opens_b18 C hw hR r hX hf) rfl
  · replace hf := hf.2 hc
    refine tj_iload_n C 1 rfl rfl dX0_opens_5 ?_
    refine tj_aload_n C 0 rfl rfl dX0_opens_6 ?_
    refine gf_X0_191 C hX dX0_opens_7 ?_
    refine tj_icmp_gt C 18 (by decide) dX0_opens_10 (fun hc => ?_) (fun hc => ?_)
    · replace hf := hf.1 hc
      exact tj_sub [0] (w_X_opens_b18 C hw hR r hX hf) rfl
    · replace hf := hf.2 hc
      refine tj_iload_n C 1 rfl rfl dX0_opens_13 ?_
      refine tj_iload_n C 2 rfl rfl dX0_opens_14 ?_
      refine tj_icmp_le C 22 (by decide) dX0_opens_15 (fun hc => ?_) (fun hc => ?_)
      · replace hf := hf.1 hc
        refine tj_iconst C kc_0 dX0_opens_22 ?_
        exact tj_sub [0] (w_X_opens_b23 C hw hR r hX hf) rfl
      · replace hf := hf.2 hc
        exact tj_sub [0] (w_X_opens_b18 C hw hR r hX hf) rfl
theorem c_X_opens {l : Launch} {G : tG} {ad : Nat → Nat} {A : Nat → Prop} {S : tS} {K : Int32 → tS → Prop} {a1 : Int32} {a2 : Int32} (hX : gN S 1025 ≠ 0) (hf : X_opens a1 a2 S K) : Met l yX0_opens (ws_ yX0_opens cX0_opens 3 (some .boolean)) (tRm 0 0) (va_Pc [.ref (ad 1025), .int a1, .int a2] (tPre G ad A S)) (va_Qi (fun r u => r &&& 1 = r ∧ K r u) (tB G ad A (gN S)) A) 0 0 A :=
  tj_met_z [(0, .ref (ad 1025)), (1, .int a1), (2, .int a2)] pn_X0 rfl (Nat.le_of_ble_eq_true rfl) (fun p e R s m args below meth c Q C hw r => w_X_opens_b0 C hw rfl r hX hf)
theorem w_Co_copy_b0 {Γ : tX} {N0 : Nat → Nat} {K : tS → Prop} (C : TC Γ cX5_copy RX5 1 60) (hw : tWf N0) (hR : xnL Γ = 2) (r : TRv Γ N0 cX5_copy K) {a0 : Nat} {a1 : Nat} (h_a0 : N0 a0 ≠ 0 ∧ a0 % 32 = 16) (h_a1 : N0 a1 ≠ 0 ∧ a1 % 32 = 16) {S : tS} (hf : Co_copy a0 a1 S K) : TJ Γ N0 0 0 0 [(0, .ref (xad Γ a0)), (1, .ref (xad Γ a1))] [] S := by
  unfold Co_copy at hf
  refine tj_aload_n C 0 rfl rfl dX5_copy_0 ?_
  refine tj_iconst C kc_0 dX5_copy_1 ?_
  refine tj_aload_n C 1 rfl rfl dX5_copy_2 ?_
  refine tj_iconst C kc_0 dX5_copy_3 ?_
  refine tj_aload_n C 0 rfl rfl dX5_copy_4 ?_
  refine tj_alend C 16 a0 (by decide) (by decide) h_a0.2 h_a0.1 dX5_copy_5 ?_
  refine tj_hN (fun hN => tj_copy16 C a0 a1 (gN S a0 - 1) (gN S a1 - 1) h_a0.2 h_a1.2 (by rw [hN]; exact (Nat.succ_pred h_a0.1).symm) (by rw [hN]; exact (Nat.succ_pred h_a1.1).symm) q973 hf.1 (Nat.le_of_ble_eq_true rfl) (Nat.le_of_ble_eq_true rfl) (Nat.le_of_ble_eq_true rfl) dX5_copy_6 ?_)
  replace hf := hf.2
  refine tj_topS (fun S1 eS => ?_)
  replace hf := hf S1 eS
  exact r _ _ _ dX5_copy_9 hf
theorem c_Co_copy {l : Launch} {G : tG} {ad : Nat → Nat} {A : Nat → Prop} {S : tS} {K : tS → Prop} {a0 : Nat} {a1 : Nat} (h_a0 : gN S a0 ≠ 0 ∧ a0 % 32 = 16) (h_a1 : gN S a1 ≠ 0 ∧ a1 % 32 = 16) (hf : Co_copy a0 a1 S K) : Met l yX5_copy (ws_ yX5_copy cX5_copy 2 (none)) (tRm 1 60) (va_Pc [.ref (ad a0), .ref (ad a1)] (tPre G ad A S)) (va_Qv K (tB G ad A (gN S)) A) 0 0 A :=
  tj_met_v [(0, .ref (ad a0)), (1, .ref (ad a1))] pn_X5 rfl (Nat.le_of_ble_eq_true rfl) (fun p e R s m args below meth c Q C hw r => w_Co_copy_b0 C hw rfl r h_a0 h_a1 hf)
theorem w_Co_be_b0 {Γ : tX} {N0 : Nat → Nat} {K : tS → Prop} (C : TC Γ cX5_be RX5 2 81) (hw : tWf N0) (hR : xnL Γ = 2) (r : TRv Γ N0 cX5_be K) {t0 : Nat} {a1 : Nat} (h_t0 : N0 t0 ≠ 0 ∧ t0 % 32 = 6) (h_a1 : N0 a1 ≠ 0 ∧ a1 % 32 = 6) {S : tS} (hf : Co_be t0 a1 S K) : TJ Γ N0 0 0 0 [(0, .ref (xad Γ t0)), (1, .ref (xad Γ a1))] [] S := by
  unfold Co_be at hf
  refine tj_aload_n C 0 rfl rfl dX5_be_0 ?_
  refine tj_aload_n C 1 rfl rfl dX5_be_1 ?_
  refine gf_X5_61 C h_a1.2 h_a1.1 dX5_be_2 ?_
  refine pf_X5_61 C h_t0.2 h_t0.1 dX5_be_5 ?_
  refine tj_topS (fun S1 eS => ?_)
  replace hf := hf S1 eS
  refine tj_aload_n C 0 rfl rfl dX5_be_8 ?_
  refine tj_aload_n C 1 rfl rfl dX5_be_9 ?_
  refine gf_X5_65 C h_a1.2 h_a1.1 dX5_be_10 ?_
  refine pf_X5_65 C h_t0.2 h_t0.1 dX5_be_13 ?_
  refine tj_topS (fun S2 eS => ?_)
  replace hf := hf S2 eS
  refine tj_aload_n C 0 rfl rfl dX5_be_16 ?_
  refine tj_aload_n C 1 rfl rfl dX5_be_17 ?_
  refine gf_X5_68 C h_a1.2 h_a1.1 dX5_be_18 ?_
  refine pf_X5_68 C h_t0.2 h_t0.1 dX5_be_21 ?_
  refine tj_topS (fun S3 eS => ?_)
  replace hf := hf S3 eS
  refine tj_aload_n C 0 rfl rfl dX5_be_24 ?_
  refine tj_aload_n C 1 rfl rfl dX5_be_25 ?_
  refine gf_X5_71 C h_a1.2 h_a1.1 dX5_be_26 ?_
  refine pf_X5_71 C h_t0.2 h_t0.1 dX5_be_29 ?_
  refine tj_topS (fun S4 eS => ?_)
  replace hf := hf S4 eS
  refine tj_aload_n C 0 rfl rfl dX5_be_32 ?_
  refine tj_aload_n C 1 rfl rfl dX5_be_33 ?_
  refine gf_X5_74 C h_a1.2 h_a1.1 dX5_be_34 ?_
  refine pf_X5_74 C h_t0.2 h_t0.1 dX5_be_37 ?_
  refine tj_topS (fun S5 eS => ?_)
  replace hf := hf S5 eS
  refine tj_aload_n C 0 rfl rfl dX5_be_40 ?_
  refine tj_aload_n C 1 rfl rfl dX5_be_41 ?_
  refine gf_X5_77 C h_a1.2 h_a1.1 dX5_be_42 ?_
  refine pf_X5_77 C h_t0.2 h_t0.1 dX5_be_45 ?_
  refine tj_topS (fun S6 eS => ?_)
  replace hf := hf S6 eS
  refine tj_aload_n C 0 rfl rfl dX5_be_48 ?_
  refine tj_aload_n C 1 rfl rfl dX5_be_49 ?_
  refine gf_X5_80 C h_a1.2 h_a1.1 dX5_be_50 ?_
  refine pf_X5_80 C h_t0.2 h_t0.1 dX5_be_53 ?_
  refine tj_topS (fun S7 eS => ?_)
  replace hf := hf S7 eS
  refine tj_aload_n C 0 rfl rfl dX5_be_56 ?_
  refine tj_aload_n C 1 rfl rfl dX5_be_57 ?_
  refine gf_X5_83 C h_a1.2 h_a1.1 dX5_be_58 ?_
  refine pf_X5_83 C h_t0.2 h_t0.1 dX5_be_61 ?_
  refine tj_topS (fun S8 eS => ?_)
  replace hf := hf S8 eS
  refine tj_aload_n C 0 rfl rfl dX5_be_64 ?_
  refine tj_aload_n C 1 rfl rfl dX5_be_65 ?_
  refine gf_X5_9 C h_a1.2 h_a1.1 dX5_be_66 ?_
  refine pf_X5_9 C h_t0.2 h_t0.1 dX5_be_69 ?_
  refine tj_topS (fun S9 eS => ?_)
  replace hf := hf S9 eS
  refine tj_aload_n C 0 rfl rfl dX5_be_72 ?_
  refine tj_aload_n C 1 rfl rfl dX5_be_73 ?_
  refine gf_X5_15 C h_a1.2 h_a1.1 dX5_be_74 ?_
  refine pf_X5_15 C h_t0.2 h_t0.1 dX5_be_77 ?_
  refine tj_topS (fun S10 eS => ?_)
  replace hf := hf S10 eS
  refine tj_aload_n C 0 rfl rfl dX5_be_80 ?_
  refine tj_aload_n C 1 rfl rfl dX5_be_81 ?_
  refine gf_X5_18 C h_a1.2 h_a1.1 dX5_be_82 ?_
  refine pf_X5_18 C h_t0.2 h_t0.1 dX5_be_85 ?_
  refine tj_topS (fun S11 eS => ?_)
  replace hf := hf S11 eS
  refine tj_aload_n C 0 rfl rfl dX5_be_88 ?_
  refine tj_aload_n C 1 rfl rfl dX5_be_89 ?_
  refine gf_X5_21 C h_a1.2 h_a1.1 dX5_be_90 ?_
  refine pf_X5_21 C h_t0.2 h_t0.1 dX5_be_93 ?_
  refine tj_topS (fun S12 eS => ?_)
  replace hf := hf S12 eS
  refine tj_aload_n C 1 rfl rfl dX5_be_96 ?_
  refine gf_X5_24 C h_a1.2 h_a1.1 dX5_be_97 ?_
  refine tj_aload_n C 0 rfl rfl dX5_be_100 ?_
  refine gf_X5_24 C h_t0.2 h_t0.1 dX5_be_101 ?_
  refine tj_callSv C [.ref (xad Γ (a1 + 170)), .ref (xad Γ (t0 + 170))] [] (fun hN => c_Co_copy (by rw [hN]; exact ⟨(ne0 (lnc_170 hw h_a1.2 h_a1.1)), (by have := h_a1.2; omega)⟩) (by rw [hN]; exact ⟨(ne0 (lnc_170 hw h_t0.2 h_t0.1)), (by have := h_t0.2; omega)⟩) hf) lk_X5_86 ty_X5_copy rfl (Nat.le_of_ble_eq_true rfl) (Nat.le_of_ble_eq_true rfl) (Nat.le_of_ble_eq_true rfl) rfl dX5_be_104 (fun S13 hf => ?_)
  refine tj_aload_n C 1 rfl rfl dX5_be_107 ?_
  refine gf_X5_28 C h_a1.2 h_a1.1 dX5_be_108 ?_
  refine tj_aload_n C 0 rfl rfl dX5_be_111 ?_
  refine gf_X5_28 C h_t0.2 h_t0.1 dX5_be_112 ?_
  refine tj_callSv C [.ref (xad Γ (a1 + 202)), .ref (xad Γ (t0 + 202))] [] (fun hN => c_Co_copy (by rw [hN]; exact ⟨(ne0 (lnc_202 hw h_a1.2 h_a1.1)), (by have := h_a1.2; omega)⟩) (by rw [hN]; exact ⟨(ne0 (lnc_202 hw h_t0.2 h_t0.1)), (by have := h_t0.2; omega)⟩) hf) lk_X5_86 ty_X5_copy rfl (Nat.le_of_ble_eq_true rfl) (Nat.le_of_ble_eq_true rfl) (Nat.le_of_ble_eq_true rfl) rfl dX5_be_115 (fun S14 hf => ?_)
  refine tj_aload_n C 1 rfl rfl dX5_be_118 ?_
  refine gf_X5_31 C h_a1.2 h_a1.1 dX5_be_119 ?_
  refine tj_aload_n C 0 rfl rfl dX5_be_122 ?_
  refine gf_X5_31 C h_t0.2 h_t0.1 dX5_be_123 ?_
  refine tj_callSv C [.ref (xad Γ (a1 + 234)), .ref (xad Γ (t0 + 234))] [] (fun hN => c_Co_copy (by rw [hN]; exact ⟨(ne0 (lnc_234 hw h_a1.2 h_a1.1)), (by have := h_a1.2; omega)⟩) (by rw [hN]; exact ⟨(ne0 (lnc_234 hw h_t0.2 h_t0.1)), (by have := h_t0.2; omega)⟩) hf) lk_X5_86 ty_X5_copy rfl (Nat.le_of_ble_eq_true rfl) (Nat.le_of_ble_eq_true rfl) (Nat.le_of_ble_eq_true rfl) rfl dX5_be_126 (fun S15 hf => ?_)
  refine tj_aload_n C 1 rfl rfl dX5_be_129 ?_
  refine gf_X5_34 C h_a1.2 h_a1.1 dX5_be_130 ?_
  refine tj_aload_n C 0 rfl rfl dX5_be_133 ?_
  refine gf_X5_34 C h_t0.2 h_t0.1 dX5_be_134 ?_
  refine tj_callSv C [.ref (xad Γ (a1 + 266)), .ref (xad Γ (t0 + 266))] [] (fun hN => c_Co_copy (by rw [hN]; exact ⟨(ne0 (lnc_266 hw h_a1.2 h_a1.1)), (by have := h_a1.2; omega)⟩) (by rw [hN]; exact ⟨(ne0 (lnc_266 hw h_t0.2 h_t0.1)), (by have := h_t0.2; omega)⟩) hf) lk_X5_86 ty_X5_copy rfl (Nat.le_of_ble_eq_true rfl) (Nat.le_of_ble_eq_true rfl) (Nat.le_of_ble_eq_true rfl) rfl dX5_be_137 (fun S16 hf => ?_)
  refine tj_aload_n C 1 rfl rfl dX5_be_140 ?_
  refine gf_X5_37 C h_a1.2 h_a1.1 dX5_be_141 ?_
  refine tj_aload_n C 0 rfl rfl dX5_be_144 ?_
  refine gf_X5_37 C h_t0.2 h_t0.1 dX5_be_145 ?_
  refine tj_callSv C [.ref (xad Γ (a1 + 298)), .ref (xad Γ (t0 + 298))] [] (fun hN => c_Co_copy (by rw [hN]; exact ⟨(ne0 (lnc_298 hw h_a1.2 h_a1.1)), (by have := h_a1.2; omega)⟩) (by rw [hN]; exact ⟨(ne0 (lnc_298 hw h_t0.2 h_t0.1)), (by have := h_t0.2; omega)⟩) hf) lk_X5_86 ty_X5_copy rfl (Nat.le_of_ble_eq_true rfl) (Nat.le_of_ble_eq_true rfl) (Nat.le_of_ble_eq_true rfl) rfl dX5_be_148 (fun S17 hf => ?_)
  refine tj_aload_n C 1 rfl rfl dX5_be_151 ?_
  refine gf_X5_40 C h_a1.2 h_a1.1 dX5_be_152 ?_
  refine tj_aload_n C 0 rfl rfl dX5_be_155 ?_
  refine gf_X5_40 C h_t0.2 h_t0.1 dX5_be_156 ?_
  refine tj_callSv C [.ref (xad Γ (a1 + 330)), .ref (xad Γ (t0 + 330))] [] (fun hN => c_Co_copy (by rw [hN]; exact ⟨(ne0 (lnc_330 hw h_a1.2 h_a1.1)), (by have := h_a1.2; omega)⟩) (by rw [hN]; exact ⟨(ne0 (lnc_330 hw h_t0.2 h_t0.1)), (by have := h_t0.2; omega)⟩) hf) lk_X5_86 ty_X5_copy rfl (Nat.le_of_ble_eq_true rfl) (Nat.le_of_ble_eq_true rfl) (Nat.le_of_ble_eq_true rfl) rfl dX5_be_159 (fun S18 hf => ?_)
  refine tj_aload_n C 1 rfl rfl dX5_be_162 ?_
  refine gf_X5_43 C h_a1.2 h_a1.1 dX5_be_163 ?_
  refine tj_aload_n C 0 rfl rfl dX5_be_166 ?_
  refine gf_X5_43 C h_t0.2 h_t0.1 dX5_be_167 ?_
  refine tj_callSv C [.ref (xad Γ (a1 + 362)), .ref (xad Γ (t0 + 362))] [] (fun hN => c_Co_copy (by rw [hN]; exact ⟨(ne0 (lnc_362 hw h_a1.2 h_a1.1)), (by have := h_a1.2; omega)⟩) (by rw [hN]; exact ⟨(ne0 (lnc_362 hw h_t0.2 h_t0.1)), (by have := h_t0.2; omega)⟩) hf) lk_X5_86 ty_X5_copy rfl (Nat.le_of_ble_eq_true rfl) (Nat.le_of_ble_eq_true rfl) (Nat.le_of_ble_eq_true rfl) rfl dX5_be_170 (fun S19 hf => ?_)
  refine tj_aload_n C 1 rfl rfl dX5_be_173 ?_
  refine gf_X5_46 C h_a1.2 h_a1.1 dX5_be_174 ?_
  refine tj_aload_n C 0 rfl rfl dX5_be_177 ?_
  refine gf_X5_46 C h_t0.2 h_t0.1 dX5_be_178 ?_
  refine tj_callSv C [.ref (xad Γ (a1 + 394)), .ref (xad Γ (t0 + 394))] [] (fun hN => c_Co_copy (by rw [hN]; exact ⟨(ne0 (lnc_394 hw h_a1.2 h_a1.1)), (by have := h_a1.2; omega)⟩) (by rw [hN]; exact ⟨(ne0 (lnc_394 hw h_t0.2 h_t0.1)), (by have := h_t0.2; omega)⟩) hf) lk_X5_86 ty_X5_copy rfl (Nat.le_of_ble_eq_true rfl) (Nat.le_of_ble_eq_true rfl) (Nat.le_of_ble_eq_true rfl) rfl dX5_be_181 (fun S20 hf => ?_)
  refine tj_aload_n C 1 rfl rfl dX5_be_184 ?_
  refine gf_X5_49 C h_a1.2 h_a1.1 dX5_be_185 ?_
  refine tj_aload_n C 0 rfl rfl dX5_be_188 ?_
  refine gf_X5_49 C h_t0.2 h_t0.1 dX5_be_189 ?_
  refine tj_callSv C [.ref (xad Γ (a1 + 426)), .ref (xad Γ (t0 + 426))] [] (fun hN => c_Co_copy (by rw [hN]; exact ⟨(ne0 (lnc_426 hw h_a1.2 h_a1.1)), (by have := h_a1.2; omega)⟩) (by rw [hN]; exact ⟨(ne0 (lnc_426 hw h_t0.2 h_t0.1)), (by have := h_t0.2; omega)⟩) hf) lk_X5_86 ty_X5_copy rfl (Nat.le_of_ble_eq_true rfl) (Nat.le_of_ble_eq_true rfl) (Nat.le_of_ble_eq_true rfl) rfl dX5_be_192 (fun S21 hf => ?_)
  refine tj_aload_n C 1 rfl rfl dX5_be_195 ?_
  refine gf_X5_52 C h_a1.2 h_a1.1 dX5_be_196 ?_
  refine tj_aload_n C 0 rfl rfl dX5_be_199 ?_
  refine gf_X5_52 C h_t0.2 h_t0.1 dX5_be_200 ?_
  refine tj_callSv C [.ref (xad Γ (a1 + 458)), .ref (xad Γ (t0 + 458))] [] (fun hN => c_Co_copy (by rw [hN]; exact ⟨(ne0 (lnc_458 hw h_a1.2 h_a1.1)), (by have := h_a1.2; omega)⟩) (by rw [hN]; exact ⟨(ne0 (lnc_458 hw h_t0.2 h_t0.1)), (by have := h_t0.2; omega)⟩) hf) lk_X5_86 ty_X5_copy rfl (Nat.le_of_ble_eq_true rfl) (Nat.le_of_ble_eq_true rfl) (Nat.le_of_ble_eq_true rfl) rfl dX5_be_203 (fun S22 hf => ?_)
  refine tj_aload_n C 1 rfl rfl dX5_be_206 ?_
  refine gf_X5_57 C h_a1.2 h_a1.1 dX5_be_207 ?_
  refine tj_iconst C kc_0 dX5_be_210 ?_
  refine tj_aload_n C 0 rfl rfl dX5_be_211 ?_
  refine gf_X5_57 C h_t0.2 h_t0.1 dX5_be_212 ?_
  refine tj_iconst C kc_0 dX5_be_215 ?_
  refine tj_bipush C kb_8 dX5_be_216 ?_
  refine tj_hN (fun hN => tj_copy23 C (a1 + 497) (t0 + 497) 8 8 (by have := h_a1.2; omega) (by have := h_t0.2; omega) (by rw [hN]; exact (lnc_497 hw h_a1.2 h_a1.1)) (by rw [hN]; exact (lnc_497 hw h_t0.2 h_t0.1)) q973 hf.1 (Nat.le_of_ble_eq_true rfl) (Nat.le_of_ble_eq_true rfl) (Nat.le_of_ble_eq_true rfl) dX5_be_218 ?_)
  replace hf := hf.2
  refine tj_topS (fun S23 eS => ?_)
  replace hf := hf S23 eS
  exact r _ _ _ dX5_be_221 hf
theorem c_Co_be {l : Launch} {G : tG} {ad : Nat → Nat} {A : Nat → Prop} {S : tS} {K : tS → Prop} {t0 : Nat} {a1 : Nat} (h_t0 : gN S t0 ≠ 0 ∧ t0 % 32 = 6) (h_a1 : gN S a1 ≠ 0 ∧ a1 % 32 = 6) (hf : Co_be t0 a1 S K) : Met l yX5_be (ws_ yX5_be cX5_be 2 (none)) (tRm 2 81) (va_Pc [.ref (ad t0), .ref (ad a1)] (tPre G ad A S)) (va_Qv K (tB G ad A (gN S)) A) 0 0 A :=
  tj_met_v [(0, .ref (ad t0)), (1, .ref (ad a1))] pn_X5 rfl (Nat.le_of_ble_eq_true rfl) (fun p e R s m args below meth c Q C hw r => w_Co_be_b0 C hw rfl r h_t0 h_a1 hf)
theorem w_X_faulty_b0 {Γ : tX} {N0 : Nat → Nat} {K : Int32 → tS → Prop} (C : TC Γ cX0_faulty RX0 0 0) (hw : tWf N0) (hR : xnL Γ = 2) (r : TRi Γ N0 cX0_faulty K) (hX : N0 1025 ≠ 0) {S : tS} (hf : X_faulty S K) : TJ Γ N0 0 0 0 [(0, .ref (xad Γ 1025)), (1, .ref (xad Γ 1123))] [] S := by
  unfold X_faulty at hf
  refine tj_aload_n C 0 rfl rfl dX0_faulty_0 ?_
  refine tj_aload_n C 1 rfl rfl dX0_faulty_1 ?_
  refine gf_X0_198 C (ne0 (ln_1123 hw hX)) dX0_faulty_2 ?_
  refine pf_X0_27 C hX dX0_faulty_5 ?_
  refine tj_topS (fun S1 eS => ?_)
  replace hf := hf S1 eS
  refine tj_aload_n C 0 rfl rfl dX0_faulty_8 ?_
  refine tj_aload_n C 1 rfl rfl dX0_faulty_9 ?_
  refine gf_X0_201 C (ne0 (ln_1123 hw hX)) dX0_faulty_10 ?_
  refine pf_X0_31 C hX dX0_faulty_13 ?_
  refine tj_topS (fun S2 eS => ?_)
  replace hf := hf S2 eS
  refine tj_aload_n C 0 rfl rfl dX0_faulty_16 ?_
  refine tj_bipush C kb_9 dX0_faulty_17 ?_
  refine pf_X0_91 C hX dX0_faulty_19 ?_
  refine tj_topS (fun S3 eS => ?_)
  replace hf := hf S3 eS
  refine tj_iconst C kc_m1 dX0_faulty_22 ?_
  exact r _ _ _ _ dX0_faulty_23 hf
theorem c_X_faulty {l : Launch} {G : tG} {ad : Nat → Nat} {A : Nat → Prop} {S : tS} {K : Int32 → tS → Prop} (hX : gN S 1025 ≠ 0) (hf : X_faulty S K) : Met l yX0_faulty (ws_ yX0_faulty cX0_faulty 2 (some .int)) (tRm 0 0) (va_Pc [.ref (ad 1025), .ref (ad 1123)] (tPre G ad A S)) (va_Qi K (tB G ad A (gN S)) A) 0 0 A :=
  tj_met_i [(0, .ref (ad 1025)), (1, .ref (ad 1123))] pn_X0 rfl (Nat.le_of_ble_eq_true rfl) (fun p e R s m args below meth c Q C hw r => w_X_faulty_b0 C hw rfl r hX hf)
theorem w_X_cue_b15 {Γ : tX} {N0 : Nat → Nat} {K : Int32 → tS → Prop} (C : TC Γ cX0_cue RX0 6 139) (hw : tWf N0) (hR : xnL Γ = 2) (r : TRi Γ N0 cX0_cue K) {a1 : Int32} (hX : N0 1025 ≠ 0) {s1 : Int32} {S : tS} (hf : X_cue_b15 a1 K s1 S) : TJ Γ N0 0 0 15 [(0, .ref (xad Γ 1025)), (1, .int a1)] [.int s1, .ref (xad Γ 1025)] S := by
  unfold X_cue_b15 at hf
  refine pf_X0_91 C hX dX0_cue_15 ?_
  refine tj_topS (fun S3 eS => ?_)
  replace hf := hf S3 eS
  refine tj_aload_n C 0 rfl rfl dX0_cue_18 ?_
  refine gf_X0_91 C hX dX0_cue_19 ?_
  refine tj_if_le C 29 (by decide) dX0_cue_22 (fun hc => ?_) (fun hc => ?_)
  · replace hf := hf.1 hc
    refine tj_aload_n C 0 rfl rfl dX0_cue_29 ?_
    refine tj_aload_n C 0 rfl rfl dX0_cue_30 ?_
    refine tj_callVa C (k := 1) [] [.ref (xad Γ 1025)] (fun hN => c_X_at (by rw [hN]; exact hX) hf) lk_X0_168 ty_X0_at rfl (Nat.le_of_ble_eq_true rfl) (Nat.le_of_ble_eq_true rfl) (Nat.le_of_ble_eq_true rfl) hX rfl (by decide) rfl rfl dX0_cue_31 (fun S4 hf => ?_)
    refine tj_iload_n C 1 rfl rfl dX0_cue_34 ?_
    refine tj_callVi C (k := 6) [.int a1] [.ref (xad Γ 1025)] (fun hN => c_Co_showsNow (by rw [hN]; exact ⟨(ne0 (ln_1222 hw hX)), rfl⟩) hf) lk_X0_364 ty_X5_showsNow rfl (Nat.le_of_ble_eq_true rfl) (Nat.le_of_ble_eq_true rfl) (Nat.le_of_ble_eq_true rfl) (ne0 (ln_1222 hw hX)) rfl (by decide) rfl rfl dX0_cue_35 (fun r6 S5 hf => ?_)
    refine tj_callVi C (k := 1) [.int r6] [] (fun hN => c_X_answerCue (by rw [hN]; exact hX) hf) lk_X0_367 ty_X0_answerCue rfl (Nat.le_of_ble_eq_true rfl) (Nat.le_of_ble_eq_true rfl) (Nat.le_of_ble_eq_true rfl) hX rfl (by decide) rfl rfl dX0_cue_38 (fun r8 S7 hf => ?_)
    exact r _ _ _ _ dX0_cue_41 hf
  · replace hf := hf.2 hc
    refine tj_iconst C kc_m1 dX0_cue_25 ?_
    refine tj_goto C 41 (by decide) dX0_cue_26 ?_
    exact r _ _ _ _ dX0_cue_41 hf
theorem w_X_cue_b0 {Γ : tX} {N0 : Nat → Nat} {K : Int32 → tS → Prop} (C : TC Γ cX0_cue RX0 6 139) (hw : tWf N0) (hR : xnL Γ = 2) (r : TRi Γ N0 cX0_cue K) {a1 : Int32} (hX : N0 1025 ≠ 0) {S : tS} (hf : X_cue a1 S K) : TJ Γ N0 0 0 0 [(0, .ref (xad Γ 1025)), (1, .int a1)] [] S := by
  unfold X_cue at hf
  refine tj_aload_n C 0 rfl rfl dX0_cue_0 ?_
  refine tj_aload_n C 0 rfl rfl dX0_cue_1 ?_
  refine tj_iload_n C 1 rfl rfl dX0_cue_2 ?_
  refine tj_i2l C dX0_cue_3 ?_
  refine tj_callVz C (k := 1) [.long (a1.toInt64)] [.ref (xad Γ 1025)] (fun hN => c_X_isPerson (by rw [hN]; exact hX) hf) lk_X0_304 ty_X0_isPerson rfl (Nat.le_of_ble_eq_true rfl) (Nat.le_of_ble_eq_true rfl) (Nat.le_of_ble_eq_true rfl) hX rfl (by decide) rfl rfl dX0_cue_4 (fun r2 S1 hf => ?_)
  have hz_r2 := hf.1
  replace hf := hf.2
  refine tj_if_eq C 14 (by decide) dX0_cue_7 (fun hc => ?_) (fun hc => ?_)
  · replace hf := hf.1 hc
    refine tj_iconst C kc_1 dX0_cue_14 ?_
    exact w_X_cue_b15 C hw hR r hX hf
  · replace hf := hf.2 hc
    refine tj_iconst C kc_0 dX0_cue_10 ?_
    refine tj_goto C 15 (by decide) dX0_cue_11 ?_
    exact w_X_cue_b15 C hw hR r hX hf
theorem c_X_cue {l : Launch} {G : tG} {ad : Nat → Nat} {A : Nat → Prop} {S : tS} {K : Int32 → tS → Prop} {a1 : Int32} (hX : gN S 1025 ≠ 0) (hf : X_cue a1 S K) : Met l yX0_cue (ws_ yX0_cue cX0_cue 2 (some .int)) (tRm 6 139) (va_Pc [.ref (ad 1025), .int a1] (tPre G ad A S)) (va_Qi K (tB G ad A (gN S)) A) 0 0 A :=
  tj_met_i [(0, .ref (ad 1025)), (1, .int a1)] pn_X0 rfl (Nat.le_of_ble_eq_true rfl) (fun p e R s m args below meth c Q C hw r => w_X_cue_b0 C hw rfl r hX hf)
theorem w_X_cueAt_b27 {Γ : tX} {N0 : Nat → Nat} {K : Int32 → tS → Prop} (C : TC Γ cX0_cueAt RX0 5 118) (hw : tWf N0) (hR : xnL Γ = 3) (r : TRi Γ N0 cX0_cueAt K) {a1 : Int32} {a2 : Int32} (hX : N0 1025 ≠ 0) {s1 : Int32} {S : tS} (hf : X_cueAt_b27 a1 a2 K s1 S) : TJ Γ N0 0 0 27 [(0, .ref (xad Γ 1025)), (1, .int a1), (2, .int a2)] [.int s1, .ref (xad Γ 1025)] S := by
  unfold X_cueAt_b27 at hf
  refine pf_X0_91 C hX dX0_cueAt_27 ?_
  refine tj_topS (fun S5 eS => ?_)
  replace hf := hf S5 eS
  refine tj_aload_n C 0 rfl rfl dX0_cueAt_30 ?_
  refine gf_X0_91 C hX dX0_cueAt_31 ?_
  refine tj_if_le C 41 (by decide) dX0_cueAt_34 (fun hc => ?_) (fun hc => ?_)
  · replace hf := hf.1 hc
    refine tj_aload_n C 0 rfl rfl dX0_cueAt_41 ?_
    refine tj_aload_n C 0 rfl rfl dX0_cueAt_42 ?_
    refine tj_callVa C (k := 1) [] [.ref (xad Γ 1025)] (fun hN => c_X_at (by rw [hN]; exact hX) hf) lk_X0_168 ty_X0_at rfl (Nat.le_of_ble_eq_true rfl) (Nat.le_of_ble_eq_true rfl) (Nat.le_of_ble_eq_true rfl) hX rfl (by decide) rfl rfl dX0_cueAt_43 (fun S6 hf => ?_)
    refine tj_iload_n C 1 rfl rfl dX0_cueAt_46 ?_
    refine tj_iload_n C 2 rfl rfl dX0_cueAt_47 ?_
    refine tj_callVi C (k := 6) [.int a1, .int a2] [.ref (xad Γ 1025)] (fun hN => c_Co_showsAt (by rw [hN]; exact ⟨(ne0 (ln_1222 hw hX)), rfl⟩) hf) lk_X0_372 ty_X5_showsAt rfl (Nat.le_of_ble_eq_true rfl) (Nat.le_of_ble_eq_true rfl) (Nat.le_of_ble_eq_true rfl) (ne0 (ln_1222 hw hX)) rfl (by decide) rfl rfl dX0_cueAt_48 (fun r8 S7 hf => ?_)
    refine tj_callVi C (k := 1) [.int r8] [] (fun hN => c_X_answerCue (by rw [hN]; exact hX) hf) lk_X0_367 ty_X0_answerCue rfl (Nat.le_of_ble_eq_true rfl) (Nat.le_of_ble_eq_true rfl) (Nat.le_of_ble_eq_true rfl) hX rfl (by decide) rfl rfl dX0_cueAt_51 (fun r10 S9 hf => ?_)
    exact r _ _ _ _ dX0_cueAt_54 hf
  · replace hf := hf.2 hc
    refine tj_iconst C kc_m1 dX0_cueAt_37 ?_
    refine tj_goto C 54 (by decide) dX0_cueAt_38 ?_
    exact r _ _ _ _ dX0_cueAt_54 hf
theorem w_X_cueAt_b26 {Γ : tX} {N0 : Nat → Nat} {K : Int32 → tS → Prop} (C : TC Γ cX0_cueAt RX0 5 118) (hw : tWf N0) (hR : xnL Γ = 3) (r : TRi Γ N0 cX0_cueAt K) {a1 : Int32} {a2 : Int32} (hX : N0 1025 ≠ 0) {S : tS} (hf : X_cueAt_b26 a1 a2 K  S) : TJ Γ N0 0 0 26 [(0, .ref (xad Γ 1025)), (1, .int a1), (2, .int a2)] [.ref (xad Γ 1025)] S := by
  unfold X_cueAt_b26 at hf
  refine tj_iconst C kc_1 dX0_cueAt_26 ?_
  exact w_X_cueAt_b27 C hw hR r hX hf
theorem w_X_cueAt_b0 {Γ : tX} {N0 : Nat → Nat} {K : Int32 → tS → Prop} (C : TC Γ cX0_cueAt RX0 5 118) (hw : tWf N0) (hR : xnL Γ = 3) (r : TRi Γ N0 cX0_cueAt K) {a1 : Int32} {a2 : Int32} (hX : N0 1025 ≠ 0) {S : tS} (hf : X_cueAt a1 a2 S K) : TJ Γ N0 0 0 0 [(0, .ref (xad Γ 1025)), (1, .int a1), (2, .int a2)] [] S := by
  unfold X_cueAt at hf
  refine tj_aload_n C 0 rfl rfl dX0_cueAt_0 ?_
  refine tj_aload_n C 0 rfl rfl dX0_cueAt_1 ?_
  refine tj_iload_n C 1 rfl rfl dX0_cueAt_2 ?_
  refine tj_i2l C dX0_cueAt_3 ?_
  refine tj_callVz C (k := 1) [.long (a1.toInt64)] [.ref (xad Γ 1025)] (fun hN => c_X_isPerson (by rw [hN]; exact hX) hf) lk_X0_304 ty_X0_isPerson rfl (Nat.le_of_ble_eq_true rfl) (Nat.le_of_ble_eq_true rfl) (Nat.le_of_ble_eq_true rfl) hX rfl (by decide) rfl rfl dX0_cueAt_4 (fun r2 S1 hf => ?_)
  have hz_r2 := hf.1
  replace hf := hf.2
  refine tj_if_eq C 26 (by decide) dX0_cueAt_7 (fun hc => ?_) (fun hc => ?_)
  · replace hf := hf.1 hc
    exact w_X_cueAt_b26 C hw hR r hX hf
  · replace hf := hf.2 hc
    refine tj_iload_n C 2 rfl rfl dX0_cueAt_10 ?_
    refine tj_i2l C dX0_cueAt_11 ?_
    refine tj_lconst C (v := lN 0) rfl dX0_cueAt_12 ?_
    refine tj_ldc2 C kl_X0_370 dX0_cueAt_13 ?_
    refine tj_callSz C [.long (a2.toInt64), .long (lN 0), .long (lN 9)] [.ref (xad Γ 1025)] (fun hN => c_X_isIn hf) lk_X0_175 ty_X0_isIn rfl (Nat.le_of_ble_eq_true rfl) (Nat.le_of_ble_eq_true rfl) (Nat.le_of_ble_eq_true rfl) rfl dX0_cueAt_16 (fun r4 S3 hf => ?_)
    have hz_r4 := hf.1
    replace hf := hf.2
    refine tj_if_eq C 26 (by decide) dX0_cueAt_19 (fun hc => ?_) (fun hc => ?_)
    · replace hf := hf.1 hc
      exact w_X_cueAt_b26 C hw hR r hX hf
    · replace hf := hf.2 hc
      refine tj_iconst C kc_0 dX0_cueAt_22 ?_
      refine tj_goto C 27 (by decide) dX0_cueAt_23 ?_
      exact w_X_cueAt_b27 C hw hR r hX hf
theorem c_X_cueAt {l : Launch} {G : tG} {ad : Nat → Nat} {A : Nat → Prop} {S : tS} {K : Int32 → tS → Prop} {a1 : Int32} {a2 : Int32} (hX : gN S 1025 ≠ 0) (hf : X_cueAt a1 a2 S K) : Met l yX0_cueAt (ws_ yX0_cueAt cX0_cueAt 3 (some .int)) (tRm 5 118) (va_Pc [.ref (ad 1025), .int a1, .int a2] (tPre G ad A S)) (va_Qi K (tB G ad A (gN S)) A) 0 0 A :=
  tj_met_i [(0, .ref (ad 1025)), (1, .int a1), (2, .int a2)] pn_X0 rfl (Nat.le_of_ble_eq_true rfl) (fun p e R s m args below meth c Q C hw r => w_X_cueAt_b0 C hw rfl r hX hf)
theorem w_X_deeds_b0 {Γ : tX} {N0 : Nat → Nat} {K : tS → Prop} (C : TC Γ cX0_deeds RX0 0 0) (hw : tWf N0) (hR : xnL Γ = 4) (r : TRv Γ N0 cX0_deeds K) {a1 : Int32} {a2 : Int32} {a3 : Int32} (hX : N0 1025 ≠ 0) {S : tS} (hf : X_deeds a1 a2 a3 S K) : TJ Γ N0 0 0 0 [(0, .ref (xad Γ 1025)), (1, .int a1), (2, .int a2), (3, .int a3)] [] S := by
  unfold X_deeds at hf
  refine tj_iload_n C 2 rfl rfl dX0_deeds_0 ?_
  refine tj_if_ne C 20 (by decide) dX0_deeds_1 (fun hc => ?_) (fun hc => ?_)
  · replace hf := hf.2 hc
    refine tj_aload_n C 0 rfl rfl dX0_deeds_20 ?_
    refine gf_X0_66 C hX dX0_deeds_21 ?_
    refine gf_X0_311 C rfl (ne0 (ln_1766 hw hX)) dX0_deeds_24 ?_
    refine tj_iload_n C 1 rfl rfl dX0_deeds_27 ?_
    refine tj_dup2 C rfl rfl dX0_deeds_28 ?_
    refine tj_iald C 2000 6 rfl (ln_2000 hw hX) _ rfl hf.1 dX0_deeds_29 ?_
    replace hf := hf.2
    refine tj_iconst C kc_1 dX0_deeds_30 ?_
    refine tj_iload_n C 2 rfl rfl dX0_deeds_31 ?_
    refine tj_iconst C kc_1 dX0_deeds_32 ?_
    refine tj_isub C dX0_deeds_33 ?_
    refine tj_ishl C dX0_deeds_34 ?_
    refine tj_ixor C dX0_deeds_35 ?_
    refine tj_iast C 2000 6 rfl (ln_2000 hw hX) _ rfl hf.1 dX0_deeds_36 ?_
    replace hf := hf.2
    refine tj_topS (fun S1 eS => ?_)
    replace hf := hf S1 eS
    exact r _ _ _ dX0_deeds_37 hf
  · replace hf := hf.1 hc
    refine tj_aload_n C 0 rfl rfl dX0_deeds_4 ?_
    refine gf_X0_66 C hX dX0_deeds_5 ?_
    refine gf_X0_308 C rfl (ne0 (ln_1766 hw hX)) dX0_deeds_8 ?_
    refine tj_iload_n C 1 rfl rfl dX0_deeds_11 ?_
    refine tj_dup2 C rfl rfl dX0_deeds_12 ?_
    refine tj_iald C 1968 6 rfl (ln_1968 hw hX) _ rfl hf.1 dX0_deeds_13 ?_
    replace hf := hf.2
    refine tj_iload_n C 3 rfl rfl dX0_deeds_14 ?_
    refine tj_iadd C dX0_deeds_15 ?_
    refine tj_iast C 1968 6 rfl (ln_1968 hw hX) _ rfl hf.1 dX0_deeds_16 ?_
    replace hf := hf.2
    refine tj_topS (fun S2 eS => ?_)
    replace hf := hf S2 eS
    refine tj_goto C 37 (by decide) dX0_deeds_17 ?_
    exact r _ _ _ dX0_deeds_37 hf
theorem c_X_deeds {l : Launch} {G : tG} {ad : Nat → Nat} {A : Nat → Prop} {S : tS} {K : tS → Prop} {a1 : Int32} {a2 : Int32} {a3 : Int32} (hX : gN S 1025 ≠ 0) (hf : X_deeds a1 a2 a3 S K) : Met l yX0_deeds (ws_ yX0_deeds cX0_deeds 4 (none)) (tRm 0 0) (va_Pc [.ref (ad 1025), .int a1, .int a2, .int a3] (tPre G ad A S)) (va_Qv K (tB G ad A (gN S)) A) 0 0 A :=
  tj_met_v [(0, .ref (ad 1025)), (1, .int a1), (2, .int a2), (3, .int a3)] pn_X0 rfl (Nat.le_of_ble_eq_true rfl) (fun p e R s m args below meth c Q C hw r => w_X_deeds_b0 C hw rfl r hX hf)
theorem w_X_isCue_b0 {Γ : tX} {N0 : Nat → Nat} {K : Int32 → tS → Prop} (C : TC Γ cX0_isCue RX0 1 25) (hw : tWf N0) (hR : xnL Γ = 2) (r : TRz Γ N0 cX0_isCue K) {a1 : Int32} (hX : N0 1025 ≠ 0) {S : tS} (hf : X_isCue a1 S K) : TJ Γ N0 0 0 0 [(0, .ref (xad Γ 1025)), (1, .int a1)] [] S := by
  unfold X_isCue at hf
  refine tj_iload_n C 1 rfl rfl dX0_isCue_0 ?_
  refine tj_i2l C dX0_isCue_1 ?_
  refine tj_lconst C (v := lN 0) rfl dX0_isCue_2 ?_
  refine tj_aload_n C 0 rfl rfl dX0_isCue_3 ?_
  refine tj_callVa C (k := 1) [] [.long (lN 0), .long (a1.toInt64)] (fun hN => c_X_at (by rw [hN]; exact hX) hf) lk_X0_168 ty_X0_at rfl (Nat.le_of_ble_eq_true rfl) (Nat.le_of_ble_eq_true rfl) (Nat.le_of_ble_eq_true rfl) hX rfl (by decide) rfl rfl dX0_isCue_4 (fun S1 hf => ?_)
  refine gf_X0_179 C rfl (ne0 (ln_1222 hw hX)) dX0_isCue_7 ?_
  refine tj_iconst C kc_1 dX0_isCue_10 ?_
  refine tj_isub C dX0_isCue_11 ?_
  refine tj_i2l C dX0_isCue_12 ?_
  refine tj_callSz C [.long (a1.toInt64), .long (lN 0), .long (((gI S1 1222 1) - (nI 1)).toInt64)] [] (fun hN => c_X_isIn hf) lk_X0_175 ty_X0_isIn rfl (Nat.le_of_ble_eq_true rfl) (Nat.le_of_ble_eq_true rfl) (Nat.le_of_ble_eq_true rfl) rfl dX0_isCue_13 (fun r3 S2 hf => ?_)
  have hz_r3 := hf.1
  replace hf := hf.2
  exact r _ _ _ _ dX0_isCue_16 hz_r3 hf
theorem c_X_isCue {l : Launch} {G : tG} {ad : Nat → Nat} {A : Nat → Prop} {S : tS} {K : Int32 → tS → Prop} {a1 : Int32} (hX : gN S 1025 ≠ 0) (hf : X_isCue a1 S K) : Met l yX0_isCue (ws_ yX0_isCue cX0_isCue 2 (some .boolean)) (tRm 1 25) (va_Pc [.ref (ad 1025), .int a1] (tPre G ad A S)) (va_Qi (fun r u => r &&& 1 = r ∧ K r u) (tB G ad A (gN S)) A) 0 0 A :=
  tj_met_z [(0, .ref (ad 1025)), (1, .int a1)] pn_X0 rfl (Nat.le_of_ble_eq_true rfl) (fun p e R s m args below meth c Q C hw r => w_X_isCue_b0 C hw rfl r hX hf)
theorem w_X_isSmell_b0 {Γ : tX} {N0 : Nat → Nat} {K : Int32 → tS → Prop} (C : TC Γ cX0_isSmell RX0 1 25) (hw : tWf N0) (hR : xnL Γ = 2) (r : TRz Γ N0 cX0_isSmell K) {a1 : Int32} (hX : N0 1025 ≠ 0) {S : tS} (hf : X_isSmell a1 S K) : TJ Γ N0 0 0 0 [(0, .ref (xad Γ 1025)), (1, .int a1)] [] S := by
  unfold X_isSmell at hf
  refine tj_iload_n C 1 rfl rfl dX0_isSmell_0 ?_
  refine tj_i2l C dX0_isSmell_1 ?_
  refine tj_lconst C (v := lN 0) rfl dX0_isSmell_2 ?_
  refine tj_aload_n C 0 rfl rfl dX0_isSmell_3 ?_
  refine tj_callVa C (k := 1) [] [.long (lN 0), .long (a1.toInt64)] (fun hN => c_X_at (by rw [hN]; exact hX) hf) lk_X0_168 ty_X0_at rfl (Nat.le_of_ble_eq_true rfl) (Nat.le_of_ble_eq_true rfl) (Nat.le_of_ble_eq_true rfl) hX rfl (by decide) rfl rfl dX0_isSmell_4 (fun S1 hf => ?_)
  refine gf_X0_172 C rfl (ne0 (ln_1222 hw hX)) dX0_isSmell_7 ?_
  refine tj_iconst C kc_1 dX0_isSmell_10 ?_
  refine tj_isub C dX0_isSmell_11 ?_
  refine tj_i2l C dX0_isSmell_12 ?_
  refine tj_callSz C [.long (a1.toInt64), .long (lN 0), .long (((gI S1 1222 0) - (nI 1)).toInt64)] [] (fun hN => c_X_isIn hf) lk_X0_175 ty_X0_isIn rfl (Nat.le_of_ble_eq_true rfl) (Nat.le_of_ble_eq_true rfl) (Nat.le_of_ble_eq_true rfl) rfl dX0_isSmell_13 (fun r3 S2 hf => ?_)
  have hz_r3 := hf.1
  replace hf := hf.2
  exact r _ _ _ _ dX0_isSmell_16 hz_r3 hf
theorem c_X_isSmell {l : Launch} {G : tG} {ad : Nat → Nat} {A : Nat → Prop} {S : tS} {K : Int32 → tS → Prop} {a1 : Int32} (hX : gN S 1025 ≠ 0) (hf : X_isSmell a1 S K) : Met l yX0_isSmell (ws_ yX0_isSmell cX0_isSmell 2 (some .boolean)) (tRm 1 25) (va_Pc [.ref (ad 1025), .int a1] (tPre G ad A S)) (va_Qi (fun r u => r &&& 1 = r ∧ K r u) (tB G ad A (gN S)) A) 0 0 A :=
  tj_met_z [(0, .ref (ad 1025)), (1, .int a1)] pn_X0 rfl (Nat.le_of_ble_eq_true rfl) (fun p e R s m args below meth c Q C hw r => w_X_isSmell_b0 C hw rfl r hX hf)
theorem w_X_fault_b0 {Γ : tX} {N0 : Nat → Nat} {K : Int32 → tS → Prop} (C : TC Γ cX0_fault RX0 0 0) (hw : tWf N0) (hR : xnL Γ = 2) (r : TRi Γ N0 cX0_fault K) {a1 : Int32} (hX : N0 1025 ≠ 0) {S : tS} (hf : X_fault a1 S K) : TJ Γ N0 0 0 0 [(0, .ref (xad Γ 1025)), (1, .int a1)] [] S := by
  unfold X_fault at hf
  refine tj_iload_n C 1 rfl rfl dX0_fault_0 ?_
  refine tj_if_ne C 11 (by decide) dX0_fault_1 (fun hc => ?_) (fun hc => ?_)
  · replace hf := hf.2 hc
    refine tj_iload_n C 1 rfl rfl dX0_fault_11 ?_
    refine tj_iconst C kc_1 dX0_fault_12 ?_
    refine tj_icmp_ne C 23 (by decide) dX0_fault_13 (fun hc => ?_) (fun hc => ?_)
    · replace hf := hf.2 hc
      refine tj_iconst C kc_m1 dX0_fault_23 ?_
      exact r _ _ _ _ dX0_fault_24 hf
    · replace hf := hf.1 hc
      refine tj_aload_n C 0 rfl rfl dX0_fault_16 ?_
      refine gf_X0_31 C hX dX0_fault_17 ?_
      refine tj_goto C 24 (by decide) dX0_fault_20 ?_
      exact r _ _ _ _ dX0_fault_24 hf
  · replace hf := hf.1 hc
    refine tj_aload_n C 0 rfl rfl dX0_fault_4 ?_
    refine gf_X0_27 C hX dX0_fault_5 ?_
    refine tj_goto C 24 (by decide) dX0_fault_8 ?_
    exact r _ _ _ _ dX0_fault_24 hf
theorem c_X_fault {l : Launch} {G : tG} {ad : Nat → Nat} {A : Nat → Prop} {S : tS} {K : Int32 → tS → Prop} {a1 : Int32} (hX : gN S 1025 ≠ 0) (hf : X_fault a1 S K) : Met l yX0_fault (ws_ yX0_fault cX0_fault 2 (some .int)) (tRm 0 0) (va_Pc [.ref (ad 1025), .int a1] (tPre G ad A S)) (va_Qi K (tB G ad A (gN S)) A) 0 0 A :=
  tj_met_i [(0, .ref (ad 1025)), (1, .int a1)] pn_X0 rfl (Nat.le_of_ble_eq_true rfl) (fun p e R s m args below meth c Q C hw r => w_X_fault_b0 C hw rfl r hX hf)
theorem w_X_lay_l3 {Γ : tX} {N0 : Nat → Nat} {K : tS → Prop} (C : TC Γ cX0_lay RX0 0 0) (hw : tWf N0) (hR : xnL Γ = 3) (r : TRv Γ N0 cX0_lay K) {a1 : Int32} (hX : N0 1025 ≠ 0) : ∀ (n : Nat) (a2 : Int32) (S : tS), X_lay_l3 a1 K n a2 S → TJ Γ N0 0 0 3 [(0, .ref (xad Γ 1025)), (1, .int a1), (2, .int a2)] [] S := by
  intro n
  induction n with
  | zero => intro a2 S hf; exact hf.elim
  | succ n ih =>
    intro a2 S hf
    unfold X_lay_l3 at hf
    refine tj_iload_n C 2 rfl rfl dX0_lay_3 ?_
    refine tj_if_lt C 36 (by decide) dX0_lay_4 (fun hc => ?_) (fun hc => ?_)
    · replace hf := hf.1 hc
      exact r _ _ _ dX0_lay_36 hf
    · replace hf := hf.2 hc
      refine tj_aload_n C 0 rfl rfl dX0_lay_7 ?_
      refine gf_X0_24 C hX dX0_lay_8 ?_
      refine tj_aload_n C 0 rfl rfl dX0_lay_11 ?_
      refine gf_X0_191 C hX dX0_lay_12 ?_
      refine tj_iload_n C 1 rfl rfl dX0_lay_15 ?_
      refine tj_iload_n C 2 rfl rfl dX0_lay_16 ?_
      refine tj_ishr C dX0_lay_17 ?_
      refine tj_i2b C dX0_lay_18 ?_
      refine tj_bast C 1106 900 rfl (ln_1106 hw hX) _ rfl hf.1 dX0_lay_19 ?_
      replace hf := hf.2
      refine tj_topS (fun S1 eS => ?_)
      replace hf := hf S1 eS
      refine tj_aload_n C 0 rfl rfl dX0_lay_20 ?_
      refine tj_dup C rfl dX0_lay_21 ?_
      refine gf_X0_191 C hX dX0_lay_22 ?_
      refine tj_iconst C kc_1 dX0_lay_25 ?_
      refine tj_iadd C dX0_lay_26 ?_
      refine pf_X0_191 C hX dX0_lay_27 ?_
      refine tj_topS (fun S2 eS => ?_)
      replace hf := hf S2 eS
      obtain ⟨x3, ex⟩ : ∃ y : Int32, y = a2 + (-8) := ⟨_, rfl⟩
      refine tj_iinc C (by rw [hR]; decide) 2 [(2, .int x3), (0, .ref (xad Γ 1025)), (1, .int a1)] rfl (by rw [ex]; exact ki_m8 _) rfl dX0_lay_30 ?_
      replace hf := hf x3 ex
      refine tj_goto C 3 (by decide) dX0_lay_33 ?_
      exact tj_sub [1, 2, 0] (ih _ _ hf) rfl
theorem w_X_lay_b0 {Γ : tX} {N0 : Nat → Nat} {K : tS → Prop} (C : TC Γ cX0_lay RX0 0 0) (hw : tWf N0) (hR : xnL Γ = 3) (r : TRv Γ N0 cX0_lay K) {a1 : Int32} (hX : N0 1025 ≠ 0) {S : tS} (hf : X_lay a1 S K) : TJ Γ N0 0 0 0 [(0, .ref (xad Γ 1025)), (1, .int a1)] [] S := by
  unfold X_lay at hf
  refine tj_bipush C kb_24 dX0_lay_0 ?_
  refine tj_istore_n C (by rw [hR]; decide) [(2, .int (nI 24)), (0, .ref (xad Γ 1025)), (1, .int a1)] rfl rfl dX0_lay_2 ?_
  exact tj_sub [1, 2, 0] (hf.elim fun k hf => w_X_lay_l3 C hw hR r hX k _ _ hf) rfl
theorem c_X_lay {l : Launch} {G : tG} {ad : Nat → Nat} {A : Nat → Prop} {S : tS} {K : tS → Prop} {a1 : Int32} (hX : gN S 1025 ≠ 0) (hf : X_lay a1 S K) : Met l yX0_lay (ws_ yX0_lay cX0_lay 3 (none)) (tRm 0 0) (va_Pc [.ref (ad 1025), .int a1] (tPre G ad A S)) (va_Qv K (tB G ad A (gN S)) A) 0 0 A :=
  tj_met_v [(0, .ref (ad 1025)), (1, .int a1)] pn_X0 rfl (Nat.le_of_ble_eq_true rfl) (fun p e R s m args below meth c Q C hw r => w_X_lay_b0 C hw rfl r hX hf)
theorem w_X_feed_b0 {Γ : tX} {N0 : Nat → Nat} {K : Int32 → tS → Prop} (C : TC Γ cX0_feed RX0 1 22) (hw : tWf N0) (hR : xnL Γ = 6) (r : TRi Γ N0 cX0_feed K) {a1 : Int32} {a2 : Int32} {a3 : Int32} {a4 : Int32} {a5 : Int32} (hX : N0 1025 ≠ 0) {S : tS} (hf : X_feed a1 a2 a3 a4 a5 S K) : TJ Γ N0 0 0 0 [(0, .ref (xad Γ 1025)), (1, .int a1), (2, .int a2), (3, .int a3), (4, .int a4), (5, .int a5)] [] S := by
  unfold X_feed at hf
  refine tj_aload_n C 0 rfl rfl dX0_feed_0 ?_
  refine gf_X0_191 C hX dX0_feed_1 ?_
  refine tj_bipush C kb_20 dX0_feed_4 ?_
  refine tj_iadd C dX0_feed_6 ?_
  refine tj_sipush C ks_900 dX0_feed_7 ?_
  refine tj_icmp_le C 15 (by decide) dX0_feed_10 (fun hc => ?_) (fun hc => ?_)
  · replace hf := hf.1 hc
    refine tj_aload_n C 0 rfl rfl dX0_feed_15 ?_
    refine tj_iload_n C 1 rfl rfl dX0_feed_16 ?_
    refine tj_callVv C (k := 1) [.int a1] [] (fun hN => c_X_lay (by rw [hN]; exact hX) hf) lk_X0_194 ty_X0_lay rfl (Nat.le_of_ble_eq_true rfl) (Nat.le_of_ble_eq_true rfl) (Nat.le_of_ble_eq_true rfl) hX rfl (by decide) rfl rfl dX0_feed_17 (fun S1 hf => ?_)
    refine tj_aload_n C 0 rfl rfl dX0_feed_20 ?_
    refine tj_iload_n C 2 rfl rfl dX0_feed_21 ?_
    refine tj_callVv C (k := 1) [.int a2] [] (fun hN => c_X_lay (by rw [hN]; exact hX) hf) lk_X0_194 ty_X0_lay rfl (Nat.le_of_ble_eq_true rfl) (Nat.le_of_ble_eq_true rfl) (Nat.le_of_ble_eq_true rfl) hX rfl (by decide) rfl rfl dX0_feed_22 (fun S2 hf => ?_)
    refine tj_aload_n C 0 rfl rfl dX0_feed_25 ?_
    refine tj_iload_n C 3 rfl rfl dX0_feed_26 ?_
    refine tj_callVv C (k := 1) [.int a3] [] (fun hN => c_X_lay (by rw [hN]; exact hX) hf) lk_X0_194 ty_X0_lay rfl (Nat.le_of_ble_eq_true rfl) (Nat.le_of_ble_eq_true rfl) (Nat.le_of_ble_eq_true rfl) hX rfl (by decide) rfl rfl dX0_feed_27 (fun S3 hf => ?_)
    refine tj_aload_n C 0 rfl rfl dX0_feed_30 ?_
    refine tj_iload C 4 rfl dX0_feed_31 ?_
    refine tj_callVv C (k := 1) [.int a4] [] (fun hN => c_X_lay (by rw [hN]; exact hX) hf) lk_X0_194 ty_X0_lay rfl (Nat.le_of_ble_eq_true rfl) (Nat.le_of_ble_eq_true rfl) (Nat.le_of_ble_eq_true rfl) hX rfl (by decide) rfl rfl dX0_feed_33 (fun S4 hf => ?_)
    refine tj_aload_n C 0 rfl rfl dX0_feed_36 ?_
    refine tj_iload C 5 rfl dX0_feed_37 ?_
    refine tj_callVv C (k := 1) [.int a5] [] (fun hN => c_X_lay (by rw [hN]; exact hX) hf) lk_X0_194 ty_X0_lay rfl (Nat.le_of_ble_eq_true rfl) (Nat.le_of_ble_eq_true rfl) (Nat.le_of_ble_eq_true rfl) hX rfl (by decide) rfl rfl dX0_feed_39 (fun S5 hf => ?_)
    refine tj_aload_n C 0 rfl rfl dX0_feed_42 ?_
    refine gf_X0_191 C hX dX0_feed_43 ?_
    exact r _ _ _ _ dX0_feed_46 hf
  · replace hf := hf.2 hc
    refine tj_iconst C kc_m1 dX0_feed_13 ?_
    exact r _ _ _ _ dX0_feed_14 hf
theorem c_X_feed {l : Launch} {G : tG} {ad : Nat → Nat} {A : Nat → Prop} {S : tS} {K : Int32 → tS → Prop} {a1 : Int32} {a2 : Int32} {a3 : Int32} {a4 : Int32} {a5 : Int32} (hX : gN S 1025 ≠ 0) (hf : X_feed a1 a2 a3 a4 a5 S K) : Met l yX0_feed (ws_ yX0_feed cX0_feed 6 (some .int)) (tRm 1 22) (va_Pc [.ref (ad 1025), .int a1, .int a2, .int a3, .int a4, .int a5] (tPre G ad A S)) (va_Qi K (tB G ad A (gN S)) A) 0 0 A :=
  tj_met_i [(0, .ref (ad 1025)), (1, .int a1), (2, .int a2), (3, .int a3), (4, .int a4), (5, .int a5)] pn_X0 rfl (Nat.le_of_ble_eq_true rfl) (fun p e R s m args below meth c Q C hw r => w_X_feed_b0 C hw rfl r hX hf)
theorem w_X_fits_b16 {Γ : tX} {N0 : Nat → Nat} {K : Int32 → tS → Prop} (C : TC Γ cX0_fits RX0 6 145) (hw : tWf N0) (hR : xnL Γ = 4) (r : TRi Γ N0 cX0_fits K) {a1 : Int32} {a2 : Int32} (hX : N0 1025 ≠ 0) (hT : (xc Γ).exceptionTable.toList = tableOf [(5, 15, 16, 41)]) {S : tS} (hf : X_fits_b16 a1 a2 K  S) : TJ Γ N0 0 0 16 [(0, .ref (xad Γ 1025))] [.ref (xad Γ 1156)] S := by
  unfold X_fits_b16 at hf
  refine tj_astore_n C (by rw [hR]; decide) [(3, .ref (xad Γ 1156)), (0, .ref (xad Γ 1025))] rfl rfl dX0_fits_16 ?_
  refine tj_aload_n C 1 rfl rfl dX0_fits_17 ?_
  refine tj_aload_n C 0 rfl rfl dX0_fits_18 ?_
  refine tj_callVi C (k := 1) [.ref (xad Γ 1156)] [] (fun hN => c_X_none (by rw [hN]; exact hX) hf) lk_X0_149 ty_X0_none rfl (Nat.le_of_ble_eq_true rfl) (Nat.le_of_ble_eq_true rfl) (Nat.le_of_ble_eq_true rfl) hX rfl (by decide) rfl rfl dX0_fits_19 (fun r7 S6 hf => ?_)
  exact r _ _ _ _ dX0_fits_22 hf
theorem w_X_fits_b0 {Γ : tX} {N0 : Nat → Nat} {K : Int32 → tS → Prop} (C : TC Γ cX0_fits RX0 6 145) (hw : tWf N0) (hR : xnL Γ = 4) (r : TRi Γ N0 cX0_fits K) {a1 : Int32} {a2 : Int32} (hX : N0 1025 ≠ 0) (hT : (xc Γ).exceptionTable.toList = tableOf [(5, 15, 16, 41)]) {S : tS} (hf : X_fits a1 a2 S K) : TJ Γ N0 0 0 0 [(0, .ref (xad Γ 1025)), (1, .int a1), (2, .int a2)] [] S := by
  unfold X_fits at hf
  refine tj_aload_n C 0 rfl rfl dX0_fits_0 ?_
  refine tj_iconst C kc_0 dX0_fits_1 ?_
  refine pf_X0_91 C hX dX0_fits_2 ?_
  refine tj_topS (fun S1 eS => ?_)
  replace hf := hf S1 eS
  refine tj_aload_n C 0 rfl rfl dX0_fits_5 ?_
  refine tj_iload_n C 1 rfl rfl dX0_fits_6 ?_
  refine tj_iload_n C 2 rfl rfl dX0_fits_7 ?_
  refine tj_xVv C (k := 1) [.int a1, .int a2] [] (fun hN => c_X_laysFits (by rw [hN]; exact hX) hf) lk_X0_399 ty_X0_laysFits rfl (Nat.le_of_ble_eq_true rfl) (Nat.le_of_ble_eq_true rfl) (Nat.le_of_ble_eq_true rfl) hX rfl (by decide) rfl rfl dX0_fits_8 (fun S3 hf => ?_) (fun S2 hf => ?_)
  · refine tj_catch C [] ⟨5, 15, 16, 41⟩ [] hT (fun z hz => nomatch hz) (by decide) (by decide) q287 q289 ?_
    exact tj_sub [0] (w_X_fits_b16 C hw hR r hX hT hf) rfl
  · refine tj_aload_n C 0 rfl rfl dX0_fits_11 ?_
    refine tj_callVi C (k := 1) [] [] (fun hN => c_X_ways (by rw [hN]; exact hX) hf) lk_X0_403 ty_X0_ways rfl (Nat.le_of_ble_eq_true rfl) (Nat.le_of_ble_eq_true rfl) (Nat.le_of_ble_eq_true rfl) hX rfl (by decide) rfl rfl dX0_fits_12 (fun r5 S4 hf => ?_)
    exact r _ _ _ _ dX0_fits_15 hf
theorem c_X_fits {l : Launch} {G : tG} {ad : Nat → Nat} {A : Nat → Prop} {S : tS} {K : Int32 → tS → Prop} {a1 : Int32} {a2 : Int32} (hX : gN S 1025 ≠ 0) (hf : X_fits a1 a2 S K) : vx_Met l yX0_fits (wsW_ yX0_fits cX0_fits 4 (some .int) [(5, 15, 16, 41)]) (tRm 6 145) (va_Pc [.ref (ad 1025), .int a1, .int a2] (tPre G ad A S)) (va_Qi K (tB G ad A (gN S)) A) (vx_X (fun _ => False) (tBX G ad A (gN S) RX3 1156) A) 0 0 A :=
  tj_xmetW_i [(0, .ref (ad 1025)), (1, .int a1), (2, .int a2)] pn_X0 rfl (Nat.le_of_ble_eq_true rfl) (fun p e R s m args below meth c Q C hw hT r => w_X_fits_b0 C hw rfl r hX hT hf)
theorem w_X_fraction_l9 {Γ : tX} {N0 : Nat → Nat} {K : Int32 → tS → Prop} (C : TC Γ cX0_fraction RX0 1 40) (hw : tWf N0) (hR : xnL Γ = 11) (r : TRi Γ N0 cX0_fraction K) {a1 : Int64} {a3 : Int64} (hX : N0 1025 ≠ 0) : ∀ (n : Nat) (a5 : Int64) (a7 : Int64) (S : tS), X_fraction_l9 a1 a3 K n a5 a7 S → TJ Γ N0 0 0 9 [(0, .ref (xad Γ 1025)), (1, .long a1), (3, .long a3), (5, .long a5), (7, .long a7)] [] S := by
  intro n
  induction n with
  | zero => intro a5 a7 S hf; exact hf.elim
  | succ n ih =>
    intro a5 a7 S hf
    unfold X_fraction_l9 at hf
    refine tj_lload C 4 rfl dX0_fraction_9 ?_
    refine tj_lconst C (v := lN 0) rfl dX0_fraction_11 ?_
    refine tj_lcmp C dX0_fraction_12 ?_
    refine tj_if_eq C 34 (by decide) dX0_fraction_13 (fun hc => ?_) (fun hc => ?_)
    · replace hf := hf.1 hc
      refine tj_aload_n C 0 rfl rfl dX0_fraction_34 ?_
      refine tj_lload_n C 1 rfl rfl dX0_fraction_35 ?_
      refine tj_lload C 3 rfl dX0_fraction_36 ?_
      refine tj_ldiv C hf.1 dX0_fraction_38 ?_
      replace hf := hf.2
      refine pf_X0_94 C hX dX0_fraction_39 ?_
      refine tj_topS (fun S2 eS => ?_)
      replace hf := hf S2 eS
      refine tj_aload_n C 0 rfl rfl dX0_fraction_42 ?_
      refine tj_lload_n C 2 rfl rfl dX0_fraction_43 ?_
      refine tj_lload C 3 rfl dX0_fraction_44 ?_
      refine tj_ldiv C hf.1 dX0_fraction_46 ?_
      replace hf := hf.2
      refine pf_X0_48 C hX dX0_fraction_47 ?_
      refine tj_topS (fun S3 eS => ?_)
      replace hf := hf S3 eS
      refine tj_lload_n C 1 rfl rfl dX0_fraction_50 ?_
      refine tj_callSi C [.long a1] [] (fun hN => c_Lg_signum hf) lk_X0_110 ty_J12_signum rfl (Nat.le_of_ble_eq_true rfl) (Nat.le_of_ble_eq_true rfl) (Nat.le_of_ble_eq_true rfl) rfl dX0_fraction_51 (fun r5 S4 hf => ?_)
      exact r _ _ _ _ dX0_fraction_54 hf
    · replace hf := hf.2 hc
      refine tj_lload C 3 rfl dX0_fraction_16 ?_
      refine tj_lload C 4 rfl dX0_fraction_18 ?_
      refine tj_lrem C hf.1 dX0_fraction_20 ?_
      replace hf := hf.2
      refine tj_topl (fun x6 ex => ?_)
      replace hf := hf x6 ex
      refine tj_lstore C (by rw [hR]; decide) [(9, .long x6), (0, .ref (xad Γ 1025)), (1, .long a1), (3, .long a3), (5, .long a5), (7, .long a7)] rfl dX0_fraction_21 ?_
      refine tj_lload C 5 rfl dX0_fraction_23 ?_
      refine tj_lstore C (by rw [hR]; decide) [(5, .long a7), (9, .long x6), (0, .ref (xad Γ 1025)), (1, .long a1), (3, .long a3), (7, .long a7)] rfl dX0_fraction_25 ?_
      refine tj_lload C 1 rfl dX0_fraction_27 ?_
      refine tj_lstore C (by rw [hR]; decide) [(7, .long x6), (5, .long a7), (9, .long x6), (0, .ref (xad Γ 1025)), (1, .long a1), (3, .long a3)] rfl dX0_fraction_29 ?_
      refine tj_goto C 9 (by decide) dX0_fraction_31 ?_
      exact tj_sub [3, 4, 5, 1, 0] (ih _ _ _ hf) rfl
theorem w_X_fraction_b0 {Γ : tX} {N0 : Nat → Nat} {K : Int32 → tS → Prop} (C : TC Γ cX0_fraction RX0 1 40) (hw : tWf N0) (hR : xnL Γ = 11) (r : TRi Γ N0 cX0_fraction K) {a1 : Int64} {a3 : Int64} (hX : N0 1025 ≠ 0) {S : tS} (hf : X_fraction a1 a3 S K) : TJ Γ N0 0 0 0 [(0, .ref (xad Γ 1025)), (1, .long a1), (3, .long a3)] [] S := by
  unfold X_fraction at hf
  refine tj_lload_n C 1 rfl rfl dX0_fraction_0 ?_
  refine tj_mabs_long C q1321 (Nat.le_of_ble_eq_true rfl) (Nat.le_of_ble_eq_true rfl) (Nat.le_of_ble_eq_true rfl) dX0_fraction_1 ?_
  refine tj_topl (fun x1 ex => ?_)
  replace hf := hf x1 ex
  refine tj_lstore C (by rw [hR]; decide) [(5, .long x1), (0, .ref (xad Γ 1025)), (1, .long a1), (3, .long a3)] rfl dX0_fraction_4 ?_
  refine tj_lload_n C 3 rfl rfl dX0_fraction_6 ?_
  refine tj_lstore C (by rw [hR]; decide) [(7, .long a3), (5, .long x1), (0, .ref (xad Γ 1025)), (1, .long a1), (3, .long a3)] rfl dX0_fraction_7 ?_
  exact tj_sub [2, 3, 4, 1, 0] (hf.elim fun k hf => w_X_fraction_l9 C hw hR r hX k _ _ _ hf) rfl
theorem c_X_fraction {l : Launch} {G : tG} {ad : Nat → Nat} {A : Nat → Prop} {S : tS} {K : Int32 → tS → Prop} {a1 : Int64} {a3 : Int64} (hX : gN S 1025 ≠ 0) (hf : X_fraction a1 a3 S K) : Met l yX0_fraction (ws_ yX0_fraction cX0_fraction 11 (some .int)) (tRm 1 40) (va_Pc [.ref (ad 1025), .long a1, .long a3] (tPre G ad A S)) (va_Qi K (tB G ad A (gN S)) A) 0 0 A :=
  tj_met_i [(0, .ref (ad 1025)), (1, .long a1), (3, .long a3)] pn_X0 rfl (Nat.le_of_ble_eq_true rfl) (fun p e R s m args below meth c Q C hw r => w_X_fraction_b0 C hw rfl r hX hf)
theorem w_Co_sits_b0 {Γ : tX} {N0 : Nat → Nat} {K : Int32 → tS → Prop} (C : TC Γ cX5_sits RX5 6 139) (hw : tWf N0) (hR : xnL Γ = 3) (r : TRi Γ N0 cX5_sits K) {t0 : Nat} {a1 : Int32} (h_t0 : N0 t0 ≠ 0 ∧ t0 % 32 = 6) {S : tS} (hf : Co_sits t0 a1 S K) : TJ Γ N0 0 0 0 [(0, .ref (xad Γ t0)), (1, .int a1)] [] S := by
  unfold Co_sits at hf
  refine tj_aload_n C 0 rfl rfl dX5_sits_0 ?_
  refine tj_iload_n C 1 rfl rfl dX5_sits_1 ?_
  refine tj_callVi C (k := 6) [.int a1] [] (fun hN => c_Co_showsNow (by rw [hN]; exact ⟨h_t0.1, h_t0.2⟩) hf) lk_X5_118 ty_X5_showsNow rfl (Nat.le_of_ble_eq_true rfl) (Nat.le_of_ble_eq_true rfl) (Nat.le_of_ble_eq_true rfl) h_t0.1 h_t0.2 (by decide) rfl rfl dX5_sits_2 (fun r2 S1 hf => ?_)
  refine tj_istore_n C (by rw [hR]; decide) [(2, .int r2), (0, .ref (xad Γ t0)), (1, .int a1)] rfl rfl dX5_sits_5 ?_
  refine tj_aload_n C 1 rfl rfl dX5_sits_6 ?_
  refine tj_bipush C kb_9 dX5_sits_7 ?_
  refine tj_aload_n C 1 rfl rfl dX5_sits_9 ?_
  refine gf_X5_80 C h_t0.2 h_t0.1 dX5_sits_10 ?_
  refine tj_iconst C kc_1 dX5_sits_13 ?_
  refine tj_iadd C dX5_sits_14 ?_
  refine tj_mmin C q1169 (Nat.le_of_ble_eq_true rfl) (Nat.le_of_ble_eq_true rfl) (Nat.le_of_ble_eq_true rfl) dX5_sits_15 ?_
  refine pf_X5_80 C h_t0.2 h_t0.1 dX5_sits_18 ?_
  refine tj_topS (fun S3 eS => ?_)
  replace hf := hf S3 eS
  refine tj_aload_n C 1 rfl rfl dX5_sits_21 ?_
  refine gf_X5_40 C h_t0.2 h_t0.1 dX5_sits_22 ?_
  refine tj_iload_n C 2 rfl rfl dX5_sits_25 ?_
  refine tj_dup2 C rfl rfl dX5_sits_26 ?_
  refine tj_iald C (t0 + 330) 6 (by have := h_t0.2; omega) (lnc_330 hw h_t0.2 h_t0.1) _ rfl hf.1 dX5_sits_27 ?_
  replace hf := hf.2
  refine tj_iconst C kc_1 dX5_sits_28 ?_
  refine tj_iadd C dX5_sits_29 ?_
  refine tj_iast C (t0 + 330) 6 (by have := h_t0.2; omega) (lnc_330 hw h_t0.2 h_t0.1) _ rfl hf.1 dX5_sits_30 ?_
  replace hf := hf.2
  refine tj_topS (fun S4 eS => ?_)
  replace hf := hf S4 eS
  refine tj_aload_n C 1 rfl rfl dX5_sits_31 ?_
  refine tj_dup C rfl dX5_sits_32 ?_
  refine gf_X5_83 C h_t0.2 h_t0.1 dX5_sits_33 ?_
  refine tj_iconst C kc_1 dX5_sits_36 ?_
  refine tj_iadd C dX5_sits_37 ?_
  refine pf_X5_83 C h_t0.2 h_t0.1 dX5_sits_38 ?_
  refine tj_topS (fun S5 eS => ?_)
  replace hf := hf S5 eS
  refine tj_iload_n C 0 rfl rfl dX5_sits_41 ?_
  exact r _ _ _ _ dX5_sits_42 hf
theorem c_Co_sits {l : Launch} {G : tG} {ad : Nat → Nat} {A : Nat → Prop} {S : tS} {K : Int32 → tS → Prop} {t0 : Nat} {a1 : Int32} (h_t0 : gN S t0 ≠ 0 ∧ t0 % 32 = 6) (hf : Co_sits t0 a1 S K) : Met l yX5_sits (ws_ yX5_sits cX5_sits 3 (some .int)) (tRm 6 139) (va_Pc [.ref (ad t0), .int a1] (tPre G ad A S)) (va_Qi K (tB G ad A (gN S)) A) 0 0 A :=
  tj_met_i [(0, .ref (ad t0)), (1, .int a1)] pn_X5 rfl (Nat.le_of_ble_eq_true rfl) (fun p e R s m args below meth c Q C hw r => w_Co_sits_b0 C hw rfl r h_t0 hf)
theorem w_Co_judges_b34 {Γ : tX} {N0 : Nat → Nat} {K : Int32 → tS → Prop} (C : TC Γ cX5_judges RX5 7 161) (hw : tWf N0) (hR : xnL Γ = 3) (r : TRi Γ N0 cX5_judges K) {t0 : Nat} {a1 : Int32} (h_t0 : N0 t0 ≠ 0 ∧ t0 % 32 = 6) {s1 : Int32} {s2 : Int32} {S : tS} (hf : Co_judges_b34 t0 a1 K s1 s2 S) : TJ Γ N0 0 0 34 [(0, .ref (xad Γ t0)), (1, .int a1)] [.int s2, .int s1, .ref (xad Γ (t0 + 266))] S := by
  unfold Co_judges_b34 at hf
  refine tj_iast C (t0 + 266) 6 (by have := h_t0.2; omega) (lnc_266 hw h_t0.2 h_t0.1) _ rfl hf.1 dX5_judges_34 ?_
  replace hf := hf.2
  refine tj_topS (fun S5 eS => ?_)
  replace hf := hf S5 eS
  refine tj_aload_n C 0 rfl rfl dX5_judges_35 ?_
  refine gf_X5_34 C h_t0.2 h_t0.1 dX5_judges_36 ?_
  refine tj_iload_n C 1 rfl rfl dX5_judges_39 ?_
  refine tj_iald C (t0 + 266) 6 (by have := h_t0.2; omega) (lnc_266 hw h_t0.2 h_t0.1) _ rfl hf.1 dX5_judges_40 ?_
  replace hf := hf.2
  exact r _ _ _ _ dX5_judges_41 hf
theorem w_Co_judges_b0 {Γ : tX} {N0 : Nat → Nat} {K : Int32 → tS → Prop} (C : TC Γ cX5_judges RX5 7 161) (hw : tWf N0) (hR : xnL Γ = 3) (r : TRi Γ N0 cX5_judges K) {t0 : Nat} {a1 : Int32} (h_t0 : N0 t0 ≠ 0 ∧ t0 % 32 = 6) {S : tS} (hf : Co_judges t0 a1 S K) : TJ Γ N0 0 0 0 [(0, .ref (xad Γ t0)), (1, .int a1)] [] S := by
  unfold Co_judges at hf
  refine tj_aload_n C 0 rfl rfl dX5_judges_0 ?_
  refine tj_aload_n C 0 rfl rfl dX5_judges_1 ?_
  refine tj_iload_n C 1 rfl rfl dX5_judges_2 ?_
  refine tj_callVi C (k := 6) [.int a1] [.ref (xad Γ t0)] (fun hN => c_Co_sits (by rw [hN]; exact ⟨h_t0.1, h_t0.2⟩) hf) lk_X5_127 ty_X5_sits rfl (Nat.le_of_ble_eq_true rfl) (Nat.le_of_ble_eq_true rfl) (Nat.le_of_ble_eq_true rfl) h_t0.1 h_t0.2 (by decide) rfl rfl dX5_judges_3 (fun r2 S1 hf => ?_)
  refine tj_callVi C (k := 6) [.int r2] [] (fun hN => c_Co_senseOf (by rw [hN]; exact ⟨h_t0.1, h_t0.2⟩) hf) lk_X5_130 ty_X5_senseOf rfl (Nat.le_of_ble_eq_true rfl) (Nat.le_of_ble_eq_true rfl) (Nat.le_of_ble_eq_true rfl) h_t0.1 h_t0.2 (by decide) rfl rfl dX5_judges_6 (fun r4 S3 hf => ?_)
  refine tj_istore_n C (by rw [hR]; decide) [(2, .int r4), (0, .ref (xad Γ t0)), (1, .int a1)] rfl rfl dX5_judges_9 ?_
  refine tj_aload_n C 1 rfl rfl dX5_judges_10 ?_
  refine gf_X5_34 C h_t0.2 h_t0.1 dX5_judges_11 ?_
  refine tj_iload_n C 2 rfl rfl dX5_judges_14 ?_
  refine tj_iload_n C 0 rfl rfl dX5_judges_15 ?_
  refine tj_iconst C kc_1 dX5_judges_16 ?_
  refine tj_icmp_ne C 24 (by decide) dX5_judges_17 (fun hc => ?_) (fun hc => ?_)
  · replace hf := hf.2 hc
    refine tj_iload_n C 0 rfl rfl dX5_judges_24 ?_
    refine tj_iconst C kc_2 dX5_judges_25 ?_
    refine tj_icmp_ne C 33 (by decide) dX5_judges_26 (fun hc => ?_) (fun hc => ?_)
    · replace hf := hf.2 hc
      refine tj_iconst C kc_0 dX5_judges_33 ?_
      exact tj_sub [1, 2] (w_Co_judges_b34 C hw hR r h_t0 hf) rfl
    · replace hf := hf.1 hc
      refine tj_iconst C kc_1 dX5_judges_29 ?_
      refine tj_goto C 34 (by decide) dX5_judges_30 ?_
      exact tj_sub [1, 2] (w_Co_judges_b34 C hw hR r h_t0 hf) rfl
  · replace hf := hf.1 hc
    refine tj_iconst C kc_2 dX5_judges_20 ?_
    refine tj_goto C 34 (by decide) dX5_judges_21 ?_
    exact tj_sub [1, 2] (w_Co_judges_b34 C hw hR r h_t0 hf) rfl
theorem c_Co_judges {l : Launch} {G : tG} {ad : Nat → Nat} {A : Nat → Prop} {S : tS} {K : Int32 → tS → Prop} {t0 : Nat} {a1 : Int32} (h_t0 : gN S t0 ≠ 0 ∧ t0 % 32 = 6) (hf : Co_judges t0 a1 S K) : Met l yX5_judges (ws_ yX5_judges cX5_judges 3 (some .int)) (tRm 7 161) (va_Pc [.ref (ad t0), .int a1] (tPre G ad A S)) (va_Qi K (tB G ad A (gN S)) A) 0 0 A :=
  tj_met_i [(0, .ref (ad t0)), (1, .int a1)] pn_X5 rfl (Nat.le_of_ble_eq_true rfl) (fun p e R s m args below meth c Q C hw r => w_Co_judges_b0 C hw rfl r h_t0 hf)
theorem w_Co_term_b38 {Γ : tX} {N0 : Nat → Nat} {K : Int32 → tS → Prop} (C : TC Γ cX5_term RX5 8 183) (hw : tWf N0) (hR : xnL Γ = 3) (r : TRi Γ N0 cX5_term K) {t0 : Nat} (h_t0 : N0 t0 ≠ 0 ∧ t0 % 32 = 6) {κ4 : Int32 → Int32 → tS → Prop} (hκ4 : ∀ (a1 : Int32) (a2 : Int32) (S : tS), κ4 a1 a2 S → TJ Γ N0 0 0 4 [(0, .ref (xad Γ t0)), (1, .int a1), (2, .int a2)] [] S) {a2 : Int32} {s0 : Int32} {s1 : Int32} {S : tS} (hf : Co_term_b38 t0 K κ4 a2 s0 s1 S) : TJ Γ N0 0 0 38 [(0, .ref (xad Γ t0)), (2, .int a2)] [.int s1, .int s0] S := by
  unfold Co_term_b38 at hf
  refine tj_ior C dX5_term_38 ?_
  refine tj_topi (fun x3 ex => ?_)
  replace hf := hf x3 ex
  refine tj_istore_n C (by rw [hR]; decide) [(1, .int x3), (0, .ref (xad Γ t0)), (2, .int a2)] rfl rfl dX5_term_39 ?_
  obtain ⟨x4, ex⟩ : ∃ y : Int32, y = a2 + nI 1 := ⟨_, rfl⟩
  refine tj_iinc C (by rw [hR]; decide) 2 [(2, .int x4), (1, .int x3), (0, .ref (xad Γ t0))] rfl (by rw [ex]; exact ki_1 _) rfl dX5_term_40 ?_
  replace hf := hf x4 ex
  refine tj_goto C 4 (by decide) dX5_term_43 ?_
  exact tj_sub [2, 1, 0] (hκ4 _ _ _ hf) rfl
theorem w_Co_term_b37 {Γ : tX} {N0 : Nat → Nat} {K : Int32 → tS → Prop} (C : TC Γ cX5_term RX5 8 183) (hw : tWf N0) (hR : xnL Γ = 3) (r : TRi Γ N0 cX5_term K) {t0 : Nat} (h_t0 : N0 t0 ≠ 0 ∧ t0 % 32 = 6) {κ4 : Int32 → Int32 → tS → Prop} (hκ4 : ∀ (a1 : Int32) (a2 : Int32) (S : tS), κ4 a1 a2 S → TJ Γ N0 0 0 4 [(0, .ref (xad Γ t0)), (1, .int a1), (2, .int a2)] [] S) {a2 : Int32} {s0 : Int32} {S : tS} (hf : Co_term_b37 t0 K κ4 a2 s0 S) : TJ Γ N0 0 0 37 [(0, .ref (xad Γ t0)), (2, .int a2)] [.int s0] S := by
  unfold Co_term_b37 at hf
  refine tj_iconst C kc_0 dX5_term_37 ?_
  exact w_Co_term_b38 C hw hR r h_t0 hκ4 hf
theorem w_Co_term_l4 {Γ : tX} {N0 : Nat → Nat} {K : Int32 → tS → Prop} (C : TC Γ cX5_term RX5 8 183) (hw : tWf N0) (hR : xnL Γ = 3) (r : TRi Γ N0 cX5_term K) {t0 : Nat} (h_t0 : N0 t0 ≠ 0 ∧ t0 % 32 = 6) : ∀ (n : Nat) (a1 : Int32) (a2 : Int32) (S : tS), Co_term_l4 t0 K n a1 a2 S → TJ Γ N0 0 0 4 [(0, .ref (xad Γ t0)), (1, .int a1), (2, .int a2)] [] S := by
  intro n
  induction n with
  | zero => intro a1 a2 S hf; exact hf.elim
  | succ n ih =>
    intro a1 a2 S hf
    unfold Co_term_l4 at hf
    refine tj_iload_n C 2 rfl rfl dX5_term_4 ?_
    refine tj_aload_n C 0 rfl rfl dX5_term_5 ?_
    refine gf_X5_71 C h_t0.2 h_t0.1 dX5_term_6 ?_
    refine tj_icmp_ge C 46 (by decide) dX5_term_9 (fun hc => ?_) (fun hc => ?_)
    · replace hf := hf.1 hc
      refine tj_iload_n C 1 rfl rfl dX5_term_46 ?_
      exact r _ _ _ _ dX5_term_47 hf
    · replace hf := hf.2 hc
      refine tj_iload_n C 1 rfl rfl dX5_term_12 ?_
      refine tj_aload_n C 0 rfl rfl dX5_term_13 ?_
      refine gf_X5_34 C h_t0.2 h_t0.1 dX5_term_14 ?_
      refine tj_iload_n C 2 rfl rfl dX5_term_17 ?_
      refine tj_iald C (t0 + 266) 6 (by have := h_t0.2; omega) (lnc_266 hw h_t0.2 h_t0.1) _ rfl hf.1 dX5_term_18 ?_
      replace hf := hf.2
      refine tj_if_ne C 37 (by decide) dX5_term_19 (fun hc => ?_) (fun hc => ?_)
      · replace hf := hf.2 hc
        exact tj_sub [0, 2] (w_Co_term_b37 C hw hR r h_t0 ih hf) rfl
      · replace hf := hf.1 hc
        refine tj_aload_n C 0 rfl rfl dX5_term_22 ?_
        refine tj_iload_n C 2 rfl rfl dX5_term_23 ?_
        refine tj_callVi C (k := 6) [.int a2] [.int a1] (fun hN => c_Co_judges (by rw [hN]; exact ⟨h_t0.1, h_t0.2⟩) hf) lk_X5_133 ty_X5_judges rfl (Nat.le_of_ble_eq_true rfl) (Nat.le_of_ble_eq_true rfl) (Nat.le_of_ble_eq_true rfl) h_t0.1 h_t0.2 (by decide) rfl rfl dX5_term_24 (fun r2 S1 hf => ?_)
        refine tj_iconst C kc_1 dX5_term_27 ?_
        refine tj_icmp_ne C 37 (by decide) dX5_term_28 (fun hc => ?_) (fun hc => ?_)
        · replace hf := hf.2 hc
          exact tj_sub [0, 2] (w_Co_term_b37 C hw hR r h_t0 ih hf) rfl
        · replace hf := hf.1 hc
          refine tj_iconst C kc_1 dX5_term_31 ?_
          refine tj_iload_n C 2 rfl rfl dX5_term_32 ?_
          refine tj_ishl C dX5_term_33 ?_
          refine tj_goto C 38 (by decide) dX5_term_34 ?_
          exact tj_sub [0, 2] (w_Co_term_b38 C hw hR r h_t0 ih hf) rfl
theorem w_Co_term_b0 {Γ : tX} {N0 : Nat → Nat} {K : Int32 → tS → Prop} (C : TC Γ cX5_term RX5 8 183) (hw : tWf N0) (hR : xnL Γ = 3) (r : TRi Γ N0 cX5_term K) {t0 : Nat} (h_t0 : N0 t0 ≠ 0 ∧ t0 % 32 = 6) {S : tS} (hf : Co_term t0 S K) : TJ Γ N0 0 0 0 [(0, .ref (xad Γ t0))] [] S := by
  unfold Co_term at hf
  refine tj_iconst C kc_0 dX5_term_0 ?_
  refine tj_istore_n C (by rw [hR]; decide) [(1, .int (nI 0)), (0, .ref (xad Γ t0))] rfl rfl dX5_term_1 ?_
  refine tj_iconst C kc_0 dX5_term_2 ?_
  refine tj_istore_n C (by rw [hR]; decide) [(2, .int (nI 0)), (1, .int (nI 0)), (0, .ref (xad Γ t0))] rfl rfl dX5_term_3 ?_
  exact tj_sub [2, 1, 0] (hf.elim fun k hf => w_Co_term_l4 C hw hR r h_t0 k _ _ _ hf) rfl
theorem c_Co_term {l : Launch} {G : tG} {ad : Nat → Nat} {A : Nat → Prop} {S : tS} {K : Int32 → tS → Prop} {t0 : Nat} (h_t0 : gN S t0 ≠ 0 ∧ t0 % 32 = 6) (hf : Co_term t0 S K) : Met l yX5_term (ws_ yX5_term cX5_term 3 (some .int)) (tRm 8 183) (va_Pc [.ref (ad t0)] (tPre G ad A S)) (va_Qi K (tB G ad A (gN S)) A) 0 0 A :=
  tj_met_i [(0, .ref (ad t0))] pn_X5 rfl (Nat.le_of_ble_eq_true rfl) (fun p e R s m args below meth c Q C hw r => w_Co_term_b0 C hw rfl r h_t0 hf)
theorem w_X_freeIn_l43 {Γ : tX} {N0 : Nat → Nat} {K : Int32 → tS → Prop} (C : TC Γ cX0_freeIn RX0 9 205) (hw : tWf N0) (hR : xnL Γ = 3) (r : TRi Γ N0 cX0_freeIn K) {a1 : Int32} (hX : N0 1025 ≠ 0) : ∀ (n : Nat) (a2 : Int32) (S : tS), X_freeIn_l43 a1 K n a2 S → TJ Γ N0 0 0 43 [(0, .ref (xad Γ 1025)), (1, .int a1), (2, .int a2)] [] S := by
  intro n
  induction n with
  | zero => intro a2 S hf; exact hf.elim
  | succ n ih =>
    intro a2 S hf
    unfold X_freeIn_l43 at hf
    refine tj_iload_n C 2 rfl rfl dX0_freeIn_43 ?_
    refine tj_iload_n C 1 rfl rfl dX0_freeIn_44 ?_
    refine tj_icmp_ge C 62 (by decide) dX0_freeIn_45 (fun hc => ?_) (fun hc => ?_)
    · replace hf := hf.1 hc
      refine tj_aload_n C 0 rfl rfl dX0_freeIn_62 ?_
      refine gf_X0_66 C hX dX0_freeIn_63 ?_
      refine tj_iconst C kc_1 dX0_freeIn_66 ?_
      refine tj_callVi C (k := 6) [.int (nI 1)] [] (fun hN => c_Co_are (by rw [hN]; exact ⟨(ne0 (ln_1766 hw hX)), rfl⟩) hf) lk_X0_258 ty_X5_are rfl (Nat.le_of_ble_eq_true rfl) (Nat.le_of_ble_eq_true rfl) (Nat.le_of_ble_eq_true rfl) (ne0 (ln_1766 hw hX)) rfl (by decide) rfl rfl dX0_freeIn_67 (fun r7 S6 hf => ?_)
      exact r _ _ _ _ dX0_freeIn_70 hf
    · replace hf := hf.2 hc
      refine tj_aload_n C 0 rfl rfl dX0_freeIn_48 ?_
      refine gf_X0_66 C hX dX0_freeIn_49 ?_
      refine tj_callVi C (k := 6) [] [] (fun hN => c_Co_term (by rw [hN]; exact ⟨(ne0 (ln_1766 hw hX)), rfl⟩) hf) lk_X0_343 ty_X5_term rfl (Nat.le_of_ble_eq_true rfl) (Nat.le_of_ble_eq_true rfl) (Nat.le_of_ble_eq_true rfl) (ne0 (ln_1766 hw hX)) rfl (by decide) rfl rfl dX0_freeIn_52 (fun r9 S8 hf => ?_)
      refine tj_pop C rfl dX0_freeIn_55 ?_
      obtain ⟨x10, ex⟩ : ∃ y : Int32, y = a2 + nI 1 := ⟨_, rfl⟩
      refine tj_iinc C (by rw [hR]; decide) 2 [(2, .int x10), (0, .ref (xad Γ 1025)), (1, .int a1)] rfl (by rw [ex]; exact ki_1 _) rfl dX0_freeIn_56 ?_
      replace hf := hf x10 ex
      refine tj_goto C 43 (by decide) dX0_freeIn_59 ?_
      exact tj_sub [1, 2, 0] (ih _ _ hf) rfl
theorem w_X_freeIn_b18 {Γ : tX} {N0 : Nat → Nat} {K : Int32 → tS → Prop} (C : TC Γ cX0_freeIn RX0 9 205) (hw : tWf N0) (hR : xnL Γ = 3) (r : TRi Γ N0 cX0_freeIn K) {a1 : Int32} (hX : N0 1025 ≠ 0) {s1 : Int32} {S : tS} (hf : X_freeIn_b18 a1 K s1 S) : TJ Γ N0 0 0 18 [(0, .ref (xad Γ 1025)), (1, .int a1)] [.int s1, .ref (xad Γ 1025)] S := by
  unfold X_freeIn_b18 at hf
  refine pf_X0_91 C hX dX0_freeIn_18 ?_
  refine tj_topS (fun S3 eS => ?_)
  replace hf := hf S3 eS
  refine tj_aload_n C 0 rfl rfl dX0_freeIn_21 ?_
  refine gf_X0_91 C hX dX0_freeIn_22 ?_
  refine tj_if_le C 30 (by decide) dX0_freeIn_25 (fun hc => ?_) (fun hc => ?_)
  · replace hf := hf.1 hc
    refine tj_aload_n C 0 rfl rfl dX0_freeIn_30 ?_
    refine gf_X0_66 C hX dX0_freeIn_31 ?_
    refine tj_aload_n C 0 rfl rfl dX0_freeIn_34 ?_
    refine tj_callVa C (k := 1) [] [.ref (xad Γ 1766)] (fun hN => c_X_at (by rw [hN]; exact hX) hf) lk_X0_168 ty_X0_at rfl (Nat.le_of_ble_eq_true rfl) (Nat.le_of_ble_eq_true rfl) (Nat.le_of_ble_eq_true rfl) hX rfl (by decide) rfl rfl dX0_freeIn_35 (fun S4 hf => ?_)
    refine tj_callVv C (k := 6) [.ref (xad Γ 1222)] [] (fun hN => c_Co_be (by rw [hN]; exact ⟨(ne0 (ln_1766 hw hX)), rfl⟩) (by rw [hN]; exact ⟨(ne0 (ln_1222 hw hX)), rfl⟩) hf) lk_X0_216 ty_X5_be rfl (Nat.le_of_ble_eq_true rfl) (Nat.le_of_ble_eq_true rfl) (Nat.le_of_ble_eq_true rfl) (ne0 (ln_1766 hw hX)) rfl (by decide) rfl rfl dX0_freeIn_38 (fun S5 hf => ?_)
    refine tj_iconst C kc_0 dX0_freeIn_41 ?_
    refine tj_istore_n C (by rw [hR]; decide) [(2, .int (nI 0)), (0, .ref (xad Γ 1025)), (1, .int a1)] rfl rfl dX0_freeIn_42 ?_
    exact tj_sub [1, 2, 0] (hf.elim fun k hf => w_X_freeIn_l43 C hw hR r hX k _ _ hf) rfl
  · replace hf := hf.2 hc
    refine tj_iconst C kc_m1 dX0_freeIn_28 ?_
    exact r _ _ _ _ dX0_freeIn_29 hf
theorem w_X_freeIn_b0 {Γ : tX} {N0 : Nat → Nat} {K : Int32 → tS → Prop} (C : TC Γ cX0_freeIn RX0 9 205) (hw : tWf N0) (hR : xnL Γ = 3) (r : TRi Γ N0 cX0_freeIn K) {a1 : Int32} (hX : N0 1025 ≠ 0) {S : tS} (hf : X_freeIn a1 S K) : TJ Γ N0 0 0 0 [(0, .ref (xad Γ 1025)), (1, .int a1)] [] S := by
  unfold X_freeIn at hf
  refine tj_aload_n C 0 rfl rfl dX0_freeIn_0 ?_
  refine tj_iload_n C 1 rfl rfl dX0_freeIn_1 ?_
  refine tj_i2l C dX0_freeIn_2 ?_
  refine tj_lconst C (v := lN 0) rfl dX0_freeIn_3 ?_
  refine tj_ldc2 C kl_X0_384 dX0_freeIn_4 ?_
  refine tj_callSz C [.long (a1.toInt64), .long (lN 0), .long (lN 40)] [.ref (xad Γ 1025)] (fun hN => c_X_isIn hf) lk_X0_175 ty_X0_isIn rfl (Nat.le_of_ble_eq_true rfl) (Nat.le_of_ble_eq_true rfl) (Nat.le_of_ble_eq_true rfl) rfl dX0_freeIn_7 (fun r2 S1 hf => ?_)
  have hz_r2 := hf.1
  replace hf := hf.2
  refine tj_if_eq C 17 (by decide) dX0_freeIn_10 (fun hc => ?_) (fun hc => ?_)
  · replace hf := hf.1 hc
    refine tj_iconst C kc_1 dX0_freeIn_17 ?_
    exact w_X_freeIn_b18 C hw hR r hX hf
  · replace hf := hf.2 hc
    refine tj_iconst C kc_0 dX0_freeIn_13 ?_
    refine tj_goto C 18 (by decide) dX0_freeIn_14 ?_
    exact w_X_freeIn_b18 C hw hR r hX hf
theorem c_X_freeIn {l : Launch} {G : tG} {ad : Nat → Nat} {A : Nat → Prop} {S : tS} {K : Int32 → tS → Prop} {a1 : Int32} (hX : gN S 1025 ≠ 0) (hf : X_freeIn a1 S K) : Met l yX0_freeIn (ws_ yX0_freeIn cX0_freeIn 3 (some .int)) (tRm 9 205) (va_Pc [.ref (ad 1025), .int a1] (tPre G ad A S)) (va_Qi K (tB G ad A (gN S)) A) 0 0 A :=
  tj_met_i [(0, .ref (ad 1025)), (1, .int a1)] pn_X0 rfl (Nat.le_of_ble_eq_true rfl) (fun p e R s m args below meth c Q C hw r => w_X_freeIn_b0 C hw rfl r hX hf)
theorem w_X_score_b51 {Γ : tX} {N0 : Nat → Nat} {K : Int32 → tS → Prop} (C : TC Γ cX0_score RX0 6 139) (hw : tWf N0) (hR : xnL Γ = 4) (r : TRi Γ N0 cX0_score K) (hX : N0 1025 ≠ 0) {κ4 : Int32 → Int32 → tS → Prop} (hκ4 : ∀ (a1 : Int32) (a2 : Int32) (S : tS), κ4 a1 a2 S → TJ Γ N0 0 0 4 [(0, .ref (xad Γ 1025)), (1, .int a1), (2, .int a2)] [] S) {a2 : Int32} {s0 : Int32} {s1 : Int32} {S : tS} (hf : X_score_b51 K κ4 a2 s0 s1 S) : TJ Γ N0 0 0 51 [(0, .ref (xad Γ 1025)), (2, .int a2)] [.int s1, .int s0] S := by
  unfold X_score_b51 at hf
  refine tj_iadd C dX0_score_51 ?_
  refine tj_topi (fun x5 ex => ?_)
  replace hf := hf x5 ex
  refine tj_istore_n C (by rw [hR]; decide) [(1, .int x5), (0, .ref (xad Γ 1025)), (2, .int a2)] rfl rfl dX0_score_52 ?_
  obtain ⟨x6, ex⟩ : ∃ y : Int32, y = a2 + nI 1 := ⟨_, rfl⟩
  refine tj_iinc C (by rw [hR]; decide) 2 [(2, .int x6), (1, .int x5), (0, .ref (xad Γ 1025))] rfl (by rw [ex]; exact ki_1 _) rfl dX0_score_53 ?_
  replace hf := hf x6 ex
  refine tj_goto C 4 (by decide) dX0_score_56 ?_
  exact tj_sub [2, 1, 0] (hκ4 _ _ _ hf) rfl
theorem w_X_score_l4 {Γ : tX} {N0 : Nat → Nat} {K : Int32 → tS → Prop} (C : TC Γ cX0_score RX0 6 139) (hw : tWf N0) (hR : xnL Γ = 4) (r : TRi Γ N0 cX0_score K) (hX : N0 1025 ≠ 0) : ∀ (n : Nat) (a1 : Int32) (a2 : Int32) (S : tS), X_score_l4 K n a1 a2 S → TJ Γ N0 0 0 4 [(0, .ref (xad Γ 1025)), (1, .int a1), (2, .int a2)] [] S := by
  intro n
  induction n with
  | zero => intro a1 a2 S hf; exact hf.elim
  | succ n ih =>
    intro a1 a2 S hf
    unfold X_score_l4 at hf
    refine tj_iload_n C 2 rfl rfl dX0_score_4 ?_
    refine tj_aload_n C 0 rfl rfl dX0_score_5 ?_
    refine gf_X0_66 C hX dX0_score_6 ?_
    refine gf_X0_185 C rfl (ne0 (ln_1766 hw hX)) dX0_score_9 ?_
    refine tj_icmp_ge C 59 (by decide) dX0_score_12 (fun hc => ?_) (fun hc => ?_)
    · replace hf := hf.1 hc
      refine tj_iload_n C 1 rfl rfl dX0_score_59 ?_
      exact r _ _ _ _ dX0_score_60 hf
    · replace hf := hf.2 hc
      refine tj_aload_n C 0 rfl rfl dX0_score_15 ?_
      refine gf_X0_66 C hX dX0_score_16 ?_
      refine tj_aload_n C 0 rfl rfl dX0_score_19 ?_
      refine gf_X0_66 C hX dX0_score_20 ?_
      refine tj_iload_n C 2 rfl rfl dX0_score_23 ?_
      refine tj_callVi C (k := 6) [.int a2] [.ref (xad Γ 1766)] (fun hN => c_Co_showsNow (by rw [hN]; exact ⟨(ne0 (ln_1766 hw hX)), rfl⟩) hf) lk_X0_364 ty_X5_showsNow rfl (Nat.le_of_ble_eq_true rfl) (Nat.le_of_ble_eq_true rfl) (Nat.le_of_ble_eq_true rfl) (ne0 (ln_1766 hw hX)) rfl (by decide) rfl rfl dX0_score_24 (fun r2 S1 hf => ?_)
      refine tj_callVi C (k := 6) [.int r2] [] (fun hN => c_Co_senseOf (by rw [hN]; exact ⟨(ne0 (ln_1766 hw hX)), rfl⟩) hf) lk_X0_452 ty_X5_senseOf rfl (Nat.le_of_ble_eq_true rfl) (Nat.le_of_ble_eq_true rfl) (Nat.le_of_ble_eq_true rfl) (ne0 (ln_1766 hw hX)) rfl (by decide) rfl rfl dX0_score_27 (fun r4 S3 hf => ?_)
      refine tj_istore_n C (by rw [hR]; decide) [(3, .int r4), (0, .ref (xad Γ 1025)), (1, .int a1), (2, .int a2)] rfl rfl dX0_score_30 ?_
      refine tj_iload_n C 2 rfl rfl dX0_score_31 ?_
      refine tj_iload_n C 0 rfl rfl dX0_score_32 ?_
      refine tj_iconst C kc_2 dX0_score_33 ?_
      refine tj_icmp_ne C 41 (by decide) dX0_score_34 (fun hc => ?_) (fun hc => ?_)
      · replace hf := hf.2 hc
        refine tj_iload_n C 0 rfl rfl dX0_score_41 ?_
        refine tj_iconst C kc_1 dX0_score_42 ?_
        refine tj_icmp_ne C 50 (by decide) dX0_score_43 (fun hc => ?_) (fun hc => ?_)
        · replace hf := hf.2 hc
          refine tj_iconst C kc_0 dX0_score_50 ?_
          exact tj_sub [1, 3] (w_X_score_b51 C hw hR r hX ih hf) rfl
        · replace hf := hf.1 hc
          refine tj_iconst C kc_m1 dX0_score_46 ?_
          refine tj_goto C 51 (by decide) dX0_score_47 ?_
          exact tj_sub [1, 3] (w_X_score_b51 C hw hR r hX ih hf) rfl
      · replace hf := hf.1 hc
        refine tj_iconst C kc_1 dX0_score_37 ?_
        refine tj_goto C 51 (by decide) dX0_score_38 ?_
        exact tj_sub [1, 3] (w_X_score_b51 C hw hR r hX ih hf) rfl
theorem w_X_score_b0 {Γ : tX} {N0 : Nat → Nat} {K : Int32 → tS → Prop} (C : TC Γ cX0_score RX0 6 139) (hw : tWf N0) (hR : xnL Γ = 4) (r : TRi Γ N0 cX0_score K) (hX : N0 1025 ≠ 0) {S : tS} (hf : X_score S K) : TJ Γ N0 0 0 0 [(0, .ref (xad Γ 1025))] [] S := by
  unfold X_score at hf
  refine tj_iconst C kc_0 dX0_score_0 ?_
  refine tj_istore_n C (by rw [hR]; decide) [(1, .int (nI 0)), (0, .ref (xad Γ 1025))] rfl rfl dX0_score_1 ?_
  refine tj_iconst C kc_0 dX0_score_2 ?_
  refine tj_istore_n C (by rw [hR]; decide) [(2, .int (nI 0)), (1, .int (nI 0)), (0, .ref (xad Γ 1025))] rfl rfl dX0_score_3 ?_
  exact tj_sub [2, 1, 0] (hf.elim fun k hf => w_X_score_l4 C hw hR r hX k _ _ _ hf) rfl
theorem c_X_score {l : Launch} {G : tG} {ad : Nat → Nat} {A : Nat → Prop} {S : tS} {K : Int32 → tS → Prop} (hX : gN S 1025 ≠ 0) (hf : X_score S K) : Met l yX0_score (ws_ yX0_score cX0_score 4 (some .int)) (tRm 6 139) (va_Pc [.ref (ad 1025)] (tPre G ad A S)) (va_Qi K (tB G ad A (gN S)) A) 0 0 A :=
  tj_met_i [(0, .ref (ad 1025))] pn_X0 rfl (Nat.le_of_ble_eq_true rfl) (fun p e R s m args below meth c Q C hw r => w_X_score_b0 C hw rfl r hX hf)
theorem w_X_plays_b216 {Γ : tX} {d : Nat} {N0 : Nat → Nat} {K : Int32 → tS → Prop} (C : TC Γ cX0_plays RX0 (7 + (d + 1)) (162 + (d + 1) * 29)) (hw : tWf N0) (hR : xnL Γ = 10) (r : TRi Γ N0 cX0_plays K) {a1 : Int32} {a2 : Int32} (hX : N0 1025 ≠ 0) {ρ : Int32 → Int32 → tS → (Int32 → tS → Prop) → Prop} (hρ : ∀ (a1 : Int32) (a2 : Int32) (S : tS) (K : Int32 → tS → Prop), (gN S 1025 ≠ 0) → ρ a1 a2 S K → Met (xl Γ) yX0_plays (ws_ yX0_plays cX0_plays 10 (some .int)) (tRm (7 + d) (162 + d * 29)) (va_Pc [.ref (xad Γ 1025), .int a1, .int a2] (tPre (xG Γ) (xad Γ) (xA Γ) S)) (va_Qi K (tB (xG Γ) (xad Γ) (xA Γ) (gN S)) (xA Γ)) 0 0 (xA Γ)) {κ31 : Int32 → Int32 → Int32 → Int32 → tS → Prop} (hκ31 : ∀ (a3 : Int32) (a4 : Int32) (a5 : Int32) (a6 : Int32) (S : tS), κ31 a3 a4 a5 a6 S → TJ Γ N0 0 0 31 [(0, .ref (xad Γ 1025)), (1, .int a1), (2, .int a2), (3, .int a3), (4, .int a4), (5, .int a5), (6, .int a6)] [] S) {κ65 : Int32 → Int32 → Int32 → Int32 → Int32 → Int32 → tS → Prop} (hκ65 : ∀ (a3 : Int32) (a4 : Int32) (a5 : Int32) (a6 : Int32) (a7 : Int32) (a8 : Int32) (S : tS), κ65 a3 a4 a5 a6 a7 a8 S → TJ Γ N0 0 0 65 [(0, .ref (xad Γ 1025)), (1, .int a1), (2, .int a2), (3, .int a3), (4, .int a4), (5, .int a5), (6, .int a6), (7, .int a7), (8, .int a8)] [] S) {a3 : Int32} {a4 : Int32} {a5 : Int32} {a6 : Int32} {a7 : Int32} {a8 : Int32} {S : tS} (hf : X_plays_b216 a1 a2 ρ K κ31 κ65 a3 a4 a5 a6 a7 a8 S) : TJ Γ N0 0 0 216 [(0, .ref (xad Γ 1025)), (1, .int a1), (2, .int a2), (3, .int a3), (4, .int a4), (5, .int a5), (6, .int a6), (7, .int a7), (8, .int a8)] [] S := by
  unfold X_plays_b216 at hf
  obtain ⟨x5, ex⟩ : ∃ y : Int32, y = a8 + nI 1 := ⟨_, rfl⟩
  refine tj_iinc C (by rw [hR]; decide) 8 [(8, .int x5), (0, .ref (xad Γ 1025)), (1, .int a1), (2, .int a2), (3, .int a3), (4, .int a4), (5, .int a5), (6, .int a6), (7, .int a7)] rfl (by rw [ex]; exact ki_1 _) rfl dX0_plays_216 ?_
  replace hf := hf x5 ex
  refine tj_goto C 65 (by decide) dX0_plays_219 ?_
  exact tj_sub [1, 2, 3, 4, 5, 6, 7, 8, 0] (hκ65 _ _ _ _ _ _ _ hf) rfl
theorem w_X_plays_b207 {Γ : tX} {d : Nat} {N0 : Nat → Nat} {K : Int32 → tS → Prop} (C : TC Γ cX0_plays RX0 (7 + (d + 1)) (162 + (d + 1) * 29)) (hw : tWf N0) (hR : xnL Γ = 10) (r : TRi Γ N0 cX0_plays K) {a1 : Int32} {a2 : Int32} (hX : N0 1025 ≠ 0) {ρ : Int32 → Int32 → tS → (Int32 → tS → Prop) → Prop} (hρ : ∀ (a1 : Int32) (a2 : Int32) (S : tS) (K : Int32 → tS → Prop), (gN S 1025 ≠ 0) → ρ a1 a2 S K → Met (xl Γ) yX0_plays (ws_ yX0_plays cX0_plays 10 (some .int)) (tRm (7 + d) (162 + d * 29)) (va_Pc [.ref (xad Γ 1025), .int a1, .int a2] (tPre (xG Γ) (xad Γ) (xA Γ) S)) (va_Qi K (tB (xG Γ) (xad Γ) (xA Γ) (gN S)) (xA Γ)) 0 0 (xA Γ)) {κ31 : Int32 → Int32 → Int32 → Int32 → tS → Prop} (hκ31 : ∀ (a3 : Int32) (a4 : Int32) (a5 : Int32) (a6 : Int32) (S : tS), κ31 a3 a4 a5 a6 S → TJ Γ N0 0 0 31 [(0, .ref (xad Γ 1025)), (1, .int a1), (2, .int a2), (3, .int a3), (4, .int a4), (5, .int a5), (6, .int a6)] [] S) {κ65 : Int32 → Int32 → Int32 → Int32 → Int32 → Int32 → tS → Prop} (hκ65 : ∀ (a3 : Int32) (a4 : Int32) (a5 : Int32) (a6 : Int32) (a7 : Int32) (a8 : Int32) (S : tS), κ65 a3 a4 a5 a6 a7 a8 S → TJ Γ N0 0 0 65 [(0, .ref (xad Γ 1025)), (1, .int a1), (2, .int a2), (3, .int a3), (4, .int a4), (5, .int a5), (6, .int a6), (7, .int a7), (8, .int a8)] [] S) {a3 : Int32} {a4 : Int32} {a5 : Int32} {a6 : Int32} {a7 : Int32} {a8 : Int32} {s1 : Int32} {S : tS} (hf : X_plays_b207 a1 a2 ρ K κ31 κ65 a3 a4 a5 a6 a7 a8 s1 S) : TJ Γ N0 0 0 207 [(0, .ref (xad Γ 1025)), (1, .int a1), (2, .int a2), (3, .int a3), (4, .int a4), (5, .int a5), (6, .int a6), (7, .int a7), (8, .int a8)] [.int s1, .ref (xad Γ 1025)] S := by
  unfold X_plays_b207 at hf
  refine pf_X0_489 C hX dX0_plays_207 ?_
  refine tj_topS (fun S9 eS => ?_)
  replace hf := hf S9 eS
  refine tj_aload_n C 0 rfl rfl dX0_plays_210 ?_
  refine tj_iload C 8 rfl dX0_plays_211 ?_
  refine pf_X0_492 C hX dX0_plays_213 ?_
  refine tj_topS (fun S10 eS => ?_)
  replace hf := hf S10 eS
  exact w_X_plays_b216 C hw hR r hX hρ hκ31 hκ65 hf
theorem w_X_plays_b181 {Γ : tX} {d : Nat} {N0 : Nat → Nat} {K : Int32 → tS → Prop} (C : TC Γ cX0_plays RX0 (7 + (d + 1)) (162 + (d + 1) * 29)) (hw : tWf N0) (hR : xnL Γ = 10) (r : TRi Γ N0 cX0_plays K) {a1 : Int32} {a2 : Int32} (hX : N0 1025 ≠ 0) {ρ : Int32 → Int32 → tS → (Int32 → tS → Prop) → Prop} (hρ : ∀ (a1 : Int32) (a2 : Int32) (S : tS) (K : Int32 → tS → Prop), (gN S 1025 ≠ 0) → ρ a1 a2 S K → Met (xl Γ) yX0_plays (ws_ yX0_plays cX0_plays 10 (some .int)) (tRm (7 + d) (162 + d * 29)) (va_Pc [.ref (xad Γ 1025), .int a1, .int a2] (tPre (xG Γ) (xad Γ) (xA Γ) S)) (va_Qi K (tB (xG Γ) (xad Γ) (xA Γ) (gN S)) (xA Γ)) 0 0 (xA Γ)) {κ31 : Int32 → Int32 → Int32 → Int32 → tS → Prop} (hκ31 : ∀ (a3 : Int32) (a4 : Int32) (a5 : Int32) (a6 : Int32) (S : tS), κ31 a3 a4 a5 a6 S → TJ Γ N0 0 0 31 [(0, .ref (xad Γ 1025)), (1, .int a1), (2, .int a2), (3, .int a3), (4, .int a4), (5, .int a5), (6, .int a6)] [] S) {κ65 : Int32 → Int32 → Int32 → Int32 → Int32 → Int32 → tS → Prop} (hκ65 : ∀ (a3 : Int32) (a4 : Int32) (a5 : Int32) (a6 : Int32) (a7 : Int32) (a8 : Int32) (S : tS), κ65 a3 a4 a5 a6 a7 a8 S → TJ Γ N0 0 0 65 [(0, .ref (xad Γ 1025)), (1, .int a1), (2, .int a2), (3, .int a3), (4, .int a4), (5, .int a5), (6, .int a6), (7, .int a7), (8, .int a8)] [] S) {a3 : Int32} {a6 : Int32} {a7 : Int32} {a8 : Int32} {a9 : Int32} {S : tS} (hf : X_plays_b181 a1 a2 ρ K κ31 κ65 a3 a6 a7 a8 a9 S) : TJ Γ N0 0 0 181 [(0, .ref (xad Γ 1025)), (1, .int a1), (2, .int a2), (3, .int a3), (6, .int a6), (7, .int a7), (8, .int a8), (9, .int a9)] [] S := by
  unfold X_plays_b181 at hf
  refine tj_iconst C kc_1 dX0_plays_181 ?_
  refine tj_istore C (by rw [hR]; decide) [(5, .int (nI 1)), (0, .ref (xad Γ 1025)), (1, .int a1), (2, .int a2), (3, .int a3), (6, .int a6), (7, .int a7), (8, .int a8), (9, .int a9)] rfl dX0_plays_182 ?_
  refine tj_iload C 8 rfl dX0_plays_184 ?_
  refine tj_istore C (by rw [hR]; decide) [(4, .int a9), (5, .int (nI 1)), (0, .ref (xad Γ 1025)), (1, .int a1), (2, .int a2), (3, .int a3), (6, .int a6), (7, .int a7), (8, .int a8), (9, .int a9)] rfl dX0_plays_186 ?_
  refine tj_iload_n C 3 rfl rfl dX0_plays_188 ?_
  refine tj_if_le C 195 (by decide) dX0_plays_189 (fun hc => ?_) (fun hc => ?_)
  · replace hf := hf.1 hc
    refine tj_aload_n C 2 rfl rfl dX0_plays_195 ?_
    refine tj_iload C 7 rfl dX0_plays_196 ?_
    refine tj_if_eq C 205 (by decide) dX0_plays_198 (fun hc => ?_) (fun hc => ?_)
    · replace hf := hf.1 hc
      refine tj_iload C 6 rfl dX0_plays_205 ?_
      exact tj_sub [2, 3, 4, 5, 0, 1, 6, 7, 8] (w_X_plays_b207 C hw hR r hX hρ hκ31 hκ65 hf) rfl
    · replace hf := hf.2 hc
      refine tj_iconst C kc_m1 dX0_plays_201 ?_
      refine tj_goto C 207 (by decide) dX0_plays_202 ?_
      exact tj_sub [2, 3, 4, 5, 0, 1, 6, 7, 8] (w_X_plays_b207 C hw hR r hX hρ hκ31 hκ65 hf) rfl
  · replace hf := hf.2 hc
    refine tj_goto C 216 (by decide) dX0_plays_192 ?_
    exact tj_sub [2, 3, 4, 5, 0, 1, 6, 7, 8] (w_X_plays_b216 C hw hR r hX hρ hκ31 hκ65 hf) rfl
theorem w_X_plays_b152 {Γ : tX} {d : Nat} {N0 : Nat → Nat} {K : Int32 → tS → Prop} (C : TC Γ cX0_plays RX0 (7 + (d + 1)) (162 + (d + 1) * 29)) (hw : tWf N0) (hR : xnL Γ = 10) (r : TRi Γ N0 cX0_plays K) {a1 : Int32} {a2 : Int32} (hX : N0 1025 ≠ 0) {ρ : Int32 → Int32 → tS → (Int32 → tS → Prop) → Prop} (hρ : ∀ (a1 : Int32) (a2 : Int32) (S : tS) (K : Int32 → tS → Prop), (gN S 1025 ≠ 0) → ρ a1 a2 S K → Met (xl Γ) yX0_plays (ws_ yX0_plays cX0_plays 10 (some .int)) (tRm (7 + d) (162 + d * 29)) (va_Pc [.ref (xad Γ 1025), .int a1, .int a2] (tPre (xG Γ) (xad Γ) (xA Γ) S)) (va_Qi K (tB (xG Γ) (xad Γ) (xA Γ) (gN S)) (xA Γ)) 0 0 (xA Γ)) {κ31 : Int32 → Int32 → Int32 → Int32 → tS → Prop} (hκ31 : ∀ (a3 : Int32) (a4 : Int32) (a5 : Int32) (a6 : Int32) (S : tS), κ31 a3 a4 a5 a6 S → TJ Γ N0 0 0 31 [(0, .ref (xad Γ 1025)), (1, .int a1), (2, .int a2), (3, .int a3), (4, .int a4), (5, .int a5), (6, .int a6)] [] S) {κ65 : Int32 → Int32 → Int32 → Int32 → Int32 → Int32 → tS → Prop} (hκ65 : ∀ (a3 : Int32) (a4 : Int32) (a5 : Int32) (a6 : Int32) (a7 : Int32) (a8 : Int32) (S : tS), κ65 a3 a4 a5 a6 a7 a8 S → TJ Γ N0 0 0 65 [(0, .ref (xad Γ 1025)), (1, .int a1), (2, .int a2), (3, .int a3), (4, .int a4), (5, .int a5), (6, .int a6), (7, .int a7), (8, .int a8)] [] S) {a3 : Int32} {a4 : Int32} {a5 : Int32} {a6 : Int32} {a7 : Int32} {a8 : Int32} {a9 : Int32} {S : tS} (hf : X_plays_b152 a1 a2 ρ K κ31 κ65 a3 a4 a5 a6 a7 a8 a9 S) : TJ Γ N0 0 0 152 [(0, .ref (xad Γ 1025)), (1, .int a1), (2, .int a2), (3, .int a3), (4, .int a4), (5, .int a5), (6, .int a6), (7, .int a7), (8, .int a8), (9, .int a9)] [] S := by
  unfold X_plays_b152 at hf
  refine tj_iload C 5 rfl dX0_plays_152 ?_
  refine tj_if_eq C 181 (by decide) dX0_plays_154 (fun hc => ?_) (fun hc => ?_)
  · replace hf := hf.1 hc
    exact tj_sub [0, 1, 2, 3, 6, 7, 8, 9] (w_X_plays_b181 C hw hR r hX hρ hκ31 hκ65 hf) rfl
  · replace hf := hf.2 hc
    refine tj_iload_n C 3 rfl rfl dX0_plays_157 ?_
    refine tj_if_eq C 171 (by decide) dX0_plays_158 (fun hc => ?_) (fun hc => ?_)
    · replace hf := hf.1 hc
      refine tj_iload C 9 rfl dX0_plays_171 ?_
      refine tj_iload C 4 rfl dX0_plays_173 ?_
      refine tj_icmp_lt C 181 (by decide) dX0_plays_175 (fun hc => ?_) (fun hc => ?_)
      · replace hf := hf.1 hc
        exact tj_sub [0, 1, 2, 3, 6, 7, 8, 9] (w_X_plays_b181 C hw hR r hX hρ hκ31 hκ65 hf) rfl
      · replace hf := hf.2 hc
        refine tj_goto C 216 (by decide) dX0_plays_178 ?_
        exact tj_sub [0, 1, 2, 3, 4, 5, 6, 7, 8] (w_X_plays_b216 C hw hR r hX hρ hκ31 hκ65 hf) rfl
    · replace hf := hf.2 hc
      refine tj_iload C 9 rfl dX0_plays_161 ?_
      refine tj_iload C 4 rfl dX0_plays_163 ?_
      refine tj_icmp_gt C 181 (by decide) dX0_plays_165 (fun hc => ?_) (fun hc => ?_)
      · replace hf := hf.1 hc
        exact tj_sub [0, 1, 2, 3, 6, 7, 8, 9] (w_X_plays_b181 C hw hR r hX hρ hκ31 hκ65 hf) rfl
      · replace hf := hf.2 hc
        refine tj_goto C 216 (by decide) dX0_plays_168 ?_
        exact tj_sub [0, 1, 2, 3, 4, 5, 6, 7, 8] (w_X_plays_b216 C hw hR r hX hρ hκ31 hκ65 hf) rfl
theorem w_X_plays_b128 {Γ : tX} {d : Nat} {N0 : Nat → Nat} {K : Int32 → tS → Prop} (C : TC Γ cX0_plays RX0 (7 + (d + 1)) (162 + (d + 1) * 29)) (hw : tWf N0) (hR : xnL Γ = 10) (r : TRi Γ N0 cX0_plays K) {a1 : Int32} {a2 : Int32} (hX : N0 1025 ≠ 0) {ρ : Int32 → Int32 → tS → (Int32 → tS → Prop) → Prop} (hρ : ∀ (a1 : Int32) (a2 : Int32) (S : tS) (K : Int32 → tS → Prop), (gN S 1025 ≠ 0) → ρ a1 a2 S K → Met (xl Γ) yX0_plays (ws_ yX0_plays cX0_plays 10 (some .int)) (tRm (7 + d) (162 + d * 29)) (va_Pc [.ref (xad Γ 1025), .int a1, .int a2] (tPre (xG Γ) (xad Γ) (xA Γ) S)) (va_Qi K (tB (xG Γ) (xad Γ) (xA Γ) (gN S)) (xA Γ)) 0 0 (xA Γ)) {κ31 : Int32 → Int32 → Int32 → Int32 → tS → Prop} (hκ31 : ∀ (a3 : Int32) (a4 : Int32) (a5 : Int32) (a6 : Int32) (S : tS), κ31 a3 a4 a5 a6 S → TJ Γ N0 0 0 31 [(0, .ref (xad Γ 1025)), (1, .int a1), (2, .int a2), (3, .int a3), (4, .int a4), (5, .int a5), (6, .int a6)] [] S) {κ65 : Int32 → Int32 → Int32 → Int32 → Int32 → Int32 → tS → Prop} (hκ65 : ∀ (a3 : Int32) (a4 : Int32) (a5 : Int32) (a6 : Int32) (a7 : Int32) (a8 : Int32) (S : tS), κ65 a3 a4 a5 a6 a7 a8 S → TJ Γ N0 0 0 65 [(0, .ref (xad Γ 1025)), (1, .int a1), (2, .int a2), (3, .int a3), (4, .int a4), (5, .int a5), (6, .int a6), (7, .int a7), (8, .int a8)] [] S) {a3 : Int32} {a4 : Int32} {a5 : Int32} {a6 : Int32} {a7 : Int32} {a8 : Int32} {S : tS} (hf : X_plays_b128 a1 a2 ρ K κ31 κ65 a3 a4 a5 a6 a7 a8 S) : TJ Γ N0 0 0 128 [(0, .ref (xad Γ 1025)), (1, .int a1), (2, .int a2), (3, .int a3), (4, .int a4), (5, .int a5), (6, .int a6), (7, .int a7), (8, .int a8)] [] S := by
  unfold X_plays_b128 at hf
  refine tj_aload_n C 0 rfl rfl dX0_plays_128 ?_
  refine tj_iload_n C 1 rfl rfl dX0_plays_129 ?_
  refine tj_iconst C kc_1 dX0_plays_130 ?_
  refine tj_iadd C dX0_plays_131 ?_
  refine tj_iload_n C 2 rfl rfl dX0_plays_132 ?_
  refine tj_callVi C (k := 1) [.int (a1 + (nI 1)), .int a2] [] (fun hN => hρ _ _ _ _ (by rw [hN]; exact hX) hf) lk_X0_486 ty_X0_plays rfl (by omega) (by omega) (Nat.le_of_ble_eq_true rfl) hX rfl (by decide) rfl rfl dX0_plays_133 (fun r7 S6 hf => ?_)
  refine tj_istore C (by rw [hR]; decide) [(9, .int r7), (0, .ref (xad Γ 1025)), (1, .int a1), (2, .int a2), (3, .int a3), (4, .int a4), (5, .int a5), (6, .int a6), (7, .int a7), (8, .int a8)] rfl dX0_plays_136 ?_
  refine tj_iload C 8 rfl dX0_plays_138 ?_
  refine tj_if_ne C 152 (by decide) dX0_plays_140 (fun hc => ?_) (fun hc => ?_)
  · replace hf := hf.2 hc
    exact tj_sub [1, 2, 3, 4, 5, 6, 7, 8, 9, 0] (w_X_plays_b152 C hw hR r hX hρ hκ31 hκ65 hf) rfl
  · replace hf := hf.1 hc
    refine tj_aload_n C 1 rfl rfl dX0_plays_143 ?_
    refine tj_iload C 7 rfl dX0_plays_144 ?_
    refine tj_iload C 9 rfl dX0_plays_146 ?_
    refine tj_iconst C kc_m1 dX0_plays_148 ?_
    refine tj_callVv C (k := 1) [.int a6, .int a8, .int (-1)] [] (fun hN => c_X_deeds (by rw [hN]; exact hX) hf) lk_X0_483 ty_X0_deeds rfl (by omega) (by omega) (Nat.le_of_ble_eq_true rfl) hX rfl (by decide) rfl rfl dX0_plays_149 (fun S8 hf => ?_)
    exact tj_sub [1, 2, 3, 4, 5, 6, 7, 8, 9, 0] (w_X_plays_b152 C hw hR r hX hρ hκ31 hκ65 hf) rfl
theorem w_X_plays_b114 {Γ : tX} {d : Nat} {N0 : Nat → Nat} {K : Int32 → tS → Prop} (C : TC Γ cX0_plays RX0 (7 + (d + 1)) (162 + (d + 1) * 29)) (hw : tWf N0) (hR : xnL Γ = 10) (r : TRi Γ N0 cX0_plays K) {a1 : Int32} {a2 : Int32} (hX : N0 1025 ≠ 0) {ρ : Int32 → Int32 → tS → (Int32 → tS → Prop) → Prop} (hρ : ∀ (a1 : Int32) (a2 : Int32) (S : tS) (K : Int32 → tS → Prop), (gN S 1025 ≠ 0) → ρ a1 a2 S K → Met (xl Γ) yX0_plays (ws_ yX0_plays cX0_plays 10 (some .int)) (tRm (7 + d) (162 + d * 29)) (va_Pc [.ref (xad Γ 1025), .int a1, .int a2] (tPre (xG Γ) (xad Γ) (xA Γ) S)) (va_Qi K (tB (xG Γ) (xad Γ) (xA Γ) (gN S)) (xA Γ)) 0 0 (xA Γ)) {κ31 : Int32 → Int32 → Int32 → Int32 → tS → Prop} (hκ31 : ∀ (a3 : Int32) (a4 : Int32) (a5 : Int32) (a6 : Int32) (S : tS), κ31 a3 a4 a5 a6 S → TJ Γ N0 0 0 31 [(0, .ref (xad Γ 1025)), (1, .int a1), (2, .int a2), (3, .int a3), (4, .int a4), (5, .int a5), (6, .int a6)] [] S) {κ65 : Int32 → Int32 → Int32 → Int32 → Int32 → Int32 → tS → Prop} (hκ65 : ∀ (a3 : Int32) (a4 : Int32) (a5 : Int32) (a6 : Int32) (a7 : Int32) (a8 : Int32) (S : tS), κ65 a3 a4 a5 a6 a7 a8 S → TJ Γ N0 0 0 65 [(0, .ref (xad Γ 1025)), (1, .int a1), (2, .int a2), (3, .int a3), (4, .int a4), (5, .int a5), (6, .int a6), (7, .int a7), (8, .int a8)] [] S) {a3 : Int32} {a4 : Int32} {a5 : Int32} {a6 : Int32} {a7 : Int32} {a8 : Int32} {S : tS} (hf : X_plays_b114 a1 a2 ρ K κ31 κ65 a3 a4 a5 a6 a7 a8 S) : TJ Γ N0 0 0 114 [(0, .ref (xad Γ 1025)), (1, .int a1), (2, .int a2), (3, .int a3), (4, .int a4), (5, .int a5), (6, .int a6), (7, .int a7), (8, .int a8)] [] S := by
  unfold X_plays_b114 at hf
  refine tj_iload C 7 rfl dX0_plays_114 ?_
  refine tj_if_ne C 128 (by decide) dX0_plays_116 (fun hc => ?_) (fun hc => ?_)
  · replace hf := hf.2 hc
    exact w_X_plays_b128 C hw hR r hX hρ hκ31 hκ65 hf
  · replace hf := hf.1 hc
    refine tj_aload_n C 0 rfl rfl dX0_plays_119 ?_
    refine tj_iload C 6 rfl dX0_plays_120 ?_
    refine tj_iload C 8 rfl dX0_plays_122 ?_
    refine tj_iconst C kc_1 dX0_plays_124 ?_
    refine tj_callVv C (k := 1) [.int a6, .int a8, .int (nI 1)] [] (fun hN => c_X_deeds (by rw [hN]; exact hX) hf) lk_X0_483 ty_X0_deeds rfl (by omega) (by omega) (Nat.le_of_ble_eq_true rfl) hX rfl (by decide) rfl rfl dX0_plays_125 (fun S4 hf => ?_)
    exact w_X_plays_b128 C hw hR r hX hρ hκ31 hκ65 hf
theorem w_X_plays_b83 {Γ : tX} {d : Nat} {N0 : Nat → Nat} {K : Int32 → tS → Prop} (C : TC Γ cX0_plays RX0 (7 + (d + 1)) (162 + (d + 1) * 29)) (hw : tWf N0) (hR : xnL Γ = 10) (r : TRi Γ N0 cX0_plays K) {a1 : Int32} {a2 : Int32} (hX : N0 1025 ≠ 0) {ρ : Int32 → Int32 → tS → (Int32 → tS → Prop) → Prop} (hρ : ∀ (a1 : Int32) (a2 : Int32) (S : tS) (K : Int32 → tS → Prop), (gN S 1025 ≠ 0) → ρ a1 a2 S K → Met (xl Γ) yX0_plays (ws_ yX0_plays cX0_plays 10 (some .int)) (tRm (7 + d) (162 + d * 29)) (va_Pc [.ref (xad Γ 1025), .int a1, .int a2] (tPre (xG Γ) (xad Γ) (xA Γ) S)) (va_Qi K (tB (xG Γ) (xad Γ) (xA Γ) (gN S)) (xA Γ)) 0 0 (xA Γ)) {κ31 : Int32 → Int32 → Int32 → Int32 → tS → Prop} (hκ31 : ∀ (a3 : Int32) (a4 : Int32) (a5 : Int32) (a6 : Int32) (S : tS), κ31 a3 a4 a5 a6 S → TJ Γ N0 0 0 31 [(0, .ref (xad Γ 1025)), (1, .int a1), (2, .int a2), (3, .int a3), (4, .int a4), (5, .int a5), (6, .int a6)] [] S) {κ65 : Int32 → Int32 → Int32 → Int32 → Int32 → Int32 → tS → Prop} (hκ65 : ∀ (a3 : Int32) (a4 : Int32) (a5 : Int32) (a6 : Int32) (a7 : Int32) (a8 : Int32) (S : tS), κ65 a3 a4 a5 a6 a7 a8 S → TJ Γ N0 0 0 65 [(0, .ref (xad Γ 1025)), (1, .int a1), (2, .int a2), (3, .int a3), (4, .int a4), (5, .int a5), (6, .int a6), (7, .int a7), (8, .int a8)] [] S) {a3 : Int32} {a4 : Int32} {a5 : Int32} {a6 : Int32} {a7 : Int32} {a8 : Int32} {s0 : Int32} {s1 : Int32} {S : tS} (hf : X_plays_b83 a1 a2 ρ K κ31 κ65 a3 a4 a5 a6 a7 a8 s0 s1 S) : TJ Γ N0 0 0 83 [(0, .ref (xad Γ 1025)), (1, .int a1), (2, .int a2), (3, .int a3), (4, .int a4), (5, .int a5), (6, .int a6), (7, .int a7), (8, .int a8)] [.int s1, .int s0] S := by
  unfold X_plays_b83 at hf
  refine tj_icmp_gt C 222 (by decide) dX0_plays_83 (fun hc => ?_) (fun hc => ?_)
  · replace hf := hf.1 hc
    obtain ⟨x3, ex⟩ : ∃ y : Int32, y = a6 + nI 1 := ⟨_, rfl⟩
    refine tj_iinc C (by rw [hR]; decide) 6 [(6, .int x3), (0, .ref (xad Γ 1025)), (1, .int a1), (2, .int a2), (3, .int a3), (4, .int a4), (5, .int a5), (7, .int a7), (8, .int a8)] rfl (by rw [ex]; exact ki_1 _) rfl dX0_plays_222 ?_
    replace hf := hf x3 ex
    refine tj_goto C 31 (by decide) dX0_plays_225 ?_
    exact tj_sub [1, 2, 3, 4, 5, 6, 0] (hκ31 _ _ _ _ _ hf) rfl
  · replace hf := hf.2 hc
    refine tj_iload C 7 rfl dX0_plays_86 ?_
    refine tj_if_ne C 114 (by decide) dX0_plays_88 (fun hc => ?_) (fun hc => ?_)
    · replace hf := hf.2 hc
      exact w_X_plays_b114 C hw hR r hX hρ hκ31 hκ65 hf
    · replace hf := hf.1 hc
      refine tj_iload C 8 rfl dX0_plays_91 ?_
      refine tj_if_ne C 114 (by decide) dX0_plays_93 (fun hc => ?_) (fun hc => ?_)
      · replace hf := hf.2 hc
        exact w_X_plays_b114 C hw hR r hX hρ hκ31 hκ65 hf
      · replace hf := hf.1 hc
        refine tj_aload_n C 0 rfl rfl dX0_plays_96 ?_
        refine gf_X0_66 C hX dX0_plays_97 ?_
        refine gf_X0_308 C rfl (ne0 (ln_1766 hw hX)) dX0_plays_100 ?_
        refine tj_iload C 6 rfl dX0_plays_103 ?_
        refine tj_iald C 1968 6 rfl (ln_1968 hw hX) _ rfl hf.1 dX0_plays_105 ?_
        replace hf := hf.2
        refine tj_bipush C kb_99 dX0_plays_106 ?_
        refine tj_icmp_ne C 114 (by decide) dX0_plays_108 (fun hc => ?_) (fun hc => ?_)
        · replace hf := hf.2 hc
          exact w_X_plays_b114 C hw hR r hX hρ hκ31 hκ65 hf
        · replace hf := hf.1 hc
          refine tj_goto C 216 (by decide) dX0_plays_111 ?_
          exact w_X_plays_b216 C hw hR r hX hρ hκ31 hκ65 hf
theorem w_X_plays_l65 {Γ : tX} {d : Nat} {N0 : Nat → Nat} {K : Int32 → tS → Prop} (C : TC Γ cX0_plays RX0 (7 + (d + 1)) (162 + (d + 1) * 29)) (hw : tWf N0) (hR : xnL Γ = 10) (r : TRi Γ N0 cX0_plays K) {a1 : Int32} {a2 : Int32} (hX : N0 1025 ≠ 0) {ρ : Int32 → Int32 → tS → (Int32 → tS → Prop) → Prop} (hρ : ∀ (a1 : Int32) (a2 : Int32) (S : tS) (K : Int32 → tS → Prop), (gN S 1025 ≠ 0) → ρ a1 a2 S K → Met (xl Γ) yX0_plays (ws_ yX0_plays cX0_plays 10 (some .int)) (tRm (7 + d) (162 + d * 29)) (va_Pc [.ref (xad Γ 1025), .int a1, .int a2] (tPre (xG Γ) (xad Γ) (xA Γ) S)) (va_Qi K (tB (xG Γ) (xad Γ) (xA Γ) (gN S)) (xA Γ)) 0 0 (xA Γ)) {κ31 : Int32 → Int32 → Int32 → Int32 → tS → Prop} (hκ31 : ∀ (a3 : Int32) (a4 : Int32) (a5 : Int32) (a6 : Int32) (S : tS), κ31 a3 a4 a5 a6 S → TJ Γ N0 0 0 31 [(0, .ref (xad Γ 1025)), (1, .int a1), (2, .int a2), (3, .int a3), (4, .int a4), (5, .int a5), (6, .int a6)] [] S) : ∀ (n : Nat) (a3 : Int32) (a4 : Int32) (a5 : Int32) (a6 : Int32) (a7 : Int32) (a8 : Int32) (S : tS), X_plays_l65 a1 a2 ρ K κ31 n a3 a4 a5 a6 a7 a8 S → TJ Γ N0 0 0 65 [(0, .ref (xad Γ 1025)), (1, .int a1), (2, .int a2), (3, .int a3), (4, .int a4), (5, .int a5), (6, .int a6), (7, .int a7), (8, .int a8)] [] S := by
  intro n
  induction n with
  | zero => intro a3 a4 a5 a6 a7 a8 S hf; exact hf.elim
  | succ n ih =>
    intro a3 a4 a5 a6 a7 a8 S hf
    unfold X_plays_l65 at hf
    refine tj_iload C 8 rfl dX0_plays_65 ?_
    refine tj_iload C 7 rfl dX0_plays_67 ?_
    refine tj_if_eq C 76 (by decide) dX0_plays_69 (fun hc => ?_) (fun hc => ?_)
    · replace hf := hf.1 hc
      refine tj_aload_n C 0 rfl rfl dX0_plays_76 ?_
      refine gf_X0_66 C hX dX0_plays_77 ?_
      refine gf_X0_172 C rfl (ne0 (ln_1766 hw hX)) dX0_plays_80 ?_
      exact w_X_plays_b83 C hw hR r hX hρ hκ31 ih hf
    · replace hf := hf.2 hc
      refine tj_iconst C kc_0 dX0_plays_72 ?_
      refine tj_goto C 83 (by decide) dX0_plays_73 ?_
      exact w_X_plays_b83 C hw hR r hX hρ hκ31 ih hf
theorem w_X_plays_b60 {Γ : tX} {d : Nat} {N0 : Nat → Nat} {K : Int32 → tS → Prop} (C : TC Γ cX0_plays RX0 (7 + (d + 1)) (162 + (d + 1) * 29)) (hw : tWf N0) (hR : xnL Γ = 10) (r : TRi Γ N0 cX0_plays K) {a1 : Int32} {a2 : Int32} (hX : N0 1025 ≠ 0) {ρ : Int32 → Int32 → tS → (Int32 → tS → Prop) → Prop} (hρ : ∀ (a1 : Int32) (a2 : Int32) (S : tS) (K : Int32 → tS → Prop), (gN S 1025 ≠ 0) → ρ a1 a2 S K → Met (xl Γ) yX0_plays (ws_ yX0_plays cX0_plays 10 (some .int)) (tRm (7 + d) (162 + d * 29)) (va_Pc [.ref (xad Γ 1025), .int a1, .int a2] (tPre (xG Γ) (xad Γ) (xA Γ) S)) (va_Qi K (tB (xG Γ) (xad Γ) (xA Γ) (gN S)) (xA Γ)) 0 0 (xA Γ)) {κ31 : Int32 → Int32 → Int32 → Int32 → tS → Prop} (hκ31 : ∀ (a3 : Int32) (a4 : Int32) (a5 : Int32) (a6 : Int32) (S : tS), κ31 a3 a4 a5 a6 S → TJ Γ N0 0 0 31 [(0, .ref (xad Γ 1025)), (1, .int a1), (2, .int a2), (3, .int a3), (4, .int a4), (5, .int a5), (6, .int a6)] [] S) {a3 : Int32} {a4 : Int32} {a5 : Int32} {a6 : Int32} {s0 : Int32} {S : tS} (hf : X_plays_b60 a1 a2 ρ K κ31 a3 a4 a5 a6 s0 S) : TJ Γ N0 0 0 60 [(0, .ref (xad Γ 1025)), (1, .int a1), (2, .int a2), (3, .int a3), (4, .int a4), (5, .int a5), (6, .int a6)] [.int s0] S := by
  unfold X_plays_b60 at hf
  refine tj_istore C (by rw [hR]; decide) [(7, .int s0), (0, .ref (xad Γ 1025)), (1, .int a1), (2, .int a2), (3, .int a3), (4, .int a4), (5, .int a5), (6, .int a6)] rfl dX0_plays_60 ?_
  refine tj_iconst C kc_0 dX0_plays_62 ?_
  refine tj_istore C (by rw [hR]; decide) [(8, .int (nI 0)), (7, .int s0), (0, .ref (xad Γ 1025)), (1, .int a1), (2, .int a2), (3, .int a3), (4, .int a4), (5, .int a5), (6, .int a6)] rfl dX0_plays_63 ?_
  exact tj_sub [2, 3, 4, 5, 6, 7, 8, 1, 0] (hf.elim fun k hf => w_X_plays_l65 C hw hR r hX hρ hκ31 k _ _ _ _ _ _ _ hf) rfl
theorem w_X_plays_l31 {Γ : tX} {d : Nat} {N0 : Nat → Nat} {K : Int32 → tS → Prop} (C : TC Γ cX0_plays RX0 (7 + (d + 1)) (162 + (d + 1) * 29)) (hw : tWf N0) (hR : xnL Γ = 10) (r : TRi Γ N0 cX0_plays K) {a1 : Int32} {a2 : Int32} (hX : N0 1025 ≠ 0) {ρ : Int32 → Int32 → tS → (Int32 → tS → Prop) → Prop} (hρ : ∀ (a1 : Int32) (a2 : Int32) (S : tS) (K : Int32 → tS → Prop), (gN S 1025 ≠ 0) → ρ a1 a2 S K → Met (xl Γ) yX0_plays (ws_ yX0_plays cX0_plays 10 (some .int)) (tRm (7 + d) (162 + d * 29)) (va_Pc [.ref (xad Γ 1025), .int a1, .int a2] (tPre (xG Γ) (xad Γ) (xA Γ) S)) (va_Qi K (tB (xG Γ) (xad Γ) (xA Γ) (gN S)) (xA Γ)) 0 0 (xA Γ)) : ∀ (n : Nat) (a3 : Int32) (a4 : Int32) (a5 : Int32) (a6 : Int32) (S : tS), X_plays_l31 a1 a2 ρ K n a3 a4 a5 a6 S → TJ Γ N0 0 0 31 [(0, .ref (xad Γ 1025)), (1, .int a1), (2, .int a2), (3, .int a3), (4, .int a4), (5, .int a5), (6, .int a6)] [] S := by
  intro n
  induction n with
  | zero => intro a3 a4 a5 a6 S hf; exact hf.elim
  | succ n ih =>
    intro a3 a4 a5 a6 S hf
    unfold X_plays_l31 at hf
    refine tj_iload C 6 rfl dX0_plays_31 ?_
    refine tj_aload_n C 0 rfl rfl dX0_plays_33 ?_
    refine gf_X0_66 C hX dX0_plays_34 ?_
    refine gf_X0_185 C rfl (ne0 (ln_1766 hw hX)) dX0_plays_37 ?_
    refine tj_icmp_gt C 228 (by decide) dX0_plays_40 (fun hc => ?_) (fun hc => ?_)
    · replace hf := hf.1 hc
      refine tj_iload C 4 rfl dX0_plays_228 ?_
      exact r _ _ _ _ dX0_plays_230 hf
    · replace hf := hf.2 hc
      refine tj_iload C 6 rfl dX0_plays_43 ?_
      refine tj_aload_n C 0 rfl rfl dX0_plays_45 ?_
      refine gf_X0_66 C hX dX0_plays_46 ?_
      refine gf_X0_185 C rfl (ne0 (ln_1766 hw hX)) dX0_plays_49 ?_
      refine tj_icmp_ne C 59 (by decide) dX0_plays_52 (fun hc => ?_) (fun hc => ?_)
      · replace hf := hf.2 hc
        refine tj_iconst C kc_0 dX0_plays_59 ?_
        exact w_X_plays_b60 C hw hR r hX hρ ih hf
      · replace hf := hf.1 hc
        refine tj_iconst C kc_1 dX0_plays_55 ?_
        refine tj_goto C 60 (by decide) dX0_plays_56 ?_
        exact w_X_plays_b60 C hw hR r hX hρ ih hf
theorem w_X_plays_b21 {Γ : tX} {d : Nat} {N0 : Nat → Nat} {K : Int32 → tS → Prop} (C : TC Γ cX0_plays RX0 (7 + (d + 1)) (162 + (d + 1) * 29)) (hw : tWf N0) (hR : xnL Γ = 10) (r : TRi Γ N0 cX0_plays K) {a1 : Int32} {a2 : Int32} (hX : N0 1025 ≠ 0) {ρ : Int32 → Int32 → tS → (Int32 → tS → Prop) → Prop} (hρ : ∀ (a1 : Int32) (a2 : Int32) (S : tS) (K : Int32 → tS → Prop), (gN S 1025 ≠ 0) → ρ a1 a2 S K → Met (xl Γ) yX0_plays (ws_ yX0_plays cX0_plays 10 (some .int)) (tRm (7 + d) (162 + d * 29)) (va_Pc [.ref (xad Γ 1025), .int a1, .int a2] (tPre (xG Γ) (xad Γ) (xA Γ) S)) (va_Qi K (tB (xG Γ) (xad Γ) (xA Γ) (gN S)) (xA Γ)) 0 0 (xA Γ)) {s0 : Int32} {S : tS} (hf : X_plays_b21 a1 a2 ρ K s0 S) : TJ Γ N0 0 0 21 [(0, .ref (xad Γ 1025)), (1, .int a1), (2, .int a2)] [.int s0] S := by
  unfold X_plays_b21 at hf
  refine tj_istore_n C (by rw [hR]; decide) [(3, .int s0), (0, .ref (xad Γ 1025)), (1, .int a1), (2, .int a2)] rfl rfl dX0_plays_21 ?_
  refine tj_iconst C kc_0 dX0_plays_22 ?_
  refine tj_istore C (by rw [hR]; decide) [(4, .int (nI 0)), (3, .int s0), (0, .ref (xad Γ 1025)), (1, .int a1), (2, .int a2)] rfl dX0_plays_23 ?_
  refine tj_iconst C kc_0 dX0_plays_25 ?_
  refine tj_istore C (by rw [hR]; decide) [(5, .int (nI 0)), (4, .int (nI 0)), (3, .int s0), (0, .ref (xad Γ 1025)), (1, .int a1), (2, .int a2)] rfl dX0_plays_26 ?_
  refine tj_iconst C kc_0 dX0_plays_28 ?_
  refine tj_istore C (by rw [hR]; decide) [(6, .int (nI 0)), (5, .int (nI 0)), (4, .int (nI 0)), (3, .int s0), (0, .ref (xad Γ 1025)), (1, .int a1), (2, .int a2)] rfl dX0_plays_29 ?_
  exact tj_sub [4, 5, 6, 3, 2, 1, 0] (hf.elim fun k hf => w_X_plays_l31 C hw hR r hX hρ k _ _ _ _ _ hf) rfl
theorem w_X_plays_b0 {Γ : tX} {d : Nat} {N0 : Nat → Nat} {K : Int32 → tS → Prop} (C : TC Γ cX0_plays RX0 (7 + (d + 1)) (162 + (d + 1) * 29)) (hw : tWf N0) (hR : xnL Γ = 10) (r : TRi Γ N0 cX0_plays K) {a1 : Int32} {a2 : Int32} (hX : N0 1025 ≠ 0) (hρ : ∀ (a1 : Int32) (a2 : Int32) (S : tS) (K : Int32 → tS → Prop), (gN S 1025 ≠ 0) → X_plays d a1 a2 S K → Met (xl Γ) yX0_plays (ws_ yX0_plays cX0_plays 10 (some .int)) (tRm (7 + d) (162 + d * 29)) (va_Pc [.ref (xad Γ 1025), .int a1, .int a2] (tPre (xG Γ) (xad Γ) (xA Γ) S)) (va_Qi K (tB (xG Γ) (xad Γ) (xA Γ) (gN S)) (xA Γ)) 0 0 (xA Γ)) {S : tS} (hf : X_plays (d + 1) a1 a2 S K) : TJ Γ N0 0 0 0 [(0, .ref (xad Γ 1025)), (1, .int a1), (2, .int a2)] [] S := by
  unfold X_plays at hf
  refine tj_iload_n C 1 rfl rfl dX0_plays_0 ?_
  refine tj_iload_n C 2 rfl rfl dX0_plays_1 ?_
  refine tj_icmp_ne C 10 (by decide) dX0_plays_2 (fun hc => ?_) (fun hc => ?_)
  · replace hf := hf.2 hc
    refine tj_iload_n C 1 rfl rfl dX0_plays_10 ?_
    refine tj_iconst C kc_2 dX0_plays_11 ?_
    refine tj_irem C hf.1 dX0_plays_12 ?_
    replace hf := hf.2
    refine tj_if_ne C 20 (by decide) dX0_plays_13 (fun hc => ?_) (fun hc => ?_)
    · replace hf := hf.2 hc
      refine tj_iconst C kc_0 dX0_plays_20 ?_
      exact w_X_plays_b21 C hw hR r hX hρ hf
    · replace hf := hf.1 hc
      refine tj_iconst C kc_1 dX0_plays_16 ?_
      refine tj_goto C 21 (by decide) dX0_plays_17 ?_
      exact w_X_plays_b21 C hw hR r hX hρ hf
  · replace hf := hf.1 hc
    refine tj_aload_n C 0 rfl rfl dX0_plays_5 ?_
    refine tj_callVi C (k := 1) [] [] (fun hN => c_X_score (by rw [hN]; exact hX) hf) lk_X0_480 ty_X0_score rfl (by omega) (by omega) (Nat.le_of_ble_eq_true rfl) hX rfl (by decide) rfl rfl dX0_plays_6 (fun r2 S1 hf => ?_)
    exact r _ _ _ _ dX0_plays_9 hf
theorem c_X_plays {l : Launch} {G : tG} {ad : Nat → Nat} {A : Nat → Prop} : ∀ (d : Nat) (a1 : Int32) (a2 : Int32) (S : tS) (K : Int32 → tS → Prop), (gN S 1025 ≠ 0) → X_plays d a1 a2 S K → Met l yX0_plays (ws_ yX0_plays cX0_plays 10 (some .int)) (tRm (7 + d) (162 + d * 29)) (va_Pc [.ref (ad 1025), .int a1, .int a2] (tPre G ad A S)) (va_Qi K (tB G ad A (gN S)) A) 0 0 A := by
  intro d
  induction d with
  | zero => intro a1 a2 S K hX hf; exact hf.elim
  | succ d ih =>
    intro a1 a2 S K hX hf
    exact tj_met_i [(0, .ref (ad 1025)), (1, .int a1), (2, .int a2)] pn_X0 rfl (Nat.le_of_ble_eq_true rfl) (fun p e R s m args below meth c Q C hw r => w_X_plays_b0 C hw rfl r hX ih hf)
