set_option maxRecDepth 100000
theorem w_X_repeal_b14 {Γ : tX} {N0 : Nat → Nat} {K : Int32 → tS → Prop} (C : TC Γ cX0_repeal RX0 2 60) (hw : tWf N0) (hR : xnL Γ = 2) (r : TRi Γ N0 cX0_repeal K) {a1 : Int32} (hX : N0 1025 ≠ 0) {s1 : Int32} {S : tS} (hf : X_repeal_b14 a1 K s1 S) : TJ Γ N0 0 0 14 [(0, .ref (xad Γ 1025)), (1, .int a1)] [.int s1, .ref (xad Γ 1025)] S := by
  unfold X_repeal_b14 at hf
  refine pf_X0_91 C hX dX0_repeal_14 ?_
  refine tj_topS (fun S3 eS => ?_)
  replace hf := hf S3 eS
  refine tj_aload_n C 0 rfl rfl dX0_repeal_17 ?_
  refine gf_X0_91 C hX dX0_repeal_18 ?_
  refine tj_if_le C 26 (by decide) dX0_repeal_21 (fun hc => ?_) (fun hc => ?_)
  · replace hf := hf.1 hc
    refine tj_aload_n C 0 rfl rfl dX0_repeal_26 ?_
    refine tj_callVa C (k := 1) [] [] (fun hN => c_X_at (by rw [hN]; exact hX) hf) lk_X0_168 ty_X0_at rfl (Nat.le_of_ble_eq_true rfl) (Nat.le_of_ble_eq_true rfl) (Nat.le_of_ble_eq_true rfl) hX rfl (by decide) rfl rfl dX0_repeal_27 (fun S4 hf => ?_)
    refine tj_dup C rfl dX0_repeal_30 ?_
    refine gf_X0_182 C rfl (ne0 (ln_1222 hw hX)) dX0_repeal_31 ?_
    refine tj_iconst C kc_1 dX0_repeal_34 ?_
    refine tj_isub C dX0_repeal_35 ?_
    refine pf_X0_182 C rfl (ne0 (ln_1222 hw hX)) dX0_repeal_36 ?_
    refine tj_topS (fun S5 eS => ?_)
    replace hf := hf S5 eS
    refine tj_aload_n C 0 rfl rfl dX0_repeal_39 ?_
    refine tj_callVa C (k := 1) [] [] (fun hN => c_X_at (by rw [hN]; exact hX) hf) lk_X0_168 ty_X0_at rfl (Nat.le_of_ble_eq_true rfl) (Nat.le_of_ble_eq_true rfl) (Nat.le_of_ble_eq_true rfl) hX rfl (by decide) rfl rfl dX0_repeal_40 (fun S6 hf => ?_)
    refine gf_X0_274 C rfl (ne0 (ln_1222 hw hX)) dX0_repeal_43 ?_
    refine tj_iload_n C 1 rfl rfl dX0_repeal_46 ?_
    refine tj_iconst C kc_1 dX0_repeal_47 ?_
    refine tj_iadd C dX0_repeal_48 ?_
    refine tj_aload_n C 0 rfl rfl dX0_repeal_49 ?_
    refine tj_callVa C (k := 1) [] [.int (a1 + (nI 1)), .ref (xad Γ 1719)] (fun hN => c_X_at (by rw [hN]; exact hX) hf) lk_X0_168 ty_X0_at rfl (Nat.le_of_ble_eq_true rfl) (Nat.le_of_ble_eq_true rfl) (Nat.le_of_ble_eq_true rfl) hX rfl (by decide) rfl rfl dX0_repeal_50 (fun S7 hf => ?_)
    refine gf_X0_274 C rfl (ne0 (ln_1222 hw hX)) dX0_repeal_53 ?_
    refine tj_iload_n C 1 rfl rfl dX0_repeal_56 ?_
    refine tj_aload_n C 0 rfl rfl dX0_repeal_57 ?_
    refine tj_callVa C (k := 1) [] [.int a1, .ref (xad Γ 1719), .int (a1 + (nI 1)), .ref (xad Γ 1719)] (fun hN => c_X_at (by rw [hN]; exact hX) hf) lk_X0_168 ty_X0_at rfl (Nat.le_of_ble_eq_true rfl) (Nat.le_of_ble_eq_true rfl) (Nat.le_of_ble_eq_true rfl) hX rfl (by decide) rfl rfl dX0_repeal_58 (fun S8 hf => ?_)
    refine gf_X0_182 C rfl (ne0 (ln_1222 hw hX)) dX0_repeal_61 ?_
    refine tj_iload_n C 1 rfl rfl dX0_repeal_64 ?_
    refine tj_isub C dX0_repeal_65 ?_
    refine tj_hN (fun hN => tj_copy23 C 1719 1719 8 8 rfl rfl (by rw [hN]; exact (ln_1719 hw hX)) (by rw [hN]; exact (ln_1719 hw hX)) q649 hf.1 (Nat.le_of_ble_eq_true rfl) (Nat.le_of_ble_eq_true rfl) (Nat.le_of_ble_eq_true rfl) dX0_repeal_66 ?_)
    replace hf := hf.2
    refine tj_topS (fun S9 eS => ?_)
    replace hf := hf S9 eS
    refine tj_aload_n C 0 rfl rfl dX0_repeal_69 ?_
    refine tj_callVa C (k := 1) [] [] (fun hN => c_X_at (by rw [hN]; exact hX) hf) lk_X0_168 ty_X0_at rfl (Nat.le_of_ble_eq_true rfl) (Nat.le_of_ble_eq_true rfl) (Nat.le_of_ble_eq_true rfl) hX rfl (by decide) rfl rfl dX0_repeal_70 (fun S10 hf => ?_)
    refine gf_X0_182 C rfl (ne0 (ln_1222 hw hX)) dX0_repeal_73 ?_
    exact r _ _ _ _ dX0_repeal_76 hf
  · replace hf := hf.2 hc
    refine tj_iconst C kc_m1 dX0_repeal_24 ?_
    exact r _ _ _ _ dX0_repeal_25 hf
theorem w_X_repeal_b0 {Γ : tX} {N0 : Nat → Nat} {K : Int32 → tS → Prop} (C : TC Γ cX0_repeal RX0 2 60) (hw : tWf N0) (hR : xnL Γ = 2) (r : TRi Γ N0 cX0_repeal K) {a1 : Int32} (hX : N0 1025 ≠ 0) {S : tS} (hf : X_repeal a1 S K) : TJ Γ N0 0 0 0 [(0, .ref (xad Γ 1025)), (1, .int a1)] [] S := by
  unfold X_repeal at hf
  refine tj_aload_n C 0 rfl rfl dX0_repeal_0 ?_
  refine tj_aload_n C 0 rfl rfl dX0_repeal_1 ?_
  refine tj_iload_n C 1 rfl rfl dX0_repeal_2 ?_
  refine tj_callVz C (k := 1) [.int a1] [.ref (xad Γ 1025)] (fun hN => c_X_isRule (by rw [hN]; exact hX) hf) lk_X0_269 ty_X0_isRule rfl (Nat.le_of_ble_eq_true rfl) (Nat.le_of_ble_eq_true rfl) (Nat.le_of_ble_eq_true rfl) hX rfl (by decide) rfl rfl dX0_repeal_3 (fun r2 S1 hf => ?_)
  have hz_r2 := hf.1
  replace hf := hf.2
  refine tj_if_eq C 13 (by decide) dX0_repeal_6 (fun hc => ?_) (fun hc => ?_)
  · replace hf := hf.1 hc
    refine tj_iconst C kc_1 dX0_repeal_13 ?_
    exact w_X_repeal_b14 C hw hR r hX hf
  · replace hf := hf.2 hc
    refine tj_iconst C kc_0 dX0_repeal_9 ?_
    refine tj_goto C 14 (by decide) dX0_repeal_10 ?_
    exact w_X_repeal_b14 C hw hR r hX hf
theorem c_X_repeal {l : Launch} {G : tG} {ad : Nat → Nat} {A : Nat → Prop} {S : tS} {K : Int32 → tS → Prop} {a1 : Int32} (hX : gN S 1025 ≠ 0) (hf : X_repeal a1 S K) : Met l yX0_repeal (ws_ yX0_repeal cX0_repeal 2 (some .int)) (tRm 2 60) (va_Pc [.ref (ad 1025), .int a1] (tPre G ad A S)) (va_Qi K (tB G ad A (gN S)) A) 0 0 A :=
  tj_met_i [(0, .ref (ad 1025)), (1, .int a1)] pn_X0 rfl (Nat.le_of_ble_eq_true rfl) (fun p e R s m args below meth c Q C hw r => w_X_repeal_b0 C hw rfl r hX hf)
theorem w_X_reread_b46 {Γ : tX} {N0 : Nat → Nat} {K : Int32 → tS → Prop} (C : TC Γ cX0_reread RX0 2 46) (hw : tWf N0) (hR : xnL Γ = 3) (r : TRz Γ N0 cX0_reread K) {a1 : Int32} {a2 : Int32} (hX : N0 1025 ≠ 0) {S : tS} (hf : X_reread_b46 a1 a2 K  S) : TJ Γ N0 0 0 46 [(0, .ref (xad Γ 1025))] [] S := by
  unfold X_reread_b46 at hf
  refine tj_aload_n C 0 rfl rfl dX0_reread_46 ?_
  refine gf_X0_91 C hX dX0_reread_47 ?_
  refine tj_if_ne C 57 (by decide) dX0_reread_50 (fun hc => ?_) (fun hc => ?_)
  · replace hf := hf.2 hc
    refine tj_iconst C kc_0 dX0_reread_57 ?_
    exact r _ _ _ _ dX0_reread_58 zb0 hf
  · replace hf := hf.1 hc
    refine tj_iconst C kc_1 dX0_reread_53 ?_
    refine tj_goto C 58 (by decide) dX0_reread_54 ?_
    exact r _ _ _ _ dX0_reread_58 zb1 hf
theorem w_X_reread_b26 {Γ : tX} {N0 : Nat → Nat} {K : Int32 → tS → Prop} (C : TC Γ cX0_reread RX0 2 46) (hw : tWf N0) (hR : xnL Γ = 3) (r : TRz Γ N0 cX0_reread K) {a1 : Int32} {a2 : Int32} (hX : N0 1025 ≠ 0) {s1 : Int32} {S : tS} (hf : X_reread_b26 a1 a2 K s1 S) : TJ Γ N0 0 0 26 [(0, .ref (xad Γ 1025)), (1, .int a1), (2, .int a2)] [.int s1, .ref (xad Γ 1025)] S := by
  unfold X_reread_b26 at hf
  refine pf_X0_91 C hX dX0_reread_26 ?_
  refine tj_topS (fun S5 eS => ?_)
  replace hf := hf S5 eS
  refine tj_aload_n C 0 rfl rfl dX0_reread_29 ?_
  refine gf_X0_91 C hX dX0_reread_30 ?_
  refine tj_if_ne C 46 (by decide) dX0_reread_33 (fun hc => ?_) (fun hc => ?_)
  · replace hf := hf.2 hc
    exact tj_sub [0] (w_X_reread_b46 C hw hR r hX hf) rfl
  · replace hf := hf.1 hc
    refine tj_aload_n C 0 rfl rfl dX0_reread_36 ?_
    refine tj_callVa C (k := 1) [] [] (fun hN => c_X_at (by rw [hN]; exact hX) hf) lk_X0_168 ty_X0_at rfl (Nat.le_of_ble_eq_true rfl) (Nat.le_of_ble_eq_true rfl) (Nat.le_of_ble_eq_true rfl) hX rfl (by decide) rfl rfl dX0_reread_37 (fun S6 hf => ?_)
    refine gf_X0_266 C rfl (ne0 (ln_1222 hw hX)) dX0_reread_40 ?_
    refine tj_iload_n C 1 rfl rfl dX0_reread_43 ?_
    refine tj_iload_n C 2 rfl rfl dX0_reread_44 ?_
    refine tj_iast C 1392 6 rfl (ln_1392 hw hX) _ rfl hf.1 dX0_reread_45 ?_
    replace hf := hf.2
    refine tj_topS (fun S7 eS => ?_)
    replace hf := hf S7 eS
    exact tj_sub [0] (w_X_reread_b46 C hw hR r hX hf) rfl
theorem w_X_reread_b25 {Γ : tX} {N0 : Nat → Nat} {K : Int32 → tS → Prop} (C : TC Γ cX0_reread RX0 2 46) (hw : tWf N0) (hR : xnL Γ = 3) (r : TRz Γ N0 cX0_reread K) {a1 : Int32} {a2 : Int32} (hX : N0 1025 ≠ 0) {S : tS} (hf : X_reread_b25 a1 a2 K  S) : TJ Γ N0 0 0 25 [(0, .ref (xad Γ 1025)), (1, .int a1), (2, .int a2)] [.ref (xad Γ 1025)] S := by
  unfold X_reread_b25 at hf
  refine tj_iconst C kc_1 dX0_reread_25 ?_
  exact w_X_reread_b26 C hw hR r hX hf
theorem w_X_reread_b0 {Γ : tX} {N0 : Nat → Nat} {K : Int32 → tS → Prop} (C : TC Γ cX0_reread RX0 2 46) (hw : tWf N0) (hR : xnL Γ = 3) (r : TRz Γ N0 cX0_reread K) {a1 : Int32} {a2 : Int32} (hX : N0 1025 ≠ 0) {S : tS} (hf : X_reread a1 a2 S K) : TJ Γ N0 0 0 0 [(0, .ref (xad Γ 1025)), (1, .int a1), (2, .int a2)] [] S := by
  unfold X_reread at hf
  refine tj_aload_n C 0 rfl rfl dX0_reread_0 ?_
  refine tj_aload_n C 0 rfl rfl dX0_reread_1 ?_
  refine tj_iload_n C 1 rfl rfl dX0_reread_2 ?_
  refine tj_callVz C (k := 1) [.int a1] [.ref (xad Γ 1025)] (fun hN => c_X_isCue (by rw [hN]; exact hX) hf) lk_X0_262 ty_X0_isCue rfl (Nat.le_of_ble_eq_true rfl) (Nat.le_of_ble_eq_true rfl) (Nat.le_of_ble_eq_true rfl) hX rfl (by decide) rfl rfl dX0_reread_3 (fun r2 S1 hf => ?_)
  have hz_r2 := hf.1
  replace hf := hf.2
  refine tj_if_eq C 25 (by decide) dX0_reread_6 (fun hc => ?_) (fun hc => ?_)
  · replace hf := hf.1 hc
    exact w_X_reread_b25 C hw hR r hX hf
  · replace hf := hf.2 hc
    refine tj_iload_n C 2 rfl rfl dX0_reread_9 ?_
    refine tj_i2l C dX0_reread_10 ?_
    refine tj_lconst C (v := lN 0) rfl dX0_reread_11 ?_
    refine tj_ldc2 C kl_X0_357 dX0_reread_12 ?_
    refine tj_callSz C [.long (a2.toInt64), .long (lN 0), .long (lN 2)] [.ref (xad Γ 1025)] (fun hN => c_X_isIn hf) lk_X0_175 ty_X0_isIn rfl (Nat.le_of_ble_eq_true rfl) (Nat.le_of_ble_eq_true rfl) (Nat.le_of_ble_eq_true rfl) rfl dX0_reread_15 (fun r4 S3 hf => ?_)
    have hz_r4 := hf.1
    replace hf := hf.2
    refine tj_if_eq C 25 (by decide) dX0_reread_18 (fun hc => ?_) (fun hc => ?_)
    · replace hf := hf.1 hc
      exact w_X_reread_b25 C hw hR r hX hf
    · replace hf := hf.2 hc
      refine tj_iconst C kc_0 dX0_reread_21 ?_
      refine tj_goto C 26 (by decide) dX0_reread_22 ?_
      exact w_X_reread_b26 C hw hR r hX hf
theorem c_X_reread {l : Launch} {G : tG} {ad : Nat → Nat} {A : Nat → Prop} {S : tS} {K : Int32 → tS → Prop} {a1 : Int32} {a2 : Int32} (hX : gN S 1025 ≠ 0) (hf : X_reread a1 a2 S K) : Met l yX0_reread (ws_ yX0_reread cX0_reread 3 (some .boolean)) (tRm 2 46) (va_Pc [.ref (ad 1025), .int a1, .int a2] (tPre G ad A S)) (va_Qi (fun r u => r &&& 1 = r ∧ K r u) (tB G ad A (gN S)) A) 0 0 A :=
  tj_met_z [(0, .ref (ad 1025)), (1, .int a1), (2, .int a2)] pn_X0 rfl (Nat.le_of_ble_eq_true rfl) (fun p e R s m args below meth c Q C hw r => w_X_reread_b0 C hw rfl r hX hf)
theorem w_X_rule_b126 {Γ : tX} {N0 : Nat → Nat} {K : Int32 → tS → Prop} (C : TC Γ cX0_rule RX0 2 46) (hw : tWf N0) (hR : xnL Γ = 4) (r : TRi Γ N0 cX0_rule K) {a1 : Int32} {a2 : Int32} (hX : N0 1025 ≠ 0) {s1 : Int32} {S : tS} (hf : X_rule_b126 a1 a2 K s1 S) : TJ Γ N0 0 0 126 [] [.int s1, .ref (xad Γ 1025)] S := by
  unfold X_rule_b126 at hf
  refine tj_callVi C (k := 1) [.int s1] [] (fun hN => c_X_answer (by rw [hN]; exact hX) hf) lk_X0_292 ty_X0_answer rfl (Nat.le_of_ble_eq_true rfl) (Nat.le_of_ble_eq_true rfl) (Nat.le_of_ble_eq_true rfl) hX rfl (by decide) rfl rfl dX0_rule_126 (fun r13 S12 hf => ?_)
  exact r _ _ _ _ dX0_rule_129 hf
theorem w_X_rule_b106 {Γ : tX} {N0 : Nat → Nat} {K : Int32 → tS → Prop} (C : TC Γ cX0_rule RX0 2 46) (hw : tWf N0) (hR : xnL Γ = 4) (r : TRi Γ N0 cX0_rule K) {a1 : Int32} {a2 : Int32} (hX : N0 1025 ≠ 0) {s1 : Int32} {S : tS} (hf : X_rule_b106 a1 a2 K s1 S) : TJ Γ N0 0 0 106 [] [.int s1, .ref (xad Γ 1025)] S := by
  unfold X_rule_b106 at hf
  refine tj_callVi C (k := 1) [.int s1] [] (fun hN => c_X_answer (by rw [hN]; exact hX) hf) lk_X0_292 ty_X0_answer rfl (Nat.le_of_ble_eq_true rfl) (Nat.le_of_ble_eq_true rfl) (Nat.le_of_ble_eq_true rfl) hX rfl (by decide) rfl rfl dX0_rule_106 (fun r11 S10 hf => ?_)
  exact r _ _ _ _ dX0_rule_109 hf
theorem w_X_rule_b26 {Γ : tX} {N0 : Nat → Nat} {K : Int32 → tS → Prop} (C : TC Γ cX0_rule RX0 2 46) (hw : tWf N0) (hR : xnL Γ = 4) (r : TRi Γ N0 cX0_rule K) {a1 : Int32} {a2 : Int32} (hX : N0 1025 ≠ 0) {s1 : Int32} {S : tS} (hf : X_rule_b26 a1 a2 K s1 S) : TJ Γ N0 0 0 26 [(0, .ref (xad Γ 1025)), (1, .int a1), (2, .int a2)] [.int s1, .ref (xad Γ 1025)] S := by
  unfold X_rule_b26 at hf
  refine pf_X0_91 C hX dX0_rule_26 ?_
  refine tj_topS (fun S5 eS => ?_)
  replace hf := hf S5 eS
  refine tj_aload_n C 0 rfl rfl dX0_rule_29 ?_
  refine gf_X0_91 C hX dX0_rule_30 ?_
  refine tj_if_le C 38 (by decide) dX0_rule_33 (fun hc => ?_) (fun hc => ?_)
  · replace hf := hf.1 hc
    refine tj_aload_n C 0 rfl rfl dX0_rule_38 ?_
    refine tj_callVa C (k := 1) [] [] (fun hN => c_X_at (by rw [hN]; exact hX) hf) lk_X0_168 ty_X0_at rfl (Nat.le_of_ble_eq_true rfl) (Nat.le_of_ble_eq_true rfl) (Nat.le_of_ble_eq_true rfl) hX rfl (by decide) rfl rfl dX0_rule_39 (fun S6 hf => ?_)
    refine gf_X0_274 C rfl (ne0 (ln_1222 hw hX)) dX0_rule_42 ?_
    refine tj_iload_n C 1 rfl rfl dX0_rule_45 ?_
    refine tj_aald23 C 1719 8 rfl (ln_1719 hw hX) _ rfl hf.1 dX0_rule_46 ?_
    replace hf := hf.2
    refine tj_hN (fun hN => ?_)
    obtain ⟨t7, he, h_t7, hf⟩ := hf
    rw [hN] at h_t7
    refine tj_some he ?_
    refine tj_astore_n C (by rw [hR]; decide) [(3, .ref (xad Γ t7)), (0, .ref (xad Γ 1025)), (1, .int a1), (2, .int a2)] rfl rfl dX0_rule_47 ?_
    refine tj_iload_n C 3 rfl rfl dX0_rule_48 ?_
    by_cases h0 : a2 = nI 0
    · replace hf := hf.1 h0
      refine tj_tswIn C 0 (off := 31) 80 (by decide) h0 (by decide) (by decide) (by decide) (by decide) dX0_rule_49 ?_
      refine tj_aload_n C 0 rfl rfl dX0_rule_80 ?_
      refine gf_X0_278 C h_t7.2 h_t7.1 dX0_rule_81 ?_
      exact r _ _ _ _ dX0_rule_84 hf
    · replace hf := hf.2 h0
      by_cases h1 : a2 = nI 1
      · replace hf := hf.1 h1
        refine tj_tswIn C 1 (off := 36) 85 (by decide) h1 (by decide) (by decide) (by decide) (by decide) dX0_rule_49 ?_
        refine tj_aload_n C 0 rfl rfl dX0_rule_85 ?_
        refine gf_X0_283 C h_t7.2 h_t7.1 dX0_rule_86 ?_
        exact r _ _ _ _ dX0_rule_89 hf
      · replace hf := hf.2 h1
        by_cases h2 : a2 = nI 2
        · replace hf := hf.1 h2
          refine tj_tswIn C 2 (off := 41) 90 (by decide) h2 (by decide) (by decide) (by decide) (by decide) dX0_rule_49 ?_
          refine tj_aload_n C 1 rfl rfl dX0_rule_90 ?_
          refine tj_aload_n C 0 rfl rfl dX0_rule_91 ?_
          refine gf_X0_286 C h_t7.2 h_t7.1 dX0_rule_92 ?_
          refine tj_if_ne C 102 (by decide) dX0_rule_95 (fun hc => ?_) (fun hc => ?_)
          · replace hf := hf.2 hc
            refine tj_aload_n C 0 rfl rfl dX0_rule_102 ?_
            refine gf_X0_289 C h_t7.2 h_t7.1 dX0_rule_103 ?_
            exact tj_sub [] (w_X_rule_b106 C hw hR r hX hf) rfl
          · replace hf := hf.1 hc
            refine tj_iconst C kc_m1 dX0_rule_98 ?_
            refine tj_goto C 106 (by decide) dX0_rule_99 ?_
            exact tj_sub [] (w_X_rule_b106 C hw hR r hX hf) rfl
        · replace hf := hf.2 h2
          by_cases h3 : a2 = nI 3
          · replace hf := hf.1 h3
            refine tj_tswIn C 3 (off := 61) 110 (by decide) h3 (by decide) (by decide) (by decide) (by decide) dX0_rule_49 ?_
            refine tj_aload_n C 1 rfl rfl dX0_rule_110 ?_
            refine tj_aload_n C 0 rfl rfl dX0_rule_111 ?_
            refine gf_X0_295 C h_t7.2 h_t7.1 dX0_rule_112 ?_
            refine tj_if_ne C 122 (by decide) dX0_rule_115 (fun hc => ?_) (fun hc => ?_)
            · replace hf := hf.2 hc
              refine tj_aload_n C 0 rfl rfl dX0_rule_122 ?_
              refine gf_X0_298 C h_t7.2 h_t7.1 dX0_rule_123 ?_
              exact tj_sub [] (w_X_rule_b126 C hw hR r hX hf) rfl
            · replace hf := hf.1 hc
              refine tj_iconst C kc_m1 dX0_rule_118 ?_
              refine tj_goto C 126 (by decide) dX0_rule_119 ?_
              exact tj_sub [] (w_X_rule_b126 C hw hR r hX hf) rfl
          · replace hf := hf.2 h3
            refine tj_tswOut C 0 4 130 (by decide) (fun k hk => match k, hk with | 0, _ => h0 | 1, _ => h1 | 2, _ => h2 | 3, _ => h3 | k + 4, hk => absurd hk (by omega)) (by decide) (by decide) (by decide) dX0_rule_49 ?_
            refine tj_aload_n C 1 rfl rfl dX0_rule_130 ?_
            refine tj_aload_n C 0 rfl rfl dX0_rule_131 ?_
            refine gf_X0_301 C h_t7.2 h_t7.1 dX0_rule_132 ?_
            refine tj_callVi C (k := 1) [.int (gI S6 t7 6)] [] (fun hN => c_X_answer (by rw [hN]; exact hX) hf) lk_X0_292 ty_X0_answer rfl (Nat.le_of_ble_eq_true rfl) (Nat.le_of_ble_eq_true rfl) (Nat.le_of_ble_eq_true rfl) hX rfl (by decide) rfl rfl dX0_rule_135 (fun r9 S8 hf => ?_)
            exact r _ _ _ _ dX0_rule_138 hf
  · replace hf := hf.2 hc
    refine tj_iconst C kc_m1 dX0_rule_36 ?_
    exact r _ _ _ _ dX0_rule_37 hf
theorem w_X_rule_b25 {Γ : tX} {N0 : Nat → Nat} {K : Int32 → tS → Prop} (C : TC Γ cX0_rule RX0 2 46) (hw : tWf N0) (hR : xnL Γ = 4) (r : TRi Γ N0 cX0_rule K) {a1 : Int32} {a2 : Int32} (hX : N0 1025 ≠ 0) {S : tS} (hf : X_rule_b25 a1 a2 K  S) : TJ Γ N0 0 0 25 [(0, .ref (xad Γ 1025)), (1, .int a1), (2, .int a2)] [.ref (xad Γ 1025)] S := by
  unfold X_rule_b25 at hf
  refine tj_iconst C kc_1 dX0_rule_25 ?_
  exact w_X_rule_b26 C hw hR r hX hf
theorem w_X_rule_b0 {Γ : tX} {N0 : Nat → Nat} {K : Int32 → tS → Prop} (C : TC Γ cX0_rule RX0 2 46) (hw : tWf N0) (hR : xnL Γ = 4) (r : TRi Γ N0 cX0_rule K) {a1 : Int32} {a2 : Int32} (hX : N0 1025 ≠ 0) {S : tS} (hf : X_rule a1 a2 S K) : TJ Γ N0 0 0 0 [(0, .ref (xad Γ 1025)), (1, .int a1), (2, .int a2)] [] S := by
  unfold X_rule at hf
  refine tj_aload_n C 0 rfl rfl dX0_rule_0 ?_
  refine tj_aload_n C 0 rfl rfl dX0_rule_1 ?_
  refine tj_iload_n C 1 rfl rfl dX0_rule_2 ?_
  refine tj_callVz C (k := 1) [.int a1] [.ref (xad Γ 1025)] (fun hN => c_X_isRule (by rw [hN]; exact hX) hf) lk_X0_269 ty_X0_isRule rfl (Nat.le_of_ble_eq_true rfl) (Nat.le_of_ble_eq_true rfl) (Nat.le_of_ble_eq_true rfl) hX rfl (by decide) rfl rfl dX0_rule_3 (fun r2 S1 hf => ?_)
  have hz_r2 := hf.1
  replace hf := hf.2
  refine tj_if_eq C 25 (by decide) dX0_rule_6 (fun hc => ?_) (fun hc => ?_)
  · replace hf := hf.1 hc
    exact w_X_rule_b25 C hw hR r hX hf
  · replace hf := hf.2 hc
    refine tj_iload_n C 2 rfl rfl dX0_rule_9 ?_
    refine tj_i2l C dX0_rule_10 ?_
    refine tj_lconst C (v := lN 0) rfl dX0_rule_11 ?_
    refine tj_ldc2 C kl_X0_272 dX0_rule_12 ?_
    refine tj_callSz C [.long (a2.toInt64), .long (lN 0), .long (lN 4)] [.ref (xad Γ 1025)] (fun hN => c_X_isIn hf) lk_X0_175 ty_X0_isIn rfl (Nat.le_of_ble_eq_true rfl) (Nat.le_of_ble_eq_true rfl) (Nat.le_of_ble_eq_true rfl) rfl dX0_rule_15 (fun r4 S3 hf => ?_)
    have hz_r4 := hf.1
    replace hf := hf.2
    refine tj_if_eq C 25 (by decide) dX0_rule_18 (fun hc => ?_) (fun hc => ?_)
    · replace hf := hf.1 hc
      exact w_X_rule_b25 C hw hR r hX hf
    · replace hf := hf.2 hc
      refine tj_iconst C kc_0 dX0_rule_21 ?_
      refine tj_goto C 26 (by decide) dX0_rule_22 ?_
      exact w_X_rule_b26 C hw hR r hX hf
theorem c_X_rule {l : Launch} {G : tG} {ad : Nat → Nat} {A : Nat → Prop} {S : tS} {K : Int32 → tS → Prop} {a1 : Int32} {a2 : Int32} (hX : gN S 1025 ≠ 0) (hf : X_rule a1 a2 S K) : Met l yX0_rule (ws_ yX0_rule cX0_rule 4 (some .int)) (tRm 2 46) (va_Pc [.ref (ad 1025), .int a1, .int a2] (tPre G ad A S)) (va_Qi K (tB G ad A (gN S)) A) 0 0 A :=
  tj_met_i [(0, .ref (ad 1025)), (1, .int a1), (2, .int a2)] pn_X0 rfl (Nat.le_of_ble_eq_true rfl) (fun p e R s m args below meth c Q C hw r => w_X_rule_b0 C hw rfl r hX hf)
theorem w_X_saying_b54 {Γ : tX} {N0 : Nat → Nat} {K : Int32 → tS → Prop} (C : TC Γ cX0_saying RX0 1 20) (hw : tWf N0) (hR : xnL Γ = 5) (r : TRi Γ N0 cX0_saying K) {a1 : Int32} {a2 : Int32} (hX : N0 1025 ≠ 0) {κ5 : Int32 → Int32 → tS → Prop} (hκ5 : ∀ (a3 : Int32) (a4 : Int32) (S : tS), κ5 a3 a4 S → TJ Γ N0 0 0 5 [(0, .ref (xad Γ 1025)), (1, .int a1), (2, .int a2), (3, .int a3), (4, .int a4)] [] S) {a4 : Int32} {s0 : Int32} {s1 : Int32} {S : tS} (hf : X_saying_b54 a1 a2 K κ5 a4 s0 s1 S) : TJ Γ N0 0 0 54 [(0, .ref (xad Γ 1025)), (1, .int a1), (2, .int a2), (4, .int a4)] [.int s1, .int s0] S := by
  unfold X_saying_b54 at hf
  refine tj_ior C dX0_saying_54 ?_
  refine tj_topi (fun x4 ex => ?_)
  replace hf := hf x4 ex
  refine tj_istore_n C (by rw [hR]; decide) [(3, .int x4), (0, .ref (xad Γ 1025)), (1, .int a1), (2, .int a2), (4, .int a4)] rfl rfl dX0_saying_55 ?_
  obtain ⟨x5, ex⟩ : ∃ y : Int32, y = a4 + nI 1 := ⟨_, rfl⟩
  refine tj_iinc C (by rw [hR]; decide) 4 [(4, .int x5), (3, .int x4), (0, .ref (xad Γ 1025)), (1, .int a1), (2, .int a2)] rfl (by rw [ex]; exact ki_1 _) rfl dX0_saying_56 ?_
  replace hf := hf x5 ex
  refine tj_goto C 5 (by decide) dX0_saying_59 ?_
  exact tj_sub [2, 3, 4, 1, 0] (hκ5 _ _ _ hf) rfl
theorem w_X_saying_b53 {Γ : tX} {N0 : Nat → Nat} {K : Int32 → tS → Prop} (C : TC Γ cX0_saying RX0 1 20) (hw : tWf N0) (hR : xnL Γ = 5) (r : TRi Γ N0 cX0_saying K) {a1 : Int32} {a2 : Int32} (hX : N0 1025 ≠ 0) {κ5 : Int32 → Int32 → tS → Prop} (hκ5 : ∀ (a3 : Int32) (a4 : Int32) (S : tS), κ5 a3 a4 S → TJ Γ N0 0 0 5 [(0, .ref (xad Γ 1025)), (1, .int a1), (2, .int a2), (3, .int a3), (4, .int a4)] [] S) {a4 : Int32} {s0 : Int32} {S : tS} (hf : X_saying_b53 a1 a2 K κ5 a4 s0 S) : TJ Γ N0 0 0 53 [(0, .ref (xad Γ 1025)), (1, .int a1), (2, .int a2), (4, .int a4)] [.int s0] S := by
  unfold X_saying_b53 at hf
  refine tj_iconst C kc_0 dX0_saying_53 ?_
  exact w_X_saying_b54 C hw hR r hX hκ5 hf
theorem w_X_saying_l5 {Γ : tX} {N0 : Nat → Nat} {K : Int32 → tS → Prop} (C : TC Γ cX0_saying RX0 1 20) (hw : tWf N0) (hR : xnL Γ = 5) (r : TRi Γ N0 cX0_saying K) {a1 : Int32} {a2 : Int32} (hX : N0 1025 ≠ 0) : ∀ (n : Nat) (a3 : Int32) (a4 : Int32) (S : tS), X_saying_l5 a1 a2 K n a3 a4 S → TJ Γ N0 0 0 5 [(0, .ref (xad Γ 1025)), (1, .int a1), (2, .int a2), (3, .int a3), (4, .int a4)] [] S := by
  intro n
  induction n with
  | zero => intro a3 a4 S hf; exact hf.elim
  | succ n ih =>
    intro a3 a4 S hf
    unfold X_saying_l5 at hf
    refine tj_iload C 4 rfl dX0_saying_5 ?_
    refine tj_aload_n C 0 rfl rfl dX0_saying_7 ?_
    refine tj_callVa C (k := 1) [] [.int a4] (fun hN => c_X_at (by rw [hN]; exact hX) hf) lk_X0_168 ty_X0_at rfl (Nat.le_of_ble_eq_true rfl) (Nat.le_of_ble_eq_true rfl) (Nat.le_of_ble_eq_true rfl) hX rfl (by decide) rfl rfl dX0_saying_8 (fun S1 hf => ?_)
    refine gf_X0_242 C rfl (ne0 (ln_1222 hw hX)) dX0_saying_11 ?_
    refine tj_icmp_ge C 62 (by decide) dX0_saying_14 (fun hc => ?_) (fun hc => ?_)
    · replace hf := hf.1 hc
      refine tj_iload_n C 3 rfl rfl dX0_saying_62 ?_
      exact r _ _ _ _ dX0_saying_63 hf
    · replace hf := hf.2 hc
      refine tj_iload_n C 3 rfl rfl dX0_saying_17 ?_
      refine tj_aload_n C 0 rfl rfl dX0_saying_18 ?_
      refine tj_callVa C (k := 1) [] [.int a3] (fun hN => c_X_at (by rw [hN]; exact hX) hf) lk_X0_168 ty_X0_at rfl (Nat.le_of_ble_eq_true rfl) (Nat.le_of_ble_eq_true rfl) (Nat.le_of_ble_eq_true rfl) hX rfl (by decide) rfl rfl dX0_saying_19 (fun S2 hf => ?_)
      refine gf_X0_329 C rfl (ne0 (ln_1222 hw hX)) dX0_saying_22 ?_
      refine tj_iload C 4 rfl dX0_saying_25 ?_
      refine tj_iald C 1648 10 rfl (ln_1648 hw hX) _ rfl hf.1 dX0_saying_27 ?_
      replace hf := hf.2
      refine tj_iload_n C 1 rfl rfl dX0_saying_28 ?_
      refine tj_icmp_ne C 53 (by decide) dX0_saying_29 (fun hc => ?_) (fun hc => ?_)
      · replace hf := hf.2 hc
        exact tj_sub [0, 1, 2, 4] (w_X_saying_b53 C hw hR r hX ih hf) rfl
      · replace hf := hf.1 hc
        refine tj_aload_n C 0 rfl rfl dX0_saying_32 ?_
        refine tj_callVa C (k := 1) [] [.int a3] (fun hN => c_X_at (by rw [hN]; exact hX) hf) lk_X0_168 ty_X0_at rfl (Nat.le_of_ble_eq_true rfl) (Nat.le_of_ble_eq_true rfl) (Nat.le_of_ble_eq_true rfl) hX rfl (by decide) rfl rfl dX0_saying_33 (fun S3 hf => ?_)
        refine gf_X0_332 C rfl (ne0 (ln_1222 hw hX)) dX0_saying_36 ?_
        refine tj_iload C 4 rfl dX0_saying_39 ?_
        refine tj_iald C 1680 10 rfl (ln_1680 hw hX) _ rfl hf.1 dX0_saying_41 ?_
        replace hf := hf.2
        refine tj_iload_n C 2 rfl rfl dX0_saying_42 ?_
        refine tj_icmp_ne C 53 (by decide) dX0_saying_43 (fun hc => ?_) (fun hc => ?_)
        · replace hf := hf.2 hc
          exact tj_sub [0, 1, 2, 4] (w_X_saying_b53 C hw hR r hX ih hf) rfl
        · replace hf := hf.1 hc
          refine tj_iconst C kc_1 dX0_saying_46 ?_
          refine tj_iload C 4 rfl dX0_saying_47 ?_
          refine tj_ishl C dX0_saying_49 ?_
          refine tj_goto C 54 (by decide) dX0_saying_50 ?_
          exact tj_sub [0, 1, 2, 4] (w_X_saying_b54 C hw hR r hX ih hf) rfl
theorem w_X_saying_b0 {Γ : tX} {N0 : Nat → Nat} {K : Int32 → tS → Prop} (C : TC Γ cX0_saying RX0 1 20) (hw : tWf N0) (hR : xnL Γ = 5) (r : TRi Γ N0 cX0_saying K) {a1 : Int32} {a2 : Int32} (hX : N0 1025 ≠ 0) {S : tS} (hf : X_saying a1 a2 S K) : TJ Γ N0 0 0 0 [(0, .ref (xad Γ 1025)), (1, .int a1), (2, .int a2)] [] S := by
  unfold X_saying at hf
  refine tj_iconst C kc_0 dX0_saying_0 ?_
  refine tj_istore_n C (by rw [hR]; decide) [(3, .int (nI 0)), (0, .ref (xad Γ 1025)), (1, .int a1), (2, .int a2)] rfl rfl dX0_saying_1 ?_
  refine tj_iconst C kc_0 dX0_saying_2 ?_
  refine tj_istore C (by rw [hR]; decide) [(4, .int (nI 0)), (3, .int (nI 0)), (0, .ref (xad Γ 1025)), (1, .int a1), (2, .int a2)] rfl dX0_saying_3 ?_
  exact tj_sub [2, 3, 4, 1, 0] (hf.elim fun k hf => w_X_saying_l5 C hw hR r hX k _ _ _ hf) rfl
theorem c_X_saying {l : Launch} {G : tG} {ad : Nat → Nat} {A : Nat → Prop} {S : tS} {K : Int32 → tS → Prop} {a1 : Int32} {a2 : Int32} (hX : gN S 1025 ≠ 0) (hf : X_saying a1 a2 S K) : Met l yX0_saying (ws_ yX0_saying cX0_saying 5 (some .int)) (tRm 1 20) (va_Pc [.ref (ad 1025), .int a1, .int a2] (tPre G ad A S)) (va_Qi K (tB G ad A (gN S)) A) 0 0 A :=
  tj_met_i [(0, .ref (ad 1025)), (1, .int a1), (2, .int a2)] pn_X0 rfl (Nat.le_of_ble_eq_true rfl) (fun p e R s m args below meth c Q C hw r => w_X_saying_b0 C hw rfl r hX hf)
theorem w_Co_scents_b0 {Γ : tX} {N0 : Nat → Nat} {K : Int32 → tS → Prop} (C : TC Γ cX5_scents RX5 1 21) (hw : tWf N0) (hR : xnL Γ = 4) (r : TRz Γ N0 cX5_scents K) {t0 : Nat} {a1 : Int32} {a2 : Int32} {a3 : Int32} (h_t0 : N0 t0 ≠ 0 ∧ t0 % 32 = 6) {S : tS} (hf : Co_scents t0 a1 a2 a3 S K) : TJ Γ N0 0 0 0 [(0, .ref (xad Γ t0)), (1, .int a1), (2, .int a2), (3, .int a3)] [] S := by
  unfold Co_scents at hf
  refine tj_aload_n C 0 rfl rfl dX5_scents_0 ?_
  refine gf_X5_31 C h_t0.2 h_t0.1 dX5_scents_1 ?_
  refine tj_iload_n C 1 rfl rfl dX5_scents_4 ?_
  refine tj_iald C (t0 + 234) 6 (by have := h_t0.2; omega) (lnc_234 hw h_t0.2 h_t0.1) _ rfl hf.1 dX5_scents_5 ?_
  replace hf := hf.2
  refine tj_iload_n C 2 rfl rfl dX5_scents_6 ?_
  refine tj_callSNz C [.int (gI S (t0 + 234) (a1.toNatClampNeg)), .int a2] [] (fun hN => c_X_has hf) (lw_meth q881) q1216 q167 q880 ty_X0_has rfl (Nat.le_of_ble_eq_true rfl) (Nat.le_of_ble_eq_true rfl) (Nat.le_of_ble_eq_true rfl) rfl dX5_scents_7 (fun r2 S1 hf => ?_)
  have hz_r2 := hf.1
  replace hf := hf.2
  refine tj_iload_n C 3 rfl rfl dX5_scents_10 ?_
  refine tj_icmp_ne C 16 (by decide) dX5_scents_11 (fun hc => ?_) (fun hc => ?_)
  · replace hf := hf.2 hc
    refine tj_aload_n C 0 rfl rfl dX5_scents_16 ?_
    refine gf_X5_31 C h_t0.2 h_t0.1 dX5_scents_17 ?_
    refine tj_iload_n C 1 rfl rfl dX5_scents_20 ?_
    refine tj_dup2 C rfl rfl dX5_scents_21 ?_
    refine tj_iald C (t0 + 234) 6 (by have := h_t0.2; omega) (lnc_234 hw h_t0.2 h_t0.1) _ rfl hf.1 dX5_scents_22 ?_
    replace hf := hf.2
    refine tj_iconst C kc_1 dX5_scents_23 ?_
    refine tj_iload_n C 2 rfl rfl dX5_scents_24 ?_
    refine tj_ishl C dX5_scents_25 ?_
    refine tj_ixor C dX5_scents_26 ?_
    refine tj_iast C (t0 + 234) 6 (by have := h_t0.2; omega) (lnc_234 hw h_t0.2 h_t0.1) _ rfl hf.1 dX5_scents_27 ?_
    replace hf := hf.2
    refine tj_topS (fun S3 eS => ?_)
    replace hf := hf S3 eS
    refine tj_iconst C kc_1 dX5_scents_28 ?_
    exact r _ _ _ _ dX5_scents_29 zb1 hf
  · replace hf := hf.1 hc
    refine tj_iconst C kc_0 dX5_scents_14 ?_
    exact r _ _ _ _ dX5_scents_15 zb0 hf
theorem c_Co_scents {l : Launch} {G : tG} {ad : Nat → Nat} {A : Nat → Prop} {S : tS} {K : Int32 → tS → Prop} {t0 : Nat} {a1 : Int32} {a2 : Int32} {a3 : Int32} (h_t0 : gN S t0 ≠ 0 ∧ t0 % 32 = 6) (hf : Co_scents t0 a1 a2 a3 S K) : Met l yX5_scents (ws_ yX5_scents cX5_scents 4 (some .boolean)) (tRm 1 21) (va_Pc [.ref (ad t0), .int a1, .int a2, .int a3] (tPre G ad A S)) (va_Qi (fun r u => r &&& 1 = r ∧ K r u) (tB G ad A (gN S)) A) 0 0 A :=
  tj_met_z [(0, .ref (ad t0)), (1, .int a1), (2, .int a2), (3, .int a3)] pn_X5 rfl (Nat.le_of_ble_eq_true rfl) (fun p e R s m args below meth c Q C hw r => w_Co_scents_b0 C hw rfl r h_t0 hf)
theorem w_X_scent_b41 {Γ : tX} {N0 : Nat → Nat} {K : Int32 → tS → Prop} (C : TC Γ cX0_scent RX0 2 47) (hw : tWf N0) (hR : xnL Γ = 4) (r : TRz Γ N0 cX0_scent K) {a1 : Int32} {a2 : Int32} {a3 : Int32} (hX : N0 1025 ≠ 0) {s1 : Int32} {S : tS} (hf : X_scent_b41 a1 a2 a3 K s1 S) : TJ Γ N0 0 0 41 [(0, .ref (xad Γ 1025))] [.int s1, .ref (xad Γ 1025)] S := by
  unfold X_scent_b41 at hf
  refine pf_X0_91 C hX dX0_scent_41 ?_
  refine tj_topS (fun S8 eS => ?_)
  replace hf := hf S8 eS
  refine tj_aload_n C 0 rfl rfl dX0_scent_44 ?_
  refine gf_X0_91 C hX dX0_scent_45 ?_
  refine tj_if_ne C 55 (by decide) dX0_scent_48 (fun hc => ?_) (fun hc => ?_)
  · replace hf := hf.2 hc
    refine tj_iconst C kc_0 dX0_scent_55 ?_
    exact r _ _ _ _ dX0_scent_56 zb0 hf
  · replace hf := hf.1 hc
    refine tj_iconst C kc_1 dX0_scent_51 ?_
    refine tj_goto C 56 (by decide) dX0_scent_52 ?_
    exact r _ _ _ _ dX0_scent_56 zb1 hf
theorem w_X_scent_b18 {Γ : tX} {N0 : Nat → Nat} {K : Int32 → tS → Prop} (C : TC Γ cX0_scent RX0 2 47) (hw : tWf N0) (hR : xnL Γ = 4) (r : TRz Γ N0 cX0_scent K) {a1 : Int32} {a2 : Int32} {a3 : Int32} (hX : N0 1025 ≠ 0) {S : tS} (hf : X_scent_b18 a1 a2 a3 K  S) : TJ Γ N0 0 0 18 [(0, .ref (xad Γ 1025))] [.ref (xad Γ 1025)] S := by
  unfold X_scent_b18 at hf
  refine tj_iconst C kc_1 dX0_scent_18 ?_
  refine tj_goto C 41 (by decide) dX0_scent_19 ?_
  exact w_X_scent_b41 C hw hR r hX hf
theorem w_X_scent_b0 {Γ : tX} {N0 : Nat → Nat} {K : Int32 → tS → Prop} (C : TC Γ cX0_scent RX0 2 47) (hw : tWf N0) (hR : xnL Γ = 4) (r : TRz Γ N0 cX0_scent K) {a1 : Int32} {a2 : Int32} {a3 : Int32} (hX : N0 1025 ≠ 0) {S : tS} (hf : X_scent a1 a2 a3 S K) : TJ Γ N0 0 0 0 [(0, .ref (xad Γ 1025)), (1, .int a1), (2, .int a2), (3, .int a3)] [] S := by
  unfold X_scent at hf
  refine tj_aload_n C 0 rfl rfl dX0_scent_0 ?_
  refine tj_aload_n C 0 rfl rfl dX0_scent_1 ?_
  refine tj_iload_n C 1 rfl rfl dX0_scent_2 ?_
  refine tj_i2l C dX0_scent_3 ?_
  refine tj_callVz C (k := 1) [.long (a1.toInt64)] [.ref (xad Γ 1025)] (fun hN => c_X_isPerson (by rw [hN]; exact hX) hf) lk_X0_304 ty_X0_isPerson rfl (Nat.le_of_ble_eq_true rfl) (Nat.le_of_ble_eq_true rfl) (Nat.le_of_ble_eq_true rfl) hX rfl (by decide) rfl rfl dX0_scent_4 (fun r2 S1 hf => ?_)
  have hz_r2 := hf.1
  replace hf := hf.2
  refine tj_if_eq C 18 (by decide) dX0_scent_7 (fun hc => ?_) (fun hc => ?_)
  · replace hf := hf.1 hc
    exact tj_sub [0] (w_X_scent_b18 C hw hR r hX hf) rfl
  · replace hf := hf.2 hc
    refine tj_aload_n C 0 rfl rfl dX0_scent_10 ?_
    refine tj_iload_n C 2 rfl rfl dX0_scent_11 ?_
    refine tj_callVz C (k := 1) [.int a2] [.ref (xad Γ 1025)] (fun hN => c_X_isSmell (by rw [hN]; exact hX) hf) lk_X0_351 ty_X0_isSmell rfl (Nat.le_of_ble_eq_true rfl) (Nat.le_of_ble_eq_true rfl) (Nat.le_of_ble_eq_true rfl) hX rfl (by decide) rfl rfl dX0_scent_12 (fun r4 S3 hf => ?_)
    have hz_r4 := hf.1
    replace hf := hf.2
    refine tj_if_ne C 22 (by decide) dX0_scent_15 (fun hc => ?_) (fun hc => ?_)
    · replace hf := hf.2 hc
      refine tj_aload_n C 0 rfl rfl dX0_scent_22 ?_
      refine tj_callVa C (k := 1) [] [.ref (xad Γ 1025)] (fun hN => c_X_at (by rw [hN]; exact hX) hf) lk_X0_168 ty_X0_at rfl (Nat.le_of_ble_eq_true rfl) (Nat.le_of_ble_eq_true rfl) (Nat.le_of_ble_eq_true rfl) hX rfl (by decide) rfl rfl dX0_scent_23 (fun S5 hf => ?_)
      refine tj_iload_n C 1 rfl rfl dX0_scent_26 ?_
      refine tj_iload_n C 2 rfl rfl dX0_scent_27 ?_
      refine tj_iload_n C 3 rfl rfl dX0_scent_28 ?_
      refine tj_callVz C (k := 6) [.int a1, .int a2, .int a3] [.ref (xad Γ 1025)] (fun hN => c_Co_scents (by rw [hN]; exact ⟨(ne0 (ln_1222 hw hX)), rfl⟩) hf) lk_X0_354 ty_X5_scents rfl (Nat.le_of_ble_eq_true rfl) (Nat.le_of_ble_eq_true rfl) (Nat.le_of_ble_eq_true rfl) (ne0 (ln_1222 hw hX)) rfl (by decide) rfl rfl dX0_scent_29 (fun r7 S6 hf => ?_)
      have hz_r7 := hf.1
      replace hf := hf.2
      refine tj_if_eq C 39 (by decide) dX0_scent_32 (fun hc => ?_) (fun hc => ?_)
      · replace hf := hf.1 hc
        refine tj_bipush C kb_7 dX0_scent_39 ?_
        exact tj_sub [0] (w_X_scent_b41 C hw hR r hX hf) rfl
      · replace hf := hf.2 hc
        refine tj_iconst C kc_0 dX0_scent_35 ?_
        refine tj_goto C 41 (by decide) dX0_scent_36 ?_
        exact tj_sub [0] (w_X_scent_b41 C hw hR r hX hf) rfl
    · replace hf := hf.1 hc
      exact tj_sub [0] (w_X_scent_b18 C hw hR r hX hf) rfl
theorem c_X_scent {l : Launch} {G : tG} {ad : Nat → Nat} {A : Nat → Prop} {S : tS} {K : Int32 → tS → Prop} {a1 : Int32} {a2 : Int32} {a3 : Int32} (hX : gN S 1025 ≠ 0) (hf : X_scent a1 a2 a3 S K) : Met l yX0_scent (ws_ yX0_scent cX0_scent 4 (some .boolean)) (tRm 2 47) (va_Pc [.ref (ad 1025), .int a1, .int a2, .int a3] (tPre G ad A S)) (va_Qi (fun r u => r &&& 1 = r ∧ K r u) (tB G ad A (gN S)) A) 0 0 A :=
  tj_met_z [(0, .ref (ad 1025)), (1, .int a1), (2, .int a2), (3, .int a3)] pn_X0 rfl (Nat.le_of_ble_eq_true rfl) (fun p e R s m args below meth c Q C hw r => w_X_scent_b0 C hw rfl r hX hf)
theorem w_X_sense_b14 {Γ : tX} {N0 : Nat → Nat} {K : Int32 → tS → Prop} (C : TC Γ cX0_sense RX0 2 46) (hw : tWf N0) (hR : xnL Γ = 2) (r : TRi Γ N0 cX0_sense K) {a1 : Int32} (hX : N0 1025 ≠ 0) {s1 : Int32} {S : tS} (hf : X_sense_b14 a1 K s1 S) : TJ Γ N0 0 0 14 [(0, .ref (xad Γ 1025)), (1, .int a1)] [.int s1, .ref (xad Γ 1025)] S := by
  unfold X_sense_b14 at hf
  refine pf_X0_91 C hX dX0_sense_14 ?_
  refine tj_topS (fun S3 eS => ?_)
  replace hf := hf S3 eS
  refine tj_aload_n C 0 rfl rfl dX0_sense_17 ?_
  refine gf_X0_91 C hX dX0_sense_18 ?_
  refine tj_if_le C 28 (by decide) dX0_sense_21 (fun hc => ?_) (fun hc => ?_)
  · replace hf := hf.1 hc
    refine tj_aload_n C 0 rfl rfl dX0_sense_28 ?_
    refine tj_callVa C (k := 1) [] [] (fun hN => c_X_at (by rw [hN]; exact hX) hf) lk_X0_168 ty_X0_at rfl (Nat.le_of_ble_eq_true rfl) (Nat.le_of_ble_eq_true rfl) (Nat.le_of_ble_eq_true rfl) hX rfl (by decide) rfl rfl dX0_sense_29 (fun S4 hf => ?_)
    refine gf_X0_266 C rfl (ne0 (ln_1222 hw hX)) dX0_sense_32 ?_
    refine tj_iload_n C 1 rfl rfl dX0_sense_35 ?_
    refine tj_iald C 1392 6 rfl (ln_1392 hw hX) _ rfl hf.1 dX0_sense_36 ?_
    replace hf := hf.2
    exact r _ _ _ _ dX0_sense_37 hf
  · replace hf := hf.2 hc
    refine tj_iconst C kc_m1 dX0_sense_24 ?_
    refine tj_goto C 37 (by decide) dX0_sense_25 ?_
    exact r _ _ _ _ dX0_sense_37 hf
theorem w_X_sense_b0 {Γ : tX} {N0 : Nat → Nat} {K : Int32 → tS → Prop} (C : TC Γ cX0_sense RX0 2 46) (hw : tWf N0) (hR : xnL Γ = 2) (r : TRi Γ N0 cX0_sense K) {a1 : Int32} (hX : N0 1025 ≠ 0) {S : tS} (hf : X_sense a1 S K) : TJ Γ N0 0 0 0 [(0, .ref (xad Γ 1025)), (1, .int a1)] [] S := by
  unfold X_sense at hf
  refine tj_aload_n C 0 rfl rfl dX0_sense_0 ?_
  refine tj_aload_n C 0 rfl rfl dX0_sense_1 ?_
  refine tj_iload_n C 1 rfl rfl dX0_sense_2 ?_
  refine tj_callVz C (k := 1) [.int a1] [.ref (xad Γ 1025)] (fun hN => c_X_isCue (by rw [hN]; exact hX) hf) lk_X0_262 ty_X0_isCue rfl (Nat.le_of_ble_eq_true rfl) (Nat.le_of_ble_eq_true rfl) (Nat.le_of_ble_eq_true rfl) hX rfl (by decide) rfl rfl dX0_sense_3 (fun r2 S1 hf => ?_)
  have hz_r2 := hf.1
  replace hf := hf.2
  refine tj_if_eq C 13 (by decide) dX0_sense_6 (fun hc => ?_) (fun hc => ?_)
  · replace hf := hf.1 hc
    refine tj_iconst C kc_1 dX0_sense_13 ?_
    exact w_X_sense_b14 C hw hR r hX hf
  · replace hf := hf.2 hc
    refine tj_iconst C kc_0 dX0_sense_9 ?_
    refine tj_goto C 14 (by decide) dX0_sense_10 ?_
    exact w_X_sense_b14 C hw hR r hX hf
theorem c_X_sense {l : Launch} {G : tG} {ad : Nat → Nat} {A : Nat → Prop} {S : tS} {K : Int32 → tS → Prop} {a1 : Int32} (hX : gN S 1025 ≠ 0) (hf : X_sense a1 S K) : Met l yX0_sense (ws_ yX0_sense cX0_sense 2 (some .int)) (tRm 2 46) (va_Pc [.ref (ad 1025), .int a1] (tPre G ad A S)) (va_Qi K (tB G ad A (gN S)) A) 0 0 A :=
  tj_met_i [(0, .ref (ad 1025)), (1, .int a1)] pn_X0 rfl (Nat.le_of_ble_eq_true rfl) (fun p e R s m args below meth c Q C hw r => w_X_sense_b0 C hw rfl r hX hf)
theorem w_X_shown_b61 {Γ : tX} {N0 : Nat → Nat} {K : Int32 → tS → Prop} (C : TC Γ cX0_shown RX0 6 139) (hw : tWf N0) (hR : xnL Γ = 4) (r : TRi Γ N0 cX0_shown K) {a1 : Int32} (hX : N0 1025 ≠ 0) {κ30 : Int32 → Int32 → tS → Prop} (hκ30 : ∀ (a2 : Int32) (a3 : Int32) (S : tS), κ30 a2 a3 S → TJ Γ N0 0 0 30 [(0, .ref (xad Γ 1025)), (1, .int a1), (2, .int a2), (3, .int a3)] [] S) {a3 : Int32} {s0 : Int32} {s1 : Int32} {S : tS} (hf : X_shown_b61 a1 K κ30 a3 s0 s1 S) : TJ Γ N0 0 0 61 [(0, .ref (xad Γ 1025)), (1, .int a1), (3, .int a3)] [.int s1, .int s0] S := by
  unfold X_shown_b61 at hf
  refine tj_ior C dX0_shown_61 ?_
  refine tj_topi (fun x8 ex => ?_)
  replace hf := hf x8 ex
  refine tj_istore_n C (by rw [hR]; decide) [(2, .int x8), (0, .ref (xad Γ 1025)), (1, .int a1), (3, .int a3)] rfl rfl dX0_shown_62 ?_
  obtain ⟨x9, ex⟩ : ∃ y : Int32, y = a3 + nI 1 := ⟨_, rfl⟩
  refine tj_iinc C (by rw [hR]; decide) 3 [(3, .int x9), (2, .int x8), (0, .ref (xad Γ 1025)), (1, .int a1)] rfl (by rw [ex]; exact ki_1 _) rfl dX0_shown_63 ?_
  replace hf := hf x9 ex
  refine tj_goto C 30 (by decide) dX0_shown_66 ?_
  exact tj_sub [2, 3, 1, 0] (hκ30 _ _ _ hf) rfl
theorem w_X_shown_l30 {Γ : tX} {N0 : Nat → Nat} {K : Int32 → tS → Prop} (C : TC Γ cX0_shown RX0 6 139) (hw : tWf N0) (hR : xnL Γ = 4) (r : TRi Γ N0 cX0_shown K) {a1 : Int32} (hX : N0 1025 ≠ 0) : ∀ (n : Nat) (a2 : Int32) (a3 : Int32) (S : tS), X_shown_l30 a1 K n a2 a3 S → TJ Γ N0 0 0 30 [(0, .ref (xad Γ 1025)), (1, .int a1), (2, .int a2), (3, .int a3)] [] S := by
  intro n
  induction n with
  | zero => intro a2 a3 S hf; exact hf.elim
  | succ n ih =>
    intro a2 a3 S hf
    unfold X_shown_l30 at hf
    refine tj_iload_n C 3 rfl rfl dX0_shown_30 ?_
    refine tj_aload_n C 0 rfl rfl dX0_shown_31 ?_
    refine tj_callVa C (k := 1) [] [.int a3] (fun hN => c_X_at (by rw [hN]; exact hX) hf) lk_X0_168 ty_X0_at rfl (Nat.le_of_ble_eq_true rfl) (Nat.le_of_ble_eq_true rfl) (Nat.le_of_ble_eq_true rfl) hX rfl (by decide) rfl rfl dX0_shown_32 (fun S4 hf => ?_)
    refine gf_X0_185 C rfl (ne0 (ln_1222 hw hX)) dX0_shown_35 ?_
    refine tj_icmp_ge C 69 (by decide) dX0_shown_38 (fun hc => ?_) (fun hc => ?_)
    · replace hf := hf.1 hc
      refine tj_iload_n C 2 rfl rfl dX0_shown_69 ?_
      exact r _ _ _ _ dX0_shown_70 hf
    · replace hf := hf.2 hc
      refine tj_iload_n C 2 rfl rfl dX0_shown_41 ?_
      refine tj_aload_n C 0 rfl rfl dX0_shown_42 ?_
      refine tj_callVa C (k := 1) [] [.int a2] (fun hN => c_X_at (by rw [hN]; exact hX) hf) lk_X0_168 ty_X0_at rfl (Nat.le_of_ble_eq_true rfl) (Nat.le_of_ble_eq_true rfl) (Nat.le_of_ble_eq_true rfl) hX rfl (by decide) rfl rfl dX0_shown_43 (fun S5 hf => ?_)
      refine tj_iload_n C 3 rfl rfl dX0_shown_46 ?_
      refine tj_callVi C (k := 6) [.int a3] [.int a2] (fun hN => c_Co_showsNow (by rw [hN]; exact ⟨(ne0 (ln_1222 hw hX)), rfl⟩) hf) lk_X0_364 ty_X5_showsNow rfl (Nat.le_of_ble_eq_true rfl) (Nat.le_of_ble_eq_true rfl) (Nat.le_of_ble_eq_true rfl) (ne0 (ln_1222 hw hX)) rfl (by decide) rfl rfl dX0_shown_47 (fun r7 S6 hf => ?_)
      refine tj_iload_n C 1 rfl rfl dX0_shown_50 ?_
      refine tj_icmp_ne C 60 (by decide) dX0_shown_51 (fun hc => ?_) (fun hc => ?_)
      · replace hf := hf.2 hc
        refine tj_iconst C kc_0 dX0_shown_60 ?_
        exact tj_sub [0, 1, 3] (w_X_shown_b61 C hw hR r hX ih hf) rfl
      · replace hf := hf.1 hc
        refine tj_iconst C kc_1 dX0_shown_54 ?_
        refine tj_iload_n C 3 rfl rfl dX0_shown_55 ?_
        refine tj_ishl C dX0_shown_56 ?_
        refine tj_goto C 61 (by decide) dX0_shown_57 ?_
        exact tj_sub [0, 1, 3] (w_X_shown_b61 C hw hR r hX ih hf) rfl
theorem w_X_shown_b14 {Γ : tX} {N0 : Nat → Nat} {K : Int32 → tS → Prop} (C : TC Γ cX0_shown RX0 6 139) (hw : tWf N0) (hR : xnL Γ = 4) (r : TRi Γ N0 cX0_shown K) {a1 : Int32} (hX : N0 1025 ≠ 0) {s1 : Int32} {S : tS} (hf : X_shown_b14 a1 K s1 S) : TJ Γ N0 0 0 14 [(0, .ref (xad Γ 1025)), (1, .int a1)] [.int s1, .ref (xad Γ 1025)] S := by
  unfold X_shown_b14 at hf
  refine pf_X0_91 C hX dX0_shown_14 ?_
  refine tj_topS (fun S3 eS => ?_)
  replace hf := hf S3 eS
  refine tj_aload_n C 0 rfl rfl dX0_shown_17 ?_
  refine gf_X0_91 C hX dX0_shown_18 ?_
  refine tj_if_le C 26 (by decide) dX0_shown_21 (fun hc => ?_) (fun hc => ?_)
  · replace hf := hf.1 hc
    refine tj_iconst C kc_0 dX0_shown_26 ?_
    refine tj_istore_n C (by rw [hR]; decide) [(2, .int (nI 0)), (0, .ref (xad Γ 1025)), (1, .int a1)] rfl rfl dX0_shown_27 ?_
    refine tj_iconst C kc_0 dX0_shown_28 ?_
    refine tj_istore_n C (by rw [hR]; decide) [(3, .int (nI 0)), (2, .int (nI 0)), (0, .ref (xad Γ 1025)), (1, .int a1)] rfl rfl dX0_shown_29 ?_
    exact tj_sub [2, 3, 1, 0] (hf.elim fun k hf => w_X_shown_l30 C hw hR r hX k _ _ _ hf) rfl
  · replace hf := hf.2 hc
    refine tj_iconst C kc_m1 dX0_shown_24 ?_
    exact r _ _ _ _ dX0_shown_25 hf
theorem w_X_shown_b0 {Γ : tX} {N0 : Nat → Nat} {K : Int32 → tS → Prop} (C : TC Γ cX0_shown RX0 6 139) (hw : tWf N0) (hR : xnL Γ = 4) (r : TRi Γ N0 cX0_shown K) {a1 : Int32} (hX : N0 1025 ≠ 0) {S : tS} (hf : X_shown a1 S K) : TJ Γ N0 0 0 0 [(0, .ref (xad Γ 1025)), (1, .int a1)] [] S := by
  unfold X_shown at hf
  refine tj_aload_n C 0 rfl rfl dX0_shown_0 ?_
  refine tj_aload_n C 0 rfl rfl dX0_shown_1 ?_
  refine tj_iload_n C 1 rfl rfl dX0_shown_2 ?_
  refine tj_callVz C (k := 1) [.int a1] [.ref (xad Γ 1025)] (fun hN => c_X_isCue (by rw [hN]; exact hX) hf) lk_X0_262 ty_X0_isCue rfl (Nat.le_of_ble_eq_true rfl) (Nat.le_of_ble_eq_true rfl) (Nat.le_of_ble_eq_true rfl) hX rfl (by decide) rfl rfl dX0_shown_3 (fun r2 S1 hf => ?_)
  have hz_r2 := hf.1
  replace hf := hf.2
  refine tj_if_eq C 13 (by decide) dX0_shown_6 (fun hc => ?_) (fun hc => ?_)
  · replace hf := hf.1 hc
    refine tj_iconst C kc_1 dX0_shown_13 ?_
    exact w_X_shown_b14 C hw hR r hX hf
  · replace hf := hf.2 hc
    refine tj_iconst C kc_0 dX0_shown_9 ?_
    refine tj_goto C 14 (by decide) dX0_shown_10 ?_
    exact w_X_shown_b14 C hw hR r hX hf
theorem c_X_shown {l : Launch} {G : tG} {ad : Nat → Nat} {A : Nat → Prop} {S : tS} {K : Int32 → tS → Prop} {a1 : Int32} (hX : gN S 1025 ≠ 0) (hf : X_shown a1 S K) : Met l yX0_shown (ws_ yX0_shown cX0_shown 4 (some .int)) (tRm 6 139) (va_Pc [.ref (ad 1025), .int a1] (tPre G ad A S)) (va_Qi K (tB G ad A (gN S)) A) 0 0 A :=
  tj_met_i [(0, .ref (ad 1025)), (1, .int a1)] pn_X0 rfl (Nat.le_of_ble_eq_true rfl) (fun p e R s m args below meth c Q C hw r => w_X_shown_b0 C hw rfl r hX hf)
theorem w_X_sit_b32 {Γ : tX} {N0 : Nat → Nat} {K : Int32 → tS → Prop} (C : TC Γ cX0_sit RX0 7 161) (hw : tWf N0) (hR : xnL Γ = 2) (r : TRi Γ N0 cX0_sit K) {a1 : Int32} (hX : N0 1025 ≠ 0) {s1 : Int32} {S : tS} (hf : X_sit_b32 a1 K s1 S) : TJ Γ N0 0 0 32 [(0, .ref (xad Γ 1025)), (1, .int a1)] [.int s1, .ref (xad Γ 1025)] S := by
  unfold X_sit_b32 at hf
  refine pf_X0_91 C hX dX0_sit_32 ?_
  refine tj_topS (fun S4 eS => ?_)
  replace hf := hf S4 eS
  refine tj_aload_n C 0 rfl rfl dX0_sit_35 ?_
  refine gf_X0_91 C hX dX0_sit_36 ?_
  refine tj_if_le C 46 (by decide) dX0_sit_39 (fun hc => ?_) (fun hc => ?_)
  · replace hf := hf.1 hc
    refine tj_aload_n C 0 rfl rfl dX0_sit_46 ?_
    refine tj_callVa C (k := 1) [] [] (fun hN => c_X_at (by rw [hN]; exact hX) hf) lk_X0_168 ty_X0_at rfl (Nat.le_of_ble_eq_true rfl) (Nat.le_of_ble_eq_true rfl) (Nat.le_of_ble_eq_true rfl) hX rfl (by decide) rfl rfl dX0_sit_47 (fun S5 hf => ?_)
    refine tj_iload_n C 1 rfl rfl dX0_sit_50 ?_
    refine tj_callVi C (k := 6) [.int a1] [] (fun hN => c_Co_sits (by rw [hN]; exact ⟨(ne0 (ln_1222 hw hX)), rfl⟩) hf) lk_X0_335 ty_X5_sits rfl (Nat.le_of_ble_eq_true rfl) (Nat.le_of_ble_eq_true rfl) (Nat.le_of_ble_eq_true rfl) (ne0 (ln_1222 hw hX)) rfl (by decide) rfl rfl dX0_sit_51 (fun r7 S6 hf => ?_)
    exact r _ _ _ _ dX0_sit_54 hf
  · replace hf := hf.2 hc
    refine tj_iconst C kc_m1 dX0_sit_42 ?_
    refine tj_goto C 54 (by decide) dX0_sit_43 ?_
    exact r _ _ _ _ dX0_sit_54 hf
theorem w_X_sit_b0 {Γ : tX} {N0 : Nat → Nat} {K : Int32 → tS → Prop} (C : TC Γ cX0_sit RX0 7 161) (hw : tWf N0) (hR : xnL Γ = 2) (r : TRi Γ N0 cX0_sit K) {a1 : Int32} (hX : N0 1025 ≠ 0) {S : tS} (hf : X_sit a1 S K) : TJ Γ N0 0 0 0 [(0, .ref (xad Γ 1025)), (1, .int a1)] [] S := by
  unfold X_sit at hf
  refine tj_aload_n C 0 rfl rfl dX0_sit_0 ?_
  refine tj_aload_n C 0 rfl rfl dX0_sit_1 ?_
  refine tj_iload_n C 1 rfl rfl dX0_sit_2 ?_
  refine tj_i2l C dX0_sit_3 ?_
  refine tj_callVz C (k := 1) [.long (a1.toInt64)] [.ref (xad Γ 1025)] (fun hN => c_X_isPerson (by rw [hN]; exact hX) hf) lk_X0_304 ty_X0_isPerson rfl (Nat.le_of_ble_eq_true rfl) (Nat.le_of_ble_eq_true rfl) (Nat.le_of_ble_eq_true rfl) hX rfl (by decide) rfl rfl dX0_sit_4 (fun r2 S1 hf => ?_)
  have hz_r2 := hf.1
  replace hf := hf.2
  refine tj_if_ne C 14 (by decide) dX0_sit_7 (fun hc => ?_) (fun hc => ?_)
  · replace hf := hf.2 hc
    refine tj_aload_n C 0 rfl rfl dX0_sit_14 ?_
    refine tj_callVa C (k := 1) [] [.ref (xad Γ 1025)] (fun hN => c_X_at (by rw [hN]; exact hX) hf) lk_X0_168 ty_X0_at rfl (Nat.le_of_ble_eq_true rfl) (Nat.le_of_ble_eq_true rfl) (Nat.le_of_ble_eq_true rfl) hX rfl (by decide) rfl rfl dX0_sit_15 (fun S3 hf => ?_)
    refine gf_X0_248 C rfl (ne0 (ln_1222 hw hX)) dX0_sit_18 ?_
    refine tj_sipush C ks_9999 dX0_sit_21 ?_
    refine tj_icmp_ne C 31 (by decide) dX0_sit_24 (fun hc => ?_) (fun hc => ?_)
    · replace hf := hf.2 hc
      refine tj_iconst C kc_0 dX0_sit_31 ?_
      exact w_X_sit_b32 C hw hR r hX hf
    · replace hf := hf.1 hc
      refine tj_iconst C kc_4 dX0_sit_27 ?_
      refine tj_goto C 32 (by decide) dX0_sit_28 ?_
      exact w_X_sit_b32 C hw hR r hX hf
  · replace hf := hf.1 hc
    refine tj_iconst C kc_1 dX0_sit_10 ?_
    refine tj_goto C 32 (by decide) dX0_sit_11 ?_
    exact w_X_sit_b32 C hw hR r hX hf
theorem c_X_sit {l : Launch} {G : tG} {ad : Nat → Nat} {A : Nat → Prop} {S : tS} {K : Int32 → tS → Prop} {a1 : Int32} (hX : gN S 1025 ≠ 0) (hf : X_sit a1 S K) : Met l yX0_sit (ws_ yX0_sit cX0_sit 2 (some .int)) (tRm 7 161) (va_Pc [.ref (ad 1025), .int a1] (tPre G ad A S)) (va_Qi K (tB G ad A (gN S)) A) 0 0 A :=
  tj_met_i [(0, .ref (ad 1025)), (1, .int a1)] pn_X0 rfl (Nat.le_of_ble_eq_true rfl) (fun p e R s m args below meth c Q C hw r => w_X_sit_b0 C hw rfl r hX hf)
theorem w_X_sixteenths_l4 {Γ : tX} {N0 : Nat → Nat} {K : Int64 → tS → Prop} (C : TC Γ cX0_sixteenths RX0 0 0) (hw : tWf N0) (hR : xnL Γ = 4) (r : TRl Γ N0 cX0_sixteenths K) {a0 : Int32} : ∀ (n : Nat) (a1 : Int64) (a3 : Int32) (S : tS), X_sixteenths_l4 a0 K n a1 a3 S → TJ Γ N0 0 0 4 [(0, .int a0), (1, .long a1), (3, .int a3)] [] S := by
  intro n
  induction n with
  | zero => intro a1 a3 S hf; exact hf.elim
  | succ n ih =>
    intro a1 a3 S hf
    unfold X_sixteenths_l4 at hf
    refine tj_iload_n C 2 rfl rfl dX0_sixteenths_4 ?_
    refine tj_iload_n C 0 rfl rfl dX0_sixteenths_5 ?_
    refine tj_icmp_ge C 21 (by decide) dX0_sixteenths_6 (fun hc => ?_) (fun hc => ?_)
    · replace hf := hf.1 hc
      refine tj_lload_n C 1 rfl rfl dX0_sixteenths_21 ?_
      exact r _ _ _ _ dX0_sixteenths_22 hf
    · replace hf := hf.2 hc
      refine tj_lload_n C 1 rfl rfl dX0_sixteenths_9 ?_
      refine tj_ldc2 C kl_X0_362 dX0_sixteenths_10 ?_
      refine tj_lmul C dX0_sixteenths_13 ?_
      refine tj_topl (fun x2 ex => ?_)
      replace hf := hf x2 ex
      refine tj_lstore_n C (by rw [hR]; decide) [(1, .long x2), (0, .int a0), (3, .int a3)] rfl rfl dX0_sixteenths_14 ?_
      obtain ⟨x3, ex⟩ : ∃ y : Int32, y = a3 + nI 1 := ⟨_, rfl⟩
      refine tj_iinc C (by rw [hR]; decide) 2 [(3, .int x3), (1, .long x2), (0, .int a0)] rfl (by rw [ex]; exact ki_1 _) rfl dX0_sixteenths_15 ?_
      replace hf := hf x3 ex
      refine tj_goto C 4 (by decide) dX0_sixteenths_18 ?_
      exact tj_sub [2, 1, 0] (ih _ _ _ hf) rfl
theorem w_X_sixteenths_b0 {Γ : tX} {N0 : Nat → Nat} {K : Int64 → tS → Prop} (C : TC Γ cX0_sixteenths RX0 0 0) (hw : tWf N0) (hR : xnL Γ = 4) (r : TRl Γ N0 cX0_sixteenths K) {a0 : Int32} {S : tS} (hf : X_sixteenths a0 S K) : TJ Γ N0 0 0 0 [(0, .int a0)] [] S := by
  unfold X_sixteenths at hf
  refine tj_lconst C (v := lN 1) rfl dX0_sixteenths_0 ?_
  refine tj_topl (fun x1 ex => ?_)
  replace hf := hf x1 ex
  refine tj_lstore_n C (by rw [hR]; decide) [(1, .long x1), (0, .int a0)] rfl rfl dX0_sixteenths_1 ?_
  refine tj_iconst C kc_0 dX0_sixteenths_2 ?_
  refine tj_istore_n C (by rw [hR]; decide) [(3, .int (nI 0)), (1, .long x1), (0, .int a0)] rfl rfl dX0_sixteenths_3 ?_
  exact tj_sub [2, 1, 0] (hf.elim fun k hf => w_X_sixteenths_l4 C hw hR r k _ _ _ hf) rfl
theorem c_X_sixteenths {l : Launch} {G : tG} {ad : Nat → Nat} {A : Nat → Prop} {S : tS} {K : Int64 → tS → Prop} {a0 : Int32} (hf : X_sixteenths a0 S K) : Met l yX0_sixteenths (ws_ yX0_sixteenths cX0_sixteenths 4 (some .long)) (tRm 0 0) (va_Pc [.int a0] (tPre G ad A S)) (va_Ql K (tB G ad A (gN S)) A) 0 0 A :=
  tj_met_l [(0, .int a0)] pn_X0 rfl (Nat.le_of_ble_eq_true rfl) (fun p e R s m args below meth c Q C hw r => w_X_sixteenths_b0 C hw rfl r hf)
theorem w_X_status_b0 {Γ : tX} {N0 : Nat → Nat} {K : Int32 → tS → Prop} (C : TC Γ cX0_status RX0 0 0) (hw : tWf N0) (hR : xnL Γ = 1) (r : TRi Γ N0 cX0_status K) (hX : N0 1025 ≠ 0) {S : tS} (hf : X_status S K) : TJ Γ N0 0 0 0 [(0, .ref (xad Γ 1025))] [] S := by
  unfold X_status at hf
  refine tj_aload_n C 0 rfl rfl dX0_status_0 ?_
  refine gf_X0_91 C hX dX0_status_1 ?_
  exact r _ _ _ _ dX0_status_4 hf
theorem c_X_status {l : Launch} {G : tG} {ad : Nat → Nat} {A : Nat → Prop} {S : tS} {K : Int32 → tS → Prop} (hX : gN S 1025 ≠ 0) (hf : X_status S K) : Met l yX0_status (ws_ yX0_status cX0_status 1 (some .int)) (tRm 0 0) (va_Pc [.ref (ad 1025)] (tPre G ad A S)) (va_Qi K (tB G ad A (gN S)) A) 0 0 A :=
  tj_met_i [(0, .ref (ad 1025))] pn_X0 rfl (Nat.le_of_ble_eq_true rfl) (fun p e R s m args below meth c Q C hw r => w_X_status_b0 C hw rfl r hX hf)
theorem w_X_strain_b46 {Γ : tX} {N0 : Nat → Nat} {K : Int32 → tS → Prop} (C : TC Γ cX0_strain RX0 2 46) (hw : tWf N0) (hR : xnL Γ = 3) (r : TRz Γ N0 cX0_strain K) {a1 : Int32} {a2 : Int32} (hX : N0 1025 ≠ 0) {S : tS} (hf : X_strain_b46 a1 a2 K  S) : TJ Γ N0 0 0 46 [(0, .ref (xad Γ 1025))] [] S := by
  unfold X_strain_b46 at hf
  refine tj_aload_n C 0 rfl rfl dX0_strain_46 ?_
  refine gf_X0_91 C hX dX0_strain_47 ?_
  refine tj_if_ne C 57 (by decide) dX0_strain_50 (fun hc => ?_) (fun hc => ?_)
  · replace hf := hf.2 hc
    refine tj_iconst C kc_0 dX0_strain_57 ?_
    exact r _ _ _ _ dX0_strain_58 zb0 hf
  · replace hf := hf.1 hc
    refine tj_iconst C kc_1 dX0_strain_53 ?_
    refine tj_goto C 58 (by decide) dX0_strain_54 ?_
    exact r _ _ _ _ dX0_strain_58 zb1 hf
theorem w_X_strain_b26 {Γ : tX} {N0 : Nat → Nat} {K : Int32 → tS → Prop} (C : TC Γ cX0_strain RX0 2 46) (hw : tWf N0) (hR : xnL Γ = 3) (r : TRz Γ N0 cX0_strain K) {a1 : Int32} {a2 : Int32} (hX : N0 1025 ≠ 0) {s1 : Int32} {S : tS} (hf : X_strain_b26 a1 a2 K s1 S) : TJ Γ N0 0 0 26 [(0, .ref (xad Γ 1025)), (1, .int a1), (2, .int a2)] [.int s1, .ref (xad Γ 1025)] S := by
  unfold X_strain_b26 at hf
  refine pf_X0_91 C hX dX0_strain_26 ?_
  refine tj_topS (fun S5 eS => ?_)
  replace hf := hf S5 eS
  refine tj_aload_n C 0 rfl rfl dX0_strain_29 ?_
  refine gf_X0_91 C hX dX0_strain_30 ?_
  refine tj_if_ne C 46 (by decide) dX0_strain_33 (fun hc => ?_) (fun hc => ?_)
  · replace hf := hf.2 hc
    exact tj_sub [0] (w_X_strain_b46 C hw hR r hX hf) rfl
  · replace hf := hf.1 hc
    refine tj_aload_n C 0 rfl rfl dX0_strain_36 ?_
    refine tj_callVa C (k := 1) [] [] (fun hN => c_X_at (by rw [hN]; exact hX) hf) lk_X0_168 ty_X0_at rfl (Nat.le_of_ble_eq_true rfl) (Nat.le_of_ble_eq_true rfl) (Nat.le_of_ble_eq_true rfl) hX rfl (by decide) rfl rfl dX0_strain_37 (fun S6 hf => ?_)
    refine gf_X0_323 C rfl (ne0 (ln_1222 hw hX)) dX0_strain_40 ?_
    refine tj_iload_n C 1 rfl rfl dX0_strain_43 ?_
    refine tj_iload_n C 2 rfl rfl dX0_strain_44 ?_
    refine tj_iast C 1584 6 rfl (ln_1584 hw hX) _ rfl hf.1 dX0_strain_45 ?_
    replace hf := hf.2
    refine tj_topS (fun S7 eS => ?_)
    replace hf := hf S7 eS
    exact tj_sub [0] (w_X_strain_b46 C hw hR r hX hf) rfl
theorem w_X_strain_b25 {Γ : tX} {N0 : Nat → Nat} {K : Int32 → tS → Prop} (C : TC Γ cX0_strain RX0 2 46) (hw : tWf N0) (hR : xnL Γ = 3) (r : TRz Γ N0 cX0_strain K) {a1 : Int32} {a2 : Int32} (hX : N0 1025 ≠ 0) {S : tS} (hf : X_strain_b25 a1 a2 K  S) : TJ Γ N0 0 0 25 [(0, .ref (xad Γ 1025)), (1, .int a1), (2, .int a2)] [.ref (xad Γ 1025)] S := by
  unfold X_strain_b25 at hf
  refine tj_iconst C kc_1 dX0_strain_25 ?_
  exact w_X_strain_b26 C hw hR r hX hf
theorem w_X_strain_b0 {Γ : tX} {N0 : Nat → Nat} {K : Int32 → tS → Prop} (C : TC Γ cX0_strain RX0 2 46) (hw : tWf N0) (hR : xnL Γ = 3) (r : TRz Γ N0 cX0_strain K) {a1 : Int32} {a2 : Int32} (hX : N0 1025 ≠ 0) {S : tS} (hf : X_strain a1 a2 S K) : TJ Γ N0 0 0 0 [(0, .ref (xad Γ 1025)), (1, .int a1), (2, .int a2)] [] S := by
  unfold X_strain at hf
  refine tj_aload_n C 0 rfl rfl dX0_strain_0 ?_
  refine tj_aload_n C 0 rfl rfl dX0_strain_1 ?_
  refine tj_iload_n C 1 rfl rfl dX0_strain_2 ?_
  refine tj_callVz C (k := 1) [.int a1] [.ref (xad Γ 1025)] (fun hN => c_X_isReader (by rw [hN]; exact hX) hf) lk_X0_320 ty_X0_isReader rfl (Nat.le_of_ble_eq_true rfl) (Nat.le_of_ble_eq_true rfl) (Nat.le_of_ble_eq_true rfl) hX rfl (by decide) rfl rfl dX0_strain_3 (fun r2 S1 hf => ?_)
  have hz_r2 := hf.1
  replace hf := hf.2
  refine tj_if_eq C 25 (by decide) dX0_strain_6 (fun hc => ?_) (fun hc => ?_)
  · replace hf := hf.1 hc
    exact w_X_strain_b25 C hw hR r hX hf
  · replace hf := hf.2 hc
    refine tj_iload_n C 2 rfl rfl dX0_strain_9 ?_
    refine tj_i2l C dX0_strain_10 ?_
    refine tj_lconst C (v := lN 0) rfl dX0_strain_11 ?_
    refine tj_ldc2 C kl_X0_362 dX0_strain_12 ?_
    refine tj_callSz C [.long (a2.toInt64), .long (lN 0), .long (lN 16)] [.ref (xad Γ 1025)] (fun hN => c_X_isIn hf) lk_X0_175 ty_X0_isIn rfl (Nat.le_of_ble_eq_true rfl) (Nat.le_of_ble_eq_true rfl) (Nat.le_of_ble_eq_true rfl) rfl dX0_strain_15 (fun r4 S3 hf => ?_)
    have hz_r4 := hf.1
    replace hf := hf.2
    refine tj_if_eq C 25 (by decide) dX0_strain_18 (fun hc => ?_) (fun hc => ?_)
    · replace hf := hf.1 hc
      exact w_X_strain_b25 C hw hR r hX hf
    · replace hf := hf.2 hc
      refine tj_iconst C kc_0 dX0_strain_21 ?_
      refine tj_goto C 26 (by decide) dX0_strain_22 ?_
      exact w_X_strain_b26 C hw hR r hX hf
theorem c_X_strain {l : Launch} {G : tG} {ad : Nat → Nat} {A : Nat → Prop} {S : tS} {K : Int32 → tS → Prop} {a1 : Int32} {a2 : Int32} (hX : gN S 1025 ≠ 0) (hf : X_strain a1 a2 S K) : Met l yX0_strain (ws_ yX0_strain cX0_strain 3 (some .boolean)) (tRm 2 46) (va_Pc [.ref (ad 1025), .int a1, .int a2] (tPre G ad A S)) (va_Qi (fun r u => r &&& 1 = r ∧ K r u) (tB G ad A (gN S)) A) 0 0 A :=
  tj_met_z [(0, .ref (ad 1025)), (1, .int a1), (2, .int a2)] pn_X0 rfl (Nat.le_of_ble_eq_true rfl) (fun p e R s m args below meth c Q C hw r => w_X_strain_b0 C hw rfl r hX hf)
theorem w_X_striking_b103 {Γ : tX} {N0 : Nat → Nat} {K : Int32 → tS → Prop} (C : TC Γ cX0_striking RX0 7 160) (hw : tWf N0) (hR : xnL Γ = 7) (r : TRi Γ N0 cX0_striking K) (hX : N0 1025 ≠ 0) {κ4 : Int32 → Int32 → tS → Prop} (hκ4 : ∀ (a1 : Int32) (a2 : Int32) (S : tS), κ4 a1 a2 S → TJ Γ N0 0 0 4 [(0, .ref (xad Γ 1025)), (1, .int a1), (2, .int a2)] [] S) {a2 : Int32} {s0 : Int32} {s1 : Int32} {S : tS} (hf : X_striking_b103 K κ4 a2 s0 s1 S) : TJ Γ N0 0 0 103 [(0, .ref (xad Γ 1025)), (2, .int a2)] [.int s1, .int s0] S := by
  unfold X_striking_b103 at hf
  refine tj_ior C dX0_striking_103 ?_
  refine tj_topi (fun x16 ex => ?_)
  replace hf := hf x16 ex
  refine tj_istore_n C (by rw [hR]; decide) [(1, .int x16), (0, .ref (xad Γ 1025)), (2, .int a2)] rfl rfl dX0_striking_104 ?_
  obtain ⟨x17, ex⟩ : ∃ y : Int32, y = a2 + nI 1 := ⟨_, rfl⟩
  refine tj_iinc C (by rw [hR]; decide) 2 [(2, .int x17), (1, .int x16), (0, .ref (xad Γ 1025))] rfl (by rw [ex]; exact ki_1 _) rfl dX0_striking_105 ?_
  replace hf := hf x17 ex
  refine tj_goto C 4 (by decide) dX0_striking_108 ?_
  exact tj_sub [2, 1, 0] (hκ4 _ _ _ hf) rfl
theorem w_X_striking_b97 {Γ : tX} {N0 : Nat → Nat} {K : Int32 → tS → Prop} (C : TC Γ cX0_striking RX0 7 160) (hw : tWf N0) (hR : xnL Γ = 7) (r : TRi Γ N0 cX0_striking K) (hX : N0 1025 ≠ 0) {κ4 : Int32 → Int32 → tS → Prop} (hκ4 : ∀ (a1 : Int32) (a2 : Int32) (S : tS), κ4 a1 a2 S → TJ Γ N0 0 0 4 [(0, .ref (xad Γ 1025)), (1, .int a1), (2, .int a2)] [] S) {a2 : Int32} {a3 : Int32} {s0 : Int32} {S : tS} (hf : X_striking_b97 K κ4 a2 a3 s0 S) : TJ Γ N0 0 0 97 [(0, .ref (xad Γ 1025)), (2, .int a2), (3, .int a3)] [.int s0] S := by
  unfold X_striking_b97 at hf
  refine tj_iload_n C 2 rfl rfl dX0_striking_97 ?_
  refine tj_goto C 103 (by decide) dX0_striking_98 ?_
  exact tj_sub [0, 1] (w_X_striking_b103 C hw hR r hX hκ4 hf) rfl
theorem w_X_striking_b65 {Γ : tX} {N0 : Nat → Nat} {K : Int32 → tS → Prop} (C : TC Γ cX0_striking RX0 7 160) (hw : tWf N0) (hR : xnL Γ = 7) (r : TRi Γ N0 cX0_striking K) (hX : N0 1025 ≠ 0) {κ4 : Int32 → Int32 → tS → Prop} (hκ4 : ∀ (a1 : Int32) (a2 : Int32) (S : tS), κ4 a1 a2 S → TJ Γ N0 0 0 4 [(0, .ref (xad Γ 1025)), (1, .int a1), (2, .int a2)] [] S) {a1 : Int32} {a2 : Int32} {a3 : Int32} {a4 : Int32} {s0 : Int32} {S : tS} (hf : X_striking_b65 K κ4 a1 a2 a3 a4 s0 S) : TJ Γ N0 0 0 65 [(0, .ref (xad Γ 1025)), (1, .int a1), (2, .int a2), (3, .int a3), (4, .int a4)] [.int s0] S := by
  unfold X_striking_b65 at hf
  refine tj_istore C (by rw [hR]; decide) [(5, .int s0), (0, .ref (xad Γ 1025)), (1, .int a1), (2, .int a2), (3, .int a3), (4, .int a4)] rfl dX0_striking_65 ?_
  refine tj_aload_n C 1 rfl rfl dX0_striking_67 ?_
  refine tj_iload_n C 3 rfl rfl dX0_striking_68 ?_
  refine tj_callVi C (k := 1) [.int a2] [] (fun hN => c_X_meant (by rw [hN]; exact hX) hf) lk_X0_455 ty_X0_meant rfl (Nat.le_of_ble_eq_true rfl) (Nat.le_of_ble_eq_true rfl) (Nat.le_of_ble_eq_true rfl) hX rfl (by decide) rfl rfl dX0_striking_69 (fun r15 S14 hf => ?_)
  refine tj_istore C (by rw [hR]; decide) [(6, .int r15), (5, .int s0), (0, .ref (xad Γ 1025)), (1, .int a1), (2, .int a2), (3, .int a3), (4, .int a4)] rfl dX0_striking_72 ?_
  refine tj_iload_n C 3 rfl rfl dX0_striking_74 ?_
  refine tj_iload C 0 rfl dX0_striking_75 ?_
  refine tj_iconst C kc_1 dX0_striking_77 ?_
  refine tj_icmp_ne C 86 (by decide) dX0_striking_78 (fun hc => ?_) (fun hc => ?_)
  · replace hf := hf.2 hc
    refine tj_iload C 0 rfl dX0_striking_86 ?_
    refine tj_iconst C kc_2 dX0_striking_88 ?_
    refine tj_icmp_eq C 97 (by decide) dX0_striking_89 (fun hc => ?_) (fun hc => ?_)
    · replace hf := hf.1 hc
      exact tj_sub [2, 4, 5] (w_X_striking_b97 C hw hR r hX hκ4 hf) rfl
    · replace hf := hf.2 hc
      refine tj_iload C 1 rfl dX0_striking_92 ?_
      refine tj_if_eq C 101 (by decide) dX0_striking_94 (fun hc => ?_) (fun hc => ?_)
      · replace hf := hf.1 hc
        refine tj_iload C 6 rfl dX0_striking_101 ?_
        exact tj_sub [2, 4] (w_X_striking_b103 C hw hR r hX hκ4 hf) rfl
      · replace hf := hf.2 hc
        exact tj_sub [2, 4, 5] (w_X_striking_b97 C hw hR r hX hκ4 hf) rfl
  · replace hf := hf.1 hc
    refine tj_iload C 6 rfl dX0_striking_81 ?_
    refine tj_goto C 103 (by decide) dX0_striking_83 ?_
    exact tj_sub [2, 4] (w_X_striking_b103 C hw hR r hX hκ4 hf) rfl
theorem w_X_striking_b64 {Γ : tX} {N0 : Nat → Nat} {K : Int32 → tS → Prop} (C : TC Γ cX0_striking RX0 7 160) (hw : tWf N0) (hR : xnL Γ = 7) (r : TRi Γ N0 cX0_striking K) (hX : N0 1025 ≠ 0) {κ4 : Int32 → Int32 → tS → Prop} (hκ4 : ∀ (a1 : Int32) (a2 : Int32) (S : tS), κ4 a1 a2 S → TJ Γ N0 0 0 4 [(0, .ref (xad Γ 1025)), (1, .int a1), (2, .int a2)] [] S) {a1 : Int32} {a2 : Int32} {a3 : Int32} {a4 : Int32} {S : tS} (hf : X_striking_b64 K κ4 a1 a2 a3 a4 S) : TJ Γ N0 0 0 64 [(0, .ref (xad Γ 1025)), (1, .int a1), (2, .int a2), (3, .int a3), (4, .int a4)] [] S := by
  unfold X_striking_b64 at hf
  refine tj_iconst C kc_0 dX0_striking_64 ?_
  exact w_X_striking_b65 C hw hR r hX hκ4 hf
theorem w_X_striking_b60 {Γ : tX} {N0 : Nat → Nat} {K : Int32 → tS → Prop} (C : TC Γ cX0_striking RX0 7 160) (hw : tWf N0) (hR : xnL Γ = 7) (r : TRi Γ N0 cX0_striking K) (hX : N0 1025 ≠ 0) {κ4 : Int32 → Int32 → tS → Prop} (hκ4 : ∀ (a1 : Int32) (a2 : Int32) (S : tS), κ4 a1 a2 S → TJ Γ N0 0 0 4 [(0, .ref (xad Γ 1025)), (1, .int a1), (2, .int a2)] [] S) {a1 : Int32} {a2 : Int32} {a3 : Int32} {a4 : Int32} {S : tS} (hf : X_striking_b60 K κ4 a1 a2 a3 a4 S) : TJ Γ N0 0 0 60 [(0, .ref (xad Γ 1025)), (1, .int a1), (2, .int a2), (3, .int a3), (4, .int a4)] [] S := by
  unfold X_striking_b60 at hf
  refine tj_iconst C kc_1 dX0_striking_60 ?_
  refine tj_goto C 65 (by decide) dX0_striking_61 ?_
  exact w_X_striking_b65 C hw hR r hX hκ4 hf
theorem w_X_striking_l4 {Γ : tX} {N0 : Nat → Nat} {K : Int32 → tS → Prop} (C : TC Γ cX0_striking RX0 7 160) (hw : tWf N0) (hR : xnL Γ = 7) (r : TRi Γ N0 cX0_striking K) (hX : N0 1025 ≠ 0) : ∀ (n : Nat) (a1 : Int32) (a2 : Int32) (S : tS), X_striking_l4 K n a1 a2 S → TJ Γ N0 0 0 4 [(0, .ref (xad Γ 1025)), (1, .int a1), (2, .int a2)] [] S := by
  intro n
  induction n with
  | zero => intro a1 a2 S hf; exact hf.elim
  | succ n ih =>
    intro a1 a2 S hf
    unfold X_striking_l4 at hf
    refine tj_iload_n C 2 rfl rfl dX0_striking_4 ?_
    refine tj_aload_n C 0 rfl rfl dX0_striking_5 ?_
    refine tj_callVa C (k := 1) [] [.int a2] (fun hN => c_X_at (by rw [hN]; exact hX) hf) lk_X0_168 ty_X0_at rfl (Nat.le_of_ble_eq_true rfl) (Nat.le_of_ble_eq_true rfl) (Nat.le_of_ble_eq_true rfl) hX rfl (by decide) rfl rfl dX0_striking_6 (fun S1 hf => ?_)
    refine gf_X0_185 C rfl (ne0 (ln_1222 hw hX)) dX0_striking_9 ?_
    refine tj_icmp_ge C 111 (by decide) dX0_striking_12 (fun hc => ?_) (fun hc => ?_)
    · replace hf := hf.1 hc
      refine tj_iload_n C 1 rfl rfl dX0_striking_111 ?_
      exact r _ _ _ _ dX0_striking_112 hf
    · replace hf := hf.2 hc
      refine tj_aload_n C 0 rfl rfl dX0_striking_15 ?_
      refine tj_iload_n C 2 rfl rfl dX0_striking_16 ?_
      refine tj_iconst C kc_1 dX0_striking_17 ?_
      refine tj_callVi C (k := 1) [.int a2, .int (nI 1)] [] (fun hN => c_X_saying (by rw [hN]; exact hX) hf) lk_X0_461 ty_X0_saying rfl (Nat.le_of_ble_eq_true rfl) (Nat.le_of_ble_eq_true rfl) (Nat.le_of_ble_eq_true rfl) hX rfl (by decide) rfl rfl dX0_striking_18 (fun r3 S2 hf => ?_)
      refine tj_istore_n C (by rw [hR]; decide) [(3, .int r3), (0, .ref (xad Γ 1025)), (1, .int a1), (2, .int a2)] rfl rfl dX0_striking_21 ?_
      refine tj_aload_n C 1 rfl rfl dX0_striking_22 ?_
      refine tj_iload_n C 3 rfl rfl dX0_striking_23 ?_
      refine tj_iconst C kc_2 dX0_striking_24 ?_
      refine tj_callVi C (k := 1) [.int a2, .int (nI 2)] [] (fun hN => c_X_saying (by rw [hN]; exact hX) hf) lk_X0_461 ty_X0_saying rfl (Nat.le_of_ble_eq_true rfl) (Nat.le_of_ble_eq_true rfl) (Nat.le_of_ble_eq_true rfl) hX rfl (by decide) rfl rfl dX0_striking_25 (fun r5 S4 hf => ?_)
      refine tj_istore C (by rw [hR]; decide) [(4, .int r5), (3, .int r3), (0, .ref (xad Γ 1025)), (1, .int a1), (2, .int a2)] rfl dX0_striking_28 ?_
      refine tj_iload_n C 1 rfl rfl dX0_striking_30 ?_
      refine tj_callSi C [.int r3] [] (fun hN => c_In_bitCount hf) lk_X0_338 ty_J11_bitCount rfl (Nat.le_of_ble_eq_true rfl) (Nat.le_of_ble_eq_true rfl) (Nat.le_of_ble_eq_true rfl) rfl dX0_striking_31 (fun r7 S6 hf => ?_)
      refine tj_iload C 0 rfl dX0_striking_34 ?_
      refine tj_callSi C [.int r5] [.int r7] (fun hN => c_In_bitCount hf) lk_X0_338 ty_J11_bitCount rfl (Nat.le_of_ble_eq_true rfl) (Nat.le_of_ble_eq_true rfl) (Nat.le_of_ble_eq_true rfl) rfl dX0_striking_36 (fun r9 S8 hf => ?_)
      refine tj_icmp_lt C 60 (by decide) dX0_striking_39 (fun hc => ?_) (fun hc => ?_)
      · replace hf := hf.1 hc
        exact tj_sub [2, 3, 4, 1, 0] (w_X_striking_b60 C hw hR r hX ih hf) rfl
      · replace hf := hf.2 hc
        refine tj_iload_n C 1 rfl rfl dX0_striking_42 ?_
        refine tj_callSi C [.int r3] [] (fun hN => c_In_bitCount hf) lk_X0_338 ty_J11_bitCount rfl (Nat.le_of_ble_eq_true rfl) (Nat.le_of_ble_eq_true rfl) (Nat.le_of_ble_eq_true rfl) rfl dX0_striking_43 (fun r11 S10 hf => ?_)
        refine tj_iload C 0 rfl dX0_striking_46 ?_
        refine tj_callSi C [.int r5] [.int r11] (fun hN => c_In_bitCount hf) lk_X0_338 ty_J11_bitCount rfl (Nat.le_of_ble_eq_true rfl) (Nat.le_of_ble_eq_true rfl) (Nat.le_of_ble_eq_true rfl) rfl dX0_striking_48 (fun r13 S12 hf => ?_)
        refine tj_icmp_ne C 64 (by decide) dX0_striking_51 (fun hc => ?_) (fun hc => ?_)
        · replace hf := hf.2 hc
          exact tj_sub [2, 3, 4, 1, 0] (w_X_striking_b64 C hw hR r hX ih hf) rfl
        · replace hf := hf.1 hc
          refine tj_iload_n C 1 rfl rfl dX0_striking_54 ?_
          refine tj_iload C 0 rfl dX0_striking_55 ?_
          refine tj_icmp_ge C 64 (by decide) dX0_striking_57 (fun hc => ?_) (fun hc => ?_)
          · replace hf := hf.1 hc
            exact tj_sub [2, 3, 4, 1, 0] (w_X_striking_b64 C hw hR r hX ih hf) rfl
          · replace hf := hf.2 hc
            exact tj_sub [2, 3, 4, 1, 0] (w_X_striking_b60 C hw hR r hX ih hf) rfl
theorem w_X_striking_b0 {Γ : tX} {N0 : Nat → Nat} {K : Int32 → tS → Prop} (C : TC Γ cX0_striking RX0 7 160) (hw : tWf N0) (hR : xnL Γ = 7) (r : TRi Γ N0 cX0_striking K) (hX : N0 1025 ≠ 0) {S : tS} (hf : X_striking S K) : TJ Γ N0 0 0 0 [(0, .ref (xad Γ 1025))] [] S := by
  unfold X_striking at hf
  refine tj_iconst C kc_0 dX0_striking_0 ?_
  refine tj_istore_n C (by rw [hR]; decide) [(1, .int (nI 0)), (0, .ref (xad Γ 1025))] rfl rfl dX0_striking_1 ?_
  refine tj_iconst C kc_0 dX0_striking_2 ?_
  refine tj_istore_n C (by rw [hR]; decide) [(2, .int (nI 0)), (1, .int (nI 0)), (0, .ref (xad Γ 1025))] rfl rfl dX0_striking_3 ?_
  exact tj_sub [2, 1, 0] (hf.elim fun k hf => w_X_striking_l4 C hw hR r hX k _ _ _ hf) rfl
theorem c_X_striking {l : Launch} {G : tG} {ad : Nat → Nat} {A : Nat → Prop} {S : tS} {K : Int32 → tS → Prop} (hX : gN S 1025 ≠ 0) (hf : X_striking S K) : Met l yX0_striking (ws_ yX0_striking cX0_striking 7 (some .int)) (tRm 7 160) (va_Pc [.ref (ad 1025)] (tPre G ad A S)) (va_Qi K (tB G ad A (gN S)) A) 0 0 A :=
  tj_met_i [(0, .ref (ad 1025))] pn_X0 rfl (Nat.le_of_ble_eq_true rfl) (fun p e R s m args below meth c Q C hw r => w_X_striking_b0 C hw rfl r hX hf)
theorem w_X_struck_b0 {Γ : tX} {N0 : Nat → Nat} {K : Int32 → tS → Prop} (C : TC Γ cX0_struck RX0 8 186) (hw : tWf N0) (hR : xnL Γ = 1) (r : TRi Γ N0 cX0_struck K) (hX : N0 1025 ≠ 0) {S : tS} (hf : X_struck S K) : TJ Γ N0 0 0 0 [(0, .ref (xad Γ 1025))] [] S := by
  unfold X_struck at hf
  refine tj_aload_n C 0 rfl rfl dX0_struck_0 ?_
  refine tj_iconst C kc_0 dX0_struck_1 ?_
  refine pf_X0_91 C hX dX0_struck_2 ?_
  refine tj_topS (fun S1 eS => ?_)
  replace hf := hf S1 eS
  refine tj_aload_n C 0 rfl rfl dX0_struck_5 ?_
  refine tj_callVi C (k := 1) [] [] (fun hN => c_X_striking (by rw [hN]; exact hX) hf) lk_X0_464 ty_X0_striking rfl (Nat.le_of_ble_eq_true rfl) (Nat.le_of_ble_eq_true rfl) (Nat.le_of_ble_eq_true rfl) hX rfl (by decide) rfl rfl dX0_struck_6 (fun r3 S2 hf => ?_)
  refine tj_callSi C [.int r3] [] (fun hN => c_In_bitCount hf) lk_X0_338 ty_J11_bitCount rfl (Nat.le_of_ble_eq_true rfl) (Nat.le_of_ble_eq_true rfl) (Nat.le_of_ble_eq_true rfl) rfl dX0_struck_9 (fun r5 S4 hf => ?_)
  exact r _ _ _ _ dX0_struck_12 hf
theorem c_X_struck {l : Launch} {G : tG} {ad : Nat → Nat} {A : Nat → Prop} {S : tS} {K : Int32 → tS → Prop} (hX : gN S 1025 ≠ 0) (hf : X_struck S K) : Met l yX0_struck (ws_ yX0_struck cX0_struck 1 (some .int)) (tRm 8 186) (va_Pc [.ref (ad 1025)] (tPre G ad A S)) (va_Qi K (tB G ad A (gN S)) A) 0 0 A :=
  tj_met_i [(0, .ref (ad 1025))] pn_X0 rfl (Nat.le_of_ble_eq_true rfl) (fun p e R s m args below meth c Q C hw r => w_X_struck_b0 C hw rfl r hX hf)
theorem w_X_struckSet_b0 {Γ : tX} {N0 : Nat → Nat} {K : Int32 → tS → Prop} (C : TC Γ cX0_struckSet RX0 8 186) (hw : tWf N0) (hR : xnL Γ = 1) (r : TRi Γ N0 cX0_struckSet K) (hX : N0 1025 ≠ 0) {S : tS} (hf : X_struckSet S K) : TJ Γ N0 0 0 0 [(0, .ref (xad Γ 1025))] [] S := by
  unfold X_struckSet at hf
  refine tj_aload_n C 0 rfl rfl dX0_struckSet_0 ?_
  refine tj_iconst C kc_0 dX0_struckSet_1 ?_
  refine pf_X0_91 C hX dX0_struckSet_2 ?_
  refine tj_topS (fun S1 eS => ?_)
  replace hf := hf S1 eS
  refine tj_aload_n C 0 rfl rfl dX0_struckSet_5 ?_
  refine tj_callVi C (k := 1) [] [] (fun hN => c_X_striking (by rw [hN]; exact hX) hf) lk_X0_464 ty_X0_striking rfl (Nat.le_of_ble_eq_true rfl) (Nat.le_of_ble_eq_true rfl) (Nat.le_of_ble_eq_true rfl) hX rfl (by decide) rfl rfl dX0_struckSet_6 (fun r3 S2 hf => ?_)
  exact r _ _ _ _ dX0_struckSet_9 hf
theorem c_X_struckSet {l : Launch} {G : tG} {ad : Nat → Nat} {A : Nat → Prop} {S : tS} {K : Int32 → tS → Prop} (hX : gN S 1025 ≠ 0) (hf : X_struckSet S K) : Met l yX0_struckSet (ws_ yX0_struckSet cX0_struckSet 1 (some .int)) (tRm 8 186) (va_Pc [.ref (ad 1025)] (tPre G ad A S)) (va_Qi K (tB G ad A (gN S)) A) 0 0 A :=
  tj_met_i [(0, .ref (ad 1025))] pn_X0 rfl (Nat.le_of_ble_eq_true rfl) (fun p e R s m args below meth c Q C hw r => w_X_struckSet_b0 C hw rfl r hX hf)
theorem w_X_sure_b56 {Γ : tX} {N0 : Nat → Nat} {K : Int32 → tS → Prop} (C : TC Γ cX0_sure RX0 6 145) (hw : tWf N0) (hR : xnL Γ = 5) (r : TRi Γ N0 cX0_sure K) {a1 : Int32} {a2 : Int32} {a3 : Int32} (hX : N0 1025 ≠ 0) (hT : (xc Γ).exceptionTable.toList = tableOf [(5, 55, 56, 41)]) {S : tS} (hf : X_sure_b56 a1 a2 a3 K  S) : TJ Γ N0 0 0 56 [(0, .ref (xad Γ 1025))] [.ref (xad Γ 1156)] S := by
  unfold X_sure_b56 at hf
  refine tj_astore C (by rw [hR]; decide) [(4, .ref (xad Γ 1156)), (0, .ref (xad Γ 1025))] rfl dX0_sure_56 ?_
  refine tj_aload_n C 1 rfl rfl dX0_sure_58 ?_
  refine tj_aload C 0 rfl dX0_sure_59 ?_
  refine tj_callVi C (k := 1) [.ref (xad Γ 1156)] [] (fun hN => c_X_none (by rw [hN]; exact hX) hf) lk_X0_149 ty_X0_none rfl (Nat.le_of_ble_eq_true rfl) (Nat.le_of_ble_eq_true rfl) (Nat.le_of_ble_eq_true rfl) hX rfl (by decide) rfl rfl dX0_sure_61 (fun r11 S10 hf => ?_)
  exact r _ _ _ _ dX0_sure_64 hf
theorem w_X_sure_b52 {Γ : tX} {N0 : Nat → Nat} {K : Int32 → tS → Prop} (C : TC Γ cX0_sure RX0 6 145) (hw : tWf N0) (hR : xnL Γ = 5) (r : TRi Γ N0 cX0_sure K) {a1 : Int32} {a2 : Int32} {a3 : Int32} (hX : N0 1025 ≠ 0) (hT : (xc Γ).exceptionTable.toList = tableOf [(5, 55, 56, 41)]) {s1 : Int32} {S : tS} (hf : X_sure_b52 a1 a2 a3 K s1 S) : TJ Γ N0 0 0 52 [(0, .ref (xad Γ 1025))] [.int s1, .ref (xad Γ 1025)] S := by
  unfold X_sure_b52 at hf
  refine tj_callVi C (k := 1) [.int s1] [] (fun hN => c_X_answer (by rw [hN]; exact hX) hf) lk_X0_292 ty_X0_answer rfl (Nat.le_of_ble_eq_true rfl) (Nat.le_of_ble_eq_true rfl) (Nat.le_of_ble_eq_true rfl) hX rfl (by decide) rfl rfl dX0_sure_52 (fun r13 S12 hf => ?_)
  exact r _ _ _ _ dX0_sure_55 hf
theorem w_X_sure_b40 {Γ : tX} {N0 : Nat → Nat} {K : Int32 → tS → Prop} (C : TC Γ cX0_sure RX0 6 145) (hw : tWf N0) (hR : xnL Γ = 5) (r : TRi Γ N0 cX0_sure K) {a1 : Int32} {a2 : Int32} {a3 : Int32} (hX : N0 1025 ≠ 0) (hT : (xc Γ).exceptionTable.toList = tableOf [(5, 55, 56, 41)]) {S : tS} (hf : X_sure_b40 a1 a2 a3 K  S) : TJ Γ N0 0 0 40 [(0, .ref (xad Γ 1025))] [.ref (xad Γ 1025)] S := by
  unfold X_sure_b40 at hf
  refine tj_iconst C kc_m1 dX0_sure_40 ?_
  refine tj_goto C 52 (by decide) dX0_sure_41 ?_
  exact w_X_sure_b52 C hw hR r hX hT hf
theorem w_X_sure_b0 {Γ : tX} {N0 : Nat → Nat} {K : Int32 → tS → Prop} (C : TC Γ cX0_sure RX0 6 145) (hw : tWf N0) (hR : xnL Γ = 5) (r : TRi Γ N0 cX0_sure K) {a1 : Int32} {a2 : Int32} {a3 : Int32} (hX : N0 1025 ≠ 0) (hT : (xc Γ).exceptionTable.toList = tableOf [(5, 55, 56, 41)]) {S : tS} (hf : X_sure a1 a2 a3 S K) : TJ Γ N0 0 0 0 [(0, .ref (xad Γ 1025)), (1, .int a1), (2, .int a2), (3, .int a3)] [] S := by
  unfold X_sure at hf
  refine tj_aload_n C 0 rfl rfl dX0_sure_0 ?_
  refine tj_iconst C kc_0 dX0_sure_1 ?_
  refine pf_X0_91 C hX dX0_sure_2 ?_
  refine tj_topS (fun S1 eS => ?_)
  replace hf := hf S1 eS
  refine tj_aload_n C 0 rfl rfl dX0_sure_5 ?_
  refine tj_aload_n C 0 rfl rfl dX0_sure_6 ?_
  refine tj_iload_n C 1 rfl rfl dX0_sure_7 ?_
  refine tj_i2l C dX0_sure_8 ?_
  refine tj_callVz C (k := 1) [.long (a1.toInt64)] [.ref (xad Γ 1025)] (fun hN => c_X_isPerson (by rw [hN]; exact hX) hf) lk_X0_304 ty_X0_isPerson rfl (Nat.le_of_ble_eq_true rfl) (Nat.le_of_ble_eq_true rfl) (Nat.le_of_ble_eq_true rfl) hX rfl (by decide) rfl rfl dX0_sure_9 (fun r3 S2 hf => ?_)
  have hz_r3 := hf.1
  replace hf := hf.2
  refine tj_iconst C kc_1 dX0_sure_12 ?_
  refine tj_xVv C (k := 1) [.int r3, .int (nI 1)] [] (fun hN => c_X_want (by rw [hN]; exact hX) hf) lk_X0_116 ty_X0_want rfl (Nat.le_of_ble_eq_true rfl) (Nat.le_of_ble_eq_true rfl) (Nat.le_of_ble_eq_true rfl) hX rfl (by decide) rfl rfl dX0_sure_13 (fun S5 hf => ?_) (fun S4 hf => ?_)
  · refine tj_catch C [] ⟨5, 55, 56, 41⟩ [] hT (fun z hz => nomatch hz) (by decide) (by decide) q287 q289 ?_
    exact tj_sub [0] (w_X_sure_b56 C hw hR r hX hT hf) rfl
  · refine tj_aload_n C 0 rfl rfl dX0_sure_16 ?_
    refine tj_iload_n C 2 rfl rfl dX0_sure_17 ?_
    refine tj_iload_n C 3 rfl rfl dX0_sure_18 ?_
    refine tj_xVv C (k := 1) [.int a2, .int a3] [] (fun hN => c_X_laysFits (by rw [hN]; exact hX) hf) lk_X0_399 ty_X0_laysFits rfl (Nat.le_of_ble_eq_true rfl) (Nat.le_of_ble_eq_true rfl) (Nat.le_of_ble_eq_true rfl) hX rfl (by decide) rfl rfl dX0_sure_19 (fun S7 hf => ?_) (fun S6 hf => ?_)
    · refine tj_catch C [] ⟨5, 55, 56, 41⟩ [] hT (fun z hz => nomatch hz) (by decide) (by decide) q287 q289 ?_
      exact tj_sub [0] (w_X_sure_b56 C hw hR r hX hT hf) rfl
    · refine tj_aload_n C 0 rfl rfl dX0_sure_22 ?_
      refine tj_aload_n C 0 rfl rfl dX0_sure_23 ?_
      refine tj_callVi C (k := 1) [] [.ref (xad Γ 1025)] (fun hN => c_X_ways (by rw [hN]; exact hX) hf) lk_X0_403 ty_X0_ways rfl (Nat.le_of_ble_eq_true rfl) (Nat.le_of_ble_eq_true rfl) (Nat.le_of_ble_eq_true rfl) hX rfl (by decide) rfl rfl dX0_sure_24 (fun r9 S8 hf => ?_)
      refine tj_if_eq C 40 (by decide) dX0_sure_27 (fun hc => ?_) (fun hc => ?_)
      · replace hf := hf.1 hc
        exact tj_sub [0] (w_X_sure_b40 C hw hR r hX hT hf) rfl
      · replace hf := hf.2 hc
        refine tj_aload_n C 0 rfl rfl dX0_sure_30 ?_
        refine gf_X0_70 C hX dX0_sure_31 ?_
        refine tj_iload_n C 1 rfl rfl dX0_sure_34 ?_
        refine tj_iald C 2288 6 rfl (ln_2288 hw hX) _ rfl hf.1 dX0_sure_35 ?_
        replace hf := hf.2
        refine tj_iconst C kc_3 dX0_sure_36 ?_
        refine tj_icmp_ne C 44 (by decide) dX0_sure_37 (fun hc => ?_) (fun hc => ?_)
        · replace hf := hf.2 hc
          refine tj_aload_n C 0 rfl rfl dX0_sure_44 ?_
          refine gf_X0_70 C hX dX0_sure_45 ?_
          refine tj_iload_n C 1 rfl rfl dX0_sure_48 ?_
          refine tj_iald C 2288 6 rfl (ln_2288 hw hX) _ rfl hf.1 dX0_sure_49 ?_
          replace hf := hf.2
          refine tj_iconst C kc_1 dX0_sure_50 ?_
          refine tj_isub C dX0_sure_51 ?_
          exact tj_sub [0] (w_X_sure_b52 C hw hR r hX hT hf) rfl
        · replace hf := hf.1 hc
          exact tj_sub [0] (w_X_sure_b40 C hw hR r hX hT hf) rfl
theorem c_X_sure {l : Launch} {G : tG} {ad : Nat → Nat} {A : Nat → Prop} {S : tS} {K : Int32 → tS → Prop} {a1 : Int32} {a2 : Int32} {a3 : Int32} (hX : gN S 1025 ≠ 0) (hf : X_sure a1 a2 a3 S K) : vx_Met l yX0_sure (wsW_ yX0_sure cX0_sure 5 (some .int) [(5, 55, 56, 41)]) (tRm 6 145) (va_Pc [.ref (ad 1025), .int a1, .int a2, .int a3] (tPre G ad A S)) (va_Qi K (tB G ad A (gN S)) A) (vx_X (fun _ => False) (tBX G ad A (gN S) RX3 1156) A) 0 0 A :=
  tj_xmetW_i [(0, .ref (ad 1025)), (1, .int a1), (2, .int a2), (3, .int a3)] pn_X0 rfl (Nat.le_of_ble_eq_true rfl) (fun p e R s m args below meth c Q C hw hT r => w_X_sure_b0 C hw rfl r hX hT hf)
theorem w_X_verdicts_b200 {Γ : tX} {N0 : Nat → Nat} {K : Int64 → tS → Prop} (C : TC Γ cX0_verdicts RX0 1 21) (hw : tWf N0) (hR : xnL Γ = 10) (r : TRl Γ N0 cX0_verdicts K) {a1 : Int32} (hX : N0 1025 ≠ 0) {κ54 : Int32 → Int64 → Int32 → tS → Prop} (hκ54 : ∀ (a2 : Int32) (a3 : Int64) (a5 : Int32) (S : tS), κ54 a2 a3 a5 S → TJ Γ N0 0 0 54 [(0, .ref (xad Γ 1025)), (1, .int a1), (2, .int a2), (3, .long a3), (5, .int a5)] [] S) {a2 : Int32} {a3 : Int64} {a5 : Int32} {S : tS} (hf : X_verdicts_b200 a1 K κ54 a2 a3 a5 S) : TJ Γ N0 0 0 200 [(0, .ref (xad Γ 1025)), (1, .int a1), (2, .int a2), (3, .long a3), (5, .int a5)] [] S := by
  unfold X_verdicts_b200 at hf
  obtain ⟨x16, ex⟩ : ∃ y : Int32, y = a5 + nI 1 := ⟨_, rfl⟩
  refine tj_iinc C (by rw [hR]; decide) 4 [(5, .int x16), (0, .ref (xad Γ 1025)), (1, .int a1), (2, .int a2), (3, .long a3)] rfl (by rw [ex]; exact ki_1 _) rfl dX0_verdicts_200 ?_
  replace hf := hf x16 ex
  refine tj_goto C 54 (by decide) dX0_verdicts_203 ?_
  exact tj_sub [1, 2, 3, 4, 0] (hκ54 _ _ _ _ hf) rfl
theorem w_X_verdicts_b198 {Γ : tX} {N0 : Nat → Nat} {K : Int64 → tS → Prop} (C : TC Γ cX0_verdicts RX0 1 21) (hw : tWf N0) (hR : xnL Γ = 10) (r : TRl Γ N0 cX0_verdicts K) {a1 : Int32} (hX : N0 1025 ≠ 0) {κ54 : Int32 → Int64 → Int32 → tS → Prop} (hκ54 : ∀ (a2 : Int32) (a3 : Int64) (a5 : Int32) (S : tS), κ54 a2 a3 a5 S → TJ Γ N0 0 0 54 [(0, .ref (xad Γ 1025)), (1, .int a1), (2, .int a2), (3, .long a3), (5, .int a5)] [] S) {a2 : Int32} {a5 : Int32} {s0 : Int64} {s1 : Int64} {S : tS} (hf : X_verdicts_b198 a1 K κ54 a2 a5 s0 s1 S) : TJ Γ N0 0 0 198 [(0, .ref (xad Γ 1025)), (1, .int a1), (2, .int a2), (5, .int a5)] [.long s1, .long s0] S := by
  unfold X_verdicts_b198 at hf
  refine tj_ladd C dX0_verdicts_198 ?_
  refine tj_topl (fun x17 ex => ?_)
  replace hf := hf x17 ex
  refine tj_lstore_n C (by rw [hR]; decide) [(3, .long x17), (0, .ref (xad Γ 1025)), (1, .int a1), (2, .int a2), (5, .int a5)] rfl rfl dX0_verdicts_199 ?_
  exact tj_sub [1, 2, 3, 0, 4] (w_X_verdicts_b200 C hw hR r hX hκ54 hf) rfl
theorem w_X_verdicts_b177 {Γ : tX} {N0 : Nat → Nat} {K : Int64 → tS → Prop} (C : TC Γ cX0_verdicts RX0 1 21) (hw : tWf N0) (hR : xnL Γ = 10) (r : TRl Γ N0 cX0_verdicts K) {a1 : Int32} (hX : N0 1025 ≠ 0) {κ54 : Int32 → Int64 → Int32 → tS → Prop} (hκ54 : ∀ (a2 : Int32) (a3 : Int64) (a5 : Int32) (S : tS), κ54 a2 a3 a5 S → TJ Γ N0 0 0 54 [(0, .ref (xad Γ 1025)), (1, .int a1), (2, .int a2), (3, .long a3), (5, .int a5)] [] S) {κ81 : Int32 → Int64 → Int32 → Int64 → Int32 → Int32 → tS → Prop} (hκ81 : ∀ (a2 : Int32) (a3 : Int64) (a5 : Int32) (a6 : Int64) (a8 : Int32) (a9 : Int32) (S : tS), κ81 a2 a3 a5 a6 a8 a9 S → TJ Γ N0 0 0 81 [(0, .ref (xad Γ 1025)), (1, .int a1), (2, .int a2), (3, .long a3), (5, .int a5), (6, .long a6), (8, .int a8), (9, .int a9)] [] S) {a2 : Int32} {a3 : Int64} {a5 : Int32} {a6 : Int64} {a8 : Int32} {a9 : Int32} {S : tS} (hf : X_verdicts_b177 a1 K κ54 κ81 a2 a3 a5 a6 a8 a9 S) : TJ Γ N0 0 0 177 [(0, .ref (xad Γ 1025)), (1, .int a1), (2, .int a2), (3, .long a3), (5, .int a5), (6, .long a6), (8, .int a8), (9, .int a9)] [] S := by
  unfold X_verdicts_b177 at hf
  obtain ⟨x22, ex⟩ : ∃ y : Int32, y = a9 + nI 1 := ⟨_, rfl⟩
  refine tj_iinc C (by rw [hR]; decide) 7 [(9, .int x22), (0, .ref (xad Γ 1025)), (1, .int a1), (2, .int a2), (3, .long a3), (5, .int a5), (6, .long a6), (8, .int a8)] rfl (by rw [ex]; exact ki_1 _) rfl dX0_verdicts_177 ?_
  replace hf := hf x22 ex
  refine tj_goto C 81 (by decide) dX0_verdicts_180 ?_
  exact tj_sub [1, 2, 3, 4, 5, 6, 7, 0] (hκ81 _ _ _ _ _ _ _ hf) rfl
theorem w_X_verdicts_b174 {Γ : tX} {N0 : Nat → Nat} {K : Int64 → tS → Prop} (C : TC Γ cX0_verdicts RX0 1 21) (hw : tWf N0) (hR : xnL Γ = 10) (r : TRl Γ N0 cX0_verdicts K) {a1 : Int32} (hX : N0 1025 ≠ 0) {κ54 : Int32 → Int64 → Int32 → tS → Prop} (hκ54 : ∀ (a2 : Int32) (a3 : Int64) (a5 : Int32) (S : tS), κ54 a2 a3 a5 S → TJ Γ N0 0 0 54 [(0, .ref (xad Γ 1025)), (1, .int a1), (2, .int a2), (3, .long a3), (5, .int a5)] [] S) {κ81 : Int32 → Int64 → Int32 → Int64 → Int32 → Int32 → tS → Prop} (hκ81 : ∀ (a2 : Int32) (a3 : Int64) (a5 : Int32) (a6 : Int64) (a8 : Int32) (a9 : Int32) (S : tS), κ81 a2 a3 a5 a6 a8 a9 S → TJ Γ N0 0 0 81 [(0, .ref (xad Γ 1025)), (1, .int a1), (2, .int a2), (3, .long a3), (5, .int a5), (6, .long a6), (8, .int a8), (9, .int a9)] [] S) {a2 : Int32} {a3 : Int64} {a5 : Int32} {a6 : Int64} {a9 : Int32} {s0 : Int32} {s1 : Int32} {S : tS} (hf : X_verdicts_b174 a1 K κ54 κ81 a2 a3 a5 a6 a9 s0 s1 S) : TJ Γ N0 0 0 174 [(0, .ref (xad Γ 1025)), (1, .int a1), (2, .int a2), (3, .long a3), (5, .int a5), (6, .long a6), (9, .int a9)] [.int s1, .int s0] S := by
  unfold X_verdicts_b174 at hf
  refine tj_iadd C dX0_verdicts_174 ?_
  refine tj_topi (fun x23 ex => ?_)
  replace hf := hf x23 ex
  refine tj_istore C (by rw [hR]; decide) [(8, .int x23), (0, .ref (xad Γ 1025)), (1, .int a1), (2, .int a2), (3, .long a3), (5, .int a5), (6, .long a6), (9, .int a9)] rfl dX0_verdicts_175 ?_
  exact tj_sub [1, 2, 3, 4, 5, 6, 0, 7] (w_X_verdicts_b177 C hw hR r hX hκ54 hκ81 hf) rfl
theorem w_X_verdicts_b145 {Γ : tX} {N0 : Nat → Nat} {K : Int64 → tS → Prop} (C : TC Γ cX0_verdicts RX0 1 21) (hw : tWf N0) (hR : xnL Γ = 10) (r : TRl Γ N0 cX0_verdicts K) {a1 : Int32} (hX : N0 1025 ≠ 0) {κ54 : Int32 → Int64 → Int32 → tS → Prop} (hκ54 : ∀ (a2 : Int32) (a3 : Int64) (a5 : Int32) (S : tS), κ54 a2 a3 a5 S → TJ Γ N0 0 0 54 [(0, .ref (xad Γ 1025)), (1, .int a1), (2, .int a2), (3, .long a3), (5, .int a5)] [] S) {κ81 : Int32 → Int64 → Int32 → Int64 → Int32 → Int32 → tS → Prop} (hκ81 : ∀ (a2 : Int32) (a3 : Int64) (a5 : Int32) (a6 : Int64) (a8 : Int32) (a9 : Int32) (S : tS), κ81 a2 a3 a5 a6 a8 a9 S → TJ Γ N0 0 0 81 [(0, .ref (xad Γ 1025)), (1, .int a1), (2, .int a2), (3, .long a3), (5, .int a5), (6, .long a6), (8, .int a8), (9, .int a9)] [] S) {a2 : Int32} {a3 : Int64} {a5 : Int32} {a8 : Int32} {a9 : Int32} {s0 : Int64} {s1 : Int64} {S : tS} (hf : X_verdicts_b145 a1 K κ54 κ81 a2 a3 a5 a8 a9 s0 s1 S) : TJ Γ N0 0 0 145 [(0, .ref (xad Γ 1025)), (1, .int a1), (2, .int a2), (3, .long a3), (5, .int a5), (8, .int a8), (9, .int a9)] [.long s1, .long s0] S := by
  unfold X_verdicts_b145 at hf
  refine tj_lmul C dX0_verdicts_145 ?_
  refine tj_topl (fun x18 ex => ?_)
  replace hf := hf x18 ex
  refine tj_lstore C (by rw [hR]; decide) [(6, .long x18), (0, .ref (xad Γ 1025)), (1, .int a1), (2, .int a2), (3, .long a3), (5, .int a5), (8, .int a8), (9, .int a9)] rfl dX0_verdicts_146 ?_
  refine tj_iload C 6 rfl dX0_verdicts_148 ?_
  refine tj_iload C 5 rfl dX0_verdicts_150 ?_
  refine tj_iload C 7 rfl dX0_verdicts_152 ?_
  refine tj_callSz C [.int a5, .int a9] [.int a8] (fun hN => c_X_has hf) lk_X0_431 ty_X0_has rfl (Nat.le_of_ble_eq_true rfl) (Nat.le_of_ble_eq_true rfl) (Nat.le_of_ble_eq_true rfl) rfl dX0_verdicts_154 (fun r20 S19 hf => ?_)
  have hz_r20 := hf.1
  replace hf := hf.2
  refine tj_if_eq C 173 (by decide) dX0_verdicts_157 (fun hc => ?_) (fun hc => ?_)
  · replace hf := hf.1 hc
    refine tj_iconst C kc_0 dX0_verdicts_173 ?_
    exact tj_sub [1, 2, 3, 4, 5, 0, 7] (w_X_verdicts_b174 C hw hR r hX hκ54 hκ81 hf) rfl
  · replace hf := hf.2 hc
    refine tj_aload_n C 1 rfl rfl dX0_verdicts_160 ?_
    refine tj_callVa C (k := 1) [] [.int a8] (fun hN => c_X_at (by rw [hN]; exact hX) hf) lk_X0_168 ty_X0_at rfl (Nat.le_of_ble_eq_true rfl) (Nat.le_of_ble_eq_true rfl) (Nat.le_of_ble_eq_true rfl) hX rfl (by decide) rfl rfl dX0_verdicts_161 (fun S21 hf => ?_)
    refine gf_X0_326 C rfl (ne0 (ln_1222 hw hX)) dX0_verdicts_164 ?_
    refine tj_iload C 7 rfl dX0_verdicts_167 ?_
    refine tj_iald C 1616 6 rfl (ln_1616 hw hX) _ rfl hf.1 dX0_verdicts_169 ?_
    replace hf := hf.2
    refine tj_goto C 174 (by decide) dX0_verdicts_170 ?_
    exact tj_sub [1, 2, 3, 4, 5, 0, 7] (w_X_verdicts_b174 C hw hR r hX hκ54 hκ81 hf) rfl
theorem w_X_verdicts_l81 {Γ : tX} {N0 : Nat → Nat} {K : Int64 → tS → Prop} (C : TC Γ cX0_verdicts RX0 1 21) (hw : tWf N0) (hR : xnL Γ = 10) (r : TRl Γ N0 cX0_verdicts K) {a1 : Int32} (hX : N0 1025 ≠ 0) {κ54 : Int32 → Int64 → Int32 → tS → Prop} (hκ54 : ∀ (a2 : Int32) (a3 : Int64) (a5 : Int32) (S : tS), κ54 a2 a3 a5 S → TJ Γ N0 0 0 54 [(0, .ref (xad Γ 1025)), (1, .int a1), (2, .int a2), (3, .long a3), (5, .int a5)] [] S) : ∀ (n : Nat) (a2 : Int32) (a3 : Int64) (a5 : Int32) (a6 : Int64) (a8 : Int32) (a9 : Int32) (S : tS), X_verdicts_l81 a1 K κ54 n a2 a3 a5 a6 a8 a9 S → TJ Γ N0 0 0 81 [(0, .ref (xad Γ 1025)), (1, .int a1), (2, .int a2), (3, .long a3), (5, .int a5), (6, .long a6), (8, .int a8), (9, .int a9)] [] S := by
  intro n
  induction n with
  | zero => intro a2 a3 a5 a6 a8 a9 S hf; exact hf.elim
  | succ n ih =>
    intro a2 a3 a5 a6 a8 a9 S hf
    unfold X_verdicts_l81 at hf
    refine tj_iload C 7 rfl dX0_verdicts_81 ?_
    refine tj_aload_n C 0 rfl rfl dX0_verdicts_83 ?_
    refine tj_callVa C (k := 1) [] [.int a9] (fun hN => c_X_at (by rw [hN]; exact hX) hf) lk_X0_168 ty_X0_at rfl (Nat.le_of_ble_eq_true rfl) (Nat.le_of_ble_eq_true rfl) (Nat.le_of_ble_eq_true rfl) hX rfl (by decide) rfl rfl dX0_verdicts_84 (fun S9 hf => ?_)
    refine gf_X0_188 C rfl (ne0 (ln_1222 hw hX)) dX0_verdicts_87 ?_
    refine tj_icmp_ge C 183 (by decide) dX0_verdicts_90 (fun hc => ?_) (fun hc => ?_)
    · replace hf := hf.1 hc
      refine tj_lload_n C 3 rfl rfl dX0_verdicts_183 ?_
      refine tj_iconst C kc_2 dX0_verdicts_184 ?_
      refine tj_iload C 6 rfl dX0_verdicts_185 ?_
      refine tj_imul C dX0_verdicts_187 ?_
      refine tj_iload_n C 2 rfl rfl dX0_verdicts_188 ?_
      refine tj_icmp_le C 197 (by decide) dX0_verdicts_189 (fun hc => ?_) (fun hc => ?_)
      · replace hf := hf.1 hc
        refine tj_lconst C (v := lN 0) rfl dX0_verdicts_197 ?_
        exact tj_sub [0, 1, 2, 4] (w_X_verdicts_b198 C hw hR r hX hκ54 hf) rfl
      · replace hf := hf.2 hc
        refine tj_lload C 5 rfl dX0_verdicts_192 ?_
        refine tj_goto C 198 (by decide) dX0_verdicts_194 ?_
        exact tj_sub [0, 1, 2, 4] (w_X_verdicts_b198 C hw hR r hX hκ54 hf) rfl
    · replace hf := hf.2 hc
      refine tj_iload_n C 1 rfl rfl dX0_verdicts_93 ?_
      refine tj_iload C 7 rfl dX0_verdicts_94 ?_
      refine tj_callSz C [.int a1, .int a9] [] (fun hN => c_X_has hf) lk_X0_431 ty_X0_has rfl (Nat.le_of_ble_eq_true rfl) (Nat.le_of_ble_eq_true rfl) (Nat.le_of_ble_eq_true rfl) rfl dX0_verdicts_96 (fun r11 S10 hf => ?_)
      have hz_r11 := hf.1
      replace hf := hf.2
      refine tj_if_ne C 105 (by decide) dX0_verdicts_99 (fun hc => ?_) (fun hc => ?_)
      · replace hf := hf.2 hc
        refine tj_lload C 5 rfl dX0_verdicts_105 ?_
        refine tj_iload C 4 rfl dX0_verdicts_107 ?_
        refine tj_iload C 7 rfl dX0_verdicts_109 ?_
        refine tj_callSz C [.int a5, .int a9] [.long a6] (fun hN => c_X_has hf) lk_X0_431 ty_X0_has rfl (Nat.le_of_ble_eq_true rfl) (Nat.le_of_ble_eq_true rfl) (Nat.le_of_ble_eq_true rfl) rfl dX0_verdicts_111 (fun r13 S12 hf => ?_)
        have hz_r13 := hf.1
        replace hf := hf.2
        refine tj_if_eq C 134 (by decide) dX0_verdicts_114 (fun hc => ?_) (fun hc => ?_)
        · replace hf := hf.1 hc
          refine tj_aload_n C 0 rfl rfl dX0_verdicts_134 ?_
          refine tj_callVa C (k := 1) [] [.long a6] (fun hN => c_X_at (by rw [hN]; exact hX) hf) lk_X0_168 ty_X0_at rfl (Nat.le_of_ble_eq_true rfl) (Nat.le_of_ble_eq_true rfl) (Nat.le_of_ble_eq_true rfl) hX rfl (by decide) rfl rfl dX0_verdicts_135 (fun S14 hf => ?_)
          refine gf_X0_323 C rfl (ne0 (ln_1222 hw hX)) dX0_verdicts_138 ?_
          refine tj_iload C 7 rfl dX0_verdicts_141 ?_
          refine tj_iald C 1584 6 rfl (ln_1584 hw hX) _ rfl hf.1 dX0_verdicts_143 ?_
          replace hf := hf.2
          refine tj_i2l C dX0_verdicts_144 ?_
          exact tj_sub [0, 1, 2, 3, 4, 6, 7] (w_X_verdicts_b145 C hw hR r hX hκ54 ih hf) rfl
        · replace hf := hf.2 hc
          refine tj_bipush C kb_16 dX0_verdicts_117 ?_
          refine tj_aload_n C 0 rfl rfl dX0_verdicts_119 ?_
          refine tj_callVa C (k := 1) [] [.int (nI 16), .long a6] (fun hN => c_X_at (by rw [hN]; exact hX) hf) lk_X0_168 ty_X0_at rfl (Nat.le_of_ble_eq_true rfl) (Nat.le_of_ble_eq_true rfl) (Nat.le_of_ble_eq_true rfl) hX rfl (by decide) rfl rfl dX0_verdicts_120 (fun S15 hf => ?_)
          refine gf_X0_323 C rfl (ne0 (ln_1222 hw hX)) dX0_verdicts_123 ?_
          refine tj_iload C 7 rfl dX0_verdicts_126 ?_
          refine tj_iald C 1584 6 rfl (ln_1584 hw hX) _ rfl hf.1 dX0_verdicts_128 ?_
          replace hf := hf.2
          refine tj_isub C dX0_verdicts_129 ?_
          refine tj_i2l C dX0_verdicts_130 ?_
          refine tj_goto C 145 (by decide) dX0_verdicts_131 ?_
          exact tj_sub [0, 1, 2, 3, 4, 6, 7] (w_X_verdicts_b145 C hw hR r hX hκ54 ih hf) rfl
      · replace hf := hf.1 hc
        refine tj_goto C 177 (by decide) dX0_verdicts_102 ?_
        exact w_X_verdicts_b177 C hw hR r hX hκ54 ih hf
theorem w_X_verdicts_l54 {Γ : tX} {N0 : Nat → Nat} {K : Int64 → tS → Prop} (C : TC Γ cX0_verdicts RX0 1 21) (hw : tWf N0) (hR : xnL Γ = 10) (r : TRl Γ N0 cX0_verdicts K) {a1 : Int32} (hX : N0 1025 ≠ 0) : ∀ (n : Nat) (a2 : Int32) (a3 : Int64) (a5 : Int32) (S : tS), X_verdicts_l54 a1 K n a2 a3 a5 S → TJ Γ N0 0 0 54 [(0, .ref (xad Γ 1025)), (1, .int a1), (2, .int a2), (3, .long a3), (5, .int a5)] [] S := by
  intro n
  induction n with
  | zero => intro a2 a3 a5 S hf; exact hf.elim
  | succ n ih =>
    intro a2 a3 a5 S hf
    unfold X_verdicts_l54 at hf
    refine tj_iload C 4 rfl dX0_verdicts_54 ?_
    refine tj_iload_n C 1 rfl rfl dX0_verdicts_56 ?_
    refine tj_icmp_gt C 206 (by decide) dX0_verdicts_57 (fun hc => ?_) (fun hc => ?_)
    · replace hf := hf.1 hc
      refine tj_lload_n C 3 rfl rfl dX0_verdicts_206 ?_
      exact r _ _ _ _ dX0_verdicts_207 hf
    · replace hf := hf.2 hc
      refine tj_iload C 4 rfl dX0_verdicts_60 ?_
      refine tj_iload_n C 1 rfl rfl dX0_verdicts_62 ?_
      refine tj_iconst C kc_m1 dX0_verdicts_63 ?_
      refine tj_ixor C dX0_verdicts_64 ?_
      refine tj_iand C dX0_verdicts_65 ?_
      refine tj_if_eq C 72 (by decide) dX0_verdicts_66 (fun hc => ?_) (fun hc => ?_)
      · replace hf := hf.1 hc
        refine tj_lconst C (v := lN 1) rfl dX0_verdicts_72 ?_
        refine tj_topl (fun x6 ex => ?_)
        replace hf := hf x6 ex
        refine tj_lstore C (by rw [hR]; decide) [(6, .long x6), (0, .ref (xad Γ 1025)), (1, .int a1), (2, .int a2), (3, .long a3), (5, .int a5)] rfl dX0_verdicts_73 ?_
        refine tj_iconst C kc_0 dX0_verdicts_75 ?_
        refine tj_istore C (by rw [hR]; decide) [(8, .int (nI 0)), (6, .long x6), (0, .ref (xad Γ 1025)), (1, .int a1), (2, .int a2), (3, .long a3), (5, .int a5)] rfl dX0_verdicts_76 ?_
        refine tj_iconst C kc_0 dX0_verdicts_78 ?_
        refine tj_istore C (by rw [hR]; decide) [(9, .int (nI 0)), (8, .int (nI 0)), (6, .long x6), (0, .ref (xad Γ 1025)), (1, .int a1), (2, .int a2), (3, .long a3), (5, .int a5)] rfl dX0_verdicts_79 ?_
        exact tj_sub [3, 4, 5, 6, 7, 2, 1, 0] (hf.elim fun k hf => w_X_verdicts_l81 C hw hR r hX ih k _ _ _ _ _ _ _ hf) rfl
      · replace hf := hf.2 hc
        refine tj_goto C 200 (by decide) dX0_verdicts_69 ?_
        exact w_X_verdicts_b200 C hw hR r hX ih hf
theorem w_X_verdicts_b43 {Γ : tX} {N0 : Nat → Nat} {K : Int64 → tS → Prop} (C : TC Γ cX0_verdicts RX0 1 21) (hw : tWf N0) (hR : xnL Γ = 10) (r : TRl Γ N0 cX0_verdicts K) {a1 : Int32} (hX : N0 1025 ≠ 0) {κ7 : Int32 → Int64 → Int32 → tS → Prop} (hκ7 : ∀ (a2 : Int32) (a3 : Int64) (a5 : Int32) (S : tS), κ7 a2 a3 a5 S → TJ Γ N0 0 0 7 [(0, .ref (xad Γ 1025)), (1, .int a1), (2, .int a2), (3, .long a3), (5, .int a5)] [] S) {a3 : Int64} {a5 : Int32} {s0 : Int32} {s1 : Int32} {S : tS} (hf : X_verdicts_b43 a1 K κ7 a3 a5 s0 s1 S) : TJ Γ N0 0 0 43 [(0, .ref (xad Γ 1025)), (1, .int a1), (3, .long a3), (5, .int a5)] [.int s1, .int s0] S := by
  unfold X_verdicts_b43 at hf
  refine tj_iadd C dX0_verdicts_43 ?_
  refine tj_topi (fun x7 ex => ?_)
  replace hf := hf x7 ex
  refine tj_istore_n C (by rw [hR]; decide) [(2, .int x7), (0, .ref (xad Γ 1025)), (1, .int a1), (3, .long a3), (5, .int a5)] rfl rfl dX0_verdicts_44 ?_
  obtain ⟨x8, ex⟩ : ∃ y : Int32, y = a5 + nI 1 := ⟨_, rfl⟩
  refine tj_iinc C (by rw [hR]; decide) 4 [(5, .int x8), (2, .int x7), (0, .ref (xad Γ 1025)), (1, .int a1), (3, .long a3)] rfl (by rw [ex]; exact ki_1 _) rfl dX0_verdicts_45 ?_
  replace hf := hf x8 ex
  refine tj_goto C 7 (by decide) dX0_verdicts_48 ?_
  exact tj_sub [2, 3, 1, 4, 0] (hκ7 _ _ _ _ hf) rfl
theorem w_X_verdicts_l7 {Γ : tX} {N0 : Nat → Nat} {K : Int64 → tS → Prop} (C : TC Γ cX0_verdicts RX0 1 21) (hw : tWf N0) (hR : xnL Γ = 10) (r : TRl Γ N0 cX0_verdicts K) {a1 : Int32} (hX : N0 1025 ≠ 0) : ∀ (n : Nat) (a2 : Int32) (a3 : Int64) (a5 : Int32) (S : tS), X_verdicts_l7 a1 K n a2 a3 a5 S → TJ Γ N0 0 0 7 [(0, .ref (xad Γ 1025)), (1, .int a1), (2, .int a2), (3, .long a3), (5, .int a5)] [] S := by
  intro n
  induction n with
  | zero => intro a2 a3 a5 S hf; exact hf.elim
  | succ n ih =>
    intro a2 a3 a5 S hf
    unfold X_verdicts_l7 at hf
    refine tj_iload C 4 rfl dX0_verdicts_7 ?_
    refine tj_aload_n C 0 rfl rfl dX0_verdicts_9 ?_
    refine tj_callVa C (k := 1) [] [.int a5] (fun hN => c_X_at (by rw [hN]; exact hX) hf) lk_X0_168 ty_X0_at rfl (Nat.le_of_ble_eq_true rfl) (Nat.le_of_ble_eq_true rfl) (Nat.le_of_ble_eq_true rfl) hX rfl (by decide) rfl rfl dX0_verdicts_10 (fun S2 hf => ?_)
    refine gf_X0_188 C rfl (ne0 (ln_1222 hw hX)) dX0_verdicts_13 ?_
    refine tj_icmp_ge C 51 (by decide) dX0_verdicts_16 (fun hc => ?_) (fun hc => ?_)
    · replace hf := hf.1 hc
      refine tj_iconst C kc_0 dX0_verdicts_51 ?_
      refine tj_istore C (by rw [hR]; decide) [(5, .int (nI 0)), (0, .ref (xad Γ 1025)), (1, .int a1), (2, .int a2), (3, .long a3)] rfl dX0_verdicts_52 ?_
      exact tj_sub [1, 2, 3, 4, 0] (hf.elim fun k hf => w_X_verdicts_l54 C hw hR r hX k _ _ _ _ hf) rfl
    · replace hf := hf.2 hc
      refine tj_iload_n C 2 rfl rfl dX0_verdicts_19 ?_
      refine tj_iload_n C 1 rfl rfl dX0_verdicts_20 ?_
      refine tj_iload C 4 rfl dX0_verdicts_21 ?_
      refine tj_callSz C [.int a1, .int a5] [.int a2] (fun hN => c_X_has hf) lk_X0_431 ty_X0_has rfl (Nat.le_of_ble_eq_true rfl) (Nat.le_of_ble_eq_true rfl) (Nat.le_of_ble_eq_true rfl) rfl dX0_verdicts_23 (fun r4 S3 hf => ?_)
      have hz_r4 := hf.1
      replace hf := hf.2
      refine tj_if_eq C 42 (by decide) dX0_verdicts_26 (fun hc => ?_) (fun hc => ?_)
      · replace hf := hf.1 hc
        refine tj_iconst C kc_0 dX0_verdicts_42 ?_
        exact tj_sub [0, 1, 3, 4] (w_X_verdicts_b43 C hw hR r hX ih hf) rfl
      · replace hf := hf.2 hc
        refine tj_aload_n C 0 rfl rfl dX0_verdicts_29 ?_
        refine tj_callVa C (k := 1) [] [.int a2] (fun hN => c_X_at (by rw [hN]; exact hX) hf) lk_X0_168 ty_X0_at rfl (Nat.le_of_ble_eq_true rfl) (Nat.le_of_ble_eq_true rfl) (Nat.le_of_ble_eq_true rfl) hX rfl (by decide) rfl rfl dX0_verdicts_30 (fun S5 hf => ?_)
        refine gf_X0_326 C rfl (ne0 (ln_1222 hw hX)) dX0_verdicts_33 ?_
        refine tj_iload C 4 rfl dX0_verdicts_36 ?_
        refine tj_iald C 1616 6 rfl (ln_1616 hw hX) _ rfl hf.1 dX0_verdicts_38 ?_
        replace hf := hf.2
        refine tj_goto C 43 (by decide) dX0_verdicts_39 ?_
        exact tj_sub [0, 1, 3, 4] (w_X_verdicts_b43 C hw hR r hX ih hf) rfl
theorem w_X_verdicts_b0 {Γ : tX} {N0 : Nat → Nat} {K : Int64 → tS → Prop} (C : TC Γ cX0_verdicts RX0 1 21) (hw : tWf N0) (hR : xnL Γ = 10) (r : TRl Γ N0 cX0_verdicts K) {a1 : Int32} (hX : N0 1025 ≠ 0) {S : tS} (hf : X_verdicts a1 S K) : TJ Γ N0 0 0 0 [(0, .ref (xad Γ 1025)), (1, .int a1)] [] S := by
  unfold X_verdicts at hf
  refine tj_iconst C kc_0 dX0_verdicts_0 ?_
  refine tj_istore_n C (by rw [hR]; decide) [(2, .int (nI 0)), (0, .ref (xad Γ 1025)), (1, .int a1)] rfl rfl dX0_verdicts_1 ?_
  refine tj_lconst C (v := lN 0) rfl dX0_verdicts_2 ?_
  refine tj_topl (fun x1 ex => ?_)
  replace hf := hf x1 ex
  refine tj_lstore_n C (by rw [hR]; decide) [(3, .long x1), (2, .int (nI 0)), (0, .ref (xad Γ 1025)), (1, .int a1)] rfl rfl dX0_verdicts_3 ?_
  refine tj_iconst C kc_0 dX0_verdicts_4 ?_
  refine tj_istore C (by rw [hR]; decide) [(5, .int (nI 0)), (3, .long x1), (2, .int (nI 0)), (0, .ref (xad Γ 1025)), (1, .int a1)] rfl dX0_verdicts_5 ?_
  exact tj_sub [3, 4, 2, 1, 0] (hf.elim fun k hf => w_X_verdicts_l7 C hw hR r hX k _ _ _ _ hf) rfl
theorem c_X_verdicts {l : Launch} {G : tG} {ad : Nat → Nat} {A : Nat → Prop} {S : tS} {K : Int64 → tS → Prop} {a1 : Int32} (hX : gN S 1025 ≠ 0) (hf : X_verdicts a1 S K) : Met l yX0_verdicts (ws_ yX0_verdicts cX0_verdicts 10 (some .long)) (tRm 1 21) (va_Pc [.ref (ad 1025), .int a1] (tPre G ad A S)) (va_Ql K (tB G ad A (gN S)) A) 0 0 A :=
  tj_met_l [(0, .ref (ad 1025)), (1, .int a1)] pn_X0 rfl (Nat.le_of_ble_eq_true rfl) (fun p e R s m args below meth c Q C hw r => w_X_verdicts_b0 C hw rfl r hX hf)
theorem w_X_sworn_b89 {Γ : tX} {N0 : Nat → Nat} {K : Int32 → tS → Prop} (C : TC Γ cX0_sworn RX0 2 50) (hw : tWf N0) (hR : xnL Γ = 4) (r : TRi Γ N0 cX0_sworn K) {a1 : Int32} (hX : N0 1025 ≠ 0) {κ41 : Int32 → Int32 → tS → Prop} (hκ41 : ∀ (a2 : Int32) (a3 : Int32) (S : tS), κ41 a2 a3 S → TJ Γ N0 0 0 41 [(0, .ref (xad Γ 1025)), (1, .int a1), (2, .int a2), (3, .int a3)] [] S) {a2 : Int32} {a3 : Int32} {S : tS} (hf : X_sworn_b89 a1 K κ41 a2 a3 S) : TJ Γ N0 0 0 89 [(0, .ref (xad Γ 1025)), (1, .int a1), (2, .int a2), (3, .int a3)] [] S := by
  unfold X_sworn_b89 at hf
  obtain ⟨x15, ex⟩ : ∃ y : Int32, y = a3 + nI 1 := ⟨_, rfl⟩
  refine tj_iinc C (by rw [hR]; decide) 3 [(3, .int x15), (0, .ref (xad Γ 1025)), (1, .int a1), (2, .int a2)] rfl (by rw [ex]; exact ki_1 _) rfl dX0_sworn_89 ?_
  replace hf := hf x15 ex
  refine tj_goto C 41 (by decide) dX0_sworn_92 ?_
  exact tj_sub [1, 2, 3, 0] (hκ41 _ _ _ hf) rfl
theorem w_X_sworn_l41 {Γ : tX} {N0 : Nat → Nat} {K : Int32 → tS → Prop} (C : TC Γ cX0_sworn RX0 2 50) (hw : tWf N0) (hR : xnL Γ = 4) (r : TRi Γ N0 cX0_sworn K) {a1 : Int32} (hX : N0 1025 ≠ 0) : ∀ (n : Nat) (a2 : Int32) (a3 : Int32) (S : tS), X_sworn_l41 a1 K n a2 a3 S → TJ Γ N0 0 0 41 [(0, .ref (xad Γ 1025)), (1, .int a1), (2, .int a2), (3, .int a3)] [] S := by
  intro n
  induction n with
  | zero => intro a2 a3 S hf; exact hf.elim
  | succ n ih =>
    intro a2 a3 S hf
    unfold X_sworn_l41 at hf
    refine tj_iload_n C 3 rfl rfl dX0_sworn_41 ?_
    refine tj_iconst C kc_1 dX0_sworn_42 ?_
    refine tj_aload_n C 0 rfl rfl dX0_sworn_43 ?_
    refine tj_callVa C (k := 1) [] [.int (nI 1), .int a3] (fun hN => c_X_at (by rw [hN]; exact hX) hf) lk_X0_168 ty_X0_at rfl (Nat.le_of_ble_eq_true rfl) (Nat.le_of_ble_eq_true rfl) (Nat.le_of_ble_eq_true rfl) hX rfl (by decide) rfl rfl dX0_sworn_44 (fun S5 hf => ?_)
    refine gf_X0_188 C rfl (ne0 (ln_1222 hw hX)) dX0_sworn_47 ?_
    refine tj_ishl C dX0_sworn_50 ?_
    refine tj_icmp_ge C 95 (by decide) dX0_sworn_51 (fun hc => ?_) (fun hc => ?_)
    · replace hf := hf.1 hc
      refine tj_aload_n C 0 rfl rfl dX0_sworn_95 ?_
      refine tj_iload_n C 2 rfl rfl dX0_sworn_96 ?_
      refine tj_callVi C (k := 1) [.int a2] [] (fun hN => c_X_answer (by rw [hN]; exact hX) hf) lk_X0_292 ty_X0_answer rfl (Nat.le_of_ble_eq_true rfl) (Nat.le_of_ble_eq_true rfl) (Nat.le_of_ble_eq_true rfl) hX rfl (by decide) rfl rfl dX0_sworn_97 (fun r7 S6 hf => ?_)
      exact r _ _ _ _ dX0_sworn_100 hf
    · replace hf := hf.2 hc
      refine tj_iload_n C 3 rfl rfl dX0_sworn_54 ?_
      refine tj_callSi C [.int a3] [] (fun hN => c_In_bitCount hf) lk_X0_338 ty_J11_bitCount rfl (Nat.le_of_ble_eq_true rfl) (Nat.le_of_ble_eq_true rfl) (Nat.le_of_ble_eq_true rfl) rfl dX0_sworn_55 (fun r9 S8 hf => ?_)
      refine tj_iload_n C 1 rfl rfl dX0_sworn_58 ?_
      refine tj_icmp_ne C 89 (by decide) dX0_sworn_59 (fun hc => ?_) (fun hc => ?_)
      · replace hf := hf.2 hc
        exact w_X_sworn_b89 C hw hR r hX ih hf
      · replace hf := hf.1 hc
        refine tj_aload_n C 0 rfl rfl dX0_sworn_62 ?_
        refine tj_iload_n C 3 rfl rfl dX0_sworn_63 ?_
        refine tj_callVl C (k := 1) [.int a3] [] (fun hN => c_X_verdicts (by rw [hN]; exact hX) hf) lk_X0_434 ty_X0_verdicts rfl (Nat.le_of_ble_eq_true rfl) (Nat.le_of_ble_eq_true rfl) (Nat.le_of_ble_eq_true rfl) hX rfl (by decide) rfl rfl dX0_sworn_64 (fun r11 S10 hf => ?_)
        refine tj_aload_n C 0 rfl rfl dX0_sworn_67 ?_
        refine gf_X0_443 C hX dX0_sworn_68 ?_
        refine tj_lcmp C dX0_sworn_71 ?_
        refine tj_if_gt C 78 (by decide) dX0_sworn_72 (fun hc => ?_) (fun hc => ?_)
        · replace hf := hf.1 hc
          refine tj_aload_n C 0 rfl rfl dX0_sworn_78 ?_
          refine tj_aload_n C 0 rfl rfl dX0_sworn_79 ?_
          refine tj_iload_n C 3 rfl rfl dX0_sworn_80 ?_
          refine tj_callVl C (k := 1) [.int a3] [.ref (xad Γ 1025)] (fun hN => c_X_verdicts (by rw [hN]; exact hX) hf) lk_X0_434 ty_X0_verdicts rfl (Nat.le_of_ble_eq_true rfl) (Nat.le_of_ble_eq_true rfl) (Nat.le_of_ble_eq_true rfl) hX rfl (by decide) rfl rfl dX0_sworn_81 (fun r13 S12 hf => ?_)
          refine pf_X0_443 C hX dX0_sworn_84 ?_
          refine tj_topS (fun S14 eS => ?_)
          replace hf := hf S14 eS
          refine tj_iload_n C 3 rfl rfl dX0_sworn_87 ?_
          refine tj_istore_n C (by rw [hR]; decide) [(2, .int a3), (0, .ref (xad Γ 1025)), (1, .int a1), (3, .int a3)] rfl rfl dX0_sworn_88 ?_
          exact tj_sub [1, 2, 0, 3] (w_X_sworn_b89 C hw hR r hX ih hf) rfl
        · replace hf := hf.2 hc
          refine tj_goto C 89 (by decide) dX0_sworn_75 ?_
          exact w_X_sworn_b89 C hw hR r hX ih hf
theorem w_X_sworn_b18 {Γ : tX} {N0 : Nat → Nat} {K : Int32 → tS → Prop} (C : TC Γ cX0_sworn RX0 2 50) (hw : tWf N0) (hR : xnL Γ = 4) (r : TRi Γ N0 cX0_sworn K) {a1 : Int32} (hX : N0 1025 ≠ 0) {s1 : Int32} {S : tS} (hf : X_sworn_b18 a1 K s1 S) : TJ Γ N0 0 0 18 [(0, .ref (xad Γ 1025)), (1, .int a1)] [.int s1, .ref (xad Γ 1025)] S := by
  unfold X_sworn_b18 at hf
  refine pf_X0_91 C hX dX0_sworn_18 ?_
  refine tj_topS (fun S3 eS => ?_)
  replace hf := hf S3 eS
  refine tj_aload_n C 0 rfl rfl dX0_sworn_21 ?_
  refine gf_X0_91 C hX dX0_sworn_22 ?_
  refine tj_if_le C 30 (by decide) dX0_sworn_25 (fun hc => ?_) (fun hc => ?_)
  · replace hf := hf.1 hc
    refine tj_iconst C kc_m1 dX0_sworn_30 ?_
    refine tj_istore_n C (by rw [hR]; decide) [(2, .int (-1)), (0, .ref (xad Γ 1025)), (1, .int a1)] rfl rfl dX0_sworn_31 ?_
    refine tj_aload_n C 1 rfl rfl dX0_sworn_32 ?_
    refine tj_ldc2 C kl_X0_147 dX0_sworn_33 ?_
    refine pf_X0_443 C hX dX0_sworn_36 ?_
    refine tj_topS (fun S4 eS => ?_)
    replace hf := hf S4 eS
    refine tj_iconst C kc_0 dX0_sworn_39 ?_
    refine tj_istore_n C (by rw [hR]; decide) [(3, .int (nI 0)), (2, .int (-1)), (0, .ref (xad Γ 1025)), (1, .int a1)] rfl rfl dX0_sworn_40 ?_
    exact tj_sub [2, 3, 1, 0] (hf.elim fun k hf => w_X_sworn_l41 C hw hR r hX k _ _ _ hf) rfl
  · replace hf := hf.2 hc
    refine tj_iconst C kc_m1 dX0_sworn_28 ?_
    exact r _ _ _ _ dX0_sworn_29 hf
theorem w_X_sworn_b0 {Γ : tX} {N0 : Nat → Nat} {K : Int32 → tS → Prop} (C : TC Γ cX0_sworn RX0 2 50) (hw : tWf N0) (hR : xnL Γ = 4) (r : TRi Γ N0 cX0_sworn K) {a1 : Int32} (hX : N0 1025 ≠ 0) {S : tS} (hf : X_sworn a1 S K) : TJ Γ N0 0 0 0 [(0, .ref (xad Γ 1025)), (1, .int a1)] [] S := by
  unfold X_sworn at hf
  refine tj_aload_n C 0 rfl rfl dX0_sworn_0 ?_
  refine tj_iload_n C 1 rfl rfl dX0_sworn_1 ?_
  refine tj_i2l C dX0_sworn_2 ?_
  refine tj_lconst C (v := lN 1) rfl dX0_sworn_3 ?_
  refine tj_ldc2 C kl_X0_441 dX0_sworn_4 ?_
  refine tj_callSz C [.long (a1.toInt64), .long (lN 1), .long (lN 6)] [.ref (xad Γ 1025)] (fun hN => c_X_isIn hf) lk_X0_175 ty_X0_isIn rfl (Nat.le_of_ble_eq_true rfl) (Nat.le_of_ble_eq_true rfl) (Nat.le_of_ble_eq_true rfl) rfl dX0_sworn_7 (fun r2 S1 hf => ?_)
  have hz_r2 := hf.1
  replace hf := hf.2
  refine tj_if_eq C 17 (by decide) dX0_sworn_10 (fun hc => ?_) (fun hc => ?_)
  · replace hf := hf.1 hc
    refine tj_iconst C kc_1 dX0_sworn_17 ?_
    exact w_X_sworn_b18 C hw hR r hX hf
  · replace hf := hf.2 hc
    refine tj_iconst C kc_0 dX0_sworn_13 ?_
    refine tj_goto C 18 (by decide) dX0_sworn_14 ?_
    exact w_X_sworn_b18 C hw hR r hX hf
theorem c_X_sworn {l : Launch} {G : tG} {ad : Nat → Nat} {A : Nat → Prop} {S : tS} {K : Int32 → tS → Prop} {a1 : Int32} (hX : gN S 1025 ≠ 0) (hf : X_sworn a1 S K) : Met l yX0_sworn (ws_ yX0_sworn cX0_sworn 4 (some .int)) (tRm 2 50) (va_Pc [.ref (ad 1025), .int a1] (tPre G ad A S)) (va_Qi K (tB G ad A (gN S)) A) 0 0 A :=
  tj_met_i [(0, .ref (ad 1025)), (1, .int a1)] pn_X0 rfl (Nat.le_of_ble_eq_true rfl) (fun p e R s m args below meth c Q C hw r => w_X_sworn_b0 C hw rfl r hX hf)
theorem w_X_tells_b75 {Γ : tX} {N0 : Nat → Nat} {K : Int32 → tS → Prop} (C : TC Γ cX0_tells RX0 4 97) (hw : tWf N0) (hR : xnL Γ = 2) (r : TRz Γ N0 cX0_tells K) {a1 : Int32} (hX : N0 1025 ≠ 0) {S : tS} (hf : X_tells_b75 a1 K  S) : TJ Γ N0 0 0 75 [(0, .ref (xad Γ 1025))] [] S := by
  unfold X_tells_b75 at hf
  refine tj_aload_n C 0 rfl rfl dX0_tells_75 ?_
  refine gf_X0_91 C hX dX0_tells_76 ?_
  refine tj_if_ne C 86 (by decide) dX0_tells_79 (fun hc => ?_) (fun hc => ?_)
  · replace hf := hf.2 hc
    refine tj_iconst C kc_0 dX0_tells_86 ?_
    exact r _ _ _ _ dX0_tells_87 zb0 hf
  · replace hf := hf.1 hc
    refine tj_iconst C kc_1 dX0_tells_82 ?_
    refine tj_goto C 87 (by decide) dX0_tells_83 ?_
    exact r _ _ _ _ dX0_tells_87 zb1 hf
theorem w_X_tells_b46 {Γ : tX} {N0 : Nat → Nat} {K : Int32 → tS → Prop} (C : TC Γ cX0_tells RX0 4 97) (hw : tWf N0) (hR : xnL Γ = 2) (r : TRz Γ N0 cX0_tells K) {a1 : Int32} (hX : N0 1025 ≠ 0) {s1 : Int32} {S : tS} (hf : X_tells_b46 a1 K s1 S) : TJ Γ N0 0 0 46 [(0, .ref (xad Γ 1025)), (1, .int a1)] [.int s1, .ref (xad Γ 1025)] S := by
  unfold X_tells_b46 at hf
  refine pf_X0_91 C hX dX0_tells_46 ?_
  refine tj_topS (fun S5 eS => ?_)
  replace hf := hf S5 eS
  refine tj_aload_n C 0 rfl rfl dX0_tells_49 ?_
  refine gf_X0_91 C hX dX0_tells_50 ?_
  refine tj_if_ne C 75 (by decide) dX0_tells_53 (fun hc => ?_) (fun hc => ?_)
  · replace hf := hf.2 hc
    exact tj_sub [0] (w_X_tells_b75 C hw hR r hX hf) rfl
  · replace hf := hf.1 hc
    refine tj_aload_n C 0 rfl rfl dX0_tells_56 ?_
    refine tj_aload_n C 0 rfl rfl dX0_tells_57 ?_
    refine gf_X0_79 C hX dX0_tells_58 ?_
    refine tj_iload_n C 1 rfl rfl dX0_tells_61 ?_
    refine tj_iald C 2384 7 rfl (ln_2384 hw hX) _ rfl hf.1 dX0_tells_62 ?_
    replace hf := hf.2
    refine tj_i2l C dX0_tells_63 ?_
    refine tj_aload_n C 0 rfl rfl dX0_tells_64 ?_
    refine gf_X0_76 C hX dX0_tells_65 ?_
    refine tj_iload_n C 1 rfl rfl dX0_tells_68 ?_
    refine tj_iald C 2352 7 rfl (ln_2352 hw hX) _ rfl hf.1 dX0_tells_69 ?_
    replace hf := hf.2
    refine tj_i2l C dX0_tells_70 ?_
    refine tj_callVi C (k := 1) [.long ((gI S5 2384 (a1.toNatClampNeg)).toInt64), .long ((gI S5 2352 (a1.toNatClampNeg)).toInt64)] [] (fun hN => c_X_fraction (by rw [hN]; exact hX) hf) lk_X0_406 ty_X0_fraction rfl (Nat.le_of_ble_eq_true rfl) (Nat.le_of_ble_eq_true rfl) (Nat.le_of_ble_eq_true rfl) hX rfl (by decide) rfl rfl dX0_tells_71 (fun r7 S6 hf => ?_)
    refine tj_pop C rfl dX0_tells_74 ?_
    exact tj_sub [0] (w_X_tells_b75 C hw hR r hX hf) rfl
theorem w_X_tells_b14 {Γ : tX} {N0 : Nat → Nat} {K : Int32 → tS → Prop} (C : TC Γ cX0_tells RX0 4 97) (hw : tWf N0) (hR : xnL Γ = 2) (r : TRz Γ N0 cX0_tells K) {a1 : Int32} (hX : N0 1025 ≠ 0) {s1 : Int32} {S : tS} (hf : X_tells_b14 a1 K s1 S) : TJ Γ N0 0 0 14 [(0, .ref (xad Γ 1025)), (1, .int a1)] [.int s1, .ref (xad Γ 1025)] S := by
  unfold X_tells_b14 at hf
  refine pf_X0_91 C hX dX0_tells_14 ?_
  refine tj_topS (fun S3 eS => ?_)
  replace hf := hf S3 eS
  refine tj_aload_n C 0 rfl rfl dX0_tells_17 ?_
  refine gf_X0_91 C hX dX0_tells_18 ?_
  refine tj_if_le C 26 (by decide) dX0_tells_21 (fun hc => ?_) (fun hc => ?_)
  · replace hf := hf.1 hc
    refine tj_aload_n C 0 rfl rfl dX0_tells_26 ?_
    refine tj_callVv C (k := 1) [] [] (fun hN => c_X_laysWorlds (by rw [hN]; exact hX) hf) lk_X0_428 ty_X0_laysWorlds rfl (Nat.le_of_ble_eq_true rfl) (Nat.le_of_ble_eq_true rfl) (Nat.le_of_ble_eq_true rfl) hX rfl (by decide) rfl rfl dX0_tells_27 (fun S4 hf => ?_)
    refine tj_aload_n C 0 rfl rfl dX0_tells_30 ?_
    refine tj_aload_n C 0 rfl rfl dX0_tells_31 ?_
    refine gf_X0_76 C hX dX0_tells_32 ?_
    refine tj_iload_n C 1 rfl rfl dX0_tells_35 ?_
    refine tj_iald C 2352 7 rfl (ln_2352 hw hX) _ rfl hf.1 dX0_tells_36 ?_
    replace hf := hf.2
    refine tj_if_ne C 45 (by decide) dX0_tells_37 (fun hc => ?_) (fun hc => ?_)
    · replace hf := hf.2 hc
      refine tj_iconst C kc_0 dX0_tells_45 ?_
      exact w_X_tells_b46 C hw hR r hX hf
    · replace hf := hf.1 hc
      refine tj_bipush C kb_6 dX0_tells_40 ?_
      refine tj_goto C 46 (by decide) dX0_tells_42 ?_
      exact w_X_tells_b46 C hw hR r hX hf
  · replace hf := hf.2 hc
    refine tj_iconst C kc_0 dX0_tells_24 ?_
    exact r _ _ _ _ dX0_tells_25 zb0 hf
theorem w_X_tells_b0 {Γ : tX} {N0 : Nat → Nat} {K : Int32 → tS → Prop} (C : TC Γ cX0_tells RX0 4 97) (hw : tWf N0) (hR : xnL Γ = 2) (r : TRz Γ N0 cX0_tells K) {a1 : Int32} (hX : N0 1025 ≠ 0) {S : tS} (hf : X_tells a1 S K) : TJ Γ N0 0 0 0 [(0, .ref (xad Γ 1025)), (1, .int a1)] [] S := by
  unfold X_tells at hf
  refine tj_aload_n C 0 rfl rfl dX0_tells_0 ?_
  refine tj_aload_n C 0 rfl rfl dX0_tells_1 ?_
  refine tj_iload_n C 1 rfl rfl dX0_tells_2 ?_
  refine tj_callVz C (k := 1) [.int a1] [.ref (xad Γ 1025)] (fun hN => c_X_isCue (by rw [hN]; exact hX) hf) lk_X0_262 ty_X0_isCue rfl (Nat.le_of_ble_eq_true rfl) (Nat.le_of_ble_eq_true rfl) (Nat.le_of_ble_eq_true rfl) hX rfl (by decide) rfl rfl dX0_tells_3 (fun r2 S1 hf => ?_)
  have hz_r2 := hf.1
  replace hf := hf.2
  refine tj_if_eq C 13 (by decide) dX0_tells_6 (fun hc => ?_) (fun hc => ?_)
  · replace hf := hf.1 hc
    refine tj_iconst C kc_1 dX0_tells_13 ?_
    exact w_X_tells_b14 C hw hR r hX hf
  · replace hf := hf.2 hc
    refine tj_iconst C kc_0 dX0_tells_9 ?_
    refine tj_goto C 14 (by decide) dX0_tells_10 ?_
    exact w_X_tells_b14 C hw hR r hX hf
theorem c_X_tells {l : Launch} {G : tG} {ad : Nat → Nat} {A : Nat → Prop} {S : tS} {K : Int32 → tS → Prop} {a1 : Int32} (hX : gN S 1025 ≠ 0) (hf : X_tells a1 S K) : Met l yX0_tells (ws_ yX0_tells cX0_tells 2 (some .boolean)) (tRm 4 97) (va_Pc [.ref (ad 1025), .int a1] (tPre G ad A S)) (va_Qi (fun r u => r &&& 1 = r ∧ K r u) (tB G ad A (gN S)) A) 0 0 A :=
  tj_met_z [(0, .ref (ad 1025)), (1, .int a1)] pn_X0 rfl (Nat.le_of_ble_eq_true rfl) (fun p e R s m args below meth c Q C hw r => w_X_tells_b0 C hw rfl r hX hf)
theorem w_X_term_b42 {Γ : tX} {N0 : Nat → Nat} {K : Int32 → tS → Prop} (C : TC Γ cX0_term RX0 9 205) (hw : tWf N0) (hR : xnL Γ = 2) (r : TRi Γ N0 cX0_term K) (hX : N0 1025 ≠ 0) {s1 : Int32} {S : tS} (hf : X_term_b42 K s1 S) : TJ Γ N0 0 0 42 [(0, .ref (xad Γ 1025))] [.int s1, .ref (xad Γ 1025)] S := by
  unfold X_term_b42 at hf
  refine pf_X0_91 C hX dX0_term_42 ?_
  refine tj_topS (fun S7 eS => ?_)
  replace hf := hf S7 eS
  refine tj_aload_n C 0 rfl rfl dX0_term_45 ?_
  refine gf_X0_91 C hX dX0_term_46 ?_
  refine tj_if_le C 56 (by decide) dX0_term_49 (fun hc => ?_) (fun hc => ?_)
  · replace hf := hf.1 hc
    refine tj_aload_n C 0 rfl rfl dX0_term_56 ?_
    refine tj_callVa C (k := 1) [] [] (fun hN => c_X_at (by rw [hN]; exact hX) hf) lk_X0_168 ty_X0_at rfl (Nat.le_of_ble_eq_true rfl) (Nat.le_of_ble_eq_true rfl) (Nat.le_of_ble_eq_true rfl) hX rfl (by decide) rfl rfl dX0_term_57 (fun S8 hf => ?_)
    refine tj_callVi C (k := 6) [] [] (fun hN => c_Co_term (by rw [hN]; exact ⟨(ne0 (ln_1222 hw hX)), rfl⟩) hf) lk_X0_343 ty_X5_term rfl (Nat.le_of_ble_eq_true rfl) (Nat.le_of_ble_eq_true rfl) (Nat.le_of_ble_eq_true rfl) (ne0 (ln_1222 hw hX)) rfl (by decide) rfl rfl dX0_term_60 (fun r10 S9 hf => ?_)
    exact r _ _ _ _ dX0_term_63 hf
  · replace hf := hf.2 hc
    refine tj_iconst C kc_m1 dX0_term_52 ?_
    refine tj_goto C 63 (by decide) dX0_term_53 ?_
    exact r _ _ _ _ dX0_term_63 hf
theorem w_X_term_b0 {Γ : tX} {N0 : Nat → Nat} {K : Int32 → tS → Prop} (C : TC Γ cX0_term RX0 9 205) (hw : tWf N0) (hR : xnL Γ = 2) (r : TRi Γ N0 cX0_term K) (hX : N0 1025 ≠ 0) {S : tS} (hf : X_term S K) : TJ Γ N0 0 0 0 [(0, .ref (xad Γ 1025))] [] S := by
  unfold X_term at hf
  refine tj_aload_n C 0 rfl rfl dX0_term_0 ?_
  refine tj_callVa C (k := 1) [] [] (fun hN => c_X_at (by rw [hN]; exact hX) hf) lk_X0_168 ty_X0_at rfl (Nat.le_of_ble_eq_true rfl) (Nat.le_of_ble_eq_true rfl) (Nat.le_of_ble_eq_true rfl) hX rfl (by decide) rfl rfl dX0_term_1 (fun S1 hf => ?_)
  refine tj_iconst C kc_0 dX0_term_4 ?_
  refine tj_callVi C (k := 6) [.int (nI 0)] [] (fun hN => c_Co_are (by rw [hN]; exact ⟨(ne0 (ln_1222 hw hX)), rfl⟩) hf) lk_X0_258 ty_X5_are rfl (Nat.le_of_ble_eq_true rfl) (Nat.le_of_ble_eq_true rfl) (Nat.le_of_ble_eq_true rfl) (ne0 (ln_1222 hw hX)) rfl (by decide) rfl rfl dX0_term_5 (fun r3 S2 hf => ?_)
  refine tj_istore_n C (by rw [hR]; decide) [(1, .int r3), (0, .ref (xad Γ 1025))] rfl rfl dX0_term_8 ?_
  refine tj_aload_n C 1 rfl rfl dX0_term_9 ?_
  refine tj_aload_n C 1 rfl rfl dX0_term_10 ?_
  refine tj_callVa C (k := 1) [] [.ref (xad Γ 1025)] (fun hN => c_X_at (by rw [hN]; exact hX) hf) lk_X0_168 ty_X0_at rfl (Nat.le_of_ble_eq_true rfl) (Nat.le_of_ble_eq_true rfl) (Nat.le_of_ble_eq_true rfl) hX rfl (by decide) rfl rfl dX0_term_11 (fun S4 hf => ?_)
  refine gf_X0_248 C rfl (ne0 (ln_1222 hw hX)) dX0_term_14 ?_
  refine tj_iload_n C 0 rfl rfl dX0_term_17 ?_
  refine tj_callSi C [.int r3] [.int (gI S4 1222 7), .ref (xad Γ 1025)] (fun hN => c_In_bitCount hf) lk_X0_338 ty_J11_bitCount rfl (Nat.le_of_ble_eq_true rfl) (Nat.le_of_ble_eq_true rfl) (Nat.le_of_ble_eq_true rfl) rfl dX0_term_18 (fun r6 S5 hf => ?_)
  refine tj_iadd C dX0_term_21 ?_
  refine tj_sipush C ks_9999 dX0_term_22 ?_
  refine tj_icmp_le C 32 (by decide) dX0_term_25 (fun hc => ?_) (fun hc => ?_)
  · replace hf := hf.1 hc
    refine tj_iload_n C 0 rfl rfl dX0_term_32 ?_
    refine tj_if_ne C 41 (by decide) dX0_term_33 (fun hc => ?_) (fun hc => ?_)
    · replace hf := hf.2 hc
      refine tj_iconst C kc_0 dX0_term_41 ?_
      exact tj_sub [1] (w_X_term_b42 C hw hR r hX hf) rfl
    · replace hf := hf.1 hc
      refine tj_bipush C kb_7 dX0_term_36 ?_
      refine tj_goto C 42 (by decide) dX0_term_38 ?_
      exact tj_sub [1] (w_X_term_b42 C hw hR r hX hf) rfl
  · replace hf := hf.2 hc
    refine tj_iconst C kc_4 dX0_term_28 ?_
    refine tj_goto C 42 (by decide) dX0_term_29 ?_
    exact tj_sub [1] (w_X_term_b42 C hw hR r hX hf) rfl
theorem c_X_term {l : Launch} {G : tG} {ad : Nat → Nat} {A : Nat → Prop} {S : tS} {K : Int32 → tS → Prop} (hX : gN S 1025 ≠ 0) (hf : X_term S K) : Met l yX0_term (ws_ yX0_term cX0_term 2 (some .int)) (tRm 9 205) (va_Pc [.ref (ad 1025)] (tPre G ad A S)) (va_Qi K (tB G ad A (gN S)) A) 0 0 A :=
  tj_met_i [(0, .ref (ad 1025))] pn_X0 rfl (Nat.le_of_ble_eq_true rfl) (fun p e R s m args below meth c Q C hw r => w_X_term_b0 C hw rfl r hX hf)
theorem w_X_told_b18 {Γ : tX} {N0 : Nat → Nat} {K : Int32 → tS → Prop} (C : TC Γ cX0_told RX0 2 42) (hw : tWf N0) (hR : xnL Γ = 2) (r : TRi Γ N0 cX0_told K) {a1 : Int32} (hX : N0 1025 ≠ 0) {s1 : Int32} {S : tS} (hf : X_told_b18 a1 K s1 S) : TJ Γ N0 0 0 18 [(0, .ref (xad Γ 1025)), (1, .int a1)] [.int s1, .ref (xad Γ 1025)] S := by
  unfold X_told_b18 at hf
  refine pf_X0_91 C hX dX0_told_18 ?_
  refine tj_topS (fun S3 eS => ?_)
  replace hf := hf S3 eS
  refine tj_iload_n C 1 rfl rfl dX0_told_21 ?_
  by_cases h0 : a1 = nI 0
  · replace hf := hf.1 h0
    refine tj_tswIn C 0 (off := 66) 88 (by decide) h0 (by decide) (by decide) (by decide) (by decide) dX0_told_22 ?_
    refine tj_aload_n C 0 rfl rfl dX0_told_88 ?_
    refine tj_callVa C (k := 1) [] [] (fun hN => c_X_at (by rw [hN]; exact hX) hf) lk_X0_168 ty_X0_at rfl (Nat.le_of_ble_eq_true rfl) (Nat.le_of_ble_eq_true rfl) (Nat.le_of_ble_eq_true rfl) hX rfl (by decide) rfl rfl dX0_told_89 (fun S4 hf => ?_)
    refine gf_X0_172 C rfl (ne0 (ln_1222 hw hX)) dX0_told_92 ?_
    exact r _ _ _ _ dX0_told_95 hf
  · replace hf := hf.2 h0
    by_cases h1 : a1 = nI 1
    · replace hf := hf.1 h1
      refine tj_tswIn C 1 (off := 74) 96 (by decide) h1 (by decide) (by decide) (by decide) (by decide) dX0_told_22 ?_
      refine tj_aload_n C 0 rfl rfl dX0_told_96 ?_
      refine tj_callVa C (k := 1) [] [] (fun hN => c_X_at (by rw [hN]; exact hX) hf) lk_X0_168 ty_X0_at rfl (Nat.le_of_ble_eq_true rfl) (Nat.le_of_ble_eq_true rfl) (Nat.le_of_ble_eq_true rfl) hX rfl (by decide) rfl rfl dX0_told_97 (fun S5 hf => ?_)
      refine gf_X0_179 C rfl (ne0 (ln_1222 hw hX)) dX0_told_100 ?_
      exact r _ _ _ _ dX0_told_103 hf
    · replace hf := hf.2 h1
      by_cases h2 : a1 = nI 2
      · replace hf := hf.1 h2
        refine tj_tswIn C 2 (off := 82) 104 (by decide) h2 (by decide) (by decide) (by decide) (by decide) dX0_told_22 ?_
        refine tj_aload_n C 0 rfl rfl dX0_told_104 ?_
        refine tj_callVa C (k := 1) [] [] (fun hN => c_X_at (by rw [hN]; exact hX) hf) lk_X0_168 ty_X0_at rfl (Nat.le_of_ble_eq_true rfl) (Nat.le_of_ble_eq_true rfl) (Nat.le_of_ble_eq_true rfl) hX rfl (by decide) rfl rfl dX0_told_105 (fun S6 hf => ?_)
        refine gf_X0_182 C rfl (ne0 (ln_1222 hw hX)) dX0_told_108 ?_
        exact r _ _ _ _ dX0_told_111 hf
      · replace hf := hf.2 h2
        by_cases h3 : a1 = nI 3
        · replace hf := hf.1 h3
          refine tj_tswIn C 3 (off := 90) 112 (by decide) h3 (by decide) (by decide) (by decide) (by decide) dX0_told_22 ?_
          refine tj_aload_n C 0 rfl rfl dX0_told_112 ?_
          refine tj_callVa C (k := 1) [] [] (fun hN => c_X_at (by rw [hN]; exact hX) hf) lk_X0_168 ty_X0_at rfl (Nat.le_of_ble_eq_true rfl) (Nat.le_of_ble_eq_true rfl) (Nat.le_of_ble_eq_true rfl) hX rfl (by decide) rfl rfl dX0_told_113 (fun S7 hf => ?_)
          refine gf_X0_185 C rfl (ne0 (ln_1222 hw hX)) dX0_told_116 ?_
          exact r _ _ _ _ dX0_told_119 hf
        · replace hf := hf.2 h3
          by_cases h4 : a1 = nI 4
          · replace hf := hf.1 h4
            refine tj_tswIn C 4 (off := 98) 120 (by decide) h4 (by decide) (by decide) (by decide) (by decide) dX0_told_22 ?_
            refine tj_aload_n C 0 rfl rfl dX0_told_120 ?_
            refine tj_callVa C (k := 1) [] [] (fun hN => c_X_at (by rw [hN]; exact hX) hf) lk_X0_168 ty_X0_at rfl (Nat.le_of_ble_eq_true rfl) (Nat.le_of_ble_eq_true rfl) (Nat.le_of_ble_eq_true rfl) hX rfl (by decide) rfl rfl dX0_told_121 (fun S8 hf => ?_)
            refine gf_X0_188 C rfl (ne0 (ln_1222 hw hX)) dX0_told_124 ?_
            exact r _ _ _ _ dX0_told_127 hf
          · replace hf := hf.2 h4
            by_cases h5 : a1 = nI 5
            · replace hf := hf.1 h5
              refine tj_tswIn C 5 (off := 106) 128 (by decide) h5 (by decide) (by decide) (by decide) (by decide) dX0_told_22 ?_
              refine tj_aload_n C 0 rfl rfl dX0_told_128 ?_
              refine tj_callVa C (k := 1) [] [] (fun hN => c_X_at (by rw [hN]; exact hX) hf) lk_X0_168 ty_X0_at rfl (Nat.le_of_ble_eq_true rfl) (Nat.le_of_ble_eq_true rfl) (Nat.le_of_ble_eq_true rfl) hX rfl (by decide) rfl rfl dX0_told_129 (fun S9 hf => ?_)
              refine gf_X0_242 C rfl (ne0 (ln_1222 hw hX)) dX0_told_132 ?_
              exact r _ _ _ _ dX0_told_135 hf
            · replace hf := hf.2 h5
              by_cases h6 : a1 = nI 6
              · replace hf := hf.1 h6
                refine tj_tswIn C 6 (off := 114) 136 (by decide) h6 (by decide) (by decide) (by decide) (by decide) dX0_told_22 ?_
                refine tj_aload_n C 0 rfl rfl dX0_told_136 ?_
                refine tj_callVa C (k := 1) [] [] (fun hN => c_X_at (by rw [hN]; exact hX) hf) lk_X0_168 ty_X0_at rfl (Nat.le_of_ble_eq_true rfl) (Nat.le_of_ble_eq_true rfl) (Nat.le_of_ble_eq_true rfl) hX rfl (by decide) rfl rfl dX0_told_137 (fun S10 hf => ?_)
                refine gf_X0_245 C rfl (ne0 (ln_1222 hw hX)) dX0_told_140 ?_
                exact r _ _ _ _ dX0_told_143 hf
              · replace hf := hf.2 h6
                by_cases h7 : a1 = nI 7
                · replace hf := hf.1 h7
                  refine tj_tswIn C 7 (off := 122) 144 (by decide) h7 (by decide) (by decide) (by decide) (by decide) dX0_told_22 ?_
                  refine tj_aload_n C 0 rfl rfl dX0_told_144 ?_
                  refine tj_callVa C (k := 1) [] [] (fun hN => c_X_at (by rw [hN]; exact hX) hf) lk_X0_168 ty_X0_at rfl (Nat.le_of_ble_eq_true rfl) (Nat.le_of_ble_eq_true rfl) (Nat.le_of_ble_eq_true rfl) hX rfl (by decide) rfl rfl dX0_told_145 (fun S11 hf => ?_)
                  refine gf_X0_248 C rfl (ne0 (ln_1222 hw hX)) dX0_told_148 ?_
                  exact r _ _ _ _ dX0_told_151 hf
                · replace hf := hf.2 h7
                  by_cases h8 : a1 = nI 8
                  · replace hf := hf.1 h8
                    refine tj_tswIn C 8 (off := 143) 165 (by decide) h8 (by decide) (by decide) (by decide) (by decide) dX0_told_22 ?_
                    refine tj_aload_n C 0 rfl rfl dX0_told_165 ?_
                    refine gf_X0_91 C hX dX0_told_166 ?_
                    refine tj_if_le C 176 (by decide) dX0_told_169 (fun hc => ?_) (fun hc => ?_)
                    · replace hf := hf.1 hc
                      refine tj_aload_n C 0 rfl rfl dX0_told_176 ?_
                      refine tj_callVa C (k := 1) [] [] (fun hN => c_X_at (by rw [hN]; exact hX) hf) lk_X0_168 ty_X0_at rfl (Nat.le_of_ble_eq_true rfl) (Nat.le_of_ble_eq_true rfl) (Nat.le_of_ble_eq_true rfl) hX rfl (by decide) rfl rfl dX0_told_177 (fun S12 hf => ?_)
                      refine tj_iload_n C 1 rfl rfl dX0_told_180 ?_
                      refine tj_bipush C kb_8 dX0_told_181 ?_
                      refine tj_isub C dX0_told_183 ?_
                      refine tj_callVi C (k := 6) [.int (a1 - (nI 8))] [] (fun hN => c_Co_are (by rw [hN]; exact ⟨(ne0 (ln_1222 hw hX)), rfl⟩) hf) lk_X0_258 ty_X5_are rfl (Nat.le_of_ble_eq_true rfl) (Nat.le_of_ble_eq_true rfl) (Nat.le_of_ble_eq_true rfl) (ne0 (ln_1222 hw hX)) rfl (by decide) rfl rfl dX0_told_184 (fun r14 S13 hf => ?_)
                      exact r _ _ _ _ dX0_told_187 hf
                    · replace hf := hf.2 hc
                      refine tj_iconst C kc_m1 dX0_told_172 ?_
                      refine tj_goto C 187 (by decide) dX0_told_173 ?_
                      exact r _ _ _ _ dX0_told_187 hf
                  · replace hf := hf.2 h8
                    by_cases h9 : a1 = nI 9
                    · replace hf := hf.1 h9
                      refine tj_tswIn C 9 (off := 143) 165 (by decide) h9 (by decide) (by decide) (by decide) (by decide) dX0_told_22 ?_
                      refine tj_aload_n C 0 rfl rfl dX0_told_165 ?_
                      refine gf_X0_91 C hX dX0_told_166 ?_
                      refine tj_if_le C 176 (by decide) dX0_told_169 (fun hc => ?_) (fun hc => ?_)
                      · replace hf := hf.1 hc
                        refine tj_aload_n C 0 rfl rfl dX0_told_176 ?_
                        refine tj_callVa C (k := 1) [] [] (fun hN => c_X_at (by rw [hN]; exact hX) hf) lk_X0_168 ty_X0_at rfl (Nat.le_of_ble_eq_true rfl) (Nat.le_of_ble_eq_true rfl) (Nat.le_of_ble_eq_true rfl) hX rfl (by decide) rfl rfl dX0_told_177 (fun S15 hf => ?_)
                        refine tj_iload_n C 1 rfl rfl dX0_told_180 ?_
                        refine tj_bipush C kb_8 dX0_told_181 ?_
                        refine tj_isub C dX0_told_183 ?_
                        refine tj_callVi C (k := 6) [.int (a1 - (nI 8))] [] (fun hN => c_Co_are (by rw [hN]; exact ⟨(ne0 (ln_1222 hw hX)), rfl⟩) hf) lk_X0_258 ty_X5_are rfl (Nat.le_of_ble_eq_true rfl) (Nat.le_of_ble_eq_true rfl) (Nat.le_of_ble_eq_true rfl) (ne0 (ln_1222 hw hX)) rfl (by decide) rfl rfl dX0_told_184 (fun r17 S16 hf => ?_)
                        exact r _ _ _ _ dX0_told_187 hf
                      · replace hf := hf.2 hc
                        refine tj_iconst C kc_m1 dX0_told_172 ?_
                        refine tj_goto C 187 (by decide) dX0_told_173 ?_
                        exact r _ _ _ _ dX0_told_187 hf
                    · replace hf := hf.2 h9
                      by_cases h10 : a1 = nI 10
                      · replace hf := hf.1 h10
                        refine tj_tswIn C 10 (off := 143) 165 (by decide) h10 (by decide) (by decide) (by decide) (by decide) dX0_told_22 ?_
                        refine tj_aload_n C 0 rfl rfl dX0_told_165 ?_
                        refine gf_X0_91 C hX dX0_told_166 ?_
                        refine tj_if_le C 176 (by decide) dX0_told_169 (fun hc => ?_) (fun hc => ?_)
                        · replace hf := hf.1 hc
                          refine tj_aload_n C 0 rfl rfl dX0_told_176 ?_
                          refine tj_callVa C (k := 1) [] [] (fun hN => c_X_at (by rw [hN]; exact hX) hf) lk_X0_168 ty_X0_at rfl (Nat.le_of_ble_eq_true rfl) (Nat.le_of_ble_eq_true rfl) (Nat.le_of_ble_eq_true rfl) hX rfl (by decide) rfl rfl dX0_told_177 (fun S18 hf => ?_)
                          refine tj_iload_n C 1 rfl rfl dX0_told_180 ?_
                          refine tj_bipush C kb_8 dX0_told_181 ?_
                          refine tj_isub C dX0_told_183 ?_
                          refine tj_callVi C (k := 6) [.int (a1 - (nI 8))] [] (fun hN => c_Co_are (by rw [hN]; exact ⟨(ne0 (ln_1222 hw hX)), rfl⟩) hf) lk_X0_258 ty_X5_are rfl (Nat.le_of_ble_eq_true rfl) (Nat.le_of_ble_eq_true rfl) (Nat.le_of_ble_eq_true rfl) (ne0 (ln_1222 hw hX)) rfl (by decide) rfl rfl dX0_told_184 (fun r20 S19 hf => ?_)
                          exact r _ _ _ _ dX0_told_187 hf
                        · replace hf := hf.2 hc
                          refine tj_iconst C kc_m1 dX0_told_172 ?_
                          refine tj_goto C 187 (by decide) dX0_told_173 ?_
                          exact r _ _ _ _ dX0_told_187 hf
                      · replace hf := hf.2 h10
                        by_cases h11 : a1 = nI 11
                        · replace hf := hf.1 h11
                          refine tj_tswIn C 11 (off := 130) 152 (by decide) h11 (by decide) (by decide) (by decide) (by decide) dX0_told_22 ?_
                          refine tj_aload_n C 0 rfl rfl dX0_told_152 ?_
                          refine tj_callVi C (k := 1) [] [] (fun hN => c_X_guilties (by rw [hN]; exact hX) hf) lk_X0_251 ty_X0_guilties rfl (Nat.le_of_ble_eq_true rfl) (Nat.le_of_ble_eq_true rfl) (Nat.le_of_ble_eq_true rfl) hX rfl (by decide) rfl rfl dX0_told_153 (fun r22 S21 hf => ?_)
                          exact r _ _ _ _ dX0_told_156 hf
                        · replace hf := hf.2 h11
                          by_cases h12 : a1 = nI 12
                          · replace hf := hf.1 h12
                            refine tj_tswIn C 12 (off := 135) 157 (by decide) h12 (by decide) (by decide) (by decide) (by decide) dX0_told_22 ?_
                            refine tj_aload_n C 0 rfl rfl dX0_told_157 ?_
                            refine tj_callVa C (k := 1) [] [] (fun hN => c_X_at (by rw [hN]; exact hX) hf) lk_X0_168 ty_X0_at rfl (Nat.le_of_ble_eq_true rfl) (Nat.le_of_ble_eq_true rfl) (Nat.le_of_ble_eq_true rfl) hX rfl (by decide) rfl rfl dX0_told_158 (fun S23 hf => ?_)
                            refine tj_callVi C (k := 6) [] [] (fun hN => c_Co_allVotes (by rw [hN]; exact ⟨(ne0 (ln_1222 hw hX)), rfl⟩) hf) lk_X0_255 ty_X5_allVotes rfl (Nat.le_of_ble_eq_true rfl) (Nat.le_of_ble_eq_true rfl) (Nat.le_of_ble_eq_true rfl) (ne0 (ln_1222 hw hX)) rfl (by decide) rfl rfl dX0_told_161 (fun r25 S24 hf => ?_)
                            exact r _ _ _ _ dX0_told_164 hf
                          · replace hf := hf.2 h12
                            refine tj_tswOut C 0 13 165 (by decide) (fun k hk => match k, hk with | 0, _ => h0 | 1, _ => h1 | 2, _ => h2 | 3, _ => h3 | 4, _ => h4 | 5, _ => h5 | 6, _ => h6 | 7, _ => h7 | 8, _ => h8 | 9, _ => h9 | 10, _ => h10 | 11, _ => h11 | 12, _ => h12 | k + 13, hk => absurd hk (by omega)) (by decide) (by decide) (by decide) dX0_told_22 ?_
                            refine tj_aload_n C 0 rfl rfl dX0_told_165 ?_
                            refine gf_X0_91 C hX dX0_told_166 ?_
                            refine tj_if_le C 176 (by decide) dX0_told_169 (fun hc => ?_) (fun hc => ?_)
                            · replace hf := hf.1 hc
                              refine tj_aload_n C 0 rfl rfl dX0_told_176 ?_
                              refine tj_callVa C (k := 1) [] [] (fun hN => c_X_at (by rw [hN]; exact hX) hf) lk_X0_168 ty_X0_at rfl (Nat.le_of_ble_eq_true rfl) (Nat.le_of_ble_eq_true rfl) (Nat.le_of_ble_eq_true rfl) hX rfl (by decide) rfl rfl dX0_told_177 (fun S26 hf => ?_)
                              refine tj_iload_n C 1 rfl rfl dX0_told_180 ?_
                              refine tj_bipush C kb_8 dX0_told_181 ?_
                              refine tj_isub C dX0_told_183 ?_
                              refine tj_callVi C (k := 6) [.int (a1 - (nI 8))] [] (fun hN => c_Co_are (by rw [hN]; exact ⟨(ne0 (ln_1222 hw hX)), rfl⟩) hf) lk_X0_258 ty_X5_are rfl (Nat.le_of_ble_eq_true rfl) (Nat.le_of_ble_eq_true rfl) (Nat.le_of_ble_eq_true rfl) (ne0 (ln_1222 hw hX)) rfl (by decide) rfl rfl dX0_told_184 (fun r28 S27 hf => ?_)
                              exact r _ _ _ _ dX0_told_187 hf
                            · replace hf := hf.2 hc
                              refine tj_iconst C kc_m1 dX0_told_172 ?_
                              refine tj_goto C 187 (by decide) dX0_told_173 ?_
                              exact r _ _ _ _ dX0_told_187 hf
theorem w_X_told_b0 {Γ : tX} {N0 : Nat → Nat} {K : Int32 → tS → Prop} (C : TC Γ cX0_told RX0 2 42) (hw : tWf N0) (hR : xnL Γ = 2) (r : TRi Γ N0 cX0_told K) {a1 : Int32} (hX : N0 1025 ≠ 0) {S : tS} (hf : X_told a1 S K) : TJ Γ N0 0 0 0 [(0, .ref (xad Γ 1025)), (1, .int a1)] [] S := by
  unfold X_told at hf
  refine tj_aload_n C 0 rfl rfl dX0_told_0 ?_
  refine tj_iload_n C 1 rfl rfl dX0_told_1 ?_
  refine tj_i2l C dX0_told_2 ?_
  refine tj_lconst C (v := lN 0) rfl dX0_told_3 ?_
  refine tj_ldc2 C kl_X0_240 dX0_told_4 ?_
  refine tj_callSz C [.long (a1.toInt64), .long (lN 0), .long (lN 12)] [.ref (xad Γ 1025)] (fun hN => c_X_isIn hf) lk_X0_175 ty_X0_isIn rfl (Nat.le_of_ble_eq_true rfl) (Nat.le_of_ble_eq_true rfl) (Nat.le_of_ble_eq_true rfl) rfl dX0_told_7 (fun r2 S1 hf => ?_)
  have hz_r2 := hf.1
  replace hf := hf.2
  refine tj_if_eq C 17 (by decide) dX0_told_10 (fun hc => ?_) (fun hc => ?_)
  · replace hf := hf.1 hc
    refine tj_iconst C kc_1 dX0_told_17 ?_
    exact w_X_told_b18 C hw hR r hX hf
  · replace hf := hf.2 hc
    refine tj_iconst C kc_0 dX0_told_13 ?_
    refine tj_goto C 18 (by decide) dX0_told_14 ?_
    exact w_X_told_b18 C hw hR r hX hf
theorem c_X_told {l : Launch} {G : tG} {ad : Nat → Nat} {A : Nat → Prop} {S : tS} {K : Int32 → tS → Prop} {a1 : Int32} (hX : gN S 1025 ≠ 0) (hf : X_told a1 S K) : Met l yX0_told (ws_ yX0_told cX0_told 2 (some .int)) (tRm 2 42) (va_Pc [.ref (ad 1025), .int a1] (tPre G ad A S)) (va_Qi K (tB G ad A (gN S)) A) 0 0 A :=
  tj_met_i [(0, .ref (ad 1025)), (1, .int a1)] pn_X0 rfl (Nat.le_of_ble_eq_true rfl) (fun p e R s m args below meth c Q C hw r => w_X_told_b0 C hw rfl r hX hf)
theorem w_X_top_b0 {Γ : tX} {N0 : Nat → Nat} {K : Int64 → tS → Prop} (C : TC Γ cX0_top RX0 0 0) (hw : tWf N0) (hR : xnL Γ = 1) (r : TRl Γ N0 cX0_top K) (hX : N0 1025 ≠ 0) {S : tS} (hf : X_top S K) : TJ Γ N0 0 0 0 [(0, .ref (xad Γ 1025))] [] S := by
  unfold X_top at hf
  refine tj_aload_n C 0 rfl rfl dX0_top_0 ?_
  refine gf_X0_94 C hX dX0_top_1 ?_
  exact r _ _ _ _ dX0_top_4 hf
theorem c_X_top {l : Launch} {G : tG} {ad : Nat → Nat} {A : Nat → Prop} {S : tS} {K : Int64 → tS → Prop} (hX : gN S 1025 ≠ 0) (hf : X_top S K) : Met l yX0_top (ws_ yX0_top cX0_top 1 (some .long)) (tRm 0 0) (va_Pc [.ref (ad 1025)] (tPre G ad A S)) (va_Ql K (tB G ad A (gN S)) A) 0 0 A :=
  tj_met_l [(0, .ref (ad 1025))] pn_X0 rfl (Nat.le_of_ble_eq_true rfl) (fun p e R s m args below meth c Q C hw r => w_X_top_b0 C hw rfl r hX hf)
theorem w_X_undo_b14 {Γ : tX} {N0 : Nat → Nat} {K : Int32 → tS → Prop} (C : TC Γ cX0_undo RX0 4 123) (hw : tWf N0) (hR : xnL Γ = 1) (r : TRi Γ N0 cX0_undo K) (hX : N0 1025 ≠ 0) {s1 : Int32} {S : tS} (hf : X_undo_b14 K s1 S) : TJ Γ N0 0 0 14 [(0, .ref (xad Γ 1025))] [.int s1, .ref (xad Γ 1025)] S := by
  unfold X_undo_b14 at hf
  refine pf_X0_91 C hX dX0_undo_14 ?_
  refine tj_topS (fun S1 eS => ?_)
  replace hf := hf S1 eS
  refine tj_aload_n C 0 rfl rfl dX0_undo_17 ?_
  refine gf_X0_91 C hX dX0_undo_18 ?_
  refine tj_if_le C 26 (by decide) dX0_undo_21 (fun hc => ?_) (fun hc => ?_)
  · replace hf := hf.1 hc
    refine tj_aload_n C 0 rfl rfl dX0_undo_26 ?_
    refine tj_dup C rfl dX0_undo_27 ?_
    refine gf_X0_536 C hX dX0_undo_28 ?_
    refine tj_iconst C kc_1 dX0_undo_31 ?_
    refine tj_isub C dX0_undo_32 ?_
    refine pf_X0_536 C hX dX0_undo_33 ?_
    refine tj_topS (fun S2 eS => ?_)
    replace hf := hf S2 eS
    refine tj_aload_n C 0 rfl rfl dX0_undo_36 ?_
    refine gf_X0_55 C hX dX0_undo_37 ?_
    refine tj_aload_n C 0 rfl rfl dX0_undo_40 ?_
    refine gf_X0_59 C hX dX0_undo_41 ?_
    refine tj_aload_n C 0 rfl rfl dX0_undo_44 ?_
    refine gf_X0_536 C hX dX0_undo_45 ?_
    refine tj_aald22 C 1750 3 rfl (ln_1750 hw hX) _ rfl hf.1 dX0_undo_48 ?_
    replace hf := hf.2
    refine tj_hN (fun hN => ?_)
    obtain ⟨t3, he, h_t3, hf⟩ := hf
    rw [hN] at h_t3
    refine tj_some he ?_
    refine tj_callVv C (k := 5) [.ref (xad Γ t3)] [] (fun hN => c_Ho_be (by rw [hN]; exact ⟨(ne0 (ln_1189 hw hX)), rfl⟩) (by rw [hN]; exact ⟨h_t3.1, h_t3.2⟩) hf) lk_X0_539 ty_X4_be rfl (Nat.le_of_ble_eq_true rfl) (Nat.le_of_ble_eq_true rfl) (Nat.le_of_ble_eq_true rfl) (ne0 (ln_1189 hw hX)) rfl (by decide) rfl rfl dX0_undo_49 (fun S4 hf => ?_)
    refine tj_aload_n C 0 rfl rfl dX0_undo_52 ?_
    refine gf_X0_536 C hX dX0_undo_53 ?_
    exact r _ _ _ _ dX0_undo_56 hf
  · replace hf := hf.2 hc
    refine tj_iconst C kc_m1 dX0_undo_24 ?_
    exact r _ _ _ _ dX0_undo_25 hf
theorem w_X_undo_b0 {Γ : tX} {N0 : Nat → Nat} {K : Int32 → tS → Prop} (C : TC Γ cX0_undo RX0 4 123) (hw : tWf N0) (hR : xnL Γ = 1) (r : TRi Γ N0 cX0_undo K) (hX : N0 1025 ≠ 0) {S : tS} (hf : X_undo S K) : TJ Γ N0 0 0 0 [(0, .ref (xad Γ 1025))] [] S := by
  unfold X_undo at hf
  refine tj_aload_n C 0 rfl rfl dX0_undo_0 ?_
  refine tj_aload_n C 0 rfl rfl dX0_undo_1 ?_
  refine gf_X0_536 C hX dX0_undo_2 ?_
  refine tj_if_ne C 13 (by decide) dX0_undo_5 (fun hc => ?_) (fun hc => ?_)
  · replace hf := hf.2 hc
    refine tj_iconst C kc_0 dX0_undo_13 ?_
    exact w_X_undo_b14 C hw hR r hX hf
  · replace hf := hf.1 hc
    refine tj_bipush C kb_6 dX0_undo_8 ?_
    refine tj_goto C 14 (by decide) dX0_undo_10 ?_
    exact w_X_undo_b14 C hw hR r hX hf
theorem c_X_undo {l : Launch} {G : tG} {ad : Nat → Nat} {A : Nat → Prop} {S : tS} {K : Int32 → tS → Prop} (hX : gN S 1025 ≠ 0) (hf : X_undo S K) : Met l yX0_undo (ws_ yX0_undo cX0_undo 1 (some .int)) (tRm 4 123) (va_Pc [.ref (ad 1025)] (tPre G ad A S)) (va_Qi K (tB G ad A (gN S)) A) 0 0 A :=
  tj_met_i [(0, .ref (ad 1025))] pn_X0 rfl (Nat.le_of_ble_eq_true rfl) (fun p e R s m args below meth c Q C hw r => w_X_undo_b0 C hw rfl r hX hf)
theorem w_X_verdict_b27 {Γ : tX} {N0 : Nat → Nat} {K : Int32 → tS → Prop} (C : TC Γ cX0_verdict RX0 2 70) (hw : tWf N0) (hR : xnL Γ = 2) (r : TRz Γ N0 cX0_verdict K) {a1 : Int32} (hX : N0 1025 ≠ 0) {s1 : Int32} {S : tS} (hf : X_verdict_b27 a1 K s1 S) : TJ Γ N0 0 0 27 [(0, .ref (xad Γ 1025)), (1, .int a1)] [.int s1, .ref (xad Γ 1025)] S := by
  unfold X_verdict_b27 at hf
  refine pf_X0_91 C hX dX0_verdict_27 ?_
  refine tj_topS (fun S4 eS => ?_)
  replace hf := hf S4 eS
  refine tj_aload_n C 0 rfl rfl dX0_verdict_30 ?_
  refine gf_X0_91 C hX dX0_verdict_31 ?_
  refine tj_if_le C 39 (by decide) dX0_verdict_34 (fun hc => ?_) (fun hc => ?_)
  · replace hf := hf.1 hc
    refine tj_aload_n C 0 rfl rfl dX0_verdict_39 ?_
    refine tj_aload_n C 0 rfl rfl dX0_verdict_40 ?_
    refine tj_iload_n C 1 rfl rfl dX0_verdict_41 ?_
    refine tj_callVl C (k := 1) [.int a1] [.ref (xad Γ 1025)] (fun hN => c_X_verdicts (by rw [hN]; exact hX) hf) lk_X0_434 ty_X0_verdicts rfl (Nat.le_of_ble_eq_true rfl) (Nat.le_of_ble_eq_true rfl) (Nat.le_of_ble_eq_true rfl) hX rfl (by decide) rfl rfl dX0_verdict_42 (fun r6 S5 hf => ?_)
    refine tj_iload_n C 1 rfl rfl dX0_verdict_45 ?_
    refine tj_callSi C [.int a1] [.long r6, .ref (xad Γ 1025)] (fun hN => c_In_bitCount hf) lk_X0_338 ty_J11_bitCount rfl (Nat.le_of_ble_eq_true rfl) (Nat.le_of_ble_eq_true rfl) (Nat.le_of_ble_eq_true rfl) rfl dX0_verdict_46 (fun r8 S7 hf => ?_)
    refine tj_callSl C [.int r8] [.long r6, .ref (xad Γ 1025)] (fun hN => c_X_sixteenths hf) lk_X0_438 ty_X0_sixteenths rfl (Nat.le_of_ble_eq_true rfl) (Nat.le_of_ble_eq_true rfl) (Nat.le_of_ble_eq_true rfl) rfl dX0_verdict_49 (fun r10 S9 hf => ?_)
    refine tj_callVi C (k := 1) [.long r6, .long r10] [] (fun hN => c_X_fraction (by rw [hN]; exact hX) hf) lk_X0_406 ty_X0_fraction rfl (Nat.le_of_ble_eq_true rfl) (Nat.le_of_ble_eq_true rfl) (Nat.le_of_ble_eq_true rfl) hX rfl (by decide) rfl rfl dX0_verdict_52 (fun r12 S11 hf => ?_)
    refine tj_pop C rfl dX0_verdict_55 ?_
    refine tj_iconst C kc_1 dX0_verdict_56 ?_
    exact r _ _ _ _ dX0_verdict_57 zb1 hf
  · replace hf := hf.2 hc
    refine tj_iconst C kc_0 dX0_verdict_37 ?_
    exact r _ _ _ _ dX0_verdict_38 zb0 hf
theorem w_X_verdict_b0 {Γ : tX} {N0 : Nat → Nat} {K : Int32 → tS → Prop} (C : TC Γ cX0_verdict RX0 2 70) (hw : tWf N0) (hR : xnL Γ = 2) (r : TRz Γ N0 cX0_verdict K) {a1 : Int32} (hX : N0 1025 ≠ 0) {S : tS} (hf : X_verdict a1 S K) : TJ Γ N0 0 0 0 [(0, .ref (xad Γ 1025)), (1, .int a1)] [] S := by
  unfold X_verdict at hf
  refine tj_aload_n C 0 rfl rfl dX0_verdict_0 ?_
  refine tj_iload_n C 1 rfl rfl dX0_verdict_1 ?_
  refine tj_i2l C dX0_verdict_2 ?_
  refine tj_lconst C (v := lN 1) rfl dX0_verdict_3 ?_
  refine tj_iconst C kc_1 dX0_verdict_4 ?_
  refine tj_aload_n C 0 rfl rfl dX0_verdict_5 ?_
  refine tj_callVa C (k := 1) [] [.int (nI 1), .long (lN 1), .long (a1.toInt64), .ref (xad Γ 1025)] (fun hN => c_X_at (by rw [hN]; exact hX) hf) lk_X0_168 ty_X0_at rfl (Nat.le_of_ble_eq_true rfl) (Nat.le_of_ble_eq_true rfl) (Nat.le_of_ble_eq_true rfl) hX rfl (by decide) rfl rfl dX0_verdict_6 (fun S1 hf => ?_)
  refine gf_X0_188 C rfl (ne0 (ln_1222 hw hX)) dX0_verdict_9 ?_
  refine tj_ishl C dX0_verdict_12 ?_
  refine tj_iconst C kc_1 dX0_verdict_13 ?_
  refine tj_isub C dX0_verdict_14 ?_
  refine tj_i2l C dX0_verdict_15 ?_
  refine tj_callSz C [.long (a1.toInt64), .long (lN 1), .long ((((nI 1) <<< ((gI S1 1222 4) &&& 31)) - (nI 1)).toInt64)] [.ref (xad Γ 1025)] (fun hN => c_X_isIn hf) lk_X0_175 ty_X0_isIn rfl (Nat.le_of_ble_eq_true rfl) (Nat.le_of_ble_eq_true rfl) (Nat.le_of_ble_eq_true rfl) rfl dX0_verdict_16 (fun r3 S2 hf => ?_)
  have hz_r3 := hf.1
  replace hf := hf.2
  refine tj_if_eq C 26 (by decide) dX0_verdict_19 (fun hc => ?_) (fun hc => ?_)
  · replace hf := hf.1 hc
    refine tj_iconst C kc_1 dX0_verdict_26 ?_
    exact w_X_verdict_b27 C hw hR r hX hf
  · replace hf := hf.2 hc
    refine tj_iconst C kc_0 dX0_verdict_22 ?_
    refine tj_goto C 27 (by decide) dX0_verdict_23 ?_
    exact w_X_verdict_b27 C hw hR r hX hf
theorem c_X_verdict {l : Launch} {G : tG} {ad : Nat → Nat} {A : Nat → Prop} {S : tS} {K : Int32 → tS → Prop} {a1 : Int32} (hX : gN S 1025 ≠ 0) (hf : X_verdict a1 S K) : Met l yX0_verdict (ws_ yX0_verdict cX0_verdict 2 (some .boolean)) (tRm 2 70) (va_Pc [.ref (ad 1025), .int a1] (tPre G ad A S)) (va_Qi (fun r u => r &&& 1 = r ∧ K r u) (tB G ad A (gN S)) A) 0 0 A :=
  tj_met_z [(0, .ref (ad 1025)), (1, .int a1)] pn_X0 rfl (Nat.le_of_ble_eq_true rfl) (fun p e R s m args below meth c Q C hw r => w_X_verdict_b0 C hw rfl r hX hf)
theorem w_X_word_b35 {Γ : tX} {N0 : Nat → Nat} {K : Int32 → tS → Prop} (C : TC Γ cX0_word RX0 1 25) (hw : tWf N0) (hR : xnL Γ = 3) (r : TRi Γ N0 cX0_word K) {a1 : Int32} {a2 : Int32} (hX : N0 1025 ≠ 0) {s1 : Int32} {S : tS} (hf : X_word_b35 a1 a2 K s1 S) : TJ Γ N0 0 0 35 [(0, .ref (xad Γ 1025)), (1, .int a1), (2, .int a2)] [.int s1, .ref (xad Γ 1025)] S := by
  unfold X_word_b35 at hf
  refine pf_X0_91 C hX dX0_word_35 ?_
  refine tj_topS (fun S6 eS => ?_)
  replace hf := hf S6 eS
  refine tj_aload_n C 0 rfl rfl dX0_word_38 ?_
  refine gf_X0_91 C hX dX0_word_39 ?_
  refine tj_if_le C 49 (by decide) dX0_word_42 (fun hc => ?_) (fun hc => ?_)
  · replace hf := hf.1 hc
    refine tj_iload_n C 2 rfl rfl dX0_word_49 ?_
    refine tj_if_ne C 65 (by decide) dX0_word_50 (fun hc => ?_) (fun hc => ?_)
    · replace hf := hf.2 hc
      refine tj_aload_n C 0 rfl rfl dX0_word_65 ?_
      refine tj_callVa C (k := 1) [] [] (fun hN => c_X_at (by rw [hN]; exact hX) hf) lk_X0_168 ty_X0_at rfl (Nat.le_of_ble_eq_true rfl) (Nat.le_of_ble_eq_true rfl) (Nat.le_of_ble_eq_true rfl) hX rfl (by decide) rfl rfl dX0_word_66 (fun S7 hf => ?_)
      refine gf_X0_332 C rfl (ne0 (ln_1222 hw hX)) dX0_word_69 ?_
      refine tj_iload_n C 1 rfl rfl dX0_word_72 ?_
      refine tj_iald C 1680 10 rfl (ln_1680 hw hX) _ rfl hf.1 dX0_word_73 ?_
      replace hf := hf.2
      exact r _ _ _ _ dX0_word_74 hf
    · replace hf := hf.1 hc
      refine tj_aload_n C 0 rfl rfl dX0_word_53 ?_
      refine tj_callVa C (k := 1) [] [] (fun hN => c_X_at (by rw [hN]; exact hX) hf) lk_X0_168 ty_X0_at rfl (Nat.le_of_ble_eq_true rfl) (Nat.le_of_ble_eq_true rfl) (Nat.le_of_ble_eq_true rfl) hX rfl (by decide) rfl rfl dX0_word_54 (fun S8 hf => ?_)
      refine gf_X0_329 C rfl (ne0 (ln_1222 hw hX)) dX0_word_57 ?_
      refine tj_iload_n C 1 rfl rfl dX0_word_60 ?_
      refine tj_iald C 1648 10 rfl (ln_1648 hw hX) _ rfl hf.1 dX0_word_61 ?_
      replace hf := hf.2
      refine tj_goto C 74 (by decide) dX0_word_62 ?_
      exact r _ _ _ _ dX0_word_74 hf
  · replace hf := hf.2 hc
    refine tj_iconst C kc_m1 dX0_word_45 ?_
    refine tj_goto C 74 (by decide) dX0_word_46 ?_
    exact r _ _ _ _ dX0_word_74 hf
theorem w_X_word_b34 {Γ : tX} {N0 : Nat → Nat} {K : Int32 → tS → Prop} (C : TC Γ cX0_word RX0 1 25) (hw : tWf N0) (hR : xnL Γ = 3) (r : TRi Γ N0 cX0_word K) {a1 : Int32} {a2 : Int32} (hX : N0 1025 ≠ 0) {S : tS} (hf : X_word_b34 a1 a2 K  S) : TJ Γ N0 0 0 34 [(0, .ref (xad Γ 1025)), (1, .int a1), (2, .int a2)] [.ref (xad Γ 1025)] S := by
  unfold X_word_b34 at hf
  refine tj_iconst C kc_1 dX0_word_34 ?_
  exact w_X_word_b35 C hw hR r hX hf
theorem w_X_word_b0 {Γ : tX} {N0 : Nat → Nat} {K : Int32 → tS → Prop} (C : TC Γ cX0_word RX0 1 25) (hw : tWf N0) (hR : xnL Γ = 3) (r : TRi Γ N0 cX0_word K) {a1 : Int32} {a2 : Int32} (hX : N0 1025 ≠ 0) {S : tS} (hf : X_word a1 a2 S K) : TJ Γ N0 0 0 0 [(0, .ref (xad Γ 1025)), (1, .int a1), (2, .int a2)] [] S := by
  unfold X_word at hf
  refine tj_aload_n C 0 rfl rfl dX0_word_0 ?_
  refine tj_iload_n C 1 rfl rfl dX0_word_1 ?_
  refine tj_i2l C dX0_word_2 ?_
  refine tj_lconst C (v := lN 0) rfl dX0_word_3 ?_
  refine tj_aload_n C 0 rfl rfl dX0_word_4 ?_
  refine tj_callVa C (k := 1) [] [.long (lN 0), .long (a1.toInt64), .ref (xad Γ 1025)] (fun hN => c_X_at (by rw [hN]; exact hX) hf) lk_X0_168 ty_X0_at rfl (Nat.le_of_ble_eq_true rfl) (Nat.le_of_ble_eq_true rfl) (Nat.le_of_ble_eq_true rfl) hX rfl (by decide) rfl rfl dX0_word_5 (fun S1 hf => ?_)
  refine gf_X0_242 C rfl (ne0 (ln_1222 hw hX)) dX0_word_8 ?_
  refine tj_iconst C kc_1 dX0_word_11 ?_
  refine tj_isub C dX0_word_12 ?_
  refine tj_i2l C dX0_word_13 ?_
  refine tj_callSz C [.long (a1.toInt64), .long (lN 0), .long (((gI S1 1222 5) - (nI 1)).toInt64)] [.ref (xad Γ 1025)] (fun hN => c_X_isIn hf) lk_X0_175 ty_X0_isIn rfl (Nat.le_of_ble_eq_true rfl) (Nat.le_of_ble_eq_true rfl) (Nat.le_of_ble_eq_true rfl) rfl dX0_word_14 (fun r3 S2 hf => ?_)
  have hz_r3 := hf.1
  replace hf := hf.2
  refine tj_if_eq C 34 (by decide) dX0_word_17 (fun hc => ?_) (fun hc => ?_)
  · replace hf := hf.1 hc
    exact w_X_word_b34 C hw hR r hX hf
  · replace hf := hf.2 hc
    refine tj_iload_n C 2 rfl rfl dX0_word_20 ?_
    refine tj_i2l C dX0_word_21 ?_
    refine tj_lconst C (v := lN 0) rfl dX0_word_22 ?_
    refine tj_lconst C (v := lN 1) rfl dX0_word_23 ?_
    refine tj_callSz C [.long (a2.toInt64), .long (lN 0), .long (lN 1)] [.ref (xad Γ 1025)] (fun hN => c_X_isIn hf) lk_X0_175 ty_X0_isIn rfl (Nat.le_of_ble_eq_true rfl) (Nat.le_of_ble_eq_true rfl) (Nat.le_of_ble_eq_true rfl) rfl dX0_word_24 (fun r5 S4 hf => ?_)
    have hz_r5 := hf.1
    replace hf := hf.2
    refine tj_if_eq C 34 (by decide) dX0_word_27 (fun hc => ?_) (fun hc => ?_)
    · replace hf := hf.1 hc
      exact w_X_word_b34 C hw hR r hX hf
    · replace hf := hf.2 hc
      refine tj_iconst C kc_0 dX0_word_30 ?_
      refine tj_goto C 35 (by decide) dX0_word_31 ?_
      exact w_X_word_b35 C hw hR r hX hf
theorem c_X_word {l : Launch} {G : tG} {ad : Nat → Nat} {A : Nat → Prop} {S : tS} {K : Int32 → tS → Prop} {a1 : Int32} {a2 : Int32} (hX : gN S 1025 ≠ 0) (hf : X_word a1 a2 S K) : Met l yX0_word (ws_ yX0_word cX0_word 3 (some .int)) (tRm 1 25) (va_Pc [.ref (ad 1025), .int a1, .int a2] (tPre G ad A S)) (va_Qi K (tB G ad A (gN S)) A) 0 0 A :=
  tj_met_i [(0, .ref (ad 1025)), (1, .int a1), (2, .int a2)] pn_X0 rfl (Nat.le_of_ble_eq_true rfl) (fun p e R s m args below meth c Q C hw r => w_X_word_b0 C hw rfl r hX hf)
theorem w_Wh_is_b0 {Γ : tX} {N0 : Nat → Nat} {K : Int32 → tS → Prop} (C : TC Γ cX12_is RX12 6 139) (hw : tWf N0) (hR : xnL Γ = 2) (r : TRz Γ N0 cX12_is K) {t0 : Nat} {a1 : Nat} (h_t0 : N0 t0 ≠ 0 ∧ t0 % 32 = 10) (h_a1 : N0 a1 ≠ 0 ∧ a1 % 32 = 6) {S : tS} (hf : Wh_is t0 a1 S K) : TJ Γ N0 0 0 0 [(0, .ref (xad Γ t0)), (1, .ref (xad Γ a1))] [] S := by
  unfold Wh_is at hf
  refine tj_aload_n C 0 rfl rfl dX12_is_0 ?_
  refine gf_X12_9 C h_t0.2 h_t0.1 dX12_is_1 ?_
  by_cases h0 : (gI S t0 2) = nI 0
  · replace hf := hf.1 h0
    refine tj_tswIn C 0 (off := 28) 32 (by decide) h0 (by decide) (by decide) (by decide) (by decide) dX12_is_4 ?_
    refine tj_aload_n C 1 rfl rfl dX12_is_32 ?_
    refine tj_aload_n C 0 rfl rfl dX12_is_33 ?_
    refine gf_X12_15 C h_t0.2 h_t0.1 dX12_is_34 ?_
    refine tj_callVi C (k := 6) [.int (gI S t0 3)] [] (fun hN => c_Co_showsNow (by rw [hN]; exact ⟨h_a1.1, h_a1.2⟩) hf) lk_X12_24 ty_X5_showsNow rfl (Nat.le_of_ble_eq_true rfl) (Nat.le_of_ble_eq_true rfl) (Nat.le_of_ble_eq_true rfl) h_a1.1 h_a1.2 (by decide) rfl rfl dX12_is_37 (fun r2 S1 hf => ?_)
    refine tj_aload_n C 0 rfl rfl dX12_is_40 ?_
    refine gf_X12_18 C h_t0.2 h_t0.1 dX12_is_41 ?_
    refine tj_icmp_ne C 51 (by decide) dX12_is_44 (fun hc => ?_) (fun hc => ?_)
    · replace hf := hf.2 hc
      refine tj_iconst C kc_0 dX12_is_51 ?_
      exact r _ _ _ _ dX12_is_52 zb0 hf
    · replace hf := hf.1 hc
      refine tj_iconst C kc_1 dX12_is_47 ?_
      refine tj_goto C 52 (by decide) dX12_is_48 ?_
      exact r _ _ _ _ dX12_is_52 zb1 hf
  · replace hf := hf.2 h0
    by_cases h1 : (gI S t0 2) = nI 1
    · replace hf := hf.1 h1
      refine tj_tswIn C 1 (off := 49) 53 (by decide) h1 (by decide) (by decide) (by decide) (by decide) dX12_is_4 ?_
      refine tj_aload_n C 1 rfl rfl dX12_is_53 ?_
      refine gf_X12_30 C h_a1.2 h_a1.1 dX12_is_54 ?_
      refine tj_aload_n C 0 rfl rfl dX12_is_57 ?_
      refine gf_X12_15 C h_t0.2 h_t0.1 dX12_is_58 ?_
      refine tj_iald C (a1 + 266) 6 (by have := h_a1.2; omega) (lnc_266 hw h_a1.2 h_a1.1) _ rfl hf.1 dX12_is_61 ?_
      replace hf := hf.2
      refine tj_iconst C kc_2 dX12_is_62 ?_
      refine tj_icmp_ne C 70 (by decide) dX12_is_63 (fun hc => ?_) (fun hc => ?_)
      · replace hf := hf.2 hc
        refine tj_iconst C kc_0 dX12_is_70 ?_
        exact r _ _ _ _ dX12_is_71 zb0 hf
      · replace hf := hf.1 hc
        refine tj_iconst C kc_1 dX12_is_66 ?_
        refine tj_goto C 71 (by decide) dX12_is_67 ?_
        exact r _ _ _ _ dX12_is_71 zb1 hf
    · replace hf := hf.2 h1
      by_cases h2 : (gI S t0 2) = nI 2
      · replace hf := hf.1 h2
        refine tj_tswIn C 2 (off := 68) 72 (by decide) h2 (by decide) (by decide) (by decide) (by decide) dX12_is_4 ?_
        refine tj_aload_n C 1 rfl rfl dX12_is_72 ?_
        refine gf_X12_30 C h_a1.2 h_a1.1 dX12_is_73 ?_
        refine tj_aload_n C 0 rfl rfl dX12_is_76 ?_
        refine gf_X12_15 C h_t0.2 h_t0.1 dX12_is_77 ?_
        refine tj_iald C (a1 + 266) 6 (by have := h_a1.2; omega) (lnc_266 hw h_a1.2 h_a1.1) _ rfl hf.1 dX12_is_80 ?_
        replace hf := hf.2
        refine tj_iconst C kc_1 dX12_is_81 ?_
        refine tj_icmp_ne C 89 (by decide) dX12_is_82 (fun hc => ?_) (fun hc => ?_)
        · replace hf := hf.2 hc
          refine tj_iconst C kc_0 dX12_is_89 ?_
          exact r _ _ _ _ dX12_is_90 zb0 hf
        · replace hf := hf.1 hc
          refine tj_iconst C kc_1 dX12_is_85 ?_
          refine tj_goto C 90 (by decide) dX12_is_86 ?_
          exact r _ _ _ _ dX12_is_90 zb1 hf
      · replace hf := hf.2 h2
        refine tj_tswOut C 0 3 91 (by decide) (fun k hk => match k, hk with | 0, _ => h0 | 1, _ => h1 | 2, _ => h2 | k + 3, hk => absurd hk (by omega)) (by decide) (by decide) (by decide) dX12_is_4 ?_
        refine tj_aload_n C 1 rfl rfl dX12_is_91 ?_
        refine gf_X12_34 C h_a1.2 h_a1.1 dX12_is_92 ?_
        refine tj_aload_n C 0 rfl rfl dX12_is_95 ?_
        refine gf_X12_21 C h_t0.2 h_t0.1 dX12_is_96 ?_
        refine tj_aload_n C 0 rfl rfl dX12_is_99 ?_
        refine gf_X12_18 C h_t0.2 h_t0.1 dX12_is_100 ?_
        refine tj_callSNz C [.int (gI S a1 6), .int (gI S t0 5), .int (gI S t0 4)] [] (fun hN => c_X_compares hf) (lw_meth q1167) q1582 q167 q1166 ty_X0_compares rfl (Nat.le_of_ble_eq_true rfl) (Nat.le_of_ble_eq_true rfl) (Nat.le_of_ble_eq_true rfl) rfl dX12_is_103 (fun r4 S3 hf => ?_)
        have hz_r4 := hf.1
        replace hf := hf.2
        exact r _ _ _ _ dX12_is_106 hz_r4 hf
theorem c_Wh_is {l : Launch} {G : tG} {ad : Nat → Nat} {A : Nat → Prop} {S : tS} {K : Int32 → tS → Prop} {t0 : Nat} {a1 : Nat} (h_t0 : gN S t0 ≠ 0 ∧ t0 % 32 = 10) (h_a1 : gN S a1 ≠ 0 ∧ a1 % 32 = 6) (hf : Wh_is t0 a1 S K) : Met l yX12_is (ws_ yX12_is cX12_is 2 (some .boolean)) (tRm 6 139) (va_Pc [.ref (ad t0), .ref (ad a1)] (tPre G ad A S)) (va_Qi (fun r u => r &&& 1 = r ∧ K r u) (tB G ad A (gN S)) A) 0 0 A :=
  tj_met_z [(0, .ref (ad t0)), (1, .ref (ad a1))] pn_X12 rfl (Nat.le_of_ble_eq_true rfl) (fun p e R s m args below meth c Q C hw r => w_Wh_is_b0 C hw rfl r h_t0 h_a1 hf)
theorem w_Li_draw_b0 {Γ : tX} {N0 : Nat → Nat} {K : Int32 → tS → Prop} (C : TC Γ cX14_draw RX14 0 0) (hw : tWf N0) (hR : xnL Γ = 2) (r : TRi Γ N0 cX14_draw K) {t0 : Nat} {a1 : Int32} (h_t0 : N0 t0 ≠ 0 ∧ t0 % 32 = 12) {S : tS} (hf : Li_draw t0 a1 S K) : TJ Γ N0 0 0 0 [(0, .ref (xad Γ t0)), (1, .int a1)] [] S := by
  unfold Li_draw at hf
  refine tj_aload_n C 0 rfl rfl dX14_draw_0 ?_
  refine tj_aload_n C 0 rfl rfl dX14_draw_1 ?_
  refine gf_X14_13 C h_t0.2 h_t0.1 dX14_draw_2 ?_
  refine tj_sipush C ks_3181 dX14_draw_5 ?_
  refine tj_imul C dX14_draw_8 ?_
  refine tj_sipush C ks_11399 dX14_draw_9 ?_
  refine tj_iadd C dX14_draw_12 ?_
  refine tj_ldc C kl_X14_17 dX14_draw_13 ?_
  refine tj_irem C hf.1 dX14_draw_15 ?_
  replace hf := hf.2
  refine pf_X14_13 C h_t0.2 h_t0.1 dX14_draw_16 ?_
  refine tj_topS (fun S1 eS => ?_)
  replace hf := hf S1 eS
  refine tj_aload_n C 0 rfl rfl dX14_draw_19 ?_
  refine gf_X14_13 C h_t0.2 h_t0.1 dX14_draw_20 ?_
  refine tj_bipush C kb_8 dX14_draw_23 ?_
  refine tj_idiv C hf.1 dX14_draw_25 ?_
  replace hf := hf.2
  refine tj_iload_n C 1 rfl rfl dX14_draw_26 ?_
  refine tj_irem C hf.1 dX14_draw_27 ?_
  replace hf := hf.2
  exact r _ _ _ _ dX14_draw_28 hf
theorem c_Li_draw {l : Launch} {G : tG} {ad : Nat → Nat} {A : Nat → Prop} {S : tS} {K : Int32 → tS → Prop} {t0 : Nat} {a1 : Int32} (h_t0 : gN S t0 ≠ 0 ∧ t0 % 32 = 12) (hf : Li_draw t0 a1 S K) : Met l yX14_draw (ws_ yX14_draw cX14_draw 2 (some .int)) (tRm 0 0) (va_Pc [.ref (ad t0), .int a1] (tPre G ad A S)) (va_Qi K (tB G ad A (gN S)) A) 0 0 A :=
  tj_met_i [(0, .ref (ad t0)), (1, .int a1)] pn_X14 rfl (Nat.le_of_ble_eq_true rfl) (fun p e R s m args below meth c Q C hw r => w_Li_draw_b0 C hw rfl r h_t0 hf)
theorem w_Ac_any_b0 {Γ : tX} {N0 : Nat → Nat} {K : Int32 → tS → Prop} (C : TC Γ cX13_any RX13 2 62) (hw : tWf N0) (hR : xnL Γ = 3) (r : TRz Γ N0 cX13_any K) {a0 : Nat} {a1 : Nat} (h_a0 : N0 a0 ≠ 0 ∧ a0 % 32 = 12) (h_a1 : N0 a1 ≠ 0 ∧ a1 % 32 = 6) {S : tS} (hf : Ac_any a0 a1 S K) : TJ Γ N0 0 0 0 [(0, .ref (xad Γ a0)), (1, .ref (xad Γ a1))] [] S := by
  unfold Ac_any at hf
  refine tj_aload_n C 1 rfl rfl dX13_any_0 ?_
  refine gf_X13_83 C h_a1.2 h_a1.1 dX13_any_1 ?_
  refine tj_if_ne C 9 (by decide) dX13_any_4 (fun hc => ?_) (fun hc => ?_)
  · replace hf := hf.2 hc
    refine tj_aload_n C 0 rfl rfl dX13_any_9 ?_
    refine tj_aload_n C 1 rfl rfl dX13_any_10 ?_
    refine gf_X13_83 C h_a1.2 h_a1.1 dX13_any_11 ?_
    refine tj_callVi C (k := 12) [.int (gI S a1 3)] [] (fun hN => c_Li_draw (by rw [hN]; exact ⟨h_a0.1, h_a0.2⟩) hf) lk_X13_86 ty_X14_draw rfl (Nat.le_of_ble_eq_true rfl) (Nat.le_of_ble_eq_true rfl) (Nat.le_of_ble_eq_true rfl) h_a0.1 h_a0.2 (by decide) rfl rfl dX13_any_14 (fun r2 S1 hf => ?_)
    refine tj_istore_n C (by rw [hR]; decide) [(2, .int r2), (0, .ref (xad Γ a0)), (1, .ref (xad Γ a1))] rfl rfl dX13_any_17 ?_
    refine tj_aload_n C 2 rfl rfl dX13_any_18 ?_
    refine tj_iload_n C 0 rfl rfl dX13_any_19 ?_
    refine tj_aload_n C 1 rfl rfl dX13_any_20 ?_
    refine tj_iconst C kc_4 dX13_any_21 ?_
    refine tj_callVi C (k := 12) [.int (nI 4)] [.int r2, .ref (xad Γ a1)] (fun hN => c_Li_draw (by rw [hN]; exact ⟨h_a0.1, h_a0.2⟩) hf) lk_X13_86 ty_X14_draw rfl (Nat.le_of_ble_eq_true rfl) (Nat.le_of_ble_eq_true rfl) (Nat.le_of_ble_eq_true rfl) h_a0.1 h_a0.2 (by decide) rfl rfl dX13_any_22 (fun r4 S3 hf => ?_)
    refine tj_callVz C (k := 6) [.int r2, .int r4] [] (fun hN => c_Co_feeds (by rw [hN]; exact ⟨h_a1.1, h_a1.2⟩) hf) lk_X13_34 ty_X5_feeds rfl (Nat.le_of_ble_eq_true rfl) (Nat.le_of_ble_eq_true rfl) (Nat.le_of_ble_eq_true rfl) h_a1.1 h_a1.2 (by decide) rfl rfl dX13_any_25 (fun r6 S5 hf => ?_)
    have hz_r6 := hf.1
    replace hf := hf.2
    exact r _ _ _ _ dX13_any_28 hz_r6 hf
  · replace hf := hf.1 hc
    refine tj_iconst C kc_0 dX13_any_7 ?_
    exact r _ _ _ _ dX13_any_8 zb0 hf
theorem c_Ac_any {l : Launch} {G : tG} {ad : Nat → Nat} {A : Nat → Prop} {S : tS} {K : Int32 → tS → Prop} {a0 : Nat} {a1 : Nat} (h_a0 : gN S a0 ≠ 0 ∧ a0 % 32 = 12) (h_a1 : gN S a1 ≠ 0 ∧ a1 % 32 = 6) (hf : Ac_any a0 a1 S K) : Met l yX13_any (ws_ yX13_any cX13_any 3 (some .boolean)) (tRm 2 62) (va_Pc [.ref (ad a0), .ref (ad a1)] (tPre G ad A S)) (va_Qi (fun r u => r &&& 1 = r ∧ K r u) (tB G ad A (gN S)) A) 0 0 A :=
  tj_met_z [(0, .ref (ad a0)), (1, .ref (ad a1))] pn_X13 rfl (Nat.le_of_ble_eq_true rfl) (fun p e R s m args below meth c Q C hw r => w_Ac_any_b0 C hw rfl r h_a0 h_a1 hf)
theorem w_Ac_sits_b0 {Γ : tX} {N0 : Nat → Nat} {K : Int32 → tS → Prop} (C : TC Γ cX13_sits RX13 7 161) (hw : tWf N0) (hR : xnL Γ = 3) (r : TRz Γ N0 cX13_sits K) {t0 : Nat} {a1 : Nat} {a2 : Nat} (h_t0 : N0 t0 ≠ 0 ∧ t0 % 32 = 8) (h_a1 : N0 a1 ≠ 0 ∧ a1 % 32 = 12) (h_a2 : N0 a2 ≠ 0 ∧ a2 % 32 = 6) {S : tS} (hf : Ac_sits t0 a1 a2 S K) : TJ Γ N0 0 0 0 [(0, .ref (xad Γ t0)), (1, .ref (xad Γ a1)), (2, .ref (xad Γ a2))] [] S := by
  unfold Ac_sits at hf
  refine tj_aload_n C 2 rfl rfl dX13_sits_0 ?_
  refine gf_X13_55 C h_a2.2 h_a2.1 dX13_sits_1 ?_
  refine tj_sipush C ks_9999 dX13_sits_4 ?_
  refine tj_icmp_ne C 12 (by decide) dX13_sits_7 (fun hc => ?_) (fun hc => ?_)
  · replace hf := hf.2 hc
    refine tj_aload_n C 2 rfl rfl dX13_sits_12 ?_
    refine tj_aload_n C 0 rfl rfl dX13_sits_13 ?_
    refine gf_X13_15 C h_t0.2 h_t0.1 dX13_sits_14 ?_
    refine tj_callVi C (k := 6) [.int (gI S t0 1)] [] (fun hN => c_Co_sits (by rw [hN]; exact ⟨h_a2.1, h_a2.2⟩) hf) lk_X13_58 ty_X5_sits rfl (Nat.le_of_ble_eq_true rfl) (Nat.le_of_ble_eq_true rfl) (Nat.le_of_ble_eq_true rfl) h_a2.1 h_a2.2 (by decide) rfl rfl dX13_sits_17 (fun r2 S1 hf => ?_)
    refine tj_pop C rfl dX13_sits_20 ?_
    refine tj_aload_n C 1 rfl rfl dX13_sits_21 ?_
    refine tj_dup C rfl dX13_sits_22 ?_
    refine gf_X13_61 C h_a1.2 h_a1.1 dX13_sits_23 ?_
    refine tj_iconst C kc_1 dX13_sits_26 ?_
    refine tj_iadd C dX13_sits_27 ?_
    refine pf_X13_61 C h_a1.2 h_a1.1 dX13_sits_28 ?_
    refine tj_topS (fun S3 eS => ?_)
    replace hf := hf S3 eS
    refine tj_iconst C kc_1 dX13_sits_31 ?_
    exact r _ _ _ _ dX13_sits_32 zb1 hf
  · replace hf := hf.1 hc
    refine tj_iconst C kc_0 dX13_sits_10 ?_
    exact r _ _ _ _ dX13_sits_11 zb0 hf
theorem c_Ac_sits {l : Launch} {G : tG} {ad : Nat → Nat} {A : Nat → Prop} {S : tS} {K : Int32 → tS → Prop} {t0 : Nat} {a1 : Nat} {a2 : Nat} (h_t0 : gN S t0 ≠ 0 ∧ t0 % 32 = 8) (h_a1 : gN S a1 ≠ 0 ∧ a1 % 32 = 12) (h_a2 : gN S a2 ≠ 0 ∧ a2 % 32 = 6) (hf : Ac_sits t0 a1 a2 S K) : Met l yX13_sits (ws_ yX13_sits cX13_sits 3 (some .boolean)) (tRm 7 161) (va_Pc [.ref (ad t0), .ref (ad a1), .ref (ad a2)] (tPre G ad A S)) (va_Qi (fun r u => r &&& 1 = r ∧ K r u) (tB G ad A (gN S)) A) 0 0 A :=
  tj_met_z [(0, .ref (ad t0)), (1, .ref (ad a1)), (2, .ref (ad a2))] pn_X13 rfl (Nat.le_of_ble_eq_true rfl) (fun p e R s m args below meth c Q C hw r => w_Ac_sits_b0 C hw rfl r h_t0 h_a1 h_a2 hf)
theorem w_Ac_terms_b0 {Γ : tX} {N0 : Nat → Nat} {K : Int32 → tS → Prop} (C : TC Γ cX13_terms RX13 9 205) (hw : tWf N0) (hR : xnL Γ = 3) (r : TRz Γ N0 cX13_terms K) {a0 : Nat} {a1 : Nat} (h_a0 : N0 a0 ≠ 0 ∧ a0 % 32 = 12) (h_a1 : N0 a1 ≠ 0 ∧ a1 % 32 = 6) {S : tS} (hf : Ac_terms a0 a1 S K) : TJ Γ N0 0 0 0 [(0, .ref (xad Γ a0)), (1, .ref (xad Γ a1))] [] S := by
  unfold Ac_terms at hf
  refine tj_aload_n C 1 rfl rfl dX13_terms_0 ?_
  refine tj_iconst C kc_0 dX13_terms_1 ?_
  refine tj_callVi C (k := 6) [.int (nI 0)] [] (fun hN => c_Co_are (by rw [hN]; exact ⟨h_a1.1, h_a1.2⟩) hf) lk_X13_62 ty_X5_are rfl (Nat.le_of_ble_eq_true rfl) (Nat.le_of_ble_eq_true rfl) (Nat.le_of_ble_eq_true rfl) h_a1.1 h_a1.2 (by decide) rfl rfl dX13_terms_2 (fun r2 S1 hf => ?_)
  refine tj_istore_n C (by rw [hR]; decide) [(2, .int r2), (0, .ref (xad Γ a0)), (1, .ref (xad Γ a1))] rfl rfl dX13_terms_5 ?_
  refine tj_iload_n C 0 rfl rfl dX13_terms_6 ?_
  refine tj_if_eq C 25 (by decide) dX13_terms_7 (fun hc => ?_) (fun hc => ?_)
  · replace hf := hf.1 hc
    refine tj_iconst C kc_0 dX13_terms_25 ?_
    exact r _ _ _ _ dX13_terms_26 zb0 hf
  · replace hf := hf.2 hc
    refine tj_aload_n C 2 rfl rfl dX13_terms_10 ?_
    refine gf_X13_55 C h_a1.2 h_a1.1 dX13_terms_11 ?_
    refine tj_iload_n C 0 rfl rfl dX13_terms_14 ?_
    refine tj_callSi C [.int r2] [.int (gI S1 a1 7)] (fun hN => c_In_bitCount hf) lk_X13_65 ty_J11_bitCount rfl (Nat.le_of_ble_eq_true rfl) (Nat.le_of_ble_eq_true rfl) (Nat.le_of_ble_eq_true rfl) rfl dX13_terms_15 (fun r4 S3 hf => ?_)
    refine tj_iadd C dX13_terms_18 ?_
    refine tj_sipush C ks_9999 dX13_terms_19 ?_
    refine tj_icmp_le C 27 (by decide) dX13_terms_22 (fun hc => ?_) (fun hc => ?_)
    · replace hf := hf.1 hc
      refine tj_aload_n C 2 rfl rfl dX13_terms_27 ?_
      refine tj_callVi C (k := 6) [] [] (fun hN => c_Co_term (by rw [hN]; exact ⟨h_a1.1, h_a1.2⟩) hf) lk_X13_70 ty_X5_term rfl (Nat.le_of_ble_eq_true rfl) (Nat.le_of_ble_eq_true rfl) (Nat.le_of_ble_eq_true rfl) h_a1.1 h_a1.2 (by decide) rfl rfl dX13_terms_28 (fun r6 S5 hf => ?_)
      refine tj_pop C rfl dX13_terms_31 ?_
      refine tj_aload_n C 1 rfl rfl dX13_terms_32 ?_
      refine tj_dup C rfl dX13_terms_33 ?_
      refine gf_X13_61 C h_a0.2 h_a0.1 dX13_terms_34 ?_
      refine tj_iload_n C 0 rfl rfl dX13_terms_37 ?_
      refine tj_callSi C [.int r2] [.int (gI S5 a0 4), .ref (xad Γ a0)] (fun hN => c_In_bitCount hf) lk_X13_65 ty_J11_bitCount rfl (Nat.le_of_ble_eq_true rfl) (Nat.le_of_ble_eq_true rfl) (Nat.le_of_ble_eq_true rfl) rfl dX13_terms_38 (fun r8 S7 hf => ?_)
      refine tj_iadd C dX13_terms_41 ?_
      refine pf_X13_61 C h_a0.2 h_a0.1 dX13_terms_42 ?_
      refine tj_topS (fun S9 eS => ?_)
      replace hf := hf S9 eS
      refine tj_aload_n C 1 rfl rfl dX13_terms_45 ?_
      refine tj_dup C rfl dX13_terms_46 ?_
      refine gf_X13_74 C h_a0.2 h_a0.1 dX13_terms_47 ?_
      refine tj_iload_n C 0 rfl rfl dX13_terms_50 ?_
      refine tj_aload_n C 2 rfl rfl dX13_terms_51 ?_
      refine tj_iconst C kc_1 dX13_terms_52 ?_
      refine tj_callVi C (k := 6) [.int (nI 1)] [.int r2, .int (gI S9 a0 5), .ref (xad Γ a0)] (fun hN => c_Co_are (by rw [hN]; exact ⟨h_a1.1, h_a1.2⟩) hf) lk_X13_62 ty_X5_are rfl (Nat.le_of_ble_eq_true rfl) (Nat.le_of_ble_eq_true rfl) (Nat.le_of_ble_eq_true rfl) h_a1.1 h_a1.2 (by decide) rfl rfl dX13_terms_53 (fun r11 S10 hf => ?_)
      refine tj_iand C dX13_terms_56 ?_
      refine tj_callSi C [.int (r2 &&& r11)] [.int (gI S9 a0 5), .ref (xad Γ a0)] (fun hN => c_In_bitCount hf) lk_X13_65 ty_J11_bitCount rfl (Nat.le_of_ble_eq_true rfl) (Nat.le_of_ble_eq_true rfl) (Nat.le_of_ble_eq_true rfl) rfl dX13_terms_57 (fun r13 S12 hf => ?_)
      refine tj_iadd C dX13_terms_60 ?_
      refine pf_X13_74 C h_a0.2 h_a0.1 dX13_terms_61 ?_
      refine tj_topS (fun S14 eS => ?_)
      replace hf := hf S14 eS
      refine tj_aload_n C 1 rfl rfl dX13_terms_64 ?_
      refine tj_dup C rfl dX13_terms_65 ?_
      refine gf_X13_77 C h_a0.2 h_a0.1 dX13_terms_66 ?_
      refine tj_iload_n C 0 rfl rfl dX13_terms_69 ?_
      refine tj_aload_n C 2 rfl rfl dX13_terms_70 ?_
      refine tj_iconst C kc_2 dX13_terms_71 ?_
      refine tj_callVi C (k := 6) [.int (nI 2)] [.int r2, .int (gI S14 a0 6), .ref (xad Γ a0)] (fun hN => c_Co_are (by rw [hN]; exact ⟨h_a1.1, h_a1.2⟩) hf) lk_X13_62 ty_X5_are rfl (Nat.le_of_ble_eq_true rfl) (Nat.le_of_ble_eq_true rfl) (Nat.le_of_ble_eq_true rfl) h_a1.1 h_a1.2 (by decide) rfl rfl dX13_terms_72 (fun r16 S15 hf => ?_)
      refine tj_iand C dX13_terms_75 ?_
      refine tj_callSi C [.int (r2 &&& r16)] [.int (gI S14 a0 6), .ref (xad Γ a0)] (fun hN => c_In_bitCount hf) lk_X13_65 ty_J11_bitCount rfl (Nat.le_of_ble_eq_true rfl) (Nat.le_of_ble_eq_true rfl) (Nat.le_of_ble_eq_true rfl) rfl dX13_terms_76 (fun r18 S17 hf => ?_)
      refine tj_iadd C dX13_terms_79 ?_
      refine pf_X13_77 C h_a0.2 h_a0.1 dX13_terms_80 ?_
      refine tj_topS (fun S19 eS => ?_)
      replace hf := hf S19 eS
      refine tj_iconst C kc_1 dX13_terms_83 ?_
      exact r _ _ _ _ dX13_terms_84 zb1 hf
    · replace hf := hf.2 hc
      refine tj_iconst C kc_0 dX13_terms_25 ?_
      exact r _ _ _ _ dX13_terms_26 zb0 hf
theorem c_Ac_terms {l : Launch} {G : tG} {ad : Nat → Nat} {A : Nat → Prop} {S : tS} {K : Int32 → tS → Prop} {a0 : Nat} {a1 : Nat} (h_a0 : gN S a0 ≠ 0 ∧ a0 % 32 = 12) (h_a1 : gN S a1 ≠ 0 ∧ a1 % 32 = 6) (hf : Ac_terms a0 a1 S K) : Met l yX13_terms (ws_ yX13_terms cX13_terms 3 (some .boolean)) (tRm 9 205) (va_Pc [.ref (ad a0), .ref (ad a1)] (tPre G ad A S)) (va_Qi (fun r u => r &&& 1 = r ∧ K r u) (tB G ad A (gN S)) A) 0 0 A :=
  tj_met_z [(0, .ref (ad a0)), (1, .ref (ad a1))] pn_X13 rfl (Nat.le_of_ble_eq_true rfl) (fun p e R s m args below meth c Q C hw r => w_Ac_terms_b0 C hw rfl r h_a0 h_a1 hf)
