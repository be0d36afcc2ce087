set_option maxRecDepth 100000
theorem w_M_enact_b146 {Γ : tX} {N0 : Nat → Nat} {K : Int32 → tS → Prop} (C : TC Γ cX6_enact RX6 1 25) (hw : tWf N0) (hR : xnL Γ = 6) (r : TRi Γ N0 cX6_enact K) {a1 : Int32} {a2 : Int32} {a3 : Int32} (hM : N0 0 ≠ 0) {a4 : Int32} {s1 : Int32} {s2 : Int32} {S : tS} (hf : M_enact_b146 a1 a2 a3 K a4 s1 s2 S) : TJ Γ N0 0 0 146 [(0, .ref (xad Γ 0)), (4, .int a4)] [.int s2, .int s1, .ref (xad Γ 48)] S := by
  unfold M_enact_b146 at hf
  refine tj_iast C 48 3548 rfl (ln_48 hw hM) _ rfl hf.1 dX6_enact_146 ?_
  replace hf := hf.2
  refine tj_topS (fun S25 eS => ?_)
  replace hf := hf S25 eS
  refine tj_aload_n C 0 rfl rfl dX6_enact_147 ?_
  refine tj_iload C 1 rfl dX6_enact_148 ?_
  refine tj_callVi C (k := 0) [.int a4] [] (fun hN => c_M_gives (by rw [hN]; exact hM) hf) lk_X6_95 ty_X6_gives rfl (Nat.le_of_ble_eq_true rfl) (Nat.le_of_ble_eq_true rfl) (Nat.le_of_ble_eq_true rfl) hM rfl (by decide) rfl rfl dX6_enact_150 (fun r27 S26 hf => ?_)
  exact r _ _ _ _ dX6_enact_153 hf
theorem w_M_enact_l73 {Γ : tX} {N0 : Nat → Nat} {K : Int32 → tS → Prop} (C : TC Γ cX6_enact RX6 1 25) (hw : tWf N0) (hR : xnL Γ = 6) (r : TRi Γ N0 cX6_enact K) {a1 : Int32} {a2 : Int32} {a3 : Int32} (hM : N0 0 ≠ 0) : ∀ (n : Nat) (a4 : Int32) (a5 : Int32) (S : tS), M_enact_l73 a1 a2 a3 K n a4 a5 S → TJ Γ N0 0 0 73 [(0, .ref (xad Γ 0)), (1, .int a1), (2, .int a2), (3, .int a3), (4, .int a4), (5, .int a5)] [] S := by
  intro n
  induction n with
  | zero => intro a4 a5 S hf; exact hf.elim
  | succ n ih =>
    intro a4 a5 S hf
    unfold M_enact_l73 at hf
    refine tj_iload C 5 rfl dX6_enact_73 ?_
    refine tj_bipush C kb_7 dX6_enact_75 ?_
    refine tj_icmp_ge C 100 (by decide) dX6_enact_77 (fun hc => ?_) (fun hc => ?_)
    · replace hf := hf.1 hc
      refine tj_aload_n C 0 rfl rfl dX6_enact_100 ?_
      refine gf_X6_7 C hM dX6_enact_101 ?_
      refine tj_iload C 4 rfl dX6_enact_104 ?_
      refine tj_callSi C [.int a4] [.ref (xad Γ 48)] (fun hN => c_M_ruleRow hf) lk_X6_215 ty_X6_ruleRow rfl (Nat.le_of_ble_eq_true rfl) (Nat.le_of_ble_eq_true rfl) (Nat.le_of_ble_eq_true rfl) rfl dX6_enact_106 (fun r14 S13 hf => ?_)
      refine tj_iload_n C 1 rfl rfl dX6_enact_109 ?_
      refine tj_iast C 48 3548 rfl (ln_48 hw hM) _ rfl hf.1 dX6_enact_110 ?_
      replace hf := hf.2
      refine tj_topS (fun S15 eS => ?_)
      replace hf := hf S15 eS
      refine tj_aload_n C 0 rfl rfl dX6_enact_111 ?_
      refine gf_X6_7 C hM dX6_enact_112 ?_
      refine tj_iload C 4 rfl dX6_enact_115 ?_
      refine tj_callSi C [.int a4] [.ref (xad Γ 48)] (fun hN => c_M_ruleRow hf) lk_X6_215 ty_X6_ruleRow rfl (Nat.le_of_ble_eq_true rfl) (Nat.le_of_ble_eq_true rfl) (Nat.le_of_ble_eq_true rfl) rfl dX6_enact_117 (fun r17 S16 hf => ?_)
      refine tj_iconst C kc_1 dX6_enact_120 ?_
      refine tj_iadd C dX6_enact_121 ?_
      refine tj_iload_n C 2 rfl rfl dX6_enact_122 ?_
      refine tj_iast C 48 3548 rfl (ln_48 hw hM) _ rfl hf.1 dX6_enact_123 ?_
      replace hf := hf.2
      refine tj_topS (fun S18 eS => ?_)
      replace hf := hf S18 eS
      refine tj_aload_n C 0 rfl rfl dX6_enact_124 ?_
      refine gf_X6_7 C hM dX6_enact_125 ?_
      refine tj_iload C 4 rfl dX6_enact_128 ?_
      refine tj_callSi C [.int a4] [.ref (xad Γ 48)] (fun hN => c_M_ruleRow hf) lk_X6_215 ty_X6_ruleRow rfl (Nat.le_of_ble_eq_true rfl) (Nat.le_of_ble_eq_true rfl) (Nat.le_of_ble_eq_true rfl) rfl dX6_enact_130 (fun r20 S19 hf => ?_)
      refine tj_bipush C kb_6 dX6_enact_133 ?_
      refine tj_iadd C dX6_enact_135 ?_
      refine tj_iload_n C 3 rfl rfl dX6_enact_136 ?_
      refine tj_iconst C kc_5 dX6_enact_137 ?_
      refine tj_icmp_ne C 145 (by decide) dX6_enact_138 (fun hc => ?_) (fun hc => ?_)
      · replace hf := hf.2 hc
        refine tj_iload_n C 3 rfl rfl dX6_enact_145 ?_
        exact tj_sub [0, 4] (w_M_enact_b146 C hw hR r hM hf) rfl
      · replace hf := hf.1 hc
        refine tj_iconst C kc_m1 dX6_enact_141 ?_
        refine tj_goto C 146 (by decide) dX6_enact_142 ?_
        exact tj_sub [0, 4] (w_M_enact_b146 C hw hR r hM hf) rfl
    · replace hf := hf.2 hc
      refine tj_aload_n C 0 rfl rfl dX6_enact_80 ?_
      refine gf_X6_7 C hM dX6_enact_81 ?_
      refine tj_iload C 4 rfl dX6_enact_84 ?_
      refine tj_callSi C [.int a4] [.ref (xad Γ 48)] (fun hN => c_M_ruleRow hf) lk_X6_215 ty_X6_ruleRow rfl (Nat.le_of_ble_eq_true rfl) (Nat.le_of_ble_eq_true rfl) (Nat.le_of_ble_eq_true rfl) rfl dX6_enact_86 (fun r22 S21 hf => ?_)
      refine tj_iload C 5 rfl dX6_enact_89 ?_
      refine tj_iadd C dX6_enact_91 ?_
      refine tj_iconst C kc_0 dX6_enact_92 ?_
      refine tj_iast C 48 3548 rfl (ln_48 hw hM) _ rfl hf.1 dX6_enact_93 ?_
      replace hf := hf.2
      refine tj_topS (fun S23 eS => ?_)
      replace hf := hf S23 eS
      obtain ⟨x24, ex⟩ : ∃ y : Int32, y = a5 + nI 1 := ⟨_, rfl⟩
      refine tj_iinc C (by rw [hR]; decide) 5 [(5, .int x24), (0, .ref (xad Γ 0)), (1, .int a1), (2, .int a2), (3, .int a3), (4, .int a4)] rfl (by rw [ex]; exact ki_1 _) rfl dX6_enact_94 ?_
      replace hf := hf x24 ex
      refine tj_goto C 73 (by decide) dX6_enact_97 ?_
      exact tj_sub [1, 2, 3, 4, 5, 0] (ih _ _ _ hf) rfl
theorem w_M_enact_b39 {Γ : tX} {N0 : Nat → Nat} {K : Int32 → tS → Prop} (C : TC Γ cX6_enact RX6 1 25) (hw : tWf N0) (hR : xnL Γ = 6) (r : TRi Γ N0 cX6_enact K) {a1 : Int32} {a2 : Int32} {a3 : Int32} (hM : N0 0 ≠ 0) {S : tS} (hf : M_enact_b39 a1 a2 a3 K  S) : TJ Γ N0 0 0 39 [(0, .ref (xad Γ 0)), (1, .int a1), (2, .int a2), (3, .int a3)] [] S := by
  unfold M_enact_b39 at hf
  refine tj_aload_n C 0 rfl rfl dX6_enact_39 ?_
  refine gf_X6_7 C hM dX6_enact_40 ?_
  refine tj_iconst C kc_2 dX6_enact_43 ?_
  refine tj_iald C 48 3548 rfl (ln_48 hw hM) 2 kn_2 (vp_in_nI (by decide) (by decide)) dX6_enact_44 ?_
  refine tj_topi (fun x9 ex => ?_)
  replace hf := hf x9 ex
  refine tj_istore C (by rw [hR]; decide) [(4, .int x9), (0, .ref (xad Γ 0)), (1, .int a1), (2, .int a2), (3, .int a3)] rfl dX6_enact_45 ?_
  refine tj_iload C 0 rfl dX6_enact_47 ?_
  refine tj_bipush C kb_8 dX6_enact_49 ?_
  refine tj_icmp_ne C 60 (by decide) dX6_enact_51 (fun hc => ?_) (fun hc => ?_)
  · replace hf := hf.2 hc
    refine tj_aload_n C 1 rfl rfl dX6_enact_60 ?_
    refine gf_X6_7 C hM dX6_enact_61 ?_
    refine tj_iconst C kc_2 dX6_enact_64 ?_
    refine tj_dup2 C rfl rfl dX6_enact_65 ?_
    refine tj_iald C 48 3548 rfl (ln_48 hw hM) 2 kn_2 (vp_in_nI (by decide) (by decide)) dX6_enact_66 ?_
    refine tj_iconst C kc_1 dX6_enact_67 ?_
    refine tj_iadd C dX6_enact_68 ?_
    refine tj_iast C 48 3548 rfl (ln_48 hw hM) 2 kn_2 (vp_in_nI (by decide) (by decide)) dX6_enact_69 ?_
    refine tj_topS (fun S10 eS => ?_)
    replace hf := hf S10 eS
    refine tj_iconst C kc_0 dX6_enact_70 ?_
    refine tj_istore C (by rw [hR]; decide) [(5, .int (nI 0)), (4, .int x9), (0, .ref (xad Γ 0)), (1, .int a1), (2, .int a2), (3, .int a3)] rfl dX6_enact_71 ?_
    exact tj_sub [2, 3, 4, 5, 1, 0] (hf.elim fun k hf => w_M_enact_l73 C hw hR r hM k _ _ _ hf) rfl
  · replace hf := hf.1 hc
    refine tj_aload_n C 1 rfl rfl dX6_enact_54 ?_
    refine tj_iconst C kc_4 dX6_enact_55 ?_
    refine tj_callVi C (k := 0) [.int (nI 4)] [] (fun hN => c_M_refuse (by rw [hN]; exact hM) hf) lk_X6_91 ty_X6_refuse rfl (Nat.le_of_ble_eq_true rfl) (Nat.le_of_ble_eq_true rfl) (Nat.le_of_ble_eq_true rfl) hM rfl (by decide) rfl rfl dX6_enact_56 (fun r12 S11 hf => ?_)
    exact r _ _ _ _ dX6_enact_59 hf
theorem w_M_enact_b33 {Γ : tX} {N0 : Nat → Nat} {K : Int32 → tS → Prop} (C : TC Γ cX6_enact RX6 1 25) (hw : tWf N0) (hR : xnL Γ = 6) (r : TRi Γ N0 cX6_enact K) {a1 : Int32} {a2 : Int32} {a3 : Int32} (hM : N0 0 ≠ 0) {S : tS} (hf : M_enact_b33 a1 a2 a3 K  S) : TJ Γ N0 0 0 33 [(0, .ref (xad Γ 0))] [] S := by
  unfold M_enact_b33 at hf
  refine tj_aload_n C 0 rfl rfl dX6_enact_33 ?_
  refine tj_iconst C kc_1 dX6_enact_34 ?_
  refine tj_callVi C (k := 0) [.int (nI 1)] [] (fun hN => c_M_refuse (by rw [hN]; exact hM) hf) lk_X6_91 ty_X6_refuse rfl (Nat.le_of_ble_eq_true rfl) (Nat.le_of_ble_eq_true rfl) (Nat.le_of_ble_eq_true rfl) hM rfl (by decide) rfl rfl dX6_enact_35 (fun r8 S7 hf => ?_)
  exact r _ _ _ _ dX6_enact_38 hf
theorem w_M_enact_b0 {Γ : tX} {N0 : Nat → Nat} {K : Int32 → tS → Prop} (C : TC Γ cX6_enact RX6 1 25) (hw : tWf N0) (hR : xnL Γ = 6) (r : TRi Γ N0 cX6_enact K) {a1 : Int32} {a2 : Int32} {a3 : Int32} (hM : N0 0 ≠ 0) {S : tS} (hf : M_enact a1 a2 a3 S K) : TJ Γ N0 0 0 0 [(0, .ref (xad Γ 0)), (1, .int a1), (2, .int a2), (3, .int a3)] [] S := by
  unfold M_enact at hf
  refine tj_aload_n C 0 rfl rfl dX6_enact_0 ?_
  refine tj_iload_n C 1 rfl rfl dX6_enact_1 ?_
  refine tj_callVz C (k := 0) [.int a1] [] (fun hN => c_M_isCue (by rw [hN]; exact hM) hf) lk_X6_293 ty_X6_isCue rfl (Nat.le_of_ble_eq_true rfl) (Nat.le_of_ble_eq_true rfl) (Nat.le_of_ble_eq_true rfl) hM rfl (by decide) rfl rfl dX6_enact_2 (fun r2 S1 hf => ?_)
  have hz_r2 := hf.1
  replace hf := hf.2
  refine tj_if_eq C 33 (by decide) dX6_enact_5 (fun hc => ?_) (fun hc => ?_)
  · replace hf := hf.1 hc
    exact tj_sub [0] (w_M_enact_b33 C hw hR r hM hf) rfl
  · replace hf := hf.2 hc
    refine tj_iload_n C 2 rfl rfl dX6_enact_8 ?_
    refine tj_i2l C dX6_enact_9 ?_
    refine tj_lconst C (v := lN 0) rfl dX6_enact_10 ?_
    refine tj_ldc2 C kl_X6_368 dX6_enact_11 ?_
    refine tj_callSz C [.long (a2.toInt64), .long (lN 0), .long (lN 2)] [] (fun hN => c_M_isFrom hf) lk_X6_337 ty_X6_isFrom rfl (Nat.le_of_ble_eq_true rfl) (Nat.le_of_ble_eq_true rfl) (Nat.le_of_ble_eq_true rfl) rfl dX6_enact_14 (fun r4 S3 hf => ?_)
    have hz_r4 := hf.1
    replace hf := hf.2
    refine tj_if_eq C 33 (by decide) dX6_enact_17 (fun hc => ?_) (fun hc => ?_)
    · replace hf := hf.1 hc
      exact tj_sub [0] (w_M_enact_b33 C hw hR r hM hf) rfl
    · replace hf := hf.2 hc
      refine tj_iload_n C 3 rfl rfl dX6_enact_20 ?_
      refine tj_iconst C kc_5 dX6_enact_21 ?_
      refine tj_icmp_eq C 39 (by decide) dX6_enact_22 (fun hc => ?_) (fun hc => ?_)
      · replace hf := hf.1 hc
        exact w_M_enact_b39 C hw hR r hM hf
      · replace hf := hf.2 hc
        refine tj_aload_n C 0 rfl rfl dX6_enact_25 ?_
        refine tj_iload_n C 3 rfl rfl dX6_enact_26 ?_
        refine tj_callVz C (k := 0) [.int a3] [] (fun hN => c_M_isSmell (by rw [hN]; exact hM) hf) lk_X6_358 ty_X6_isSmell rfl (Nat.le_of_ble_eq_true rfl) (Nat.le_of_ble_eq_true rfl) (Nat.le_of_ble_eq_true rfl) hM rfl (by decide) rfl rfl dX6_enact_27 (fun r6 S5 hf => ?_)
        have hz_r6 := hf.1
        replace hf := hf.2
        refine tj_if_ne C 39 (by decide) dX6_enact_30 (fun hc => ?_) (fun hc => ?_)
        · replace hf := hf.2 hc
          exact w_M_enact_b39 C hw hR r hM hf
        · replace hf := hf.1 hc
          exact tj_sub [0] (w_M_enact_b33 C hw hR r hM hf) rfl
theorem c_M_enact {l : Launch} {G : tG} {ad : Nat → Nat} {A : Nat → Prop} {S : tS} {K : Int32 → tS → Prop} {a1 : Int32} {a2 : Int32} {a3 : Int32} (hM : gN S 0 ≠ 0) (hf : M_enact a1 a2 a3 S K) : Met l yX6_enact (ws_ yX6_enact cX6_enact 6 (some .int)) (tRm 1 25) (va_Pc [.ref (ad 0), .int a1, .int a2, .int a3] (tPre G ad A S)) (va_Qi K (tB G ad A (gN S)) A) 0 0 A :=
  tj_met_i [(0, .ref (ad 0)), (1, .int a1), (2, .int a2), (3, .int a3)] pn_X6 rfl (Nat.le_of_ble_eq_true rfl) (fun p e R s m args below meth c Q C hw r => w_M_enact_b0 C hw rfl r hM hf)
theorem w_M_fault_b0 {Γ : tX} {N0 : Nat → Nat} {K : Int32 → tS → Prop} (C : TC Γ cX6_fault RX6 0 0) (hw : tWf N0) (hR : xnL Γ = 2) (r : TRi Γ N0 cX6_fault K) {a1 : Int32} (hM : N0 0 ≠ 0) {S : tS} (hf : M_fault a1 S K) : TJ Γ N0 0 0 0 [(0, .ref (xad Γ 0)), (1, .int a1)] [] S := by
  unfold M_fault at hf
  refine tj_iload_n C 1 rfl rfl dX6_fault_0 ?_
  refine tj_if_ne C 11 (by decide) dX6_fault_1 (fun hc => ?_) (fun hc => ?_)
  · replace hf := hf.2 hc
    refine tj_iload_n C 1 rfl rfl dX6_fault_11 ?_
    refine tj_iconst C kc_1 dX6_fault_12 ?_
    refine tj_icmp_ne C 23 (by decide) dX6_fault_13 (fun hc => ?_) (fun hc => ?_)
    · replace hf := hf.2 hc
      refine tj_iconst C kc_m1 dX6_fault_23 ?_
      exact r _ _ _ _ dX6_fault_24 hf
    · replace hf := hf.1 hc
      refine tj_aload_n C 0 rfl rfl dX6_fault_16 ?_
      refine gf_X6_41 C hM dX6_fault_17 ?_
      refine tj_goto C 24 (by decide) dX6_fault_20 ?_
      exact r _ _ _ _ dX6_fault_24 hf
  · replace hf := hf.1 hc
    refine tj_aload_n C 0 rfl rfl dX6_fault_4 ?_
    refine gf_X6_37 C hM dX6_fault_5 ?_
    refine tj_goto C 24 (by decide) dX6_fault_8 ?_
    exact r _ _ _ _ dX6_fault_24 hf
theorem c_M_fault {l : Launch} {G : tG} {ad : Nat → Nat} {A : Nat → Prop} {S : tS} {K : Int32 → tS → Prop} {a1 : Int32} (hM : gN S 0 ≠ 0) (hf : M_fault a1 S K) : Met l yX6_fault (ws_ yX6_fault cX6_fault 2 (some .int)) (tRm 0 0) (va_Pc [.ref (ad 0), .int a1] (tPre G ad A S)) (va_Qi K (tB G ad A (gN S)) A) 0 0 A :=
  tj_met_i [(0, .ref (ad 0)), (1, .int a1)] pn_X6 rfl (Nat.le_of_ble_eq_true rfl) (fun p e R s m args below meth c Q C hw r => w_M_fault_b0 C hw rfl r hM hf)
theorem w_M_four_l3 {Γ : tX} {N0 : Nat → Nat} {K : tS → Prop} (C : TC Γ cX6_four RX6 0 0) (hw : tWf N0) (hR : xnL Γ = 3) (r : TRv Γ N0 cX6_four K) {a1 : Int32} (hM : N0 0 ≠ 0) : ∀ (n : Nat) (a2 : Int32) (S : tS), M_four_l3 a1 K n a2 S → TJ Γ N0 0 0 3 [(0, .ref (xad Γ 0)), (1, .int a1), (2, .int a2)] [] S := by
  intro n
  induction n with
  | zero => intro a2 S hf; exact hf.elim
  | succ n ih =>
    intro a2 S hf
    unfold M_four_l3 at hf
    refine tj_iload_n C 2 rfl rfl dX6_four_3 ?_
    refine tj_if_lt C 36 (by decide) dX6_four_4 (fun hc => ?_) (fun hc => ?_)
    · replace hf := hf.1 hc
      exact r _ _ _ dX6_four_36 hf
    · replace hf := hf.2 hc
      refine tj_aload_n C 0 rfl rfl dX6_four_7 ?_
      refine gf_X6_30 C hM dX6_four_8 ?_
      refine tj_aload_n C 0 rfl rfl dX6_four_11 ?_
      refine gf_X6_115 C hM dX6_four_12 ?_
      refine tj_iload_n C 1 rfl rfl dX6_four_15 ?_
      refine tj_iload_n C 2 rfl rfl dX6_four_16 ?_
      refine tj_ishr C dX6_four_17 ?_
      refine tj_i2b C dX6_four_18 ?_
      refine tj_bast C 210 900 rfl (ln_210 hw hM) _ rfl hf.1 dX6_four_19 ?_
      replace hf := hf.2
      refine tj_topS (fun S1 eS => ?_)
      replace hf := hf S1 eS
      refine tj_aload_n C 0 rfl rfl dX6_four_20 ?_
      refine tj_dup C rfl dX6_four_21 ?_
      refine gf_X6_115 C hM dX6_four_22 ?_
      refine tj_iconst C kc_1 dX6_four_25 ?_
      refine tj_iadd C dX6_four_26 ?_
      refine pf_X6_115 C hM dX6_four_27 ?_
      refine tj_topS (fun S2 eS => ?_)
      replace hf := hf S2 eS
      obtain ⟨x3, ex⟩ : ∃ y : Int32, y = a2 + (-8) := ⟨_, rfl⟩
      refine tj_iinc C (by rw [hR]; decide) 2 [(2, .int x3), (0, .ref (xad Γ 0)), (1, .int a1)] rfl (by rw [ex]; exact ki_m8 _) rfl dX6_four_30 ?_
      replace hf := hf x3 ex
      refine tj_goto C 3 (by decide) dX6_four_33 ?_
      exact tj_sub [1, 2, 0] (ih _ _ hf) rfl
theorem w_M_four_b0 {Γ : tX} {N0 : Nat → Nat} {K : tS → Prop} (C : TC Γ cX6_four RX6 0 0) (hw : tWf N0) (hR : xnL Γ = 3) (r : TRv Γ N0 cX6_four K) {a1 : Int32} (hM : N0 0 ≠ 0) {S : tS} (hf : M_four a1 S K) : TJ Γ N0 0 0 0 [(0, .ref (xad Γ 0)), (1, .int a1)] [] S := by
  unfold M_four at hf
  refine tj_bipush C kb_24 dX6_four_0 ?_
  refine tj_istore_n C (by rw [hR]; decide) [(2, .int (nI 24)), (0, .ref (xad Γ 0)), (1, .int a1)] rfl rfl dX6_four_2 ?_
  exact tj_sub [1, 2, 0] (hf.elim fun k hf => w_M_four_l3 C hw hR r hM k _ _ hf) rfl
theorem c_M_four {l : Launch} {G : tG} {ad : Nat → Nat} {A : Nat → Prop} {S : tS} {K : tS → Prop} {a1 : Int32} (hM : gN S 0 ≠ 0) (hf : M_four a1 S K) : Met l yX6_four (ws_ yX6_four cX6_four 3 (none)) (tRm 0 0) (va_Pc [.ref (ad 0), .int a1] (tPre G ad A S)) (va_Qv K (tB G ad A (gN S)) A) 0 0 A :=
  tj_met_v [(0, .ref (ad 0)), (1, .int a1)] pn_X6 rfl (Nat.le_of_ble_eq_true rfl) (fun p e R s m args below meth c Q C hw r => w_M_four_b0 C hw rfl r hM hf)
theorem w_M_feed_b0 {Γ : tX} {N0 : Nat → Nat} {K : Int32 → tS → Prop} (C : TC Γ cX6_feed RX6 1 22) (hw : tWf N0) (hR : xnL Γ = 6) (r : TRi Γ N0 cX6_feed K) {a1 : Int32} {a2 : Int32} {a3 : Int32} {a4 : Int32} {a5 : Int32} (hM : N0 0 ≠ 0) {S : tS} (hf : M_feed a1 a2 a3 a4 a5 S K) : TJ Γ N0 0 0 0 [(0, .ref (xad Γ 0)), (1, .int a1), (2, .int a2), (3, .int a3), (4, .int a4), (5, .int a5)] [] S := by
  unfold M_feed at hf
  refine tj_aload_n C 0 rfl rfl dX6_feed_0 ?_
  refine gf_X6_115 C hM dX6_feed_1 ?_
  refine tj_bipush C kb_20 dX6_feed_4 ?_
  refine tj_iadd C dX6_feed_6 ?_
  refine tj_sipush C ks_900 dX6_feed_7 ?_
  refine tj_icmp_le C 15 (by decide) dX6_feed_10 (fun hc => ?_) (fun hc => ?_)
  · replace hf := hf.1 hc
    refine tj_aload_n C 0 rfl rfl dX6_feed_15 ?_
    refine tj_iload_n C 1 rfl rfl dX6_feed_16 ?_
    refine tj_callVv C (k := 0) [.int a1] [] (fun hN => c_M_four (by rw [hN]; exact hM) hf) lk_X6_118 ty_X6_four rfl (Nat.le_of_ble_eq_true rfl) (Nat.le_of_ble_eq_true rfl) (Nat.le_of_ble_eq_true rfl) hM rfl (by decide) rfl rfl dX6_feed_17 (fun S1 hf => ?_)
    refine tj_aload_n C 0 rfl rfl dX6_feed_20 ?_
    refine tj_iload_n C 2 rfl rfl dX6_feed_21 ?_
    refine tj_callVv C (k := 0) [.int a2] [] (fun hN => c_M_four (by rw [hN]; exact hM) hf) lk_X6_118 ty_X6_four rfl (Nat.le_of_ble_eq_true rfl) (Nat.le_of_ble_eq_true rfl) (Nat.le_of_ble_eq_true rfl) hM rfl (by decide) rfl rfl dX6_feed_22 (fun S2 hf => ?_)
    refine tj_aload_n C 0 rfl rfl dX6_feed_25 ?_
    refine tj_iload_n C 3 rfl rfl dX6_feed_26 ?_
    refine tj_callVv C (k := 0) [.int a3] [] (fun hN => c_M_four (by rw [hN]; exact hM) hf) lk_X6_118 ty_X6_four rfl (Nat.le_of_ble_eq_true rfl) (Nat.le_of_ble_eq_true rfl) (Nat.le_of_ble_eq_true rfl) hM rfl (by decide) rfl rfl dX6_feed_27 (fun S3 hf => ?_)
    refine tj_aload_n C 0 rfl rfl dX6_feed_30 ?_
    refine tj_iload C 4 rfl dX6_feed_31 ?_
    refine tj_callVv C (k := 0) [.int a4] [] (fun hN => c_M_four (by rw [hN]; exact hM) hf) lk_X6_118 ty_X6_four rfl (Nat.le_of_ble_eq_true rfl) (Nat.le_of_ble_eq_true rfl) (Nat.le_of_ble_eq_true rfl) hM rfl (by decide) rfl rfl dX6_feed_33 (fun S4 hf => ?_)
    refine tj_aload_n C 0 rfl rfl dX6_feed_36 ?_
    refine tj_iload C 5 rfl dX6_feed_37 ?_
    refine tj_callVv C (k := 0) [.int a5] [] (fun hN => c_M_four (by rw [hN]; exact hM) hf) lk_X6_118 ty_X6_four rfl (Nat.le_of_ble_eq_true rfl) (Nat.le_of_ble_eq_true rfl) (Nat.le_of_ble_eq_true rfl) hM rfl (by decide) rfl rfl dX6_feed_39 (fun S5 hf => ?_)
    refine tj_aload_n C 0 rfl rfl dX6_feed_42 ?_
    refine gf_X6_115 C hM dX6_feed_43 ?_
    exact r _ _ _ _ dX6_feed_46 hf
  · replace hf := hf.2 hc
    refine tj_iconst C kc_m1 dX6_feed_13 ?_
    exact r _ _ _ _ dX6_feed_14 hf
theorem c_M_feed {l : Launch} {G : tG} {ad : Nat → Nat} {A : Nat → Prop} {S : tS} {K : Int32 → tS → Prop} {a1 : Int32} {a2 : Int32} {a3 : Int32} {a4 : Int32} {a5 : Int32} (hM : gN S 0 ≠ 0) (hf : M_feed a1 a2 a3 a4 a5 S K) : Met l yX6_feed (ws_ yX6_feed cX6_feed 6 (some .int)) (tRm 1 22) (va_Pc [.ref (ad 0), .int a1, .int a2, .int a3, .int a4, .int a5] (tPre G ad A S)) (va_Qi K (tB G ad A (gN S)) A) 0 0 A :=
  tj_met_i [(0, .ref (ad 0)), (1, .int a1), (2, .int a2), (3, .int a3), (4, .int a4), (5, .int a5)] pn_X6 rfl (Nat.le_of_ble_eq_true rfl) (fun p e R s m args below meth c Q C hw r => w_M_feed_b0 C hw rfl r hM hf)
theorem w_M_fits_b0 {Γ : tX} {N0 : Nat → Nat} {K : Int32 → tS → Prop} (C : TC Γ cX6_fits RX6 8 191) (hw : tWf N0) (hR : xnL Γ = 4) (r : TRi Γ N0 cX6_fits K) {a1 : Int32} {a2 : Int32} (hM : N0 0 ≠ 0) {S : tS} (hf : M_fits a1 a2 S K) : TJ Γ N0 0 0 0 [(0, .ref (xad Γ 0)), (1, .int a1), (2, .int a2)] [] S := by
  unfold M_fits at hf
  refine tj_aload_n C 0 rfl rfl dX6_fits_0 ?_
  refine tj_iload_n C 1 rfl rfl dX6_fits_1 ?_
  refine tj_iload_n C 2 rfl rfl dX6_fits_2 ?_
  refine tj_callVi C (k := 0) [.int a1, .int a2] [] (fun hN => c_M_wrongSeen (by rw [hN]; exact hM) hf) lk_X6_395 ty_X6_wrongSeen rfl (Nat.le_of_ble_eq_true rfl) (Nat.le_of_ble_eq_true rfl) (Nat.le_of_ble_eq_true rfl) hM rfl (by decide) rfl rfl dX6_fits_3 (fun r2 S1 hf => ?_)
  refine tj_istore_n C (by rw [hR]; decide) [(3, .int r2), (0, .ref (xad Γ 0)), (1, .int a1), (2, .int a2)] rfl rfl dX6_fits_6 ?_
  refine tj_iload_n C 0 rfl rfl dX6_fits_7 ?_
  refine tj_if_le C 17 (by decide) dX6_fits_8 (fun hc => ?_) (fun hc => ?_)
  · replace hf := hf.1 hc
    refine tj_aload_n C 1 rfl rfl dX6_fits_17 ?_
    refine tj_iload_n C 2 rfl rfl dX6_fits_18 ?_
    refine tj_iload_n C 3 rfl rfl dX6_fits_19 ?_
    refine tj_callVv C (k := 0) [.int a1, .int a2] [] (fun hN => c_M_laysFits (by rw [hN]; exact hM) hf) lk_X6_398 ty_X6_laysFits rfl (Nat.le_of_ble_eq_true rfl) (Nat.le_of_ble_eq_true rfl) (Nat.le_of_ble_eq_true rfl) hM rfl (by decide) rfl rfl dX6_fits_20 (fun S3 hf => ?_)
    refine tj_aload_n C 1 rfl rfl dX6_fits_23 ?_
    refine tj_aload_n C 1 rfl rfl dX6_fits_24 ?_
    refine gf_X6_389 C hM dX6_fits_25 ?_
    refine tj_callVi C (k := 0) [.int (gI S3 0 24)] [] (fun hN => c_M_gives (by rw [hN]; exact hM) hf) lk_X6_95 ty_X6_gives rfl (Nat.le_of_ble_eq_true rfl) (Nat.le_of_ble_eq_true rfl) (Nat.le_of_ble_eq_true rfl) hM rfl (by decide) rfl rfl dX6_fits_28 (fun r5 S4 hf => ?_)
    exact r _ _ _ _ dX6_fits_31 hf
  · replace hf := hf.2 hc
    refine tj_aload_n C 1 rfl rfl dX6_fits_11 ?_
    refine tj_iload_n C 0 rfl rfl dX6_fits_12 ?_
    refine tj_callVi C (k := 0) [.int r2] [] (fun hN => c_M_refuse (by rw [hN]; exact hM) hf) lk_X6_91 ty_X6_refuse rfl (Nat.le_of_ble_eq_true rfl) (Nat.le_of_ble_eq_true rfl) (Nat.le_of_ble_eq_true rfl) hM rfl (by decide) rfl rfl dX6_fits_13 (fun r7 S6 hf => ?_)
    exact r _ _ _ _ dX6_fits_16 hf
theorem c_M_fits {l : Launch} {G : tG} {ad : Nat → Nat} {A : Nat → Prop} {S : tS} {K : Int32 → tS → Prop} {a1 : Int32} {a2 : Int32} (hM : gN S 0 ≠ 0) (hf : M_fits a1 a2 S K) : Met l yX6_fits (ws_ yX6_fits cX6_fits 4 (some .int)) (tRm 8 191) (va_Pc [.ref (ad 0), .int a1, .int a2] (tPre G ad A S)) (va_Qi K (tB G ad A (gN S)) A) 0 0 A :=
  tj_met_i [(0, .ref (ad 0)), (1, .int a1), (2, .int a2)] pn_X6 rfl (Nat.le_of_ble_eq_true rfl) (fun p e R s m args below meth c Q C hw r => w_M_fits_b0 C hw rfl r hM hf)
theorem w_M_keeps_l2 {Γ : tX} {N0 : Nat → Nat} {K : tS → Prop} (C : TC Γ cX6_keeps RX6 0 0) (hw : tWf N0) (hR : xnL Γ = 3) (r : TRv Γ N0 cX6_keeps K) {a1 : Int32} (hM : N0 0 ≠ 0) : ∀ (n : Nat) (a2 : Int32) (S : tS), M_keeps_l2 a1 K n a2 S → TJ Γ N0 0 0 2 [(0, .ref (xad Γ 0)), (1, .int a1), (2, .int a2)] [] S := by
  intro n
  induction n with
  | zero => intro a2 S hf; exact hf.elim
  | succ n ih =>
    intro a2 S hf
    unfold M_keeps_l2 at hf
    refine tj_iload_n C 2 rfl rfl dX6_keeps_2 ?_
    refine tj_sipush C ks_134 dX6_keeps_3 ?_
    refine tj_icmp_ge C 29 (by decide) dX6_keeps_6 (fun hc => ?_) (fun hc => ?_)
    · replace hf := hf.1 hc
      exact r _ _ _ dX6_keeps_29 hf
    · replace hf := hf.2 hc
      refine tj_aload_n C 0 rfl rfl dX6_keeps_9 ?_
      refine gf_X6_7 C hM dX6_keeps_10 ?_
      refine tj_iload_n C 1 rfl rfl dX6_keeps_13 ?_
      refine tj_iload_n C 2 rfl rfl dX6_keeps_14 ?_
      refine tj_iadd C dX6_keeps_15 ?_
      refine tj_aload_n C 0 rfl rfl dX6_keeps_16 ?_
      refine gf_X6_7 C hM dX6_keeps_17 ?_
      refine tj_iload_n C 2 rfl rfl dX6_keeps_20 ?_
      refine tj_iald C 48 3548 rfl (ln_48 hw hM) _ rfl hf.1 dX6_keeps_21 ?_
      replace hf := hf.2
      refine tj_iast C 48 3548 rfl (ln_48 hw hM) _ rfl hf.1 dX6_keeps_22 ?_
      replace hf := hf.2
      refine tj_topS (fun S1 eS => ?_)
      replace hf := hf S1 eS
      obtain ⟨x2, ex⟩ : ∃ y : Int32, y = a2 + nI 1 := ⟨_, rfl⟩
      refine tj_iinc C (by rw [hR]; decide) 2 [(2, .int x2), (0, .ref (xad Γ 0)), (1, .int a1)] rfl (by rw [ex]; exact ki_1 _) rfl dX6_keeps_23 ?_
      replace hf := hf x2 ex
      refine tj_goto C 2 (by decide) dX6_keeps_26 ?_
      exact tj_sub [1, 2, 0] (ih _ _ hf) rfl
theorem w_M_keeps_b0 {Γ : tX} {N0 : Nat → Nat} {K : tS → Prop} (C : TC Γ cX6_keeps RX6 0 0) (hw : tWf N0) (hR : xnL Γ = 3) (r : TRv Γ N0 cX6_keeps K) {a1 : Int32} (hM : N0 0 ≠ 0) {S : tS} (hf : M_keeps a1 S K) : TJ Γ N0 0 0 0 [(0, .ref (xad Γ 0)), (1, .int a1)] [] S := by
  unfold M_keeps at hf
  refine tj_iconst C kc_0 dX6_keeps_0 ?_
  refine tj_istore_n C (by rw [hR]; decide) [(2, .int (nI 0)), (0, .ref (xad Γ 0)), (1, .int a1)] rfl rfl dX6_keeps_1 ?_
  exact tj_sub [1, 2, 0] (hf.elim fun k hf => w_M_keeps_l2 C hw hR r hM k _ _ hf) rfl
theorem c_M_keeps {l : Launch} {G : tG} {ad : Nat → Nat} {A : Nat → Prop} {S : tS} {K : tS → Prop} {a1 : Int32} (hM : gN S 0 ≠ 0) (hf : M_keeps a1 S K) : Met l yX6_keeps (ws_ yX6_keeps cX6_keeps 3 (none)) (tRm 0 0) (va_Pc [.ref (ad 0), .int a1] (tPre G ad A S)) (va_Qv K (tB G ad A (gN S)) A) 0 0 A :=
  tj_met_v [(0, .ref (ad 0)), (1, .int a1)] pn_X6 rfl (Nat.le_of_ble_eq_true rfl) (fun p e R s m args below meth c Q C hw r => w_M_keeps_b0 C hw rfl r hM hf)
theorem w_M_restores_l2 {Γ : tX} {N0 : Nat → Nat} {K : tS → Prop} (C : TC Γ cX6_restores RX6 0 0) (hw : tWf N0) (hR : xnL Γ = 3) (r : TRv Γ N0 cX6_restores K) {a1 : Int32} (hM : N0 0 ≠ 0) : ∀ (n : Nat) (a2 : Int32) (S : tS), M_restores_l2 a1 K n a2 S → TJ Γ N0 0 0 2 [(0, .ref (xad Γ 0)), (1, .int a1), (2, .int a2)] [] S := by
  intro n
  induction n with
  | zero => intro a2 S hf; exact hf.elim
  | succ n ih =>
    intro a2 S hf
    unfold M_restores_l2 at hf
    refine tj_iload_n C 2 rfl rfl dX6_restores_2 ?_
    refine tj_sipush C ks_134 dX6_restores_3 ?_
    refine tj_icmp_ge C 29 (by decide) dX6_restores_6 (fun hc => ?_) (fun hc => ?_)
    · replace hf := hf.1 hc
      exact r _ _ _ dX6_restores_29 hf
    · replace hf := hf.2 hc
      refine tj_aload_n C 0 rfl rfl dX6_restores_9 ?_
      refine gf_X6_7 C hM dX6_restores_10 ?_
      refine tj_iload_n C 2 rfl rfl dX6_restores_13 ?_
      refine tj_aload_n C 0 rfl rfl dX6_restores_14 ?_
      refine gf_X6_7 C hM dX6_restores_15 ?_
      refine tj_iload_n C 1 rfl rfl dX6_restores_18 ?_
      refine tj_iload_n C 2 rfl rfl dX6_restores_19 ?_
      refine tj_iadd C dX6_restores_20 ?_
      refine tj_iald C 48 3548 rfl (ln_48 hw hM) _ rfl hf.1 dX6_restores_21 ?_
      replace hf := hf.2
      refine tj_iast C 48 3548 rfl (ln_48 hw hM) _ rfl hf.1 dX6_restores_22 ?_
      replace hf := hf.2
      refine tj_topS (fun S1 eS => ?_)
      replace hf := hf S1 eS
      obtain ⟨x2, ex⟩ : ∃ y : Int32, y = a2 + nI 1 := ⟨_, rfl⟩
      refine tj_iinc C (by rw [hR]; decide) 2 [(2, .int x2), (0, .ref (xad Γ 0)), (1, .int a1)] rfl (by rw [ex]; exact ki_1 _) rfl dX6_restores_23 ?_
      replace hf := hf x2 ex
      refine tj_goto C 2 (by decide) dX6_restores_26 ?_
      exact tj_sub [1, 2, 0] (ih _ _ hf) rfl
theorem w_M_restores_b0 {Γ : tX} {N0 : Nat → Nat} {K : tS → Prop} (C : TC Γ cX6_restores RX6 0 0) (hw : tWf N0) (hR : xnL Γ = 3) (r : TRv Γ N0 cX6_restores K) {a1 : Int32} (hM : N0 0 ≠ 0) {S : tS} (hf : M_restores a1 S K) : TJ Γ N0 0 0 0 [(0, .ref (xad Γ 0)), (1, .int a1)] [] S := by
  unfold M_restores at hf
  refine tj_iconst C kc_0 dX6_restores_0 ?_
  refine tj_istore_n C (by rw [hR]; decide) [(2, .int (nI 0)), (0, .ref (xad Γ 0)), (1, .int a1)] rfl rfl dX6_restores_1 ?_
  exact tj_sub [1, 2, 0] (hf.elim fun k hf => w_M_restores_l2 C hw hR r hM k _ _ hf) rfl
theorem c_M_restores {l : Launch} {G : tG} {ad : Nat → Nat} {A : Nat → Prop} {S : tS} {K : tS → Prop} {a1 : Int32} (hM : gN S 0 ≠ 0) (hf : M_restores a1 S K) : Met l yX6_restores (ws_ yX6_restores cX6_restores 3 (none)) (tRm 0 0) (va_Pc [.ref (ad 0), .int a1] (tPre G ad A S)) (va_Qv K (tB G ad A (gN S)) A) 0 0 A :=
  tj_met_v [(0, .ref (ad 0)), (1, .int a1)] pn_X6 rfl (Nat.le_of_ble_eq_true rfl) (fun p e R s m args below meth c Q C hw r => w_M_restores_b0 C hw rfl r hM hf)
theorem w_M_freeIn_l27 {Γ : tX} {N0 : Nat → Nat} {K : Int32 → tS → Prop} (C : TC Γ cX6_freeIn RX6 8 186) (hw : tWf N0) (hR : xnL Γ = 3) (r : TRi Γ N0 cX6_freeIn K) {a1 : Int32} (hM : N0 0 ≠ 0) : ∀ (n : Nat) (a2 : Int32) (S : tS), M_freeIn_l27 a1 K n a2 S → TJ Γ N0 0 0 27 [(0, .ref (xad Γ 0)), (1, .int a1), (2, .int a2)] [] S := by
  intro n
  induction n with
  | zero => intro a2 S hf; exact hf.elim
  | succ n ih =>
    intro a2 S hf
    unfold M_freeIn_l27 at hf
    refine tj_iload_n C 2 rfl rfl dX6_freeIn_27 ?_
    refine tj_iload_n C 1 rfl rfl dX6_freeIn_28 ?_
    refine tj_icmp_ge C 43 (by decide) dX6_freeIn_29 (fun hc => ?_) (fun hc => ?_)
    · replace hf := hf.1 hc
      refine tj_aload_n C 0 rfl rfl dX6_freeIn_43 ?_
      refine tj_iconst C kc_1 dX6_freeIn_44 ?_
      refine tj_callVi C (k := 0) [.int (nI 1)] [] (fun hN => c_M_peopleThat (by rw [hN]; exact hM) hf) lk_X6_290 ty_X6_peopleThat rfl (Nat.le_of_ble_eq_true rfl) (Nat.le_of_ble_eq_true rfl) (Nat.le_of_ble_eq_true rfl) hM rfl (by decide) rfl rfl dX6_freeIn_45 (fun r7 S6 hf => ?_)
      refine tj_istore_n C (by rw [hR]; decide) [(2, .int r7), (0, .ref (xad Γ 0)), (1, .int a1)] rfl rfl dX6_freeIn_48 ?_
      refine tj_aload_n C 1 rfl rfl dX6_freeIn_49 ?_
      refine tj_sipush C ks_3012 dX6_freeIn_50 ?_
      refine tj_callVv C (k := 0) [.int (nI 3012)] [] (fun hN => c_M_restores (by rw [hN]; exact hM) hf) lk_X6_377 ty_X6_restores rfl (Nat.le_of_ble_eq_true rfl) (Nat.le_of_ble_eq_true rfl) (Nat.le_of_ble_eq_true rfl) hM rfl (by decide) rfl rfl dX6_freeIn_53 (fun S8 hf => ?_)
      refine tj_aload_n C 1 rfl rfl dX6_freeIn_56 ?_
      refine tj_iload_n C 0 rfl rfl dX6_freeIn_57 ?_
      refine tj_callVi C (k := 0) [.int r7] [] (fun hN => c_M_gives (by rw [hN]; exact hM) hf) lk_X6_95 ty_X6_gives rfl (Nat.le_of_ble_eq_true rfl) (Nat.le_of_ble_eq_true rfl) (Nat.le_of_ble_eq_true rfl) hM rfl (by decide) rfl rfl dX6_freeIn_58 (fun r10 S9 hf => ?_)
      exact r _ _ _ _ dX6_freeIn_61 hf
    · replace hf := hf.2 hc
      refine tj_aload_n C 0 rfl rfl dX6_freeIn_32 ?_
      refine tj_callVi C (k := 0) [] [] (fun hN => c_M_terms (by rw [hN]; exact hM) hf) lk_X6_350 ty_X6_terms rfl (Nat.le_of_ble_eq_true rfl) (Nat.le_of_ble_eq_true rfl) (Nat.le_of_ble_eq_true rfl) hM rfl (by decide) rfl rfl dX6_freeIn_33 (fun r12 S11 hf => ?_)
      refine tj_pop C rfl dX6_freeIn_36 ?_
      obtain ⟨x13, ex⟩ : ∃ y : Int32, y = a2 + nI 1 := ⟨_, rfl⟩
      refine tj_iinc C (by rw [hR]; decide) 2 [(2, .int x13), (0, .ref (xad Γ 0)), (1, .int a1)] rfl (by rw [ex]; exact ki_1 _) rfl dX6_freeIn_37 ?_
      replace hf := hf x13 ex
      refine tj_goto C 27 (by decide) dX6_freeIn_40 ?_
      exact tj_sub [1, 2, 0] (ih _ _ hf) rfl
theorem w_M_freeIn_b0 {Γ : tX} {N0 : Nat → Nat} {K : Int32 → tS → Prop} (C : TC Γ cX6_freeIn RX6 8 186) (hw : tWf N0) (hR : xnL Γ = 3) (r : TRi Γ N0 cX6_freeIn K) {a1 : Int32} (hM : N0 0 ≠ 0) {S : tS} (hf : M_freeIn a1 S K) : TJ Γ N0 0 0 0 [(0, .ref (xad Γ 0)), (1, .int a1)] [] S := by
  unfold M_freeIn at hf
  refine tj_iload_n C 1 rfl rfl dX6_freeIn_0 ?_
  refine tj_i2l C dX6_freeIn_1 ?_
  refine tj_lconst C (v := lN 0) rfl dX6_freeIn_2 ?_
  refine tj_ldc2 C kl_X6_372 dX6_freeIn_3 ?_
  refine tj_callSz C [.long (a1.toInt64), .long (lN 0), .long (lN 40)] [] (fun hN => c_M_isFrom hf) lk_X6_337 ty_X6_isFrom rfl (Nat.le_of_ble_eq_true rfl) (Nat.le_of_ble_eq_true rfl) (Nat.le_of_ble_eq_true rfl) rfl dX6_freeIn_6 (fun r2 S1 hf => ?_)
  have hz_r2 := hf.1
  replace hf := hf.2
  refine tj_if_ne C 18 (by decide) dX6_freeIn_9 (fun hc => ?_) (fun hc => ?_)
  · replace hf := hf.2 hc
    refine tj_aload_n C 0 rfl rfl dX6_freeIn_18 ?_
    refine tj_sipush C ks_3012 dX6_freeIn_19 ?_
    refine tj_callVv C (k := 0) [.int (nI 3012)] [] (fun hN => c_M_keeps (by rw [hN]; exact hM) hf) lk_X6_374 ty_X6_keeps rfl (Nat.le_of_ble_eq_true rfl) (Nat.le_of_ble_eq_true rfl) (Nat.le_of_ble_eq_true rfl) hM rfl (by decide) rfl rfl dX6_freeIn_22 (fun S3 hf => ?_)
    refine tj_iconst C kc_0 dX6_freeIn_25 ?_
    refine tj_istore_n C (by rw [hR]; decide) [(2, .int (nI 0)), (0, .ref (xad Γ 0)), (1, .int a1)] rfl rfl dX6_freeIn_26 ?_
    exact tj_sub [1, 2, 0] (hf.elim fun k hf => w_M_freeIn_l27 C hw hR r hM k _ _ hf) rfl
  · replace hf := hf.1 hc
    refine tj_aload_n C 0 rfl rfl dX6_freeIn_12 ?_
    refine tj_iconst C kc_1 dX6_freeIn_13 ?_
    refine tj_callVi C (k := 0) [.int (nI 1)] [] (fun hN => c_M_refuse (by rw [hN]; exact hM) hf) lk_X6_91 ty_X6_refuse rfl (Nat.le_of_ble_eq_true rfl) (Nat.le_of_ble_eq_true rfl) (Nat.le_of_ble_eq_true rfl) hM rfl (by decide) rfl rfl dX6_freeIn_14 (fun r5 S4 hf => ?_)
    exact r _ _ _ _ dX6_freeIn_17 hf
theorem c_M_freeIn {l : Launch} {G : tG} {ad : Nat → Nat} {A : Nat → Prop} {S : tS} {K : Int32 → tS → Prop} {a1 : Int32} (hM : gN S 0 ≠ 0) (hf : M_freeIn a1 S K) : Met l yX6_freeIn (ws_ yX6_freeIn cX6_freeIn 3 (some .int)) (tRm 8 186) (va_Pc [.ref (ad 0), .int a1] (tPre G ad A S)) (va_Qi K (tB G ad A (gN S)) A) 0 0 A :=
  tj_met_i [(0, .ref (ad 0)), (1, .int a1)] pn_X6 rfl (Nat.le_of_ble_eq_true rfl) (fun p e R s m args below meth c Q C hw r => w_M_freeIn_b0 C hw rfl r hM hf)
theorem w_M_standing_b47 {Γ : tX} {N0 : Nat → Nat} {K : Int32 → tS → Prop} (C : TC Γ cX6_standing RX6 7 162) (hw : tWf N0) (hR : xnL Γ = 4) (r : TRi Γ N0 cX6_standing K) (hM : N0 0 ≠ 0) {κ4 : Int32 → Int32 → tS → Prop} (hκ4 : ∀ (a1 : Int32) (a2 : Int32) (S : tS), κ4 a1 a2 S → TJ Γ N0 0 0 4 [(0, .ref (xad Γ 0)), (1, .int a1), (2, .int a2)] [] S) {a2 : Int32} {s0 : Int32} {s1 : Int32} {S : tS} (hf : M_standing_b47 K κ4 a2 s0 s1 S) : TJ Γ N0 0 0 47 [(0, .ref (xad Γ 0)), (2, .int a2)] [.int s1, .int s0] S := by
  unfold M_standing_b47 at hf
  refine tj_iadd C dX6_standing_47 ?_
  refine tj_topi (fun x3 ex => ?_)
  replace hf := hf x3 ex
  refine tj_istore_n C (by rw [hR]; decide) [(1, .int x3), (0, .ref (xad Γ 0)), (2, .int a2)] rfl rfl dX6_standing_48 ?_
  obtain ⟨x4, ex⟩ : ∃ y : Int32, y = a2 + nI 1 := ⟨_, rfl⟩
  refine tj_iinc C (by rw [hR]; decide) 2 [(2, .int x4), (1, .int x3), (0, .ref (xad Γ 0))] rfl (by rw [ex]; exact ki_1 _) rfl dX6_standing_49 ?_
  replace hf := hf x4 ex
  refine tj_goto C 4 (by decide) dX6_standing_52 ?_
  exact tj_sub [2, 1, 0] (hκ4 _ _ _ hf) rfl
theorem w_M_standing_l4 {Γ : tX} {N0 : Nat → Nat} {K : Int32 → tS → Prop} (C : TC Γ cX6_standing RX6 7 162) (hw : tWf N0) (hR : xnL Γ = 4) (r : TRi Γ N0 cX6_standing K) (hM : N0 0 ≠ 0) : ∀ (n : Nat) (a1 : Int32) (a2 : Int32) (S : tS), M_standing_l4 K n a1 a2 S → TJ Γ N0 0 0 4 [(0, .ref (xad Γ 0)), (1, .int a1), (2, .int a2)] [] S := by
  intro n
  induction n with
  | zero => intro a1 a2 S hf; exact hf.elim
  | succ n ih =>
    intro a1 a2 S hf
    unfold M_standing_l4 at hf
    refine tj_iload_n C 2 rfl rfl dX6_standing_4 ?_
    refine tj_aload_n C 0 rfl rfl dX6_standing_5 ?_
    refine gf_X6_7 C hM dX6_standing_6 ?_
    refine tj_iconst C kc_3 dX6_standing_9 ?_
    refine tj_iald C 48 3548 rfl (ln_48 hw hM) 3 kn_3 (vp_in_nI (by decide) (by decide)) dX6_standing_10 ?_
    refine tj_icmp_ge C 55 (by decide) dX6_standing_11 (fun hc => ?_) (fun hc => ?_)
    · replace hf := hf.1 hc
      refine tj_iload_n C 1 rfl rfl dX6_standing_55 ?_
      exact r _ _ _ _ dX6_standing_56 hf
    · replace hf := hf.2 hc
      refine tj_aload_n C 0 rfl rfl dX6_standing_14 ?_
      refine tj_iload_n C 2 rfl rfl dX6_standing_15 ?_
      refine tj_aload_n C 0 rfl rfl dX6_standing_16 ?_
      refine gf_X6_7 C hM dX6_standing_17 ?_
      refine tj_bipush C kb_6 dX6_standing_20 ?_
      refine tj_iald C 48 3548 rfl (ln_48 hw hM) 6 kn_6 (vp_in_nI (by decide) (by decide)) dX6_standing_22 ?_
      refine tj_callVi C (k := 0) [.int a2, .int (gI S 48 6)] [] (fun hN => c_M_senseFor (by rw [hN]; exact hM) hf) lk_X6_443 ty_X6_senseFor rfl (Nat.le_of_ble_eq_true rfl) (Nat.le_of_ble_eq_true rfl) (Nat.le_of_ble_eq_true rfl) hM rfl (by decide) rfl rfl dX6_standing_23 (fun r2 S1 hf => ?_)
      refine tj_istore_n C (by rw [hR]; decide) [(3, .int r2), (0, .ref (xad Γ 0)), (1, .int a1), (2, .int a2)] rfl rfl dX6_standing_26 ?_
      refine tj_iload_n C 2 rfl rfl dX6_standing_27 ?_
      refine tj_iload_n C 0 rfl rfl dX6_standing_28 ?_
      refine tj_iconst C kc_2 dX6_standing_29 ?_
      refine tj_icmp_ne C 37 (by decide) dX6_standing_30 (fun hc => ?_) (fun hc => ?_)
      · replace hf := hf.2 hc
        refine tj_iload_n C 0 rfl rfl dX6_standing_37 ?_
        refine tj_iconst C kc_1 dX6_standing_38 ?_
        refine tj_icmp_ne C 46 (by decide) dX6_standing_39 (fun hc => ?_) (fun hc => ?_)
        · replace hf := hf.2 hc
          refine tj_iconst C kc_0 dX6_standing_46 ?_
          exact tj_sub [1, 3] (w_M_standing_b47 C hw hR r hM ih hf) rfl
        · replace hf := hf.1 hc
          refine tj_iconst C kc_m1 dX6_standing_42 ?_
          refine tj_goto C 47 (by decide) dX6_standing_43 ?_
          exact tj_sub [1, 3] (w_M_standing_b47 C hw hR r hM ih hf) rfl
      · replace hf := hf.1 hc
        refine tj_iconst C kc_1 dX6_standing_33 ?_
        refine tj_goto C 47 (by decide) dX6_standing_34 ?_
        exact tj_sub [1, 3] (w_M_standing_b47 C hw hR r hM ih hf) rfl
theorem w_M_standing_b0 {Γ : tX} {N0 : Nat → Nat} {K : Int32 → tS → Prop} (C : TC Γ cX6_standing RX6 7 162) (hw : tWf N0) (hR : xnL Γ = 4) (r : TRi Γ N0 cX6_standing K) (hM : N0 0 ≠ 0) {S : tS} (hf : M_standing S K) : TJ Γ N0 0 0 0 [(0, .ref (xad Γ 0))] [] S := by
  unfold M_standing at hf
  refine tj_iconst C kc_0 dX6_standing_0 ?_
  refine tj_istore_n C (by rw [hR]; decide) [(1, .int (nI 0)), (0, .ref (xad Γ 0))] rfl rfl dX6_standing_1 ?_
  refine tj_iconst C kc_0 dX6_standing_2 ?_
  refine tj_istore_n C (by rw [hR]; decide) [(2, .int (nI 0)), (1, .int (nI 0)), (0, .ref (xad Γ 0))] rfl rfl dX6_standing_3 ?_
  exact tj_sub [2, 1, 0] (hf.elim fun k hf => w_M_standing_l4 C hw hR r hM k _ _ _ hf) rfl
theorem c_M_standing {l : Launch} {G : tG} {ad : Nat → Nat} {A : Nat → Prop} {S : tS} {K : Int32 → tS → Prop} (hM : gN S 0 ≠ 0) (hf : M_standing S K) : Met l yX6_standing (ws_ yX6_standing cX6_standing 4 (some .int)) (tRm 7 162) (va_Pc [.ref (ad 0)] (tPre G ad A S)) (va_Qi K (tB G ad A (gN S)) A) 0 0 A :=
  tj_met_i [(0, .ref (ad 0))] pn_X6 rfl (Nat.le_of_ble_eq_true rfl) (fun p e R s m args below meth c Q C hw r => w_M_standing_b0 C hw rfl r hM hf)
theorem w_M_levelAt_b0 {Γ : tX} {N0 : Nat → Nat} {K : Int32 → tS → Prop} (C : TC Γ cX6_levelAt RX6 0 0) (hw : tWf N0) (hR : xnL Γ = 1) (r : TRi Γ N0 cX6_levelAt K) {a0 : Int32} {S : tS} (hf : M_levelAt a0 S K) : TJ Γ N0 0 0 0 [(0, .int a0)] [] S := by
  unfold M_levelAt at hf
  refine tj_sipush C ks_3012 dX6_levelAt_0 ?_
  refine tj_sipush C ks_134 dX6_levelAt_3 ?_
  refine tj_iload_n C 0 rfl rfl dX6_levelAt_6 ?_
  refine tj_imul C dX6_levelAt_7 ?_
  refine tj_iadd C dX6_levelAt_8 ?_
  exact r _ _ _ _ dX6_levelAt_9 hf
theorem c_M_levelAt {l : Launch} {G : tG} {ad : Nat → Nat} {A : Nat → Prop} {S : tS} {K : Int32 → tS → Prop} {a0 : Int32} (hf : M_levelAt a0 S K) : Met l yX6_levelAt (ws_ yX6_levelAt cX6_levelAt 1 (some .int)) (tRm 0 0) (va_Pc [.int a0] (tPre G ad A S)) (va_Qi K (tB G ad A (gN S)) A) 0 0 A :=
  tj_met_i [(0, .int a0)] pn_X6 rfl (Nat.le_of_ble_eq_true rfl) (fun p e R s m args below meth c Q C hw r => w_M_levelAt_b0 C hw rfl r hf)
theorem w_M_settles_b50 {Γ : tX} {N0 : Nat → Nat} {K : tS → Prop} (C : TC Γ cX6_settles RX6 0 0) (hw : tWf N0) (hR : xnL Γ = 4) (r : TRv Γ N0 cX6_settles K) {a1 : Int32} {a2 : Int32} (hM : N0 0 ≠ 0) {S : tS} (hf : M_settles_b50 a1 a2 K  S) : TJ Γ N0 0 0 50 [(0, .ref (xad Γ 0)), (1, .int a1), (2, .int a2)] [] S := by
  unfold M_settles_b50 at hf
  refine tj_aload_n C 0 rfl rfl dX6_settles_50 ?_
  refine gf_X6_66 C hM dX6_settles_51 ?_
  refine tj_iload_n C 1 rfl rfl dX6_settles_54 ?_
  refine tj_iload_n C 2 rfl rfl dX6_settles_55 ?_
  refine tj_iast C 496 4 rfl (ln_496 hw hM) _ rfl hf.1 dX6_settles_56 ?_
  replace hf := hf.2
  refine tj_topS (fun S1 eS => ?_)
  replace hf := hf S1 eS
  refine tj_aload_n C 0 rfl rfl dX6_settles_57 ?_
  refine gf_X6_69 C hM dX6_settles_58 ?_
  refine tj_iload_n C 1 rfl rfl dX6_settles_61 ?_
  refine tj_aload_n C 0 rfl rfl dX6_settles_62 ?_
  refine gf_X6_63 C hM dX6_settles_63 ?_
  refine tj_iload_n C 1 rfl rfl dX6_settles_66 ?_
  refine tj_iald C 464 4 rfl (ln_464 hw hM) _ rfl hf.1 dX6_settles_67 ?_
  replace hf := hf.2
  refine tj_iast C 528 4 rfl (ln_528 hw hM) _ rfl hf.1 dX6_settles_68 ?_
  replace hf := hf.2
  refine tj_topS (fun S2 eS => ?_)
  replace hf := hf S2 eS
  exact r _ _ _ dX6_settles_69 hf
theorem w_M_settles_b15 {Γ : tX} {N0 : Nat → Nat} {K : tS → Prop} (C : TC Γ cX6_settles RX6 0 0) (hw : tWf N0) (hR : xnL Γ = 4) (r : TRv Γ N0 cX6_settles K) {a1 : Int32} {a2 : Int32} (hM : N0 0 ≠ 0) {s0 : Int32} {S : tS} (hf : M_settles_b15 a1 a2 K s0 S) : TJ Γ N0 0 0 15 [(0, .ref (xad Γ 0)), (1, .int a1), (2, .int a2)] [.int s0] S := by
  unfold M_settles_b15 at hf
  refine tj_istore_n C (by rw [hR]; decide) [(3, .int s0), (0, .ref (xad Γ 0)), (1, .int a1), (2, .int a2)] rfl rfl dX6_settles_15 ?_
  refine tj_iload_n C 0 rfl rfl dX6_settles_16 ?_
  refine tj_if_ne C 50 (by decide) dX6_settles_17 (fun hc => ?_) (fun hc => ?_)
  · replace hf := hf.2 hc
    exact tj_sub [1, 2, 3] (w_M_settles_b50 C hw hR r hM hf) rfl
  · replace hf := hf.1 hc
    refine tj_iload_n C 2 rfl rfl dX6_settles_20 ?_
    refine tj_iconst C kc_2 dX6_settles_21 ?_
    refine tj_irem C hf.1 dX6_settles_22 ?_
    replace hf := hf.2
    refine tj_if_ne C 39 (by decide) dX6_settles_23 (fun hc => ?_) (fun hc => ?_)
    · replace hf := hf.2 hc
      refine tj_iload_n C 3 rfl rfl dX6_settles_39 ?_
      refine tj_aload_n C 1 rfl rfl dX6_settles_40 ?_
      refine gf_X6_66 C hM dX6_settles_41 ?_
      refine tj_iload_n C 2 rfl rfl dX6_settles_44 ?_
      refine tj_iald C 496 4 rfl (ln_496 hw hM) _ rfl hf.1 dX6_settles_45 ?_
      replace hf := hf.2
      refine tj_icmp_lt C 50 (by decide) dX6_settles_46 (fun hc => ?_) (fun hc => ?_)
      · replace hf := hf.1 hc
        exact tj_sub [1, 2, 3] (w_M_settles_b50 C hw hR r hM hf) rfl
      · replace hf := hf.2 hc
        exact r _ _ _ dX6_settles_49 hf
    · replace hf := hf.1 hc
      refine tj_iload_n C 3 rfl rfl dX6_settles_26 ?_
      refine tj_aload_n C 1 rfl rfl dX6_settles_27 ?_
      refine gf_X6_66 C hM dX6_settles_28 ?_
      refine tj_iload_n C 2 rfl rfl dX6_settles_31 ?_
      refine tj_iald C 496 4 rfl (ln_496 hw hM) _ rfl hf.1 dX6_settles_32 ?_
      replace hf := hf.2
      refine tj_icmp_gt C 50 (by decide) dX6_settles_33 (fun hc => ?_) (fun hc => ?_)
      · replace hf := hf.1 hc
        exact tj_sub [1, 2, 3] (w_M_settles_b50 C hw hR r hM hf) rfl
      · replace hf := hf.2 hc
        refine tj_goto C 49 (by decide) dX6_settles_36 ?_
        exact r _ _ _ dX6_settles_49 hf
theorem w_M_settles_b0 {Γ : tX} {N0 : Nat → Nat} {K : tS → Prop} (C : TC Γ cX6_settles RX6 0 0) (hw : tWf N0) (hR : xnL Γ = 4) (r : TRv Γ N0 cX6_settles K) {a1 : Int32} {a2 : Int32} (hM : N0 0 ≠ 0) {S : tS} (hf : M_settles a1 a2 S K) : TJ Γ N0 0 0 0 [(0, .ref (xad Γ 0)), (1, .int a1), (2, .int a2)] [] S := by
  unfold M_settles at hf
  refine tj_aload_n C 0 rfl rfl dX6_settles_0 ?_
  refine gf_X6_69 C hM dX6_settles_1 ?_
  refine tj_iload_n C 1 rfl rfl dX6_settles_4 ?_
  refine tj_iald C 528 4 rfl (ln_528 hw hM) _ rfl hf.1 dX6_settles_5 ?_
  replace hf := hf.2
  refine tj_iconst C kc_m1 dX6_settles_6 ?_
  refine tj_icmp_ne C 14 (by decide) dX6_settles_7 (fun hc => ?_) (fun hc => ?_)
  · replace hf := hf.2 hc
    refine tj_iconst C kc_0 dX6_settles_14 ?_
    exact w_M_settles_b15 C hw hR r hM hf
  · replace hf := hf.1 hc
    refine tj_iconst C kc_1 dX6_settles_10 ?_
    refine tj_goto C 15 (by decide) dX6_settles_11 ?_
    exact w_M_settles_b15 C hw hR r hM hf
theorem c_M_settles {l : Launch} {G : tG} {ad : Nat → Nat} {A : Nat → Prop} {S : tS} {K : tS → Prop} {a1 : Int32} {a2 : Int32} (hM : gN S 0 ≠ 0) (hf : M_settles a1 a2 S K) : Met l yX6_settles (ws_ yX6_settles cX6_settles 4 (none)) (tRm 0 0) (va_Pc [.ref (ad 0), .int a1, .int a2] (tPre G ad A S)) (va_Qv K (tB G ad A (gN S)) A) 0 0 A :=
  tj_met_v [(0, .ref (ad 0)), (1, .int a1), (2, .int a2)] pn_X6 rfl (Nat.le_of_ble_eq_true rfl) (fun p e R s m args below meth c Q C hw r => w_M_settles_b0 C hw rfl r hM hf)
theorem w_M_playing_l33 {Γ : tX} {N0 : Nat → Nat} {K : Int32 → tS → Prop} (C : TC Γ cX6_playing RX6 8 185) (hw : tWf N0) (hR : xnL Γ = 3) (r : TRi Γ N0 cX6_playing K) {a1 : Int32} (hM : N0 0 ≠ 0) : ∀ (n : Nat) (a2 : Int32) (S : tS), M_playing_l33 a1 K n a2 S → TJ Γ N0 0 0 33 [(0, .ref (xad Γ 0)), (1, .int a1), (2, .int a2)] [] S := by
  intro n
  induction n with
  | zero => intro a2 S hf; exact hf.elim
  | succ n ih =>
    intro a2 S hf
    unfold M_playing_l33 at hf
    refine tj_aload_n C 0 rfl rfl dX6_playing_33 ?_
    refine tj_iload_n C 2 rfl rfl dX6_playing_34 ?_
    refine tj_callSi C [.int a2] [.ref (xad Γ 0)] (fun hN => c_M_levelAt hf) lk_X6_464 ty_X6_levelAt rfl (Nat.le_of_ble_eq_true rfl) (Nat.le_of_ble_eq_true rfl) (Nat.le_of_ble_eq_true rfl) rfl dX6_playing_35 (fun r9 S8 hf => ?_)
    refine tj_callVv C (k := 0) [.int r9] [] (fun hN => c_M_restores (by rw [hN]; exact hM) hf) lk_X6_377 ty_X6_restores rfl (Nat.le_of_ble_eq_true rfl) (Nat.le_of_ble_eq_true rfl) (Nat.le_of_ble_eq_true rfl) hM rfl (by decide) rfl rfl dX6_playing_38 (fun S10 hf => ?_)
    refine tj_aload_n C 0 rfl rfl dX6_playing_41 ?_
    refine gf_X6_63 C hM dX6_playing_42 ?_
    refine tj_iload_n C 2 rfl rfl dX6_playing_45 ?_
    refine tj_dup2 C rfl rfl dX6_playing_46 ?_
    refine tj_iald C 464 4 rfl (ln_464 hw hM) _ rfl hf.1 dX6_playing_47 ?_
    replace hf := hf.2
    refine tj_iconst C kc_1 dX6_playing_48 ?_
    refine tj_iadd C dX6_playing_49 ?_
    refine tj_iast C 464 4 rfl (ln_464 hw hM) _ rfl hf.1 dX6_playing_50 ?_
    replace hf := hf.2
    refine tj_topS (fun S11 eS => ?_)
    replace hf := hf S11 eS
    refine tj_aload_n C 0 rfl rfl dX6_playing_51 ?_
    refine gf_X6_63 C hM dX6_playing_52 ?_
    refine tj_iload_n C 2 rfl rfl dX6_playing_55 ?_
    refine tj_iald C 464 4 rfl (ln_464 hw hM) _ rfl hf.1 dX6_playing_56 ?_
    replace hf := hf.2
    refine tj_aload_n C 0 rfl rfl dX6_playing_57 ?_
    refine tj_callVi C (k := 0) [] [.int (gI S11 464 (a2.toNatClampNeg))] (fun hN => c_M_deeds (by rw [hN]; exact hM) hf) lk_X6_458 ty_X6_deeds rfl (Nat.le_of_ble_eq_true rfl) (Nat.le_of_ble_eq_true rfl) (Nat.le_of_ble_eq_true rfl) hM rfl (by decide) rfl rfl dX6_playing_58 (fun r13 S12 hf => ?_)
    refine tj_icmp_le C 90 (by decide) dX6_playing_61 (fun hc => ?_) (fun hc => ?_)
    · replace hf := hf.1 hc
      refine tj_aload_n C 0 rfl rfl dX6_playing_90 ?_
      refine tj_aload_n C 0 rfl rfl dX6_playing_91 ?_
      refine gf_X6_63 C hM dX6_playing_92 ?_
      refine tj_iload_n C 2 rfl rfl dX6_playing_95 ?_
      refine tj_iald C 464 4 rfl (ln_464 hw hM) _ rfl hf.1 dX6_playing_96 ?_
      replace hf := hf.2
      refine tj_callVz C (k := 0) [.int (gI S12 464 (a2.toNatClampNeg))] [] (fun hN => c_M_doesDeed (by rw [hN]; exact hM) hf) lk_X6_470 ty_X6_doesDeed rfl (Nat.le_of_ble_eq_true rfl) (Nat.le_of_ble_eq_true rfl) (Nat.le_of_ble_eq_true rfl) hM rfl (by decide) rfl rfl dX6_playing_97 (fun r15 S14 hf => ?_)
      have hz_r15 := hf.1
      replace hf := hf.2
      refine tj_if_ne C 106 (by decide) dX6_playing_100 (fun hc => ?_) (fun hc => ?_)
      · replace hf := hf.2 hc
        refine tj_iload_n C 2 rfl rfl dX6_playing_106 ?_
        refine tj_iconst C kc_1 dX6_playing_107 ?_
        refine tj_iadd C dX6_playing_108 ?_
        refine tj_iload_n C 1 rfl rfl dX6_playing_109 ?_
        refine tj_icmp_ne C 125 (by decide) dX6_playing_110 (fun hc => ?_) (fun hc => ?_)
        · replace hf := hf.2 hc
          obtain ⟨x16, ex⟩ : ∃ y : Int32, y = a2 + nI 1 := ⟨_, rfl⟩
          refine tj_iinc C (by rw [hR]; decide) 2 [(2, .int x16), (0, .ref (xad Γ 0)), (1, .int a1)] rfl (by rw [ex]; exact ki_1 _) rfl dX6_playing_125 ?_
          replace hf := hf x16 ex
          refine tj_aload_n C 1 rfl rfl dX6_playing_128 ?_
          refine tj_iload_n C 0 rfl rfl dX6_playing_129 ?_
          refine tj_callSi C [.int x16] [.ref (xad Γ 0)] (fun hN => c_M_levelAt hf) lk_X6_464 ty_X6_levelAt rfl (Nat.le_of_ble_eq_true rfl) (Nat.le_of_ble_eq_true rfl) (Nat.le_of_ble_eq_true rfl) rfl dX6_playing_130 (fun r18 S17 hf => ?_)
          refine tj_callVv C (k := 0) [.int r18] [] (fun hN => c_M_keeps (by rw [hN]; exact hM) hf) lk_X6_374 ty_X6_keeps rfl (Nat.le_of_ble_eq_true rfl) (Nat.le_of_ble_eq_true rfl) (Nat.le_of_ble_eq_true rfl) hM rfl (by decide) rfl rfl dX6_playing_133 (fun S19 hf => ?_)
          refine tj_aload_n C 1 rfl rfl dX6_playing_136 ?_
          refine gf_X6_63 C hM dX6_playing_137 ?_
          refine tj_iload_n C 0 rfl rfl dX6_playing_140 ?_
          refine tj_iconst C kc_m1 dX6_playing_141 ?_
          refine tj_iast C 464 4 rfl (ln_464 hw hM) _ rfl hf.1 dX6_playing_142 ?_
          replace hf := hf.2
          refine tj_topS (fun S20 eS => ?_)
          replace hf := hf S20 eS
          refine tj_aload_n C 1 rfl rfl dX6_playing_143 ?_
          refine gf_X6_69 C hM dX6_playing_144 ?_
          refine tj_iload_n C 0 rfl rfl dX6_playing_147 ?_
          refine tj_iconst C kc_m1 dX6_playing_148 ?_
          refine tj_iast C 528 4 rfl (ln_528 hw hM) _ rfl hf.1 dX6_playing_149 ?_
          replace hf := hf.2
          refine tj_topS (fun S21 eS => ?_)
          replace hf := hf S21 eS
          refine tj_goto C 33 (by decide) dX6_playing_150 ?_
          exact tj_sub [1, 2, 0] (ih _ _ hf) rfl
        · replace hf := hf.1 hc
          refine tj_aload_n C 0 rfl rfl dX6_playing_113 ?_
          refine tj_iload_n C 2 rfl rfl dX6_playing_114 ?_
          refine tj_aload_n C 0 rfl rfl dX6_playing_115 ?_
          refine tj_callVi C (k := 0) [] [.int a2, .ref (xad Γ 0)] (fun hN => c_M_standing (by rw [hN]; exact hM) hf) lk_X6_461 ty_X6_standing rfl (Nat.le_of_ble_eq_true rfl) (Nat.le_of_ble_eq_true rfl) (Nat.le_of_ble_eq_true rfl) hM rfl (by decide) rfl rfl dX6_playing_116 (fun r23 S22 hf => ?_)
          refine tj_callVv C (k := 0) [.int a2, .int r23] [] (fun hN => c_M_settles (by rw [hN]; exact hM) hf) lk_X6_467 ty_X6_settles rfl (Nat.le_of_ble_eq_true rfl) (Nat.le_of_ble_eq_true rfl) (Nat.le_of_ble_eq_true rfl) hM rfl (by decide) rfl rfl dX6_playing_119 (fun S24 hf => ?_)
          refine tj_goto C 33 (by decide) dX6_playing_122 ?_
          exact ih _ _ hf
      · replace hf := hf.1 hc
        refine tj_goto C 33 (by decide) dX6_playing_103 ?_
        exact ih _ _ hf
    · replace hf := hf.2 hc
      refine tj_iload_n C 2 rfl rfl dX6_playing_64 ?_
      refine tj_if_ne C 71 (by decide) dX6_playing_65 (fun hc => ?_) (fun hc => ?_)
      · replace hf := hf.2 hc
        obtain ⟨x25, ex⟩ : ∃ y : Int32, y = a2 + (-1) := ⟨_, rfl⟩
        refine tj_iinc C (by rw [hR]; decide) 2 [(2, .int x25), (0, .ref (xad Γ 0)), (1, .int a1)] rfl (by rw [ex]; exact ki_m1 _) rfl dX6_playing_71 ?_
        replace hf := hf x25 ex
        refine tj_aload_n C 1 rfl rfl dX6_playing_74 ?_
        refine tj_iload_n C 0 rfl rfl dX6_playing_75 ?_
        refine tj_aload_n C 1 rfl rfl dX6_playing_76 ?_
        refine gf_X6_66 C hM dX6_playing_77 ?_
        refine tj_iload_n C 0 rfl rfl dX6_playing_80 ?_
        refine tj_iconst C kc_1 dX6_playing_81 ?_
        refine tj_iadd C dX6_playing_82 ?_
        refine tj_iald C 496 4 rfl (ln_496 hw hM) _ rfl hf.1 dX6_playing_83 ?_
        replace hf := hf.2
        refine tj_callVv C (k := 0) [.int x25, .int (gI S12 496 ((x25 + (nI 1)).toNatClampNeg))] [] (fun hN => c_M_settles (by rw [hN]; exact hM) hf) lk_X6_467 ty_X6_settles rfl (Nat.le_of_ble_eq_true rfl) (Nat.le_of_ble_eq_true rfl) (Nat.le_of_ble_eq_true rfl) hM rfl (by decide) rfl rfl dX6_playing_84 (fun S26 hf => ?_)
        refine tj_goto C 33 (by decide) dX6_playing_87 ?_
        exact tj_sub [1, 2, 0] (ih _ _ hf) rfl
      · replace hf := hf.1 hc
        refine tj_goto C 153 (by decide) dX6_playing_68 ?_
        refine tj_aload_n C 0 rfl rfl dX6_playing_153 ?_
        refine tj_iconst C kc_0 dX6_playing_154 ?_
        refine tj_callSi C [.int (nI 0)] [.ref (xad Γ 0)] (fun hN => c_M_levelAt hf) lk_X6_464 ty_X6_levelAt rfl (Nat.le_of_ble_eq_true rfl) (Nat.le_of_ble_eq_true rfl) (Nat.le_of_ble_eq_true rfl) rfl dX6_playing_155 (fun r28 S27 hf => ?_)
        refine tj_callVv C (k := 0) [.int r28] [] (fun hN => c_M_restores (by rw [hN]; exact hM) hf) lk_X6_377 ty_X6_restores rfl (Nat.le_of_ble_eq_true rfl) (Nat.le_of_ble_eq_true rfl) (Nat.le_of_ble_eq_true rfl) hM rfl (by decide) rfl rfl dX6_playing_158 (fun S29 hf => ?_)
        refine tj_aload_n C 0 rfl rfl dX6_playing_161 ?_
        refine gf_X6_66 C hM dX6_playing_162 ?_
        refine tj_iconst C kc_0 dX6_playing_165 ?_
        refine tj_iald C 496 4 rfl (ln_496 hw hM) 0 kn_0 (vp_in_nI (by decide) (by decide)) dX6_playing_166 ?_
        exact r _ _ _ _ dX6_playing_167 hf
theorem w_M_playing_b0 {Γ : tX} {N0 : Nat → Nat} {K : Int32 → tS → Prop} (C : TC Γ cX6_playing RX6 8 185) (hw : tWf N0) (hR : xnL Γ = 3) (r : TRi Γ N0 cX6_playing K) {a1 : Int32} (hM : N0 0 ≠ 0) {S : tS} (hf : M_playing a1 S K) : TJ Γ N0 0 0 0 [(0, .ref (xad Γ 0)), (1, .int a1)] [] S := by
  unfold M_playing at hf
  refine tj_iload_n C 1 rfl rfl dX6_playing_0 ?_
  refine tj_if_ne C 9 (by decide) dX6_playing_1 (fun hc => ?_) (fun hc => ?_)
  · replace hf := hf.2 hc
    refine tj_iconst C kc_0 dX6_playing_9 ?_
    refine tj_istore_n C (by rw [hR]; decide) [(2, .int (nI 0)), (0, .ref (xad Γ 0)), (1, .int a1)] rfl rfl dX6_playing_10 ?_
    refine tj_aload_n C 1 rfl rfl dX6_playing_11 ?_
    refine tj_iconst C kc_0 dX6_playing_12 ?_
    refine tj_callSi C [.int (nI 0)] [.ref (xad Γ 0)] (fun hN => c_M_levelAt hf) lk_X6_464 ty_X6_levelAt rfl (Nat.le_of_ble_eq_true rfl) (Nat.le_of_ble_eq_true rfl) (Nat.le_of_ble_eq_true rfl) rfl dX6_playing_13 (fun r2 S1 hf => ?_)
    refine tj_callVv C (k := 0) [.int r2] [] (fun hN => c_M_keeps (by rw [hN]; exact hM) hf) lk_X6_374 ty_X6_keeps rfl (Nat.le_of_ble_eq_true rfl) (Nat.le_of_ble_eq_true rfl) (Nat.le_of_ble_eq_true rfl) hM rfl (by decide) rfl rfl dX6_playing_16 (fun S3 hf => ?_)
    refine tj_aload_n C 1 rfl rfl dX6_playing_19 ?_
    refine gf_X6_63 C hM dX6_playing_20 ?_
    refine tj_iconst C kc_0 dX6_playing_23 ?_
    refine tj_iconst C kc_m1 dX6_playing_24 ?_
    refine tj_iast C 464 4 rfl (ln_464 hw hM) 0 kn_0 (vp_in_nI (by decide) (by decide)) dX6_playing_25 ?_
    refine tj_topS (fun S4 eS => ?_)
    replace hf := hf S4 eS
    refine tj_aload_n C 1 rfl rfl dX6_playing_26 ?_
    refine gf_X6_69 C hM dX6_playing_27 ?_
    refine tj_iconst C kc_0 dX6_playing_30 ?_
    refine tj_iconst C kc_m1 dX6_playing_31 ?_
    refine tj_iast C 528 4 rfl (ln_528 hw hM) 0 kn_0 (vp_in_nI (by decide) (by decide)) dX6_playing_32 ?_
    refine tj_topS (fun S5 eS => ?_)
    replace hf := hf S5 eS
    exact tj_sub [1, 2, 0] (hf.elim fun k hf => w_M_playing_l33 C hw hR r hM k _ _ hf) rfl
  · replace hf := hf.1 hc
    refine tj_aload_n C 0 rfl rfl dX6_playing_4 ?_
    refine tj_callVi C (k := 0) [] [] (fun hN => c_M_standing (by rw [hN]; exact hM) hf) lk_X6_461 ty_X6_standing rfl (Nat.le_of_ble_eq_true rfl) (Nat.le_of_ble_eq_true rfl) (Nat.le_of_ble_eq_true rfl) hM rfl (by decide) rfl rfl dX6_playing_5 (fun r7 S6 hf => ?_)
    exact r _ _ _ _ dX6_playing_8 hf
theorem c_M_playing {l : Launch} {G : tG} {ad : Nat → Nat} {A : Nat → Prop} {S : tS} {K : Int32 → tS → Prop} {a1 : Int32} (hM : gN S 0 ≠ 0) (hf : M_playing a1 S K) : Met l yX6_playing (ws_ yX6_playing cX6_playing 3 (some .int)) (tRm 8 185) (va_Pc [.ref (ad 0), .int a1] (tPre G ad A S)) (va_Qi K (tB G ad A (gN S)) A) 0 0 A :=
  tj_met_i [(0, .ref (ad 0)), (1, .int a1)] pn_X6 rfl (Nat.le_of_ble_eq_true rfl) (fun p e R s m args below meth c Q C hw r => w_M_playing_b0 C hw rfl r hM hf)
theorem w_M_game_b0 {Γ : tX} {N0 : Nat → Nat} {K : Int32 → tS → Prop} (C : TC Γ cX6_game RX6 9 207) (hw : tWf N0) (hR : xnL Γ = 2) (r : TRi Γ N0 cX6_game K) {a1 : Int32} (hM : N0 0 ≠ 0) {S : tS} (hf : M_game a1 S K) : TJ Γ N0 0 0 0 [(0, .ref (xad Γ 0)), (1, .int a1)] [] S := by
  unfold M_game at hf
  refine tj_iload_n C 1 rfl rfl dX6_game_0 ?_
  refine tj_i2l C dX6_game_1 ?_
  refine tj_lconst C (v := lN 0) rfl dX6_game_2 ?_
  refine tj_ldc2 C kl_X6_473 dX6_game_3 ?_
  refine tj_callSz C [.long (a1.toInt64), .long (lN 0), .long (lN 3)] [] (fun hN => c_M_isFrom hf) lk_X6_337 ty_X6_isFrom rfl (Nat.le_of_ble_eq_true rfl) (Nat.le_of_ble_eq_true rfl) (Nat.le_of_ble_eq_true rfl) rfl dX6_game_6 (fun r2 S1 hf => ?_)
  have hz_r2 := hf.1
  replace hf := hf.2
  refine tj_if_eq C 24 (by decide) dX6_game_9 (fun hc => ?_) (fun hc => ?_)
  · replace hf := hf.1 hc
    refine tj_aload_n C 0 rfl rfl dX6_game_24 ?_
    refine tj_iconst C kc_1 dX6_game_25 ?_
    refine tj_callVi C (k := 0) [.int (nI 1)] [] (fun hN => c_M_refuse (by rw [hN]; exact hM) hf) lk_X6_91 ty_X6_refuse rfl (Nat.le_of_ble_eq_true rfl) (Nat.le_of_ble_eq_true rfl) (Nat.le_of_ble_eq_true rfl) hM rfl (by decide) rfl rfl dX6_game_26 (fun r4 S3 hf => ?_)
    exact r _ _ _ _ dX6_game_29 hf
  · replace hf := hf.2 hc
    refine tj_aload_n C 0 rfl rfl dX6_game_12 ?_
    refine tj_aload_n C 0 rfl rfl dX6_game_13 ?_
    refine tj_iload_n C 1 rfl rfl dX6_game_14 ?_
    refine tj_callVi C (k := 0) [.int a1] [.ref (xad Γ 0)] (fun hN => c_M_playing (by rw [hN]; exact hM) hf) lk_X6_475 ty_X6_playing rfl (Nat.le_of_ble_eq_true rfl) (Nat.le_of_ble_eq_true rfl) (Nat.le_of_ble_eq_true rfl) hM rfl (by decide) rfl rfl dX6_game_15 (fun r6 S5 hf => ?_)
    refine tj_callVi C (k := 0) [.int r6] [] (fun hN => c_M_gives (by rw [hN]; exact hM) hf) lk_X6_95 ty_X6_gives rfl (Nat.le_of_ble_eq_true rfl) (Nat.le_of_ble_eq_true rfl) (Nat.le_of_ble_eq_true rfl) hM rfl (by decide) rfl rfl dX6_game_18 (fun r8 S7 hf => ?_)
    refine tj_goto C 29 (by decide) dX6_game_21 ?_
    exact r _ _ _ _ dX6_game_29 hf
theorem c_M_game {l : Launch} {G : tG} {ad : Nat → Nat} {A : Nat → Prop} {S : tS} {K : Int32 → tS → Prop} {a1 : Int32} (hM : gN S 0 ≠ 0) (hf : M_game a1 S K) : Met l yX6_game (ws_ yX6_game cX6_game 2 (some .int)) (tRm 9 207) (va_Pc [.ref (ad 0), .int a1] (tPre G ad A S)) (va_Qi K (tB G ad A (gN S)) A) 0 0 A :=
  tj_met_i [(0, .ref (ad 0)), (1, .int a1)] pn_X6 rfl (Nat.le_of_ble_eq_true rfl) (fun p e R s m args below meth c Q C hw r => w_M_game_b0 C hw rfl r hM hf)
theorem w_M_guiltyIn_b40 {Γ : tX} {N0 : Nat → Nat} {K : Int32 → tS → Prop} (C : TC Γ cX6_guiltyIn RX6 1 22) (hw : tWf N0) (hR : xnL Γ = 4) (r : TRi Γ N0 cX6_guiltyIn K) {a1 : Int32} (hM : N0 0 ≠ 0) {κ4 : Int32 → Int32 → tS → Prop} (hκ4 : ∀ (a2 : Int32) (a3 : Int32) (S : tS), κ4 a2 a3 S → TJ Γ N0 0 0 4 [(0, .ref (xad Γ 0)), (1, .int a1), (2, .int a2), (3, .int a3)] [] S) {a3 : Int32} {s0 : Int32} {s1 : Int32} {S : tS} (hf : M_guiltyIn_b40 a1 K κ4 a3 s0 s1 S) : TJ Γ N0 0 0 40 [(0, .ref (xad Γ 0)), (1, .int a1), (3, .int a3)] [.int s1, .int s0] S := by
  unfold M_guiltyIn_b40 at hf
  refine tj_iadd C dX6_guiltyIn_40 ?_
  refine tj_topi (fun x3 ex => ?_)
  replace hf := hf x3 ex
  refine tj_istore_n C (by rw [hR]; decide) [(2, .int x3), (0, .ref (xad Γ 0)), (1, .int a1), (3, .int a3)] rfl rfl dX6_guiltyIn_41 ?_
  obtain ⟨x4, ex⟩ : ∃ y : Int32, y = a3 + nI 1 := ⟨_, rfl⟩
  refine tj_iinc C (by rw [hR]; decide) 3 [(3, .int x4), (2, .int x3), (0, .ref (xad Γ 0)), (1, .int a1)] rfl (by rw [ex]; exact ki_1 _) rfl dX6_guiltyIn_42 ?_
  replace hf := hf x4 ex
  refine tj_goto C 4 (by decide) dX6_guiltyIn_45 ?_
  exact tj_sub [2, 3, 1, 0] (hκ4 _ _ _ hf) rfl
theorem w_M_guiltyIn_b39 {Γ : tX} {N0 : Nat → Nat} {K : Int32 → tS → Prop} (C : TC Γ cX6_guiltyIn RX6 1 22) (hw : tWf N0) (hR : xnL Γ = 4) (r : TRi Γ N0 cX6_guiltyIn K) {a1 : Int32} (hM : N0 0 ≠ 0) {κ4 : Int32 → Int32 → tS → Prop} (hκ4 : ∀ (a2 : Int32) (a3 : Int32) (S : tS), κ4 a2 a3 S → TJ Γ N0 0 0 4 [(0, .ref (xad Γ 0)), (1, .int a1), (2, .int a2), (3, .int a3)] [] S) {a3 : Int32} {s0 : Int32} {S : tS} (hf : M_guiltyIn_b39 a1 K κ4 a3 s0 S) : TJ Γ N0 0 0 39 [(0, .ref (xad Γ 0)), (1, .int a1), (3, .int a3)] [.int s0] S := by
  unfold M_guiltyIn_b39 at hf
  refine tj_iconst C kc_0 dX6_guiltyIn_39 ?_
  exact w_M_guiltyIn_b40 C hw hR r hM hκ4 hf
theorem w_M_guiltyIn_l4 {Γ : tX} {N0 : Nat → Nat} {K : Int32 → tS → Prop} (C : TC Γ cX6_guiltyIn RX6 1 22) (hw : tWf N0) (hR : xnL Γ = 4) (r : TRi Γ N0 cX6_guiltyIn K) {a1 : Int32} (hM : N0 0 ≠ 0) : ∀ (n : Nat) (a2 : Int32) (a3 : Int32) (S : tS), M_guiltyIn_l4 a1 K n a2 a3 S → TJ Γ N0 0 0 4 [(0, .ref (xad Γ 0)), (1, .int a1), (2, .int a2), (3, .int a3)] [] S := by
  intro n
  induction n with
  | zero => intro a2 a3 S hf; exact hf.elim
  | succ n ih =>
    intro a2 a3 S hf
    unfold M_guiltyIn_l4 at hf
    refine tj_iload_n C 3 rfl rfl dX6_guiltyIn_4 ?_
    refine tj_iconst C kc_1 dX6_guiltyIn_5 ?_
    refine tj_aload_n C 0 rfl rfl dX6_guiltyIn_6 ?_
    refine gf_X6_7 C hM dX6_guiltyIn_7 ?_
    refine tj_iconst C kc_3 dX6_guiltyIn_10 ?_
    refine tj_iald C 48 3548 rfl (ln_48 hw hM) 3 kn_3 (vp_in_nI (by decide) (by decide)) dX6_guiltyIn_11 ?_
    refine tj_ishl C dX6_guiltyIn_12 ?_
    refine tj_icmp_ge C 48 (by decide) dX6_guiltyIn_13 (fun hc => ?_) (fun hc => ?_)
    · replace hf := hf.1 hc
      refine tj_iload_n C 2 rfl rfl dX6_guiltyIn_48 ?_
      exact r _ _ _ _ dX6_guiltyIn_49 hf
    · replace hf := hf.2 hc
      refine tj_iload_n C 2 rfl rfl dX6_guiltyIn_16 ?_
      refine tj_aload_n C 0 rfl rfl dX6_guiltyIn_17 ?_
      refine gf_X6_47 C hM dX6_guiltyIn_18 ?_
      refine tj_iload_n C 3 rfl rfl dX6_guiltyIn_21 ?_
      refine tj_zald C 308 64 rfl (ln_308 hw hM) _ rfl hf.1 dX6_guiltyIn_22 ?_
      replace hf := hf.2
      refine tj_if_eq C 39 (by decide) dX6_guiltyIn_23 (fun hc => ?_) (fun hc => ?_)
      · replace hf := hf.1 hc
        exact tj_sub [0, 1, 3] (w_M_guiltyIn_b39 C hw hR r hM ih hf) rfl
      · replace hf := hf.2 hc
        refine tj_aload_n C 0 rfl rfl dX6_guiltyIn_26 ?_
        refine tj_iload_n C 3 rfl rfl dX6_guiltyIn_27 ?_
        refine tj_iload_n C 1 rfl rfl dX6_guiltyIn_28 ?_
        refine tj_callVz C (k := 0) [.int a3, .int a1] [.int a2] (fun hN => c_M_isIn (by rw [hN]; exact hM) hf) lk_X6_315 ty_X6_isIn rfl (Nat.le_of_ble_eq_true rfl) (Nat.le_of_ble_eq_true rfl) (Nat.le_of_ble_eq_true rfl) hM rfl (by decide) rfl rfl dX6_guiltyIn_29 (fun r2 S1 hf => ?_)
        have hz_r2 := hf.1
        replace hf := hf.2
        refine tj_if_eq C 39 (by decide) dX6_guiltyIn_32 (fun hc => ?_) (fun hc => ?_)
        · replace hf := hf.1 hc
          exact tj_sub [0, 1, 3] (w_M_guiltyIn_b39 C hw hR r hM ih hf) rfl
        · replace hf := hf.2 hc
          refine tj_iconst C kc_1 dX6_guiltyIn_35 ?_
          refine tj_goto C 40 (by decide) dX6_guiltyIn_36 ?_
          exact tj_sub [0, 1, 3] (w_M_guiltyIn_b40 C hw hR r hM ih hf) rfl
theorem w_M_guiltyIn_b0 {Γ : tX} {N0 : Nat → Nat} {K : Int32 → tS → Prop} (C : TC Γ cX6_guiltyIn RX6 1 22) (hw : tWf N0) (hR : xnL Γ = 4) (r : TRi Γ N0 cX6_guiltyIn K) {a1 : Int32} (hM : N0 0 ≠ 0) {S : tS} (hf : M_guiltyIn a1 S K) : TJ Γ N0 0 0 0 [(0, .ref (xad Γ 0)), (1, .int a1)] [] S := by
  unfold M_guiltyIn at hf
  refine tj_iconst C kc_0 dX6_guiltyIn_0 ?_
  refine tj_istore_n C (by rw [hR]; decide) [(2, .int (nI 0)), (0, .ref (xad Γ 0)), (1, .int a1)] rfl rfl dX6_guiltyIn_1 ?_
  refine tj_iconst C kc_0 dX6_guiltyIn_2 ?_
  refine tj_istore_n C (by rw [hR]; decide) [(3, .int (nI 0)), (2, .int (nI 0)), (0, .ref (xad Γ 0)), (1, .int a1)] rfl rfl dX6_guiltyIn_3 ?_
  exact tj_sub [2, 3, 1, 0] (hf.elim fun k hf => w_M_guiltyIn_l4 C hw hR r hM k _ _ _ hf) rfl
theorem c_M_guiltyIn {l : Launch} {G : tG} {ad : Nat → Nat} {A : Nat → Prop} {S : tS} {K : Int32 → tS → Prop} {a1 : Int32} (hM : gN S 0 ≠ 0) (hf : M_guiltyIn a1 S K) : Met l yX6_guiltyIn (ws_ yX6_guiltyIn cX6_guiltyIn 4 (some .int)) (tRm 1 22) (va_Pc [.ref (ad 0), .int a1] (tPre G ad A S)) (va_Qi K (tB G ad A (gN S)) A) 0 0 A :=
  tj_met_i [(0, .ref (ad 0)), (1, .int a1)] pn_X6 rfl (Nat.le_of_ble_eq_true rfl) (fun p e R s m args below meth c Q C hw r => w_M_guiltyIn_b0 C hw rfl r hM hf)
theorem w_M_holds_b0 {Γ : tX} {N0 : Nat → Nat} {K : Int32 → tS → Prop} (C : TC Γ cX6_holds RX6 6 139) (hw : tWf N0) (hR : xnL Γ = 4) (r : TRz Γ N0 cX6_holds K) {a1 : Int32} (hM : N0 0 ≠ 0) {S : tS} (hf : M_holds a1 S K) : TJ Γ N0 0 0 0 [(0, .ref (xad Γ 0)), (1, .int a1)] [] S := by
  unfold M_holds at hf
  refine tj_aload_n C 0 rfl rfl dX6_holds_0 ?_
  refine gf_X6_7 C hM dX6_holds_1 ?_
  refine tj_iload_n C 1 rfl rfl dX6_holds_4 ?_
  refine tj_iald C 48 3548 rfl (ln_48 hw hM) _ rfl hf.1 dX6_holds_5 ?_
  replace hf := hf.2
  refine tj_sipush C ks_2200 dX6_holds_6 ?_
  refine tj_isub C dX6_holds_9 ?_
  refine tj_topi (fun x1 ex => ?_)
  replace hf := hf x1 ex
  refine tj_istore_n C (by rw [hR]; decide) [(2, .int x1), (0, .ref (xad Γ 0)), (1, .int a1)] rfl rfl dX6_holds_10 ?_
  refine tj_aload_n C 1 rfl rfl dX6_holds_11 ?_
  refine gf_X6_7 C hM dX6_holds_12 ?_
  refine tj_iload_n C 2 rfl rfl dX6_holds_15 ?_
  refine tj_iconst C kc_1 dX6_holds_16 ?_
  refine tj_iadd C dX6_holds_17 ?_
  refine tj_iald C 48 3548 rfl (ln_48 hw hM) _ rfl hf.1 dX6_holds_18 ?_
  replace hf := hf.2
  refine tj_topi (fun x2 ex => ?_)
  replace hf := hf x2 ex
  refine tj_istore_n C (by rw [hR]; decide) [(3, .int x2), (2, .int x1), (0, .ref (xad Γ 0)), (1, .int a1)] rfl rfl dX6_holds_19 ?_
  refine tj_iload_n C 1 rfl rfl dX6_holds_20 ?_
  refine tj_bipush C kb_26 dX6_holds_21 ?_
  refine tj_icmp_ne C 55 (by decide) dX6_holds_23 (fun hc => ?_) (fun hc => ?_)
  · replace hf := hf.2 hc
    refine tj_iload_n C 1 rfl rfl dX6_holds_55 ?_
    refine tj_bipush C kb_27 dX6_holds_56 ?_
    refine tj_icmp_ne C 77 (by decide) dX6_holds_58 (fun hc => ?_) (fun hc => ?_)
    · replace hf := hf.2 hc
      refine tj_iload_n C 1 rfl rfl dX6_holds_77 ?_
      refine tj_bipush C kb_28 dX6_holds_78 ?_
      refine tj_icmp_ne C 99 (by decide) dX6_holds_80 (fun hc => ?_) (fun hc => ?_)
      · replace hf := hf.2 hc
        refine tj_aload_n C 2 rfl rfl dX6_holds_99 ?_
        refine gf_X6_7 C hM dX6_holds_100 ?_
        refine tj_iload_n C 3 rfl rfl dX6_holds_103 ?_
        refine tj_iconst C kc_5 dX6_holds_104 ?_
        refine tj_iadd C dX6_holds_105 ?_
        refine tj_iald C 48 3548 rfl (ln_48 hw hM) _ rfl hf.1 dX6_holds_106 ?_
        replace hf := hf.2
        refine tj_aload_n C 2 rfl rfl dX6_holds_107 ?_
        refine gf_X6_7 C hM dX6_holds_108 ?_
        refine tj_bipush C kb_6 dX6_holds_111 ?_
        refine tj_iald C 48 3548 rfl (ln_48 hw hM) 6 kn_6 (vp_in_nI (by decide) (by decide)) dX6_holds_113 ?_
        refine tj_aload_n C 2 rfl rfl dX6_holds_114 ?_
        refine gf_X6_7 C hM dX6_holds_115 ?_
        refine tj_iload_n C 3 rfl rfl dX6_holds_118 ?_
        refine tj_iconst C kc_2 dX6_holds_119 ?_
        refine tj_iadd C dX6_holds_120 ?_
        refine tj_iald C 48 3548 rfl (ln_48 hw hM) _ rfl hf.1 dX6_holds_121 ?_
        replace hf := hf.2
        refine tj_callSz C [.int (gI S 48 ((a1 + (nI 5)).toNatClampNeg)), .int (gI S 48 6), .int (gI S 48 ((a1 + (nI 2)).toNatClampNeg))] [] (fun hN => c_M_isSo hf) lk_X6_318 ty_X6_isSo rfl (Nat.le_of_ble_eq_true rfl) (Nat.le_of_ble_eq_true rfl) (Nat.le_of_ble_eq_true rfl) rfl dX6_holds_122 (fun r4 S3 hf => ?_)
        have hz_r4 := hf.1
        replace hf := hf.2
        exact r _ _ _ _ dX6_holds_125 hz_r4 hf
      · replace hf := hf.1 hc
        refine tj_aload_n C 2 rfl rfl dX6_holds_83 ?_
        refine tj_iload_n C 0 rfl rfl dX6_holds_84 ?_
        refine tj_iconst C kc_2 dX6_holds_85 ?_
        refine tj_callVi C (k := 0) [.int x2, .int (nI 2)] [] (fun hN => c_M_personOf (by rw [hN]; exact hM) hf) lk_X6_281 ty_X6_personOf rfl (Nat.le_of_ble_eq_true rfl) (Nat.le_of_ble_eq_true rfl) (Nat.le_of_ble_eq_true rfl) hM rfl (by decide) rfl rfl dX6_holds_86 (fun r6 S5 hf => ?_)
        refine tj_iconst C kc_1 dX6_holds_89 ?_
        refine tj_icmp_ne C 97 (by decide) dX6_holds_90 (fun hc => ?_) (fun hc => ?_)
        · replace hf := hf.2 hc
          refine tj_iconst C kc_0 dX6_holds_97 ?_
          exact r _ _ _ _ dX6_holds_98 zb0 hf
        · replace hf := hf.1 hc
          refine tj_iconst C kc_1 dX6_holds_93 ?_
          refine tj_goto C 98 (by decide) dX6_holds_94 ?_
          exact r _ _ _ _ dX6_holds_98 zb1 hf
    · replace hf := hf.1 hc
      refine tj_aload_n C 2 rfl rfl dX6_holds_61 ?_
      refine tj_iload_n C 0 rfl rfl dX6_holds_62 ?_
      refine tj_iconst C kc_2 dX6_holds_63 ?_
      refine tj_callVi C (k := 0) [.int x2, .int (nI 2)] [] (fun hN => c_M_personOf (by rw [hN]; exact hM) hf) lk_X6_281 ty_X6_personOf rfl (Nat.le_of_ble_eq_true rfl) (Nat.le_of_ble_eq_true rfl) (Nat.le_of_ble_eq_true rfl) hM rfl (by decide) rfl rfl dX6_holds_64 (fun r8 S7 hf => ?_)
      refine tj_iconst C kc_2 dX6_holds_67 ?_
      refine tj_icmp_ne C 75 (by decide) dX6_holds_68 (fun hc => ?_) (fun hc => ?_)
      · replace hf := hf.2 hc
        refine tj_iconst C kc_0 dX6_holds_75 ?_
        exact r _ _ _ _ dX6_holds_76 zb0 hf
      · replace hf := hf.1 hc
        refine tj_iconst C kc_1 dX6_holds_71 ?_
        refine tj_goto C 76 (by decide) dX6_holds_72 ?_
        exact r _ _ _ _ dX6_holds_76 zb1 hf
  · replace hf := hf.1 hc
    refine tj_aload_n C 2 rfl rfl dX6_holds_26 ?_
    refine tj_iload_n C 0 rfl rfl dX6_holds_27 ?_
    refine tj_aload_n C 2 rfl rfl dX6_holds_28 ?_
    refine gf_X6_7 C hM dX6_holds_29 ?_
    refine tj_bipush C kb_6 dX6_holds_32 ?_
    refine tj_iald C 48 3548 rfl (ln_48 hw hM) 6 kn_6 (vp_in_nI (by decide) (by decide)) dX6_holds_34 ?_
    refine tj_callVi C (k := 0) [.int x2, .int (gI S 48 6)] [] (fun hN => c_M_cueFor (by rw [hN]; exact hM) hf) lk_X6_332 ty_X6_cueFor rfl (Nat.le_of_ble_eq_true rfl) (Nat.le_of_ble_eq_true rfl) (Nat.le_of_ble_eq_true rfl) hM rfl (by decide) rfl rfl dX6_holds_35 (fun r10 S9 hf => ?_)
    refine tj_aload_n C 2 rfl rfl dX6_holds_38 ?_
    refine gf_X6_7 C hM dX6_holds_39 ?_
    refine tj_iload_n C 3 rfl rfl dX6_holds_42 ?_
    refine tj_iconst C kc_2 dX6_holds_43 ?_
    refine tj_iadd C dX6_holds_44 ?_
    refine tj_iald C 48 3548 rfl (ln_48 hw hM) _ rfl hf.1 dX6_holds_45 ?_
    replace hf := hf.2
    refine tj_icmp_ne C 53 (by decide) dX6_holds_46 (fun hc => ?_) (fun hc => ?_)
    · replace hf := hf.2 hc
      refine tj_iconst C kc_0 dX6_holds_53 ?_
      exact r _ _ _ _ dX6_holds_54 zb0 hf
    · replace hf := hf.1 hc
      refine tj_iconst C kc_1 dX6_holds_49 ?_
      refine tj_goto C 54 (by decide) dX6_holds_50 ?_
      exact r _ _ _ _ dX6_holds_54 zb1 hf
theorem c_M_holds {l : Launch} {G : tG} {ad : Nat → Nat} {A : Nat → Prop} {S : tS} {K : Int32 → tS → Prop} {a1 : Int32} (hM : gN S 0 ≠ 0) (hf : M_holds a1 S K) : Met l yX6_holds (ws_ yX6_holds cX6_holds 4 (some .boolean)) (tRm 6 139) (va_Pc [.ref (ad 0), .int a1] (tPre G ad A S)) (va_Qi (fun r u => r &&& 1 = r ∧ K r u) (tB G ad A (gN S)) A) 0 0 A :=
  tj_met_z [(0, .ref (ad 0)), (1, .int a1)] pn_X6 rfl (Nat.le_of_ble_eq_true rfl) (fun p e R s m args below meth c Q C hw r => w_M_holds_b0 C hw rfl r hM hf)
theorem w_M_laysWorlds_b78 {Γ : tX} {N0 : Nat → Nat} {K : tS → Prop} (C : TC Γ cX6_laysWorlds RX6 4 94) (hw : tWf N0) (hR : xnL Γ = 4) (r : TRv Γ N0 cX6_laysWorlds K) (hM : N0 0 ≠ 0) {κ30 : Int32 → tS → Prop} (hκ30 : ∀ (a1 : Int32) (S : tS), κ30 a1 S → TJ Γ N0 0 0 30 [(0, .ref (xad Γ 0)), (1, .int a1)] [] S) {κ44 : Int32 → Int32 → tS → Prop} (hκ44 : ∀ (a1 : Int32) (a2 : Int32) (S : tS), κ44 a1 a2 S → TJ Γ N0 0 0 44 [(0, .ref (xad Γ 0)), (1, .int a1), (2, .int a2)] [] S) {a1 : Int32} {a2 : Int32} {a3 : Int32} {S : tS} (hf : M_laysWorlds_b78 K κ30 κ44 a1 a2 a3 S) : TJ Γ N0 0 0 78 [(0, .ref (xad Γ 0)), (1, .int a1), (2, .int a2), (3, .int a3)] [] S := by
  unfold M_laysWorlds_b78 at hf
  refine tj_aload_n C 0 rfl rfl dX6_laysWorlds_78 ?_
  refine gf_X6_54 C hM dX6_laysWorlds_79 ?_
  refine tj_iload_n C 3 rfl rfl dX6_laysWorlds_82 ?_
  refine tj_dup2 C rfl rfl dX6_laysWorlds_83 ?_
  refine tj_iald C 368 9 rfl (ln_368 hw hM) _ rfl hf.1 dX6_laysWorlds_84 ?_
  replace hf := hf.2
  refine tj_iconst C kc_1 dX6_laysWorlds_85 ?_
  refine tj_iadd C dX6_laysWorlds_86 ?_
  refine tj_iast C 368 9 rfl (ln_368 hw hM) _ rfl hf.1 dX6_laysWorlds_87 ?_
  replace hf := hf.2
  refine tj_topS (fun S7 eS => ?_)
  replace hf := hf S7 eS
  refine tj_aload_n C 0 rfl rfl dX6_laysWorlds_88 ?_
  refine gf_X6_57 C hM dX6_laysWorlds_89 ?_
  refine tj_iload_n C 3 rfl rfl dX6_laysWorlds_92 ?_
  refine tj_dup2 C rfl rfl dX6_laysWorlds_93 ?_
  refine tj_iald C 400 9 rfl (ln_400 hw hM) _ rfl hf.1 dX6_laysWorlds_94 ?_
  replace hf := hf.2
  refine tj_iload_n C 2 rfl rfl dX6_laysWorlds_95 ?_
  refine tj_iconst C kc_2 dX6_laysWorlds_96 ?_
  refine tj_irem C hf.1 dX6_laysWorlds_97 ?_
  replace hf := hf.2
  refine tj_iadd C dX6_laysWorlds_98 ?_
  refine tj_iast C 400 9 rfl (ln_400 hw hM) _ rfl hf.1 dX6_laysWorlds_99 ?_
  replace hf := hf.2
  refine tj_topS (fun S8 eS => ?_)
  replace hf := hf S8 eS
  obtain ⟨x9, ex⟩ : ∃ y : Int32, y = a2 + nI 1 := ⟨_, rfl⟩
  refine tj_iinc C (by rw [hR]; decide) 2 [(2, .int x9), (0, .ref (xad Γ 0)), (1, .int a1), (3, .int a3)] rfl (by rw [ex]; exact ki_1 _) rfl dX6_laysWorlds_100 ?_
  replace hf := hf x9 ex
  refine tj_goto C 44 (by decide) dX6_laysWorlds_103 ?_
  exact tj_sub [1, 2, 0] (hκ44 _ _ _ hf) rfl
theorem w_M_laysWorlds_l44 {Γ : tX} {N0 : Nat → Nat} {K : tS → Prop} (C : TC Γ cX6_laysWorlds RX6 4 94) (hw : tWf N0) (hR : xnL Γ = 4) (r : TRv Γ N0 cX6_laysWorlds K) (hM : N0 0 ≠ 0) {κ30 : Int32 → tS → Prop} (hκ30 : ∀ (a1 : Int32) (S : tS), κ30 a1 S → TJ Γ N0 0 0 30 [(0, .ref (xad Γ 0)), (1, .int a1)] [] S) : ∀ (n : Nat) (a1 : Int32) (a2 : Int32) (S : tS), M_laysWorlds_l44 K κ30 n a1 a2 S → TJ Γ N0 0 0 44 [(0, .ref (xad Γ 0)), (1, .int a1), (2, .int a2)] [] S := by
  intro n
  induction n with
  | zero => intro a1 a2 S hf; exact hf.elim
  | succ n ih =>
    intro a1 a2 S hf
    unfold M_laysWorlds_l44 at hf
    refine tj_iload_n C 2 rfl rfl dX6_laysWorlds_44 ?_
    refine tj_sipush C ks_420 dX6_laysWorlds_45 ?_
    refine tj_icmp_ge C 106 (by decide) dX6_laysWorlds_48 (fun hc => ?_) (fun hc => ?_)
    · replace hf := hf.1 hc
      obtain ⟨x4, ex⟩ : ∃ y : Int32, y = a1 + nI 1 := ⟨_, rfl⟩
      refine tj_iinc C (by rw [hR]; decide) 1 [(1, .int x4), (0, .ref (xad Γ 0)), (2, .int a2)] rfl (by rw [ex]; exact ki_1 _) rfl dX6_laysWorlds_106 ?_
      replace hf := hf x4 ex
      refine tj_goto C 30 (by decide) dX6_laysWorlds_109 ?_
      exact tj_sub [1, 0] (hκ30 _ _ hf) rfl
    · replace hf := hf.2 hc
      refine tj_aload_n C 0 rfl rfl dX6_laysWorlds_51 ?_
      refine tj_iload_n C 2 rfl rfl dX6_laysWorlds_52 ?_
      refine tj_iconst C kc_2 dX6_laysWorlds_53 ?_
      refine tj_irem C hf.1 dX6_laysWorlds_54 ?_
      replace hf := hf.2
      refine tj_iload_n C 2 rfl rfl dX6_laysWorlds_55 ?_
      refine tj_bipush C kb_20 dX6_laysWorlds_56 ?_
      refine tj_idiv C hf.1 dX6_laysWorlds_58 ?_
      replace hf := hf.2
      refine tj_iload_n C 2 rfl rfl dX6_laysWorlds_59 ?_
      refine tj_iconst C kc_2 dX6_laysWorlds_60 ?_
      refine tj_idiv C hf.1 dX6_laysWorlds_61 ?_
      replace hf := hf.2
      refine tj_bipush C kb_10 dX6_laysWorlds_62 ?_
      refine tj_irem C hf.1 dX6_laysWorlds_64 ?_
      replace hf := hf.2
      refine tj_iload_n C 1 rfl rfl dX6_laysWorlds_65 ?_
      refine tj_callVi C (k := 0) [.int (a2 - a2 / (nI 2) * (nI 2)), .int (a2 / (nI 20)), .int ((a2 / (nI 2)) - (a2 / (nI 2)) / (nI 10) * (nI 10)), .int a1] [] (fun hN => c_M_firstOf (by rw [hN]; exact hM) hf) lk_X6_325 ty_X6_firstOf rfl (Nat.le_of_ble_eq_true rfl) (Nat.le_of_ble_eq_true rfl) (Nat.le_of_ble_eq_true rfl) hM rfl (by decide) rfl rfl dX6_laysWorlds_66 (fun r6 S5 hf => ?_)
      refine tj_istore_n C (by rw [hR]; decide) [(3, .int r6), (0, .ref (xad Γ 0)), (1, .int a1), (2, .int a2)] rfl rfl dX6_laysWorlds_69 ?_
      refine tj_iload_n C 0 rfl rfl dX6_laysWorlds_70 ?_
      refine tj_iconst C kc_m1 dX6_laysWorlds_71 ?_
      refine tj_icmp_ne C 78 (by decide) dX6_laysWorlds_72 (fun hc => ?_) (fun hc => ?_)
      · replace hf := hf.2 hc
        exact tj_sub [1, 2, 3, 0] (w_M_laysWorlds_b78 C hw hR r hM hκ30 ih hf) rfl
      · replace hf := hf.1 hc
        refine tj_bipush C kb_8 dX6_laysWorlds_75 ?_
        refine tj_istore_n C (by rw [hR]; decide) [(3, .int (nI 8)), (0, .ref (xad Γ 0)), (1, .int a1), (2, .int a2)] rfl rfl dX6_laysWorlds_77 ?_
        exact tj_sub [1, 2, 3, 0] (w_M_laysWorlds_b78 C hw hR r hM hκ30 ih hf) rfl
theorem w_M_laysWorlds_l30 {Γ : tX} {N0 : Nat → Nat} {K : tS → Prop} (C : TC Γ cX6_laysWorlds RX6 4 94) (hw : tWf N0) (hR : xnL Γ = 4) (r : TRv Γ N0 cX6_laysWorlds K) (hM : N0 0 ≠ 0) : ∀ (n : Nat) (a1 : Int32) (S : tS), M_laysWorlds_l30 K n a1 S → TJ Γ N0 0 0 30 [(0, .ref (xad Γ 0)), (1, .int a1)] [] S := by
  intro n
  induction n with
  | zero => intro a1 S hf; exact hf.elim
  | succ n ih =>
    intro a1 S hf
    unfold M_laysWorlds_l30 at hf
    refine tj_iload_n C 1 rfl rfl dX6_laysWorlds_30 ?_
    refine tj_iconst C kc_1 dX6_laysWorlds_31 ?_
    refine tj_aload_n C 0 rfl rfl dX6_laysWorlds_32 ?_
    refine gf_X6_7 C hM dX6_laysWorlds_33 ?_
    refine tj_iconst C kc_0 dX6_laysWorlds_36 ?_
    refine tj_iald C 48 3548 rfl (ln_48 hw hM) 0 kn_0 (vp_in_nI (by decide) (by decide)) dX6_laysWorlds_37 ?_
    refine tj_ishl C dX6_laysWorlds_38 ?_
    refine tj_icmp_ge C 112 (by decide) dX6_laysWorlds_39 (fun hc => ?_) (fun hc => ?_)
    · replace hf := hf.1 hc
      exact r _ _ _ dX6_laysWorlds_112 hf
    · replace hf := hf.2 hc
      refine tj_iconst C kc_0 dX6_laysWorlds_42 ?_
      refine tj_istore_n C (by rw [hR]; decide) [(2, .int (nI 0)), (0, .ref (xad Γ 0)), (1, .int a1)] rfl rfl dX6_laysWorlds_43 ?_
      exact tj_sub [1, 2, 0] (hf.elim fun k hf => w_M_laysWorlds_l44 C hw hR r hM ih k _ _ _ hf) rfl
theorem w_M_laysWorlds_l2 {Γ : tX} {N0 : Nat → Nat} {K : tS → Prop} (C : TC Γ cX6_laysWorlds RX6 4 94) (hw : tWf N0) (hR : xnL Γ = 4) (r : TRv Γ N0 cX6_laysWorlds K) (hM : N0 0 ≠ 0) : ∀ (n : Nat) (a1 : Int32) (S : tS), M_laysWorlds_l2 K n a1 S → TJ Γ N0 0 0 2 [(0, .ref (xad Γ 0)), (1, .int a1)] [] S := by
  intro n
  induction n with
  | zero => intro a1 S hf; exact hf.elim
  | succ n ih =>
    intro a1 S hf
    unfold M_laysWorlds_l2 at hf
    refine tj_iload_n C 1 rfl rfl dX6_laysWorlds_2 ?_
    refine tj_bipush C kb_8 dX6_laysWorlds_3 ?_
    refine tj_icmp_gt C 28 (by decide) dX6_laysWorlds_5 (fun hc => ?_) (fun hc => ?_)
    · replace hf := hf.1 hc
      refine tj_iconst C kc_0 dX6_laysWorlds_28 ?_
      refine tj_istore_n C (by rw [hR]; decide) [(1, .int (nI 0)), (0, .ref (xad Γ 0))] rfl rfl dX6_laysWorlds_29 ?_
      exact tj_sub [1, 0] (hf.elim fun k hf => w_M_laysWorlds_l30 C hw hR r hM k _ _ hf) rfl
    · replace hf := hf.2 hc
      refine tj_aload_n C 0 rfl rfl dX6_laysWorlds_8 ?_
      refine gf_X6_54 C hM dX6_laysWorlds_9 ?_
      refine tj_iload_n C 1 rfl rfl dX6_laysWorlds_12 ?_
      refine tj_iconst C kc_0 dX6_laysWorlds_13 ?_
      refine tj_iast C 368 9 rfl (ln_368 hw hM) _ rfl hf.1 dX6_laysWorlds_14 ?_
      replace hf := hf.2
      refine tj_topS (fun S1 eS => ?_)
      replace hf := hf S1 eS
      refine tj_aload_n C 0 rfl rfl dX6_laysWorlds_15 ?_
      refine gf_X6_57 C hM dX6_laysWorlds_16 ?_
      refine tj_iload_n C 1 rfl rfl dX6_laysWorlds_19 ?_
      refine tj_iconst C kc_0 dX6_laysWorlds_20 ?_
      refine tj_iast C 400 9 rfl (ln_400 hw hM) _ rfl hf.1 dX6_laysWorlds_21 ?_
      replace hf := hf.2
      refine tj_topS (fun S2 eS => ?_)
      replace hf := hf S2 eS
      obtain ⟨x3, ex⟩ : ∃ y : Int32, y = a1 + nI 1 := ⟨_, rfl⟩
      refine tj_iinc C (by rw [hR]; decide) 1 [(1, .int x3), (0, .ref (xad Γ 0))] rfl (by rw [ex]; exact ki_1 _) rfl dX6_laysWorlds_22 ?_
      replace hf := hf x3 ex
      refine tj_goto C 2 (by decide) dX6_laysWorlds_25 ?_
      exact tj_sub [1, 0] (ih _ _ hf) rfl
theorem w_M_laysWorlds_b0 {Γ : tX} {N0 : Nat → Nat} {K : tS → Prop} (C : TC Γ cX6_laysWorlds RX6 4 94) (hw : tWf N0) (hR : xnL Γ = 4) (r : TRv Γ N0 cX6_laysWorlds K) (hM : N0 0 ≠ 0) {S : tS} (hf : M_laysWorlds S K) : TJ Γ N0 0 0 0 [(0, .ref (xad Γ 0))] [] S := by
  unfold M_laysWorlds at hf
  refine tj_iconst C kc_0 dX6_laysWorlds_0 ?_
  refine tj_istore_n C (by rw [hR]; decide) [(1, .int (nI 0)), (0, .ref (xad Γ 0))] rfl rfl dX6_laysWorlds_1 ?_
  exact tj_sub [1, 0] (hf.elim fun k hf => w_M_laysWorlds_l2 C hw hR r hM k _ _ hf) rfl
theorem c_M_laysWorlds {l : Launch} {G : tG} {ad : Nat → Nat} {A : Nat → Prop} {S : tS} {K : tS → Prop} (hM : gN S 0 ≠ 0) (hf : M_laysWorlds S K) : Met l yX6_laysWorlds (ws_ yX6_laysWorlds cX6_laysWorlds 4 (none)) (tRm 4 94) (va_Pc [.ref (ad 0)] (tPre G ad A S)) (va_Qv K (tB G ad A (gN S)) A) 0 0 A :=
  tj_met_v [(0, .ref (ad 0))] pn_X6 rfl (Nat.le_of_ble_eq_true rfl) (fun p e R s m args below meth c Q C hw r => w_M_laysWorlds_b0 C hw rfl r hM hf)
theorem w_M_idle_b35 {Γ : tX} {N0 : Nat → Nat} {K : Int32 → tS → Prop} (C : TC Γ cX6_idle RX6 5 117) (hw : tWf N0) (hR : xnL Γ = 3) (r : TRi Γ N0 cX6_idle K) (hM : N0 0 ≠ 0) {κ8 : Int32 → Int32 → tS → Prop} (hκ8 : ∀ (a1 : Int32) (a2 : Int32) (S : tS), κ8 a1 a2 S → TJ Γ N0 0 0 8 [(0, .ref (xad Γ 0)), (1, .int a1), (2, .int a2)] [] S) {a2 : Int32} {s0 : Int32} {s1 : Int32} {S : tS} (hf : M_idle_b35 K κ8 a2 s0 s1 S) : TJ Γ N0 0 0 35 [(0, .ref (xad Γ 0)), (2, .int a2)] [.int s1, .int s0] S := by
  unfold M_idle_b35 at hf
  refine tj_ior C dX6_idle_35 ?_
  refine tj_topi (fun x4 ex => ?_)
  replace hf := hf x4 ex
  refine tj_istore_n C (by rw [hR]; decide) [(1, .int x4), (0, .ref (xad Γ 0)), (2, .int a2)] rfl rfl dX6_idle_36 ?_
  obtain ⟨x5, ex⟩ : ∃ y : Int32, y = a2 + nI 1 := ⟨_, rfl⟩
  refine tj_iinc C (by rw [hR]; decide) 2 [(2, .int x5), (1, .int x4), (0, .ref (xad Γ 0))] rfl (by rw [ex]; exact ki_1 _) rfl dX6_idle_37 ?_
  replace hf := hf x5 ex
  refine tj_goto C 8 (by decide) dX6_idle_40 ?_
  exact tj_sub [2, 1, 0] (hκ8 _ _ _ hf) rfl
theorem w_M_idle_l8 {Γ : tX} {N0 : Nat → Nat} {K : Int32 → tS → Prop} (C : TC Γ cX6_idle RX6 5 117) (hw : tWf N0) (hR : xnL Γ = 3) (r : TRi Γ N0 cX6_idle K) (hM : N0 0 ≠ 0) : ∀ (n : Nat) (a1 : Int32) (a2 : Int32) (S : tS), M_idle_l8 K n a1 a2 S → TJ Γ N0 0 0 8 [(0, .ref (xad Γ 0)), (1, .int a1), (2, .int a2)] [] S := by
  intro n
  induction n with
  | zero => intro a1 a2 S hf; exact hf.elim
  | succ n ih =>
    intro a1 a2 S hf
    unfold M_idle_l8 at hf
    refine tj_iload_n C 2 rfl rfl dX6_idle_8 ?_
    refine tj_aload_n C 0 rfl rfl dX6_idle_9 ?_
    refine gf_X6_7 C hM dX6_idle_10 ?_
    refine tj_iconst C kc_2 dX6_idle_13 ?_
    refine tj_iald C 48 3548 rfl (ln_48 hw hM) 2 kn_2 (vp_in_nI (by decide) (by decide)) dX6_idle_14 ?_
    refine tj_icmp_ge C 43 (by decide) dX6_idle_15 (fun hc => ?_) (fun hc => ?_)
    · replace hf := hf.1 hc
      refine tj_aload_n C 0 rfl rfl dX6_idle_43 ?_
      refine tj_iload_n C 1 rfl rfl dX6_idle_44 ?_
      refine tj_callVi C (k := 0) [.int a1] [] (fun hN => c_M_gives (by rw [hN]; exact hM) hf) lk_X6_95 ty_X6_gives rfl (Nat.le_of_ble_eq_true rfl) (Nat.le_of_ble_eq_true rfl) (Nat.le_of_ble_eq_true rfl) hM rfl (by decide) rfl rfl dX6_idle_45 (fun r3 S2 hf => ?_)
      exact r _ _ _ _ dX6_idle_48 hf
    · replace hf := hf.2 hc
      refine tj_iload_n C 1 rfl rfl dX6_idle_18 ?_
      refine tj_aload_n C 0 rfl rfl dX6_idle_19 ?_
      refine gf_X6_54 C hM dX6_idle_20 ?_
      refine tj_iload_n C 2 rfl rfl dX6_idle_23 ?_
      refine tj_iald C 368 9 rfl (ln_368 hw hM) _ rfl hf.1 dX6_idle_24 ?_
      replace hf := hf.2
      refine tj_if_ne C 34 (by decide) dX6_idle_25 (fun hc => ?_) (fun hc => ?_)
      · replace hf := hf.2 hc
        refine tj_iconst C kc_0 dX6_idle_34 ?_
        exact tj_sub [0, 2] (w_M_idle_b35 C hw hR r hM ih hf) rfl
      · replace hf := hf.1 hc
        refine tj_iconst C kc_1 dX6_idle_28 ?_
        refine tj_iload_n C 2 rfl rfl dX6_idle_29 ?_
        refine tj_ishl C dX6_idle_30 ?_
        refine tj_goto C 35 (by decide) dX6_idle_31 ?_
        exact tj_sub [0, 2] (w_M_idle_b35 C hw hR r hM ih hf) rfl
theorem w_M_idle_b0 {Γ : tX} {N0 : Nat → Nat} {K : Int32 → tS → Prop} (C : TC Γ cX6_idle RX6 5 117) (hw : tWf N0) (hR : xnL Γ = 3) (r : TRi Γ N0 cX6_idle K) (hM : N0 0 ≠ 0) {S : tS} (hf : M_idle S K) : TJ Γ N0 0 0 0 [(0, .ref (xad Γ 0))] [] S := by
  unfold M_idle at hf
  refine tj_aload_n C 0 rfl rfl dX6_idle_0 ?_
  refine tj_callVv C (k := 0) [] [] (fun hN => c_M_laysWorlds (by rw [hN]; exact hM) hf) lk_X6_428 ty_X6_laysWorlds rfl (Nat.le_of_ble_eq_true rfl) (Nat.le_of_ble_eq_true rfl) (Nat.le_of_ble_eq_true rfl) hM rfl (by decide) rfl rfl dX6_idle_1 (fun S1 hf => ?_)
  refine tj_iconst C kc_0 dX6_idle_4 ?_
  refine tj_istore_n C (by rw [hR]; decide) [(1, .int (nI 0)), (0, .ref (xad Γ 0))] rfl rfl dX6_idle_5 ?_
  refine tj_iconst C kc_0 dX6_idle_6 ?_
  refine tj_istore_n C (by rw [hR]; decide) [(2, .int (nI 0)), (1, .int (nI 0)), (0, .ref (xad Γ 0))] rfl rfl dX6_idle_7 ?_
  exact tj_sub [2, 1, 0] (hf.elim fun k hf => w_M_idle_l8 C hw hR r hM k _ _ _ hf) rfl
theorem c_M_idle {l : Launch} {G : tG} {ad : Nat → Nat} {A : Nat → Prop} {S : tS} {K : Int32 → tS → Prop} (hM : gN S 0 ≠ 0) (hf : M_idle S K) : Met l yX6_idle (ws_ yX6_idle cX6_idle 3 (some .int)) (tRm 5 117) (va_Pc [.ref (ad 0)] (tPre G ad A S)) (va_Qi K (tB G ad A (gN S)) A) 0 0 A :=
  tj_met_i [(0, .ref (ad 0))] pn_X6 rfl (Nat.le_of_ble_eq_true rfl) (fun p e R s m args below meth c Q C hw r => w_M_idle_b0 C hw rfl r hM hf)
theorem w_M_isReader_b0 {Γ : tX} {N0 : Nat → Nat} {K : Int32 → tS → Prop} (C : TC Γ cX6_isReader RX6 0 0) (hw : tWf N0) (hR : xnL Γ = 2) (r : TRz Γ N0 cX6_isReader K) {a1 : Int32} (hM : N0 0 ≠ 0) {S : tS} (hf : M_isReader a1 S K) : TJ Γ N0 0 0 0 [(0, .ref (xad Γ 0)), (1, .int a1)] [] S := by
  unfold M_isReader at hf
  refine tj_iload_n C 1 rfl rfl dX6_isReader_0 ?_
  refine tj_if_lt C 18 (by decide) dX6_isReader_1 (fun hc => ?_) (fun hc => ?_)
  · replace hf := hf.1 hc
    refine tj_iconst C kc_0 dX6_isReader_18 ?_
    exact r _ _ _ _ dX6_isReader_19 zb0 hf
  · replace hf := hf.2 hc
    refine tj_iload_n C 1 rfl rfl dX6_isReader_4 ?_
    refine tj_aload_n C 0 rfl rfl dX6_isReader_5 ?_
    refine gf_X6_7 C hM dX6_isReader_6 ?_
    refine tj_iconst C kc_4 dX6_isReader_9 ?_
    refine tj_iald C 48 3548 rfl (ln_48 hw hM) 4 kn_4 (vp_in_nI (by decide) (by decide)) dX6_isReader_10 ?_
    refine tj_icmp_ge C 18 (by decide) dX6_isReader_11 (fun hc => ?_) (fun hc => ?_)
    · replace hf := hf.1 hc
      refine tj_iconst C kc_0 dX6_isReader_18 ?_
      exact r _ _ _ _ dX6_isReader_19 zb0 hf
    · replace hf := hf.2 hc
      refine tj_iconst C kc_1 dX6_isReader_14 ?_
      refine tj_goto C 19 (by decide) dX6_isReader_15 ?_
      exact r _ _ _ _ dX6_isReader_19 zb1 hf
theorem c_M_isReader {l : Launch} {G : tG} {ad : Nat → Nat} {A : Nat → Prop} {S : tS} {K : Int32 → tS → Prop} {a1 : Int32} (hM : gN S 0 ≠ 0) (hf : M_isReader a1 S K) : Met l yX6_isReader (ws_ yX6_isReader cX6_isReader 2 (some .boolean)) (tRm 0 0) (va_Pc [.ref (ad 0), .int a1] (tPre G ad A S)) (va_Qi (fun r u => r &&& 1 = r ∧ K r u) (tB G ad A (gN S)) A) 0 0 A :=
  tj_met_z [(0, .ref (ad 0)), (1, .int a1)] pn_X6 rfl (Nat.le_of_ble_eq_true rfl) (fun p e R s m args below meth c Q C hw r => w_M_isReader_b0 C hw rfl r hM hf)
theorem w_M_isRule_b0 {Γ : tX} {N0 : Nat → Nat} {K : Int32 → tS → Prop} (C : TC Γ cX6_isRule RX6 0 0) (hw : tWf N0) (hR : xnL Γ = 2) (r : TRz Γ N0 cX6_isRule K) {a1 : Int32} (hM : N0 0 ≠ 0) {S : tS} (hf : M_isRule a1 S K) : TJ Γ N0 0 0 0 [(0, .ref (xad Γ 0)), (1, .int a1)] [] S := by
  unfold M_isRule at hf
  refine tj_iload_n C 1 rfl rfl dX6_isRule_0 ?_
  refine tj_if_lt C 18 (by decide) dX6_isRule_1 (fun hc => ?_) (fun hc => ?_)
  · replace hf := hf.1 hc
    refine tj_iconst C kc_0 dX6_isRule_18 ?_
    exact r _ _ _ _ dX6_isRule_19 zb0 hf
  · replace hf := hf.2 hc
    refine tj_iload_n C 1 rfl rfl dX6_isRule_4 ?_
    refine tj_aload_n C 0 rfl rfl dX6_isRule_5 ?_
    refine gf_X6_7 C hM dX6_isRule_6 ?_
    refine tj_iconst C kc_2 dX6_isRule_9 ?_
    refine tj_iald C 48 3548 rfl (ln_48 hw hM) 2 kn_2 (vp_in_nI (by decide) (by decide)) dX6_isRule_10 ?_
    refine tj_icmp_ge C 18 (by decide) dX6_isRule_11 (fun hc => ?_) (fun hc => ?_)
    · replace hf := hf.1 hc
      refine tj_iconst C kc_0 dX6_isRule_18 ?_
      exact r _ _ _ _ dX6_isRule_19 zb0 hf
    · replace hf := hf.2 hc
      refine tj_iconst C kc_1 dX6_isRule_14 ?_
      refine tj_goto C 19 (by decide) dX6_isRule_15 ?_
      exact r _ _ _ _ dX6_isRule_19 zb1 hf
theorem c_M_isRule {l : Launch} {G : tG} {ad : Nat → Nat} {A : Nat → Prop} {S : tS} {K : Int32 → tS → Prop} {a1 : Int32} (hM : gN S 0 ≠ 0) (hf : M_isRule a1 S K) : Met l yX6_isRule (ws_ yX6_isRule cX6_isRule 2 (some .boolean)) (tRm 0 0) (va_Pc [.ref (ad 0), .int a1] (tPre G ad A S)) (va_Qi (fun r u => r &&& 1 = r ∧ K r u) (tB G ad A (gN S)) A) 0 0 A :=
  tj_met_z [(0, .ref (ad 0)), (1, .int a1)] pn_X6 rfl (Nat.le_of_ble_eq_true rfl) (fun p e R s m args below meth c Q C hw r => w_M_isRule_b0 C hw rfl r hM hf)
theorem w_M_judgedIn_b80 {Γ : tX} {N0 : Nat → Nat} {K : Int32 → tS → Prop} (C : TC Γ cX6_judgedIn RX6 8 186) (hw : tWf N0) (hR : xnL Γ = 4) (r : TRi Γ N0 cX6_judgedIn K) {a1 : Int32} (hM : N0 0 ≠ 0) {a2 : Int32} {s0 : Int32} {S : tS} (hf : M_judgedIn_b80 a1 K a2 s0 S) : TJ Γ N0 0 0 80 [(0, .ref (xad Γ 0)), (2, .int a2)] [.int s0] S := by
  unfold M_judgedIn_b80 at hf
  refine tj_istore_n C (by rw [hR]; decide) [(3, .int s0), (0, .ref (xad Γ 0)), (2, .int a2)] rfl rfl dX6_judgedIn_80 ?_
  refine tj_aload_n C 1 rfl rfl dX6_judgedIn_81 ?_
  refine tj_sipush C ks_3012 dX6_judgedIn_82 ?_
  refine tj_callVv C (k := 0) [.int (nI 3012)] [] (fun hN => c_M_restores (by rw [hN]; exact hM) hf) lk_X6_377 ty_X6_restores rfl (Nat.le_of_ble_eq_true rfl) (Nat.le_of_ble_eq_true rfl) (Nat.le_of_ble_eq_true rfl) hM rfl (by decide) rfl rfl dX6_judgedIn_85 (fun S17 hf => ?_)
  refine tj_iload_n C 0 rfl rfl dX6_judgedIn_88 ?_
  refine tj_if_eq C 100 (by decide) dX6_judgedIn_89 (fun hc => ?_) (fun hc => ?_)
  · replace hf := hf.1 hc
    refine tj_aload_n C 1 rfl rfl dX6_judgedIn_100 ?_
    refine tj_bipush C kb_6 dX6_judgedIn_101 ?_
    refine tj_callVi C (k := 0) [.int (nI 6)] [] (fun hN => c_M_refuse (by rw [hN]; exact hM) hf) lk_X6_91 ty_X6_refuse rfl (Nat.le_of_ble_eq_true rfl) (Nat.le_of_ble_eq_true rfl) (Nat.le_of_ble_eq_true rfl) hM rfl (by decide) rfl rfl dX6_judgedIn_103 (fun r19 S18 hf => ?_)
    exact r _ _ _ _ dX6_judgedIn_106 hf
  · replace hf := hf.2 hc
    refine tj_aload_n C 1 rfl rfl dX6_judgedIn_92 ?_
    refine tj_iload_n C 2 rfl rfl dX6_judgedIn_93 ?_
    refine tj_callVi C (k := 0) [.int a2] [] (fun hN => c_M_gives (by rw [hN]; exact hM) hf) lk_X6_95 ty_X6_gives rfl (Nat.le_of_ble_eq_true rfl) (Nat.le_of_ble_eq_true rfl) (Nat.le_of_ble_eq_true rfl) hM rfl (by decide) rfl rfl dX6_judgedIn_94 (fun r21 S20 hf => ?_)
    refine tj_goto C 106 (by decide) dX6_judgedIn_97 ?_
    exact r _ _ _ _ dX6_judgedIn_106 hf
theorem w_M_judgedIn_b66 {Γ : tX} {N0 : Nat → Nat} {K : Int32 → tS → Prop} (C : TC Γ cX6_judgedIn RX6 8 186) (hw : tWf N0) (hR : xnL Γ = 4) (r : TRi Γ N0 cX6_judgedIn K) {a1 : Int32} (hM : N0 0 ≠ 0) {a2 : Int32} {S : tS} (hf : M_judgedIn_b66 a1 K a2 S) : TJ Γ N0 0 0 66 [(0, .ref (xad Γ 0)), (1, .int a1), (2, .int a2)] [] S := by
  unfold M_judgedIn_b66 at hf
  refine tj_aload_n C 0 rfl rfl dX6_judgedIn_66 ?_
  refine tj_iload_n C 1 rfl rfl dX6_judgedIn_67 ?_
  refine tj_iconst C kc_2 dX6_judgedIn_68 ?_
  refine tj_callVi C (k := 0) [.int a1, .int (nI 2)] [] (fun hN => c_M_personOf (by rw [hN]; exact hM) hf) lk_X6_281 ty_X6_personOf rfl (Nat.le_of_ble_eq_true rfl) (Nat.le_of_ble_eq_true rfl) (Nat.le_of_ble_eq_true rfl) hM rfl (by decide) rfl rfl dX6_judgedIn_69 (fun r16 S15 hf => ?_)
  refine tj_if_eq C 79 (by decide) dX6_judgedIn_72 (fun hc => ?_) (fun hc => ?_)
  · replace hf := hf.1 hc
    refine tj_iconst C kc_0 dX6_judgedIn_79 ?_
    exact tj_sub [0, 2] (w_M_judgedIn_b80 C hw hR r hM hf) rfl
  · replace hf := hf.2 hc
    refine tj_iconst C kc_1 dX6_judgedIn_75 ?_
    refine tj_goto C 80 (by decide) dX6_judgedIn_76 ?_
    exact tj_sub [0, 2] (w_M_judgedIn_b80 C hw hR r hM hf) rfl
theorem w_M_judgedIn_l40 {Γ : tX} {N0 : Nat → Nat} {K : Int32 → tS → Prop} (C : TC Γ cX6_judgedIn RX6 8 186) (hw : tWf N0) (hR : xnL Γ = 4) (r : TRi Γ N0 cX6_judgedIn K) {a1 : Int32} (hM : N0 0 ≠ 0) : ∀ (n : Nat) (a2 : Int32) (S : tS), M_judgedIn_l40 a1 K n a2 S → TJ Γ N0 0 0 40 [(0, .ref (xad Γ 0)), (1, .int a1), (2, .int a2)] [] S := by
  intro n
  induction n with
  | zero => intro a2 S hf; exact hf.elim
  | succ n ih =>
    intro a2 S hf
    unfold M_judgedIn_l40 at hf
    refine tj_iload_n C 2 rfl rfl dX6_judgedIn_40 ?_
    refine tj_bipush C kb_40 dX6_judgedIn_41 ?_
    refine tj_icmp_ge C 66 (by decide) dX6_judgedIn_43 (fun hc => ?_) (fun hc => ?_)
    · replace hf := hf.1 hc
      exact w_M_judgedIn_b66 C hw hR r hM hf
    · replace hf := hf.2 hc
      refine tj_aload_n C 0 rfl rfl dX6_judgedIn_46 ?_
      refine tj_iload_n C 1 rfl rfl dX6_judgedIn_47 ?_
      refine tj_iconst C kc_2 dX6_judgedIn_48 ?_
      refine tj_callVi C (k := 0) [.int a1, .int (nI 2)] [] (fun hN => c_M_personOf (by rw [hN]; exact hM) hf) lk_X6_281 ty_X6_personOf rfl (Nat.le_of_ble_eq_true rfl) (Nat.le_of_ble_eq_true rfl) (Nat.le_of_ble_eq_true rfl) hM rfl (by decide) rfl rfl dX6_judgedIn_49 (fun r11 S10 hf => ?_)
      refine tj_if_ne C 66 (by decide) dX6_judgedIn_52 (fun hc => ?_) (fun hc => ?_)
      · replace hf := hf.2 hc
        exact w_M_judgedIn_b66 C hw hR r hM hf
      · replace hf := hf.1 hc
        refine tj_aload_n C 0 rfl rfl dX6_judgedIn_55 ?_
        refine tj_callVi C (k := 0) [] [] (fun hN => c_M_terms (by rw [hN]; exact hM) hf) lk_X6_350 ty_X6_terms rfl (Nat.le_of_ble_eq_true rfl) (Nat.le_of_ble_eq_true rfl) (Nat.le_of_ble_eq_true rfl) hM rfl (by decide) rfl rfl dX6_judgedIn_56 (fun r13 S12 hf => ?_)
        refine tj_pop C rfl dX6_judgedIn_59 ?_
        obtain ⟨x14, ex⟩ : ∃ y : Int32, y = a2 + nI 1 := ⟨_, rfl⟩
        refine tj_iinc C (by rw [hR]; decide) 2 [(2, .int x14), (0, .ref (xad Γ 0)), (1, .int a1)] rfl (by rw [ex]; exact ki_1 _) rfl dX6_judgedIn_60 ?_
        replace hf := hf x14 ex
        refine tj_goto C 40 (by decide) dX6_judgedIn_63 ?_
        exact tj_sub [1, 2, 0] (ih _ _ hf) rfl
theorem w_M_judgedIn_b0 {Γ : tX} {N0 : Nat → Nat} {K : Int32 → tS → Prop} (C : TC Γ cX6_judgedIn RX6 8 186) (hw : tWf N0) (hR : xnL Γ = 4) (r : TRi Γ N0 cX6_judgedIn K) {a1 : Int32} (hM : N0 0 ≠ 0) {S : tS} (hf : M_judgedIn a1 S K) : TJ Γ N0 0 0 0 [(0, .ref (xad Γ 0)), (1, .int a1)] [] S := by
  unfold M_judgedIn at hf
  refine tj_aload_n C 0 rfl rfl dX6_judgedIn_0 ?_
  refine tj_iload_n C 1 rfl rfl dX6_judgedIn_1 ?_
  refine tj_i2l C dX6_judgedIn_2 ?_
  refine tj_callVz C (k := 0) [.long (a1.toInt64)] [] (fun hN => c_M_isPerson (by rw [hN]; exact hM) hf) lk_X6_305 ty_X6_isPerson rfl (Nat.le_of_ble_eq_true rfl) (Nat.le_of_ble_eq_true rfl) (Nat.le_of_ble_eq_true rfl) hM rfl (by decide) rfl rfl dX6_judgedIn_3 (fun r2 S1 hf => ?_)
  have hz_r2 := hf.1
  replace hf := hf.2
  refine tj_if_ne C 15 (by decide) dX6_judgedIn_6 (fun hc => ?_) (fun hc => ?_)
  · replace hf := hf.2 hc
    refine tj_aload_n C 0 rfl rfl dX6_judgedIn_15 ?_
    refine tj_iload_n C 1 rfl rfl dX6_judgedIn_16 ?_
    refine tj_iconst C kc_2 dX6_judgedIn_17 ?_
    refine tj_callVi C (k := 0) [.int a1, .int (nI 2)] [] (fun hN => c_M_personOf (by rw [hN]; exact hM) hf) lk_X6_281 ty_X6_personOf rfl (Nat.le_of_ble_eq_true rfl) (Nat.le_of_ble_eq_true rfl) (Nat.le_of_ble_eq_true rfl) hM rfl (by decide) rfl rfl dX6_judgedIn_18 (fun r4 S3 hf => ?_)
    refine tj_if_eq C 31 (by decide) dX6_judgedIn_21 (fun hc => ?_) (fun hc => ?_)
    · replace hf := hf.1 hc
      refine tj_aload_n C 0 rfl rfl dX6_judgedIn_31 ?_
      refine tj_sipush C ks_3012 dX6_judgedIn_32 ?_
      refine tj_callVv C (k := 0) [.int (nI 3012)] [] (fun hN => c_M_keeps (by rw [hN]; exact hM) hf) lk_X6_374 ty_X6_keeps rfl (Nat.le_of_ble_eq_true rfl) (Nat.le_of_ble_eq_true rfl) (Nat.le_of_ble_eq_true rfl) hM rfl (by decide) rfl rfl dX6_judgedIn_35 (fun S5 hf => ?_)
      refine tj_iconst C kc_0 dX6_judgedIn_38 ?_
      refine tj_istore_n C (by rw [hR]; decide) [(2, .int (nI 0)), (0, .ref (xad Γ 0)), (1, .int a1)] rfl rfl dX6_judgedIn_39 ?_
      exact tj_sub [1, 2, 0] (hf.elim fun k hf => w_M_judgedIn_l40 C hw hR r hM k _ _ hf) rfl
    · replace hf := hf.2 hc
      refine tj_aload_n C 0 rfl rfl dX6_judgedIn_24 ?_
      refine tj_bipush C kb_7 dX6_judgedIn_25 ?_
      refine tj_callVi C (k := 0) [.int (nI 7)] [] (fun hN => c_M_refuse (by rw [hN]; exact hM) hf) lk_X6_91 ty_X6_refuse rfl (Nat.le_of_ble_eq_true rfl) (Nat.le_of_ble_eq_true rfl) (Nat.le_of_ble_eq_true rfl) hM rfl (by decide) rfl rfl dX6_judgedIn_27 (fun r7 S6 hf => ?_)
      exact r _ _ _ _ dX6_judgedIn_30 hf
  · replace hf := hf.1 hc
    refine tj_aload_n C 0 rfl rfl dX6_judgedIn_9 ?_
    refine tj_iconst C kc_1 dX6_judgedIn_10 ?_
    refine tj_callVi C (k := 0) [.int (nI 1)] [] (fun hN => c_M_refuse (by rw [hN]; exact hM) hf) lk_X6_91 ty_X6_refuse rfl (Nat.le_of_ble_eq_true rfl) (Nat.le_of_ble_eq_true rfl) (Nat.le_of_ble_eq_true rfl) hM rfl (by decide) rfl rfl dX6_judgedIn_11 (fun r9 S8 hf => ?_)
    exact r _ _ _ _ dX6_judgedIn_14 hf
theorem c_M_judgedIn {l : Launch} {G : tG} {ad : Nat → Nat} {A : Nat → Prop} {S : tS} {K : Int32 → tS → Prop} {a1 : Int32} (hM : gN S 0 ≠ 0) (hf : M_judgedIn a1 S K) : Met l yX6_judgedIn (ws_ yX6_judgedIn cX6_judgedIn 4 (some .int)) (tRm 8 186) (va_Pc [.ref (ad 0), .int a1] (tPre G ad A S)) (va_Qi K (tB G ad A (gN S)) A) 0 0 A :=
  tj_met_i [(0, .ref (ad 0)), (1, .int a1)] pn_X6 rfl (Nat.le_of_ble_eq_true rfl) (fun p e R s m args below meth c Q C hw r => w_M_judgedIn_b0 C hw rfl r hM hf)
theorem w_M_laysLeast_b124 {Γ : tX} {N0 : Nat → Nat} {K : tS → Prop} (C : TC Γ cX6_laysLeast RX6 5 119) (hw : tWf N0) (hR : xnL Γ = 7) (r : TRv Γ N0 cX6_laysLeast K) {a1 : Int32} {a2 : Int32} (hM : N0 0 ≠ 0) {κ9 : Int32 → tS → Prop} (hκ9 : ∀ (a3 : Int32) (S : tS), κ9 a3 S → TJ Γ N0 0 0 9 [(0, .ref (xad Γ 0)), (1, .int a1), (2, .int a2), (3, .int a3)] [] S) {a3 : Int32} {S : tS} (hf : M_laysLeast_b124 a1 a2 K κ9 a3 S) : TJ Γ N0 0 0 124 [(0, .ref (xad Γ 0)), (1, .int a1), (2, .int a2), (3, .int a3)] [] S := by
  unfold M_laysLeast_b124 at hf
  obtain ⟨x17, ex⟩ : ∃ y : Int32, y = a3 + nI 1 := ⟨_, rfl⟩
  refine tj_iinc C (by rw [hR]; decide) 3 [(3, .int x17), (0, .ref (xad Γ 0)), (1, .int a1), (2, .int a2)] rfl (by rw [ex]; exact ki_1 _) rfl dX6_laysLeast_124 ?_
  replace hf := hf x17 ex
  refine tj_goto C 9 (by decide) dX6_laysLeast_127 ?_
  exact tj_sub [1, 2, 3, 0] (hκ9 _ _ hf) rfl
theorem w_M_laysLeast_b118 {Γ : tX} {N0 : Nat → Nat} {K : tS → Prop} (C : TC Γ cX6_laysLeast RX6 5 119) (hw : tWf N0) (hR : xnL Γ = 7) (r : TRv Γ N0 cX6_laysLeast K) {a1 : Int32} {a2 : Int32} (hM : N0 0 ≠ 0) {κ9 : Int32 → tS → Prop} (hκ9 : ∀ (a3 : Int32) (S : tS), κ9 a3 S → TJ Γ N0 0 0 9 [(0, .ref (xad Γ 0)), (1, .int a1), (2, .int a2), (3, .int a3)] [] S) {κ28 : Int32 → Int32 → Int32 → tS → Prop} (hκ28 : ∀ (a3 : Int32) (a4 : Int32) (a5 : Int32) (S : tS), κ28 a3 a4 a5 S → TJ Γ N0 0 0 28 [(0, .ref (xad Γ 0)), (1, .int a1), (2, .int a2), (3, .int a3), (4, .int a4), (5, .int a5)] [] S) {a3 : Int32} {a4 : Int32} {a5 : Int32} {S : tS} (hf : M_laysLeast_b118 a1 a2 K κ9 κ28 a3 a4 a5 S) : TJ Γ N0 0 0 118 [(0, .ref (xad Γ 0)), (1, .int a1), (2, .int a2), (3, .int a3), (4, .int a4), (5, .int a5)] [] S := by
  unfold M_laysLeast_b118 at hf
  obtain ⟨x18, ex⟩ : ∃ y : Int32, y = a5 + nI 1 := ⟨_, rfl⟩
  refine tj_iinc C (by rw [hR]; decide) 5 [(5, .int x18), (0, .ref (xad Γ 0)), (1, .int a1), (2, .int a2), (3, .int a3), (4, .int a4)] rfl (by rw [ex]; exact ki_1 _) rfl dX6_laysLeast_118 ?_
  replace hf := hf x18 ex
  refine tj_goto C 28 (by decide) dX6_laysLeast_121 ?_
  exact tj_sub [1, 2, 3, 4, 5, 0] (hκ28 _ _ _ _ hf) rfl
theorem w_M_laysLeast_l28 {Γ : tX} {N0 : Nat → Nat} {K : tS → Prop} (C : TC Γ cX6_laysLeast RX6 5 119) (hw : tWf N0) (hR : xnL Γ = 7) (r : TRv Γ N0 cX6_laysLeast K) {a1 : Int32} {a2 : Int32} (hM : N0 0 ≠ 0) {κ9 : Int32 → tS → Prop} (hκ9 : ∀ (a3 : Int32) (S : tS), κ9 a3 S → TJ Γ N0 0 0 9 [(0, .ref (xad Γ 0)), (1, .int a1), (2, .int a2), (3, .int a3)] [] S) : ∀ (n : Nat) (a3 : Int32) (a4 : Int32) (a5 : Int32) (S : tS), M_laysLeast_l28 a1 a2 K κ9 n a3 a4 a5 S → TJ Γ N0 0 0 28 [(0, .ref (xad Γ 0)), (1, .int a1), (2, .int a2), (3, .int a3), (4, .int a4), (5, .int a5)] [] S := by
  intro n
  induction n with
  | zero => intro a3 a4 a5 S hf; exact hf.elim
  | succ n ih =>
    intro a3 a4 a5 S hf
    unfold M_laysLeast_l28 at hf
    refine tj_iload C 5 rfl dX6_laysLeast_28 ?_
    refine tj_iconst C kc_1 dX6_laysLeast_30 ?_
    refine tj_aload_n C 0 rfl rfl dX6_laysLeast_31 ?_
    refine gf_X6_7 C hM dX6_laysLeast_32 ?_
    refine tj_iconst C kc_0 dX6_laysLeast_35 ?_
    refine tj_iald C 48 3548 rfl (ln_48 hw hM) 0 kn_0 (vp_in_nI (by decide) (by decide)) dX6_laysLeast_36 ?_
    refine tj_ishl C dX6_laysLeast_37 ?_
    refine tj_icmp_ge C 124 (by decide) dX6_laysLeast_38 (fun hc => ?_) (fun hc => ?_)
    · replace hf := hf.1 hc
      exact tj_sub [0, 1, 2, 3] (w_M_laysLeast_b124 C hw hR r hM hκ9 hf) rfl
    · replace hf := hf.2 hc
      refine tj_iload C 4 rfl dX6_laysLeast_41 ?_
      refine tj_bipush C kb_99 dX6_laysLeast_43 ?_
      refine tj_icmp_gt C 124 (by decide) dX6_laysLeast_45 (fun hc => ?_) (fun hc => ?_)
      · replace hf := hf.1 hc
        exact tj_sub [0, 1, 2, 3] (w_M_laysLeast_b124 C hw hR r hM hκ9 hf) rfl
      · replace hf := hf.2 hc
        refine tj_iload_n C 3 rfl rfl dX6_laysLeast_48 ?_
        refine tj_iload C 5 rfl dX6_laysLeast_49 ?_
        refine tj_aload_n C 0 rfl rfl dX6_laysLeast_51 ?_
        refine tj_iload_n C 1 rfl rfl dX6_laysLeast_52 ?_
        refine tj_iconst C kc_1 dX6_laysLeast_53 ?_
        refine tj_callVi C (k := 0) [.int a1, .int (nI 1)] [.int a5, .int a3] (fun hN => c_M_personOf (by rw [hN]; exact hM) hf) lk_X6_281 ty_X6_personOf rfl (Nat.le_of_ble_eq_true rfl) (Nat.le_of_ble_eq_true rfl) (Nat.le_of_ble_eq_true rfl) hM rfl (by decide) rfl rfl dX6_laysLeast_54 (fun r6 S5 hf => ?_)
        refine tj_ixor C dX6_laysLeast_57 ?_
        refine tj_callSi C [.int (a5 ^^^ r6)] [.int a3] (fun hN => c_M_bits hf) lk_X6_344 ty_X6_bits rfl (Nat.le_of_ble_eq_true rfl) (Nat.le_of_ble_eq_true rfl) (Nat.le_of_ble_eq_true rfl) rfl dX6_laysLeast_58 (fun r8 S7 hf => ?_)
        refine tj_iadd C dX6_laysLeast_61 ?_
        refine tj_topi (fun x9 ex => ?_)
        replace hf := hf x9 ex
        refine tj_istore C (by rw [hR]; decide) [(6, .int x9), (0, .ref (xad Γ 0)), (1, .int a1), (2, .int a2), (3, .int a3), (4, .int a4), (5, .int a5)] rfl dX6_laysLeast_62 ?_
        refine tj_iload C 0 rfl dX6_laysLeast_64 ?_
        refine tj_aload_n C 1 rfl rfl dX6_laysLeast_66 ?_
        refine gf_X6_416 C hM dX6_laysLeast_67 ?_
        refine tj_icmp_ge C 118 (by decide) dX6_laysLeast_70 (fun hc => ?_) (fun hc => ?_)
        · replace hf := hf.1 hc
          exact tj_sub [1, 2, 3, 4, 5, 6] (w_M_laysLeast_b118 C hw hR r hM hκ9 ih hf) rfl
        · replace hf := hf.2 hc
          refine tj_aload_n C 1 rfl rfl dX6_laysLeast_73 ?_
          refine tj_aload_n C 1 rfl rfl dX6_laysLeast_74 ?_
          refine tj_iload_n C 2 rfl rfl dX6_laysLeast_75 ?_
          refine tj_iconst C kc_3 dX6_laysLeast_76 ?_
          refine tj_callVi C (k := 0) [.int a1, .int (nI 3)] [.ref (xad Γ 0)] (fun hN => c_M_personOf (by rw [hN]; exact hM) hf) lk_X6_281 ty_X6_personOf rfl (Nat.le_of_ble_eq_true rfl) (Nat.le_of_ble_eq_true rfl) (Nat.le_of_ble_eq_true rfl) hM rfl (by decide) rfl rfl dX6_laysLeast_77 (fun r11 S10 hf => ?_)
          refine tj_iload C 5 rfl dX6_laysLeast_80 ?_
          refine tj_aload_n C 1 rfl rfl dX6_laysLeast_82 ?_
          refine gf_X6_7 C hM dX6_laysLeast_83 ?_
          refine tj_bipush C kb_6 dX6_laysLeast_86 ?_
          refine tj_iald C 48 3548 rfl (ln_48 hw hM) 6 kn_6 (vp_in_nI (by decide) (by decide)) dX6_laysLeast_88 ?_
          refine tj_iload C 6 rfl dX6_laysLeast_89 ?_
          refine tj_callVi C (k := 0) [.int r11, .int a4, .int (gI S10 48 6), .int a5] [] (fun hN => c_M_cueOf (by rw [hN]; exact hM) hf) lk_X6_382 ty_X6_cueOf rfl (Nat.le_of_ble_eq_true rfl) (Nat.le_of_ble_eq_true rfl) (Nat.le_of_ble_eq_true rfl) hM rfl (by decide) rfl rfl dX6_laysLeast_91 (fun r13 S12 hf => ?_)
          refine tj_iload_n C 3 rfl rfl dX6_laysLeast_94 ?_
          refine tj_icmp_eq C 101 (by decide) dX6_laysLeast_95 (fun hc => ?_) (fun hc => ?_)
          · replace hf := hf.1 hc
            refine tj_aload_n C 1 rfl rfl dX6_laysLeast_101 ?_
            refine tj_iload C 0 rfl dX6_laysLeast_102 ?_
            refine pf_X6_416 C hM dX6_laysLeast_104 ?_
            refine tj_topS (fun S14 eS => ?_)
            replace hf := hf S14 eS
            refine tj_aload_n C 1 rfl rfl dX6_laysLeast_107 ?_
            refine tj_iload_n C 4 rfl rfl dX6_laysLeast_108 ?_
            refine pf_X6_419 C hM dX6_laysLeast_109 ?_
            refine tj_topS (fun S15 eS => ?_)
            replace hf := hf S15 eS
            refine tj_aload_n C 1 rfl rfl dX6_laysLeast_112 ?_
            refine tj_iload C 6 rfl dX6_laysLeast_113 ?_
            refine pf_X6_422 C hM dX6_laysLeast_115 ?_
            refine tj_topS (fun S16 eS => ?_)
            replace hf := hf S16 eS
            exact tj_sub [1, 2, 3, 4, 5, 6] (w_M_laysLeast_b118 C hw hR r hM hκ9 ih hf) rfl
          · replace hf := hf.2 hc
            refine tj_goto C 118 (by decide) dX6_laysLeast_98 ?_
            exact tj_sub [1, 2, 3, 4, 5, 6] (w_M_laysLeast_b118 C hw hR r hM hκ9 ih hf) rfl
theorem w_M_laysLeast_l9 {Γ : tX} {N0 : Nat → Nat} {K : tS → Prop} (C : TC Γ cX6_laysLeast RX6 5 119) (hw : tWf N0) (hR : xnL Γ = 7) (r : TRv Γ N0 cX6_laysLeast K) {a1 : Int32} {a2 : Int32} (hM : N0 0 ≠ 0) : ∀ (n : Nat) (a3 : Int32) (S : tS), M_laysLeast_l9 a1 a2 K n a3 S → TJ Γ N0 0 0 9 [(0, .ref (xad Γ 0)), (1, .int a1), (2, .int a2), (3, .int a3)] [] S := by
  intro n
  induction n with
  | zero => intro a3 S hf; exact hf.elim
  | succ n ih =>
    intro a3 S hf
    unfold M_laysLeast_l9 at hf
    refine tj_iload_n C 3 rfl rfl dX6_laysLeast_9 ?_
    refine tj_bipush C kb_20 dX6_laysLeast_10 ?_
    refine tj_icmp_gt C 130 (by decide) dX6_laysLeast_12 (fun hc => ?_) (fun hc => ?_)
    · replace hf := hf.1 hc
      exact r _ _ _ dX6_laysLeast_130 hf
    · replace hf := hf.2 hc
      refine tj_aload_n C 0 rfl rfl dX6_laysLeast_15 ?_
      refine tj_iload_n C 1 rfl rfl dX6_laysLeast_16 ?_
      refine tj_iconst C kc_0 dX6_laysLeast_17 ?_
      refine tj_callVi C (k := 0) [.int a1, .int (nI 0)] [] (fun hN => c_M_personOf (by rw [hN]; exact hM) hf) lk_X6_281 ty_X6_personOf rfl (Nat.le_of_ble_eq_true rfl) (Nat.le_of_ble_eq_true rfl) (Nat.le_of_ble_eq_true rfl) hM rfl (by decide) rfl rfl dX6_laysLeast_18 (fun r3 S2 hf => ?_)
      refine tj_iload_n C 3 rfl rfl dX6_laysLeast_21 ?_
      refine tj_iadd C dX6_laysLeast_22 ?_
      refine tj_topi (fun x4 ex => ?_)
      replace hf := hf x4 ex
      refine tj_istore C (by rw [hR]; decide) [(4, .int x4), (0, .ref (xad Γ 0)), (1, .int a1), (2, .int a2), (3, .int a3)] rfl dX6_laysLeast_23 ?_
      refine tj_iconst C kc_0 dX6_laysLeast_25 ?_
      refine tj_istore C (by rw [hR]; decide) [(5, .int (nI 0)), (4, .int x4), (0, .ref (xad Γ 0)), (1, .int a1), (2, .int a2), (3, .int a3)] rfl dX6_laysLeast_26 ?_
      exact tj_sub [2, 3, 4, 5, 1, 0] (hf.elim fun k hf => w_M_laysLeast_l28 C hw hR r hM ih k _ _ _ _ hf) rfl
theorem w_M_laysLeast_b0 {Γ : tX} {N0 : Nat → Nat} {K : tS → Prop} (C : TC Γ cX6_laysLeast RX6 5 119) (hw : tWf N0) (hR : xnL Γ = 7) (r : TRv Γ N0 cX6_laysLeast K) {a1 : Int32} {a2 : Int32} (hM : N0 0 ≠ 0) {S : tS} (hf : M_laysLeast a1 a2 S K) : TJ Γ N0 0 0 0 [(0, .ref (xad Γ 0)), (1, .int a1), (2, .int a2)] [] S := by
  unfold M_laysLeast at hf
  refine tj_aload_n C 0 rfl rfl dX6_laysLeast_0 ?_
  refine tj_ldcw C kl_X6_412 dX6_laysLeast_1 ?_
  refine pf_X6_416 C hM dX6_laysLeast_4 ?_
  refine tj_topS (fun S1 eS => ?_)
  replace hf := hf S1 eS
  refine tj_iconst C kc_0 dX6_laysLeast_7 ?_
  refine tj_istore_n C (by rw [hR]; decide) [(3, .int (nI 0)), (0, .ref (xad Γ 0)), (1, .int a1), (2, .int a2)] rfl rfl dX6_laysLeast_8 ?_
  exact tj_sub [1, 2, 3, 0] (hf.elim fun k hf => w_M_laysLeast_l9 C hw hR r hM k _ _ hf) rfl
theorem c_M_laysLeast {l : Launch} {G : tG} {ad : Nat → Nat} {A : Nat → Prop} {S : tS} {K : tS → Prop} {a1 : Int32} {a2 : Int32} (hM : gN S 0 ≠ 0) (hf : M_laysLeast a1 a2 S K) : Met l yX6_laysLeast (ws_ yX6_laysLeast cX6_laysLeast 7 (none)) (tRm 5 119) (va_Pc [.ref (ad 0), .int a1, .int a2] (tPre G ad A S)) (va_Qv K (tB G ad A (gN S)) A) 0 0 A :=
  tj_met_v [(0, .ref (ad 0)), (1, .int a1), (2, .int a2)] pn_X6 rfl (Nat.le_of_ble_eq_true rfl) (fun p e R s m args below meth c Q C hw r => w_M_laysLeast_b0 C hw rfl r hM hf)
theorem w_M_least_b17 {Γ : tX} {N0 : Nat → Nat} {K : Int32 → tS → Prop} (C : TC Γ cX6_least RX6 6 145) (hw : tWf N0) (hR : xnL Γ = 3) (r : TRi Γ N0 cX6_least K) {a1 : Int32} {a2 : Int32} (hM : N0 0 ≠ 0) {S : tS} (hf : M_least_b17 a1 a2 K  S) : TJ Γ N0 0 0 17 [(0, .ref (xad Γ 0))] [] S := by
  unfold M_least_b17 at hf
  refine tj_aload_n C 0 rfl rfl dX6_least_17 ?_
  refine tj_iconst C kc_1 dX6_least_18 ?_
  refine tj_callVi C (k := 0) [.int (nI 1)] [] (fun hN => c_M_refuse (by rw [hN]; exact hM) hf) lk_X6_91 ty_X6_refuse rfl (Nat.le_of_ble_eq_true rfl) (Nat.le_of_ble_eq_true rfl) (Nat.le_of_ble_eq_true rfl) hM rfl (by decide) rfl rfl dX6_least_19 (fun r11 S10 hf => ?_)
  exact r _ _ _ _ dX6_least_22 hf
theorem w_M_least_b0 {Γ : tX} {N0 : Nat → Nat} {K : Int32 → tS → Prop} (C : TC Γ cX6_least RX6 6 145) (hw : tWf N0) (hR : xnL Γ = 3) (r : TRi Γ N0 cX6_least K) {a1 : Int32} {a2 : Int32} (hM : N0 0 ≠ 0) {S : tS} (hf : M_least a1 a2 S K) : TJ Γ N0 0 0 0 [(0, .ref (xad Γ 0)), (1, .int a1), (2, .int a2)] [] S := by
  unfold M_least at hf
  refine tj_aload_n C 0 rfl rfl dX6_least_0 ?_
  refine tj_iload_n C 1 rfl rfl dX6_least_1 ?_
  refine tj_i2l C dX6_least_2 ?_
  refine tj_callVz C (k := 0) [.long (a1.toInt64)] [] (fun hN => c_M_isPerson (by rw [hN]; exact hM) hf) lk_X6_305 ty_X6_isPerson rfl (Nat.le_of_ble_eq_true rfl) (Nat.le_of_ble_eq_true rfl) (Nat.le_of_ble_eq_true rfl) hM rfl (by decide) rfl rfl dX6_least_3 (fun r2 S1 hf => ?_)
  have hz_r2 := hf.1
  replace hf := hf.2
  refine tj_if_eq C 17 (by decide) dX6_least_6 (fun hc => ?_) (fun hc => ?_)
  · replace hf := hf.1 hc
    exact tj_sub [0] (w_M_least_b17 C hw hR r hM hf) rfl
  · replace hf := hf.2 hc
    refine tj_aload_n C 0 rfl rfl dX6_least_9 ?_
    refine tj_iload_n C 2 rfl rfl dX6_least_10 ?_
    refine tj_callVz C (k := 0) [.int a2] [] (fun hN => c_M_isCue (by rw [hN]; exact hM) hf) lk_X6_293 ty_X6_isCue rfl (Nat.le_of_ble_eq_true rfl) (Nat.le_of_ble_eq_true rfl) (Nat.le_of_ble_eq_true rfl) hM rfl (by decide) rfl rfl dX6_least_11 (fun r4 S3 hf => ?_)
    have hz_r4 := hf.1
    replace hf := hf.2
    refine tj_if_ne C 23 (by decide) dX6_least_14 (fun hc => ?_) (fun hc => ?_)
    · replace hf := hf.2 hc
      refine tj_aload_n C 0 rfl rfl dX6_least_23 ?_
      refine tj_iload_n C 1 rfl rfl dX6_least_24 ?_
      refine tj_iload_n C 2 rfl rfl dX6_least_25 ?_
      refine tj_callVv C (k := 0) [.int a1, .int a2] [] (fun hN => c_M_laysLeast (by rw [hN]; exact hM) hf) lk_X6_425 ty_X6_laysLeast rfl (Nat.le_of_ble_eq_true rfl) (Nat.le_of_ble_eq_true rfl) (Nat.le_of_ble_eq_true rfl) hM rfl (by decide) rfl rfl dX6_least_26 (fun S5 hf => ?_)
      refine tj_aload_n C 0 rfl rfl dX6_least_29 ?_
      refine gf_X6_416 C hM dX6_least_30 ?_
      refine tj_ldcw C kl_X6_412 dX6_least_33 ?_
      refine tj_icmp_ne C 48 (by decide) dX6_least_36 (fun hc => ?_) (fun hc => ?_)
      · replace hf := hf.2 hc
        refine tj_aload_n C 0 rfl rfl dX6_least_48 ?_
        refine tj_aload_n C 0 rfl rfl dX6_least_49 ?_
        refine gf_X6_416 C hM dX6_least_50 ?_
        refine tj_callVi C (k := 0) [.int (gI S5 0 26)] [] (fun hN => c_M_gives (by rw [hN]; exact hM) hf) lk_X6_95 ty_X6_gives rfl (Nat.le_of_ble_eq_true rfl) (Nat.le_of_ble_eq_true rfl) (Nat.le_of_ble_eq_true rfl) hM rfl (by decide) rfl rfl dX6_least_53 (fun r7 S6 hf => ?_)
        exact r _ _ _ _ dX6_least_56 hf
      · replace hf := hf.1 hc
        refine tj_aload_n C 0 rfl rfl dX6_least_39 ?_
        refine tj_bipush C kb_6 dX6_least_40 ?_
        refine tj_callVi C (k := 0) [.int (nI 6)] [] (fun hN => c_M_refuse (by rw [hN]; exact hM) hf) lk_X6_91 ty_X6_refuse rfl (Nat.le_of_ble_eq_true rfl) (Nat.le_of_ble_eq_true rfl) (Nat.le_of_ble_eq_true rfl) hM rfl (by decide) rfl rfl dX6_least_42 (fun r9 S8 hf => ?_)
        refine tj_goto C 56 (by decide) dX6_least_45 ?_
        exact r _ _ _ _ dX6_least_56 hf
    · replace hf := hf.1 hc
      exact tj_sub [0] (w_M_least_b17 C hw hR r hM hf) rfl
theorem c_M_least {l : Launch} {G : tG} {ad : Nat → Nat} {A : Nat → Prop} {S : tS} {K : Int32 → tS → Prop} {a1 : Int32} {a2 : Int32} (hM : gN S 0 ≠ 0) (hf : M_least a1 a2 S K) : Met l yX6_least (ws_ yX6_least cX6_least 3 (some .int)) (tRm 6 145) (va_Pc [.ref (ad 0), .int a1, .int a2] (tPre G ad A S)) (va_Qi K (tB G ad A (gN S)) A) 0 0 A :=
  tj_met_i [(0, .ref (ad 0)), (1, .int a1), (2, .int a2)] pn_X6 rfl (Nat.le_of_ble_eq_true rfl) (fun p e R s m args below meth c Q C hw r => w_M_least_b0 C hw rfl r hM hf)
theorem w_M_leastBy_b71 {Γ : tX} {N0 : Nat → Nat} {K : Int32 → tS → Prop} (C : TC Γ cX6_leastBy RX6 6 145) (hw : tWf N0) (hR : xnL Γ = 4) (r : TRi Γ N0 cX6_leastBy K) {a1 : Int32} {a2 : Int32} {a3 : Int32} (hM : N0 0 ≠ 0) {s1 : Int32} {S : tS} (hf : M_leastBy_b71 a1 a2 a3 K s1 S) : TJ Γ N0 0 0 71 [] [.int s1, .ref (xad Γ 0)] S := by
  unfold M_leastBy_b71 at hf
  refine tj_callVi C (k := 0) [.int s1] [] (fun hN => c_M_gives (by rw [hN]; exact hM) hf) lk_X6_95 ty_X6_gives rfl (Nat.le_of_ble_eq_true rfl) (Nat.le_of_ble_eq_true rfl) (Nat.le_of_ble_eq_true rfl) hM rfl (by decide) rfl rfl dX6_leastBy_71 (fun r11 S10 hf => ?_)
  exact r _ _ _ _ dX6_leastBy_74 hf
theorem w_M_leastBy_b26 {Γ : tX} {N0 : Nat → Nat} {K : Int32 → tS → Prop} (C : TC Γ cX6_leastBy RX6 6 145) (hw : tWf N0) (hR : xnL Γ = 4) (r : TRi Γ N0 cX6_leastBy K) {a1 : Int32} {a2 : Int32} {a3 : Int32} (hM : N0 0 ≠ 0) {S : tS} (hf : M_leastBy_b26 a1 a2 a3 K  S) : TJ Γ N0 0 0 26 [(0, .ref (xad Γ 0))] [] S := by
  unfold M_leastBy_b26 at hf
  refine tj_aload_n C 0 rfl rfl dX6_leastBy_26 ?_
  refine tj_iconst C kc_1 dX6_leastBy_27 ?_
  refine tj_callVi C (k := 0) [.int (nI 1)] [] (fun hN => c_M_refuse (by rw [hN]; exact hM) hf) lk_X6_91 ty_X6_refuse rfl (Nat.le_of_ble_eq_true rfl) (Nat.le_of_ble_eq_true rfl) (Nat.le_of_ble_eq_true rfl) hM rfl (by decide) rfl rfl dX6_leastBy_28 (fun r9 S8 hf => ?_)
  exact r _ _ _ _ dX6_leastBy_31 hf
theorem w_M_leastBy_b0 {Γ : tX} {N0 : Nat → Nat} {K : Int32 → tS → Prop} (C : TC Γ cX6_leastBy RX6 6 145) (hw : tWf N0) (hR : xnL Γ = 4) (r : TRi Γ N0 cX6_leastBy K) {a1 : Int32} {a2 : Int32} {a3 : Int32} (hM : N0 0 ≠ 0) {S : tS} (hf : M_leastBy a1 a2 a3 S K) : TJ Γ N0 0 0 0 [(0, .ref (xad Γ 0)), (1, .int a1), (2, .int a2), (3, .int a3)] [] S := by
  unfold M_leastBy at hf
  refine tj_aload_n C 0 rfl rfl dX6_leastBy_0 ?_
  refine tj_iload_n C 1 rfl rfl dX6_leastBy_1 ?_
  refine tj_i2l C dX6_leastBy_2 ?_
  refine tj_callVz C (k := 0) [.long (a1.toInt64)] [] (fun hN => c_M_isPerson (by rw [hN]; exact hM) hf) lk_X6_305 ty_X6_isPerson rfl (Nat.le_of_ble_eq_true rfl) (Nat.le_of_ble_eq_true rfl) (Nat.le_of_ble_eq_true rfl) hM rfl (by decide) rfl rfl dX6_leastBy_3 (fun r2 S1 hf => ?_)
  have hz_r2 := hf.1
  replace hf := hf.2
  refine tj_if_eq C 26 (by decide) dX6_leastBy_6 (fun hc => ?_) (fun hc => ?_)
  · replace hf := hf.1 hc
    exact tj_sub [0] (w_M_leastBy_b26 C hw hR r hM hf) rfl
  · replace hf := hf.2 hc
    refine tj_aload_n C 0 rfl rfl dX6_leastBy_9 ?_
    refine tj_iload_n C 2 rfl rfl dX6_leastBy_10 ?_
    refine tj_callVz C (k := 0) [.int a2] [] (fun hN => c_M_isCue (by rw [hN]; exact hM) hf) lk_X6_293 ty_X6_isCue rfl (Nat.le_of_ble_eq_true rfl) (Nat.le_of_ble_eq_true rfl) (Nat.le_of_ble_eq_true rfl) hM rfl (by decide) rfl rfl dX6_leastBy_11 (fun r4 S3 hf => ?_)
    have hz_r4 := hf.1
    replace hf := hf.2
    refine tj_if_eq C 26 (by decide) dX6_leastBy_14 (fun hc => ?_) (fun hc => ?_)
    · replace hf := hf.1 hc
      exact tj_sub [0] (w_M_leastBy_b26 C hw hR r hM hf) rfl
    · replace hf := hf.2 hc
      refine tj_iload_n C 3 rfl rfl dX6_leastBy_17 ?_
      refine tj_if_lt C 26 (by decide) dX6_leastBy_18 (fun hc => ?_) (fun hc => ?_)
      · replace hf := hf.1 hc
        exact tj_sub [0] (w_M_leastBy_b26 C hw hR r hM hf) rfl
      · replace hf := hf.2 hc
        refine tj_iload_n C 3 rfl rfl dX6_leastBy_21 ?_
        refine tj_iconst C kc_1 dX6_leastBy_22 ?_
        refine tj_icmp_le C 32 (by decide) dX6_leastBy_23 (fun hc => ?_) (fun hc => ?_)
        · replace hf := hf.1 hc
          refine tj_aload_n C 0 rfl rfl dX6_leastBy_32 ?_
          refine tj_iload_n C 1 rfl rfl dX6_leastBy_33 ?_
          refine tj_iload_n C 2 rfl rfl dX6_leastBy_34 ?_
          refine tj_callVv C (k := 0) [.int a1, .int a2] [] (fun hN => c_M_laysLeast (by rw [hN]; exact hM) hf) lk_X6_425 ty_X6_laysLeast rfl (Nat.le_of_ble_eq_true rfl) (Nat.le_of_ble_eq_true rfl) (Nat.le_of_ble_eq_true rfl) hM rfl (by decide) rfl rfl dX6_leastBy_35 (fun S5 hf => ?_)
          refine tj_aload_n C 0 rfl rfl dX6_leastBy_38 ?_
          refine gf_X6_416 C hM dX6_leastBy_39 ?_
          refine tj_ldcw C kl_X6_412 dX6_leastBy_42 ?_
          refine tj_icmp_ne C 55 (by decide) dX6_leastBy_45 (fun hc => ?_) (fun hc => ?_)
          · replace hf := hf.2 hc
            refine tj_aload_n C 0 rfl rfl dX6_leastBy_55 ?_
            refine tj_iload_n C 3 rfl rfl dX6_leastBy_56 ?_
            refine tj_if_ne C 67 (by decide) dX6_leastBy_57 (fun hc => ?_) (fun hc => ?_)
            · replace hf := hf.2 hc
              refine tj_aload_n C 0 rfl rfl dX6_leastBy_67 ?_
              refine gf_X6_422 C hM dX6_leastBy_68 ?_
              exact tj_sub [] (w_M_leastBy_b71 C hw hR r hM hf) rfl
            · replace hf := hf.1 hc
              refine tj_aload_n C 0 rfl rfl dX6_leastBy_60 ?_
              refine gf_X6_419 C hM dX6_leastBy_61 ?_
              refine tj_goto C 71 (by decide) dX6_leastBy_64 ?_
              exact tj_sub [] (w_M_leastBy_b71 C hw hR r hM hf) rfl
          · replace hf := hf.1 hc
            refine tj_aload_n C 0 rfl rfl dX6_leastBy_48 ?_
            refine tj_bipush C kb_6 dX6_leastBy_49 ?_
            refine tj_callVi C (k := 0) [.int (nI 6)] [] (fun hN => c_M_refuse (by rw [hN]; exact hM) hf) lk_X6_91 ty_X6_refuse rfl (Nat.le_of_ble_eq_true rfl) (Nat.le_of_ble_eq_true rfl) (Nat.le_of_ble_eq_true rfl) hM rfl (by decide) rfl rfl dX6_leastBy_51 (fun r7 S6 hf => ?_)
            exact r _ _ _ _ dX6_leastBy_54 hf
        · replace hf := hf.2 hc
          exact tj_sub [0] (w_M_leastBy_b26 C hw hR r hM hf) rfl
theorem c_M_leastBy {l : Launch} {G : tG} {ad : Nat → Nat} {A : Nat → Prop} {S : tS} {K : Int32 → tS → Prop} {a1 : Int32} {a2 : Int32} {a3 : Int32} (hM : gN S 0 ≠ 0) (hf : M_leastBy a1 a2 a3 S K) : Met l yX6_leastBy (ws_ yX6_leastBy cX6_leastBy 4 (some .int)) (tRm 6 145) (va_Pc [.ref (ad 0), .int a1, .int a2, .int a3] (tPre G ad A S)) (va_Qi K (tB G ad A (gN S)) A) 0 0 A :=
  tj_met_i [(0, .ref (ad 0)), (1, .int a1), (2, .int a2), (3, .int a3)] pn_X6 rfl (Nat.le_of_ble_eq_true rfl) (fun p e R s m args below meth c Q C hw r => w_M_leastBy_b0 C hw rfl r hM hf)
theorem w_M_lives_b178 {Γ : tX} {N0 : Nat → Nat} {K : tS → Prop} (C : TC Γ cX6_lives RX6 10 230) (hw : tWf N0) (hR : xnL Γ = 4) (r : TRv Γ N0 cX6_lives K) {a1 : Int32} (hM : N0 0 ≠ 0) {κ32 : Int32 → tS → Prop} (hκ32 : ∀ (a2 : Int32) (S : tS), κ32 a2 S → TJ Γ N0 0 0 32 [(0, .ref (xad Γ 0)), (2, .int a2)] [] S) {s1 : Int32} {S : tS} (hf : M_lives_b178 a1 K κ32 s1 S) : TJ Γ N0 0 0 178 [(0, .ref (xad Γ 0))] [.int s1, .ref (xad Γ 0)] S := by
  unfold M_lives_b178 at hf
  refine tj_callVi C (k := 0) [.int s1] [] (fun hN => c_M_behindEnds (by rw [hN]; exact hM) hf) lk_X6_503 ty_X6_behindEnds rfl (Nat.le_of_ble_eq_true rfl) (Nat.le_of_ble_eq_true rfl) (Nat.le_of_ble_eq_true rfl) hM rfl (by decide) rfl rfl dX6_lives_178 (fun r15 S14 hf => ?_)
  refine tj_istore_n C (by rw [hR]; decide) [(2, .int r15), (0, .ref (xad Γ 0))] rfl rfl dX6_lives_181 ?_
  refine tj_goto C 32 (by decide) dX6_lives_182 ?_
  exact tj_sub [1, 0] (hκ32 _ _ hf) rfl
theorem w_M_lives_b175 {Γ : tX} {N0 : Nat → Nat} {K : tS → Prop} (C : TC Γ cX6_lives RX6 10 230) (hw : tWf N0) (hR : xnL Γ = 4) (r : TRv Γ N0 cX6_lives K) {a1 : Int32} (hM : N0 0 ≠ 0) {κ32 : Int32 → tS → Prop} (hκ32 : ∀ (a2 : Int32) (S : tS), κ32 a2 S → TJ Γ N0 0 0 32 [(0, .ref (xad Γ 0)), (2, .int a2)] [] S) {a2 : Int32} {S : tS} (hf : M_lives_b175 a1 K κ32 a2 S) : TJ Γ N0 0 0 175 [(0, .ref (xad Γ 0)), (2, .int a2)] [.ref (xad Γ 0)] S := by
  unfold M_lives_b175 at hf
  refine tj_iload_n C 1 rfl rfl dX6_lives_175 ?_
  refine tj_iconst C kc_1 dX6_lives_176 ?_
  refine tj_iadd C dX6_lives_177 ?_
  exact tj_sub [0] (w_M_lives_b178 C hw hR r hM hκ32 hf) rfl
theorem w_M_lives_b141 {Γ : tX} {N0 : Nat → Nat} {K : tS → Prop} (C : TC Γ cX6_lives RX6 10 230) (hw : tWf N0) (hR : xnL Γ = 4) (r : TRv Γ N0 cX6_lives K) {a1 : Int32} (hM : N0 0 ≠ 0) {κ32 : Int32 → tS → Prop} (hκ32 : ∀ (a2 : Int32) (S : tS), κ32 a2 S → TJ Γ N0 0 0 32 [(0, .ref (xad Γ 0)), (2, .int a2)] [] S) {a2 : Int32} {a3 : Int32} {S : tS} (hf : M_lives_b141 a1 K κ32 a2 a3 S) : TJ Γ N0 0 0 141 [(0, .ref (xad Γ 0)), (2, .int a2), (3, .int a3)] [] S := by
  unfold M_lives_b141 at hf
  refine tj_aload_n C 0 rfl rfl dX6_lives_141 ?_
  refine tj_aload_n C 0 rfl rfl dX6_lives_142 ?_
  refine gf_X6_7 C hM dX6_lives_143 ?_
  refine tj_iload_n C 2 rfl rfl dX6_lives_146 ?_
  refine tj_iald C 48 3548 rfl (ln_48 hw hM) _ rfl hf.1 dX6_lives_147 ?_
  replace hf := hf.2
  refine tj_sipush C ks_2200 dX6_lives_148 ?_
  refine tj_icmp_lt C 175 (by decide) dX6_lives_151 (fun hc => ?_) (fun hc => ?_)
  · replace hf := hf.1 hc
    exact tj_sub [0, 1] (w_M_lives_b175 C hw hR r hM hκ32 hf) rfl
  · replace hf := hf.2 hc
    refine tj_aload_n C 0 rfl rfl dX6_lives_154 ?_
    refine tj_iload_n C 2 rfl rfl dX6_lives_155 ?_
    refine tj_callVz C (k := 0) [.int a3] [.ref (xad Γ 0)] (fun hN => c_M_holds (by rw [hN]; exact hM) hf) lk_X6_500 ty_X6_holds rfl (Nat.le_of_ble_eq_true rfl) (Nat.le_of_ble_eq_true rfl) (Nat.le_of_ble_eq_true rfl) hM rfl (by decide) rfl rfl dX6_lives_156 (fun r13 S12 hf => ?_)
    have hz_r13 := hf.1
    replace hf := hf.2
    refine tj_if_ne C 175 (by decide) dX6_lives_159 (fun hc => ?_) (fun hc => ?_)
    · replace hf := hf.2 hc
      exact tj_sub [0, 1] (w_M_lives_b175 C hw hR r hM hκ32 hf) rfl
    · replace hf := hf.1 hc
      refine tj_aload_n C 0 rfl rfl dX6_lives_162 ?_
      refine gf_X6_7 C hM dX6_lives_163 ?_
      refine tj_iload_n C 2 rfl rfl dX6_lives_166 ?_
      refine tj_iconst C kc_4 dX6_lives_167 ?_
      refine tj_iadd C dX6_lives_168 ?_
      refine tj_iald C 48 3548 rfl (ln_48 hw hM) _ rfl hf.1 dX6_lives_169 ?_
      replace hf := hf.2
      refine tj_iconst C kc_1 dX6_lives_170 ?_
      refine tj_iadd C dX6_lives_171 ?_
      refine tj_goto C 178 (by decide) dX6_lives_172 ?_
      exact tj_sub [0] (w_M_lives_b178 C hw hR r hM hκ32 hf) rfl
theorem w_M_lives_b112 {Γ : tX} {N0 : Nat → Nat} {K : tS → Prop} (C : TC Γ cX6_lives RX6 10 230) (hw : tWf N0) (hR : xnL Γ = 4) (r : TRv Γ N0 cX6_lives K) {a1 : Int32} (hM : N0 0 ≠ 0) {κ32 : Int32 → tS → Prop} (hκ32 : ∀ (a2 : Int32) (S : tS), κ32 a2 S → TJ Γ N0 0 0 32 [(0, .ref (xad Γ 0)), (2, .int a2)] [] S) {a2 : Int32} {a3 : Int32} {s1 : Int32} {s2 : Int32} {s3 : Int32} {S : tS} (hf : M_lives_b112 a1 K κ32 a2 a3 s1 s2 s3 S) : TJ Γ N0 0 0 112 [(0, .ref (xad Γ 0)), (2, .int a2), (3, .int a3)] [.int s3, .int s2, .int s1, .ref (xad Γ 592)] S := by
  unfold M_lives_b112 at hf
  refine tj_iadd C dX6_lives_112 ?_
  refine tj_iast C 592 5 rfl (ln_592 hw hM) _ rfl hf.1 dX6_lives_113 ?_
  replace hf := hf.2
  refine tj_topS (fun S10 eS => ?_)
  replace hf := hf S10 eS
  refine tj_aload_n C 0 rfl rfl dX6_lives_114 ?_
  refine gf_X6_7 C hM dX6_lives_115 ?_
  refine tj_iload_n C 2 rfl rfl dX6_lives_118 ?_
  refine tj_iald C 48 3548 rfl (ln_48 hw hM) _ rfl hf.1 dX6_lives_119 ?_
  replace hf := hf.2
  refine tj_bipush C kb_23 dX6_lives_120 ?_
  refine tj_icmp_ne C 141 (by decide) dX6_lives_122 (fun hc => ?_) (fun hc => ?_)
  · replace hf := hf.2 hc
    exact w_M_lives_b141 C hw hR r hM hκ32 hf
  · replace hf := hf.1 hc
    refine tj_aload_n C 0 rfl rfl dX6_lives_125 ?_
    refine gf_X6_72 C hM dX6_lives_126 ?_
    refine tj_iload_n C 1 rfl rfl dX6_lives_129 ?_
    refine tj_aload_n C 0 rfl rfl dX6_lives_130 ?_
    refine gf_X6_7 C hM dX6_lives_131 ?_
    refine tj_iload_n C 2 rfl rfl dX6_lives_134 ?_
    refine tj_iconst C kc_1 dX6_lives_135 ?_
    refine tj_iadd C dX6_lives_136 ?_
    refine tj_iald C 48 3548 rfl (ln_48 hw hM) _ rfl hf.1 dX6_lives_137 ?_
    replace hf := hf.2
    refine tj_iconst C kc_1 dX6_lives_138 ?_
    refine tj_isub C dX6_lives_139 ?_
    refine tj_iast C 560 80 rfl (ln_560 hw hM) _ rfl hf.1 dX6_lives_140 ?_
    replace hf := hf.2
    refine tj_topS (fun S11 eS => ?_)
    replace hf := hf S11 eS
    exact w_M_lives_b141 C hw hR r hM hκ32 hf
theorem w_M_lives_l32 {Γ : tX} {N0 : Nat → Nat} {K : tS → Prop} (C : TC Γ cX6_lives RX6 10 230) (hw : tWf N0) (hR : xnL Γ = 4) (r : TRv Γ N0 cX6_lives K) {a1 : Int32} (hM : N0 0 ≠ 0) : ∀ (n : Nat) (a2 : Int32) (S : tS), M_lives_l32 a1 K n a2 S → TJ Γ N0 0 0 32 [(0, .ref (xad Γ 0)), (2, .int a2)] [] S := by
  intro n
  induction n with
  | zero => intro a2 S hf; exact hf.elim
  | succ n ih =>
    intro a2 S hf
    unfold M_lives_l32 at hf
    refine tj_iload_n C 1 rfl rfl dX6_lives_32 ?_
    refine tj_aload_n C 0 rfl rfl dX6_lives_33 ?_
    refine gf_X6_7 C hM dX6_lives_34 ?_
    refine tj_bipush C kb_8 dX6_lives_37 ?_
    refine tj_iald C 48 3548 rfl (ln_48 hw hM) 8 kn_8 (vp_in_nI (by decide) (by decide)) dX6_lives_39 ?_
    refine tj_icmp_ge C 185 (by decide) dX6_lives_40 (fun hc => ?_) (fun hc => ?_)
    · replace hf := hf.1 hc
      exact r _ _ _ dX6_lives_185 hf
    · replace hf := hf.2 hc
      refine tj_aload_n C 0 rfl rfl dX6_lives_43 ?_
      refine gf_X6_494 C hM dX6_lives_44 ?_
      refine tj_sipush C ks_300 dX6_lives_47 ?_
      refine tj_icmp_ne C 61 (by decide) dX6_lives_50 (fun hc => ?_) (fun hc => ?_)
      · replace hf := hf.2 hc
        refine tj_sipush C ks_134 dX6_lives_61 ?_
        refine tj_bipush C kb_6 dX6_lives_64 ?_
        refine tj_iload_n C 1 rfl rfl dX6_lives_66 ?_
        refine tj_imul C dX6_lives_67 ?_
        refine tj_iadd C dX6_lives_68 ?_
        refine tj_topi (fun x5 ex => ?_)
        replace hf := hf x5 ex
        refine tj_istore_n C (by rw [hR]; decide) [(3, .int x5), (0, .ref (xad Γ 0)), (2, .int a2)] rfl rfl dX6_lives_69 ?_
        refine tj_aload_n C 1 rfl rfl dX6_lives_70 ?_
        refine tj_dup C rfl dX6_lives_71 ?_
        refine gf_X6_494 C hM dX6_lives_72 ?_
        refine tj_iconst C kc_1 dX6_lives_75 ?_
        refine tj_iadd C dX6_lives_76 ?_
        refine pf_X6_494 C hM dX6_lives_77 ?_
        refine tj_topS (fun S6 eS => ?_)
        replace hf := hf S6 eS
        refine tj_aload_n C 1 rfl rfl dX6_lives_80 ?_
        refine gf_X6_7 C hM dX6_lives_81 ?_
        refine tj_iload_n C 0 rfl rfl dX6_lives_84 ?_
        refine tj_iald C 48 3548 rfl (ln_48 hw hM) _ rfl hf.1 dX6_lives_85 ?_
        replace hf := hf.2
        refine tj_bipush C kb_25 dX6_lives_86 ?_
        refine tj_icmp_ne C 92 (by decide) dX6_lives_88 (fun hc => ?_) (fun hc => ?_)
        · replace hf := hf.2 hc
          refine tj_aload_n C 1 rfl rfl dX6_lives_92 ?_
          refine gf_X6_75 C hM dX6_lives_93 ?_
          refine tj_iconst C kc_0 dX6_lives_96 ?_
          refine tj_dup2 C rfl rfl dX6_lives_97 ?_
          refine tj_iald C 592 5 rfl (ln_592 hw hM) 0 kn_0 (vp_in_nI (by decide) (by decide)) dX6_lives_98 ?_
          refine tj_aload_n C 1 rfl rfl dX6_lives_99 ?_
          refine tj_iload_n C 0 rfl rfl dX6_lives_100 ?_
          refine tj_callVz C (k := 0) [.int x5] [.int (gI S6 592 0), .int (nI 0), .ref (xad Γ 592)] (fun hN => c_M_does (by rw [hN]; exact hM) hf) lk_X6_497 ty_X6_does rfl (Nat.le_of_ble_eq_true rfl) (Nat.le_of_ble_eq_true rfl) (Nat.le_of_ble_eq_true rfl) hM rfl (by decide) rfl rfl dX6_lives_101 (fun r8 S7 hf => ?_)
          have hz_r8 := hf.1
          replace hf := hf.2
          refine tj_if_eq C 111 (by decide) dX6_lives_104 (fun hc => ?_) (fun hc => ?_)
          · replace hf := hf.1 hc
            refine tj_iconst C kc_1 dX6_lives_111 ?_
            exact tj_sub [1, 2, 0] (w_M_lives_b112 C hw hR r hM ih hf) rfl
          · replace hf := hf.2 hc
            refine tj_iconst C kc_0 dX6_lives_107 ?_
            refine tj_goto C 112 (by decide) dX6_lives_108 ?_
            exact tj_sub [1, 2, 0] (w_M_lives_b112 C hw hR r hM ih hf) rfl
        · replace hf := hf.1 hc
          exact r _ _ _ dX6_lives_91 hf
      · replace hf := hf.1 hc
        refine tj_aload_n C 0 rfl rfl dX6_lives_53 ?_
        refine gf_X6_75 C hM dX6_lives_54 ?_
        refine tj_iconst C kc_4 dX6_lives_57 ?_
        refine tj_iconst C kc_1 dX6_lives_58 ?_
        refine tj_iast C 592 5 rfl (ln_592 hw hM) 4 kn_4 (vp_in_nI (by decide) (by decide)) dX6_lives_59 ?_
        refine tj_topS (fun S9 eS => ?_)
        replace hf := hf S9 eS
        exact r _ _ _ dX6_lives_60 hf
theorem w_M_lives_l12 {Γ : tX} {N0 : Nat → Nat} {K : tS → Prop} (C : TC Γ cX6_lives RX6 10 230) (hw : tWf N0) (hR : xnL Γ = 4) (r : TRv Γ N0 cX6_lives K) {a1 : Int32} (hM : N0 0 ≠ 0) : ∀ (n : Nat) (a2 : Int32) (S : tS), M_lives_l12 a1 K n a2 S → TJ Γ N0 0 0 12 [(0, .ref (xad Γ 0)), (2, .int a2)] [] S := by
  intro n
  induction n with
  | zero => intro a2 S hf; exact hf.elim
  | succ n ih =>
    intro a2 S hf
    unfold M_lives_l12 at hf
    refine tj_iload_n C 1 rfl rfl dX6_lives_12 ?_
    refine tj_iconst C kc_5 dX6_lives_13 ?_
    refine tj_icmp_ge C 30 (by decide) dX6_lives_14 (fun hc => ?_) (fun hc => ?_)
    · replace hf := hf.1 hc
      refine tj_iconst C kc_0 dX6_lives_30 ?_
      refine tj_istore_n C (by rw [hR]; decide) [(2, .int (nI 0)), (0, .ref (xad Γ 0))] rfl rfl dX6_lives_31 ?_
      exact tj_sub [1, 0] (hf.elim fun k hf => w_M_lives_l32 C hw hR r hM k _ _ hf) rfl
    · replace hf := hf.2 hc
      refine tj_aload_n C 0 rfl rfl dX6_lives_17 ?_
      refine gf_X6_75 C hM dX6_lives_18 ?_
      refine tj_iload_n C 1 rfl rfl dX6_lives_21 ?_
      refine tj_iconst C kc_0 dX6_lives_22 ?_
      refine tj_iast C 592 5 rfl (ln_592 hw hM) _ rfl hf.1 dX6_lives_23 ?_
      replace hf := hf.2
      refine tj_topS (fun S3 eS => ?_)
      replace hf := hf S3 eS
      obtain ⟨x4, ex⟩ : ∃ y : Int32, y = a2 + nI 1 := ⟨_, rfl⟩
      refine tj_iinc C (by rw [hR]; decide) 1 [(2, .int x4), (0, .ref (xad Γ 0))] rfl (by rw [ex]; exact ki_1 _) rfl dX6_lives_24 ?_
      replace hf := hf x4 ex
      refine tj_goto C 12 (by decide) dX6_lives_27 ?_
      exact tj_sub [1, 0] (ih _ _ hf) rfl
theorem w_M_lives_b0 {Γ : tX} {N0 : Nat → Nat} {K : tS → Prop} (C : TC Γ cX6_lives RX6 10 230) (hw : tWf N0) (hR : xnL Γ = 4) (r : TRv Γ N0 cX6_lives K) {a1 : Int32} (hM : N0 0 ≠ 0) {S : tS} (hf : M_lives a1 S K) : TJ Γ N0 0 0 0 [(0, .ref (xad Γ 0)), (1, .int a1)] [] S := by
  unfold M_lives at hf
  refine tj_aload_n C 0 rfl rfl dX6_lives_0 ?_
  refine tj_iload_n C 1 rfl rfl dX6_lives_1 ?_
  refine pf_X6_478 C hM dX6_lives_2 ?_
  refine tj_topS (fun S1 eS => ?_)
  replace hf := hf S1 eS
  refine tj_aload_n C 0 rfl rfl dX6_lives_5 ?_
  refine tj_iconst C kc_0 dX6_lives_6 ?_
  refine pf_X6_494 C hM dX6_lives_7 ?_
  refine tj_topS (fun S2 eS => ?_)
  replace hf := hf S2 eS
  refine tj_iconst C kc_0 dX6_lives_10 ?_
  refine tj_istore_n C (by rw [hR]; decide) [(2, .int (nI 0)), (0, .ref (xad Γ 0)), (1, .int a1)] rfl rfl dX6_lives_11 ?_
  exact tj_sub [1, 0] (hf.elim fun k hf => w_M_lives_l12 C hw hR r hM k _ _ hf) rfl
theorem c_M_lives {l : Launch} {G : tG} {ad : Nat → Nat} {A : Nat → Prop} {S : tS} {K : tS → Prop} {a1 : Int32} (hM : gN S 0 ≠ 0) (hf : M_lives a1 S K) : Met l yX6_lives (ws_ yX6_lives cX6_lives 4 (none)) (tRm 10 230) (va_Pc [.ref (ad 0), .int a1] (tPre G ad A S)) (va_Qv K (tB G ad A (gN S)) A) 0 0 A :=
  tj_met_v [(0, .ref (ad 0)), (1, .int a1)] pn_X6 rfl (Nat.le_of_ble_eq_true rfl) (fun p e R s m args below meth c Q C hw r => w_M_lives_b0 C hw rfl r hM hf)
