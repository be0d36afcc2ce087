set_option maxRecDepth 100000
theorem w_M_oldOne_b0 {Γ : tX} {N0 : Nat → Nat} {K : Int32 → tS → Prop} (C : TC Γ cX6_oldOne RX6 6 132) (hw : tWf N0) (hR : xnL Γ = 4) (r : TRz Γ N0 cX6_oldOne K) {a1 : Int32} {a2 : Int32} {a3 : Int32} (hM : N0 0 ≠ 0) {S : tS} (hf : M_oldOne a1 a2 a3 S K) : TJ Γ N0 0 0 0 [(0, .ref (xad Γ 0)), (1, .int a1), (2, .int a2), (3, .int a3)] [] S := by
  unfold M_oldOne at hf
  refine tj_aload_n C 0 rfl rfl dX6_oldOne_0 ?_
  refine tj_ldcS C 0 rfl dX6_oldOne_1 ?_
  refine tj_callVz C (k := 0) [.ref (xK Γ 0)] [] (fun hN => c_M_isName (by rw [hN]; exact hM) (by decide) hf) lk_X6_193 ty_X6_isName rfl (Nat.le_of_ble_eq_true rfl) (Nat.le_of_ble_eq_true rfl) (Nat.le_of_ble_eq_true rfl) hM rfl (by decide) rfl rfl dX6_oldOne_3 (fun r2 S1 hf => ?_)
  have hz_r2 := hf.1
  replace hf := hf.2
  refine tj_if_ne C 15 (by decide) dX6_oldOne_6 (fun hc => ?_) (fun hc => ?_)
  · replace hf := hf.2 hc
    refine tj_aload_n C 0 rfl rfl dX6_oldOne_15 ?_
    refine gf_X6_7 C hM dX6_oldOne_16 ?_
    refine tj_iload_n C 3 rfl rfl dX6_oldOne_19 ?_
    refine tj_aload_n C 0 rfl rfl dX6_oldOne_20 ?_
    refine tj_iload_n C 1 rfl rfl dX6_oldOne_21 ?_
    refine tj_iload_n C 2 rfl rfl dX6_oldOne_22 ?_
    refine tj_callVi C (k := 0) [.int a1, .int a2] [.int a3, .ref (xad Γ 48)] (fun hN => c_M_findHere (by rw [hN]; exact hM) hf) lk_X6_186 ty_X6_findHere rfl (Nat.le_of_ble_eq_true rfl) (Nat.le_of_ble_eq_true rfl) (Nat.le_of_ble_eq_true rfl) hM rfl (by decide) rfl rfl dX6_oldOne_23 (fun r4 S3 hf => ?_)
    refine tj_iast C 48 3548 rfl (ln_48 hw hM) _ rfl hf.1 dX6_oldOne_26 ?_
    replace hf := hf.2
    refine tj_topS (fun S5 eS => ?_)
    replace hf := hf S5 eS
    refine tj_aload_n C 0 rfl rfl dX6_oldOne_27 ?_
    refine gf_X6_7 C hM dX6_oldOne_28 ?_
    refine tj_iload_n C 3 rfl rfl dX6_oldOne_31 ?_
    refine tj_iald C 48 3548 rfl (ln_48 hw hM) _ rfl hf.1 dX6_oldOne_32 ?_
    replace hf := hf.2
    refine tj_iconst C kc_m1 dX6_oldOne_33 ?_
    refine tj_icmp_ne C 43 (by decide) dX6_oldOne_34 (fun hc => ?_) (fun hc => ?_)
    · replace hf := hf.2 hc
      refine tj_aload_n C 0 rfl rfl dX6_oldOne_43 ?_
      refine tj_callVv C (k := 0) [] [] (fun hN => c_M_ahead (by rw [hN]; exact hM) hf) lk_X6_167 ty_X6_ahead rfl (Nat.le_of_ble_eq_true rfl) (Nat.le_of_ble_eq_true rfl) (Nat.le_of_ble_eq_true rfl) hM rfl (by decide) rfl rfl dX6_oldOne_44 (fun S6 hf => ?_)
      refine tj_iconst C kc_1 dX6_oldOne_47 ?_
      exact r _ _ _ _ dX6_oldOne_48 zb1 hf
    · replace hf := hf.1 hc
      refine tj_aload_n C 0 rfl rfl dX6_oldOne_37 ?_
      refine tj_iconst C kc_3 dX6_oldOne_38 ?_
      refine tj_callVz C (k := 0) [.int (nI 3)] [] (fun hN => c_M_fails (by rw [hN]; exact hM) hf) lk_X6_173 ty_X6_fails rfl (Nat.le_of_ble_eq_true rfl) (Nat.le_of_ble_eq_true rfl) (Nat.le_of_ble_eq_true rfl) hM rfl (by decide) rfl rfl dX6_oldOne_39 (fun r8 S7 hf => ?_)
      have hz_r8 := hf.1
      replace hf := hf.2
      exact r _ _ _ _ dX6_oldOne_42 hz_r8 hf
  · replace hf := hf.1 hc
    refine tj_aload_n C 0 rfl rfl dX6_oldOne_9 ?_
    refine tj_iconst C kc_2 dX6_oldOne_10 ?_
    refine tj_callVz C (k := 0) [.int (nI 2)] [] (fun hN => c_M_fails (by rw [hN]; exact hM) hf) lk_X6_173 ty_X6_fails rfl (Nat.le_of_ble_eq_true rfl) (Nat.le_of_ble_eq_true rfl) (Nat.le_of_ble_eq_true rfl) hM rfl (by decide) rfl rfl dX6_oldOne_11 (fun r10 S9 hf => ?_)
    have hz_r10 := hf.1
    replace hf := hf.2
    exact r _ _ _ _ dX6_oldOne_14 hz_r10 hf
theorem c_M_oldOne {l : Launch} {G : tG} {ad : Nat → Nat} {A : Nat → Prop} {S : tS} {K : Int32 → tS → Prop} {a1 : Int32} {a2 : Int32} {a3 : Int32} (hM : gN S 0 ≠ 0) (hf : M_oldOne a1 a2 a3 S K) : Met l yX6_oldOne (ws_ yX6_oldOne cX6_oldOne 4 (some .boolean)) (tRm 6 132) (va_Pc [.ref (ad 0), .int a1, .int a2, .int a3] (tPre G ad A S)) (va_Qi (fun r u => r &&& 1 = r ∧ K r u) (tB G ad A (gN S)) A) 0 0 A :=
  tj_met_z [(0, .ref (ad 0)), (1, .int a1), (2, .int a2), (3, .int a3)] pn_X6 rfl (Nat.le_of_ble_eq_true rfl) (fun p e R s m args below meth c Q C hw r => w_M_oldOne_b0 C hw rfl r hM hf)
theorem w_M_isSign_b0 {Γ : tX} {N0 : Nat → Nat} {K : Int32 → tS → Prop} (C : TC Γ cX6_isSign RX6 0 0) (hw : tWf N0) (hR : xnL Γ = 2) (r : TRz Γ N0 cX6_isSign K) {a1 : Int32} (hM : N0 0 ≠ 0) {S : tS} (hf : M_isSign a1 S K) : TJ Γ N0 0 0 0 [(0, .ref (xad Γ 0)), (1, .int a1)] [] S := by
  unfold M_isSign at hf
  refine tj_aload_n C 0 rfl rfl dX6_isSign_0 ?_
  refine gf_X6_136 C hM dX6_isSign_1 ?_
  refine tj_iconst C kc_4 dX6_isSign_4 ?_
  refine tj_icmp_ne C 20 (by decide) dX6_isSign_5 (fun hc => ?_) (fun hc => ?_)
  · replace hf := hf.2 hc
    refine tj_iconst C kc_0 dX6_isSign_20 ?_
    exact r _ _ _ _ dX6_isSign_21 zb0 hf
  · replace hf := hf.1 hc
    refine tj_aload_n C 0 rfl rfl dX6_isSign_8 ?_
    refine gf_X6_133 C hM dX6_isSign_9 ?_
    refine tj_iload_n C 1 rfl rfl dX6_isSign_12 ?_
    refine tj_icmp_ne C 20 (by decide) dX6_isSign_13 (fun hc => ?_) (fun hc => ?_)
    · replace hf := hf.2 hc
      refine tj_iconst C kc_0 dX6_isSign_20 ?_
      exact r _ _ _ _ dX6_isSign_21 zb0 hf
    · replace hf := hf.1 hc
      refine tj_iconst C kc_1 dX6_isSign_16 ?_
      refine tj_goto C 21 (by decide) dX6_isSign_17 ?_
      exact r _ _ _ _ dX6_isSign_21 zb1 hf
theorem c_M_isSign {l : Launch} {G : tG} {ad : Nat → Nat} {A : Nat → Prop} {S : tS} {K : Int32 → tS → Prop} {a1 : Int32} (hM : gN S 0 ≠ 0) (hf : M_isSign a1 S K) : Met l yX6_isSign (ws_ yX6_isSign cX6_isSign 2 (some .boolean)) (tRm 0 0) (va_Pc [.ref (ad 0), .int a1] (tPre G ad A S)) (va_Qi (fun r u => r &&& 1 = r ∧ K r u) (tB G ad A (gN S)) A) 0 0 A :=
  tj_met_z [(0, .ref (ad 0)), (1, .int a1)] pn_X6 rfl (Nat.le_of_ble_eq_true rfl) (fun p e R s m args below meth c Q C hw r => w_M_isSign_b0 C hw rfl r hM hf)
theorem w_M_against_b50 {Γ : tX} {N0 : Nat → Nat} {K : Int32 → tS → Prop} (C : TC Γ cX6_against RX6 6 132) (hw : tWf N0) (hR : xnL Γ = 4) (r : TRz Γ N0 cX6_against K) {a1 : Int32} {a2 : Int32} {a3 : Int32} (hM : N0 0 ≠ 0) {S : tS} (hf : M_against_b50 a1 a2 a3 K  S) : TJ Γ N0 0 0 50 [(0, .ref (xad Γ 0)), (2, .int a2), (3, .int a3)] [] S := by
  unfold M_against_b50 at hf
  refine tj_aload_n C 0 rfl rfl dX6_against_50 ?_
  refine gf_X6_7 C hM dX6_against_51 ?_
  refine tj_iload_n C 1 rfl rfl dX6_against_54 ?_
  refine tj_aload_n C 0 rfl rfl dX6_against_55 ?_
  refine gf_X6_133 C hM dX6_against_56 ?_
  refine tj_iast C 48 3548 rfl (ln_48 hw hM) _ rfl hf.1 dX6_against_59 ?_
  replace hf := hf.2
  refine tj_topS (fun S12 eS => ?_)
  replace hf := hf S12 eS
  refine tj_aload_n C 0 rfl rfl dX6_against_60 ?_
  refine tj_callVv C (k := 0) [] [] (fun hN => c_M_ahead (by rw [hN]; exact hM) hf) lk_X6_167 ty_X6_ahead rfl (Nat.le_of_ble_eq_true rfl) (Nat.le_of_ble_eq_true rfl) (Nat.le_of_ble_eq_true rfl) hM rfl (by decide) rfl rfl dX6_against_61 (fun S13 hf => ?_)
  refine tj_aload_n C 0 rfl rfl dX6_against_64 ?_
  refine tj_iload_n C 1 rfl rfl dX6_against_65 ?_
  refine tj_iconst C kc_1 dX6_against_66 ?_
  refine tj_iadd C dX6_against_67 ?_
  refine tj_iconst C kc_0 dX6_against_68 ?_
  refine tj_iload_n C 2 rfl rfl dX6_against_69 ?_
  refine tj_callVz C (k := 0) [.int (a2 + (nI 1)), .int (nI 0), .int a3] [] (fun hN => c_M_number (by rw [hN]; exact hM) hf) lk_X6_212 ty_X6_number rfl (Nat.le_of_ble_eq_true rfl) (Nat.le_of_ble_eq_true rfl) (Nat.le_of_ble_eq_true rfl) hM rfl (by decide) rfl rfl dX6_against_70 (fun r15 S14 hf => ?_)
  have hz_r15 := hf.1
  replace hf := hf.2
  exact r _ _ _ _ dX6_against_73 hz_r15 hf
theorem w_M_against_b0 {Γ : tX} {N0 : Nat → Nat} {K : Int32 → tS → Prop} (C : TC Γ cX6_against RX6 6 132) (hw : tWf N0) (hR : xnL Γ = 4) (r : TRz Γ N0 cX6_against K) {a1 : Int32} {a2 : Int32} {a3 : Int32} (hM : N0 0 ≠ 0) {S : tS} (hf : M_against a1 a2 a3 S K) : TJ Γ N0 0 0 0 [(0, .ref (xad Γ 0)), (1, .int a1), (2, .int a2), (3, .int a3)] [] S := by
  unfold M_against at hf
  refine tj_aload_n C 0 rfl rfl dX6_against_0 ?_
  refine gf_X6_7 C hM dX6_against_1 ?_
  refine tj_iload_n C 2 rfl rfl dX6_against_4 ?_
  refine tj_iconst C kc_0 dX6_against_5 ?_
  refine tj_iast C 48 3548 rfl (ln_48 hw hM) _ rfl hf.1 dX6_against_6 ?_
  replace hf := hf.2
  refine tj_topS (fun S1 eS => ?_)
  replace hf := hf S1 eS
  refine tj_aload_n C 0 rfl rfl dX6_against_7 ?_
  refine tj_iload_n C 1 rfl rfl dX6_against_8 ?_
  refine tj_callVz C (k := 0) [.int a1] [] (fun hN => c_M_isThere (by rw [hN]; exact hM) hf) lk_X6_209 ty_X6_isThere rfl (Nat.le_of_ble_eq_true rfl) (Nat.le_of_ble_eq_true rfl) (Nat.le_of_ble_eq_true rfl) hM rfl (by decide) rfl rfl dX6_against_9 (fun r3 S2 hf => ?_)
  have hz_r3 := hf.1
  replace hf := hf.2
  refine tj_if_ne C 17 (by decide) dX6_against_12 (fun hc => ?_) (fun hc => ?_)
  · replace hf := hf.2 hc
    refine tj_aload_n C 0 rfl rfl dX6_against_17 ?_
    refine tj_bipush C kb_60 dX6_against_18 ?_
    refine tj_callVz C (k := 0) [.int (nI 60)] [] (fun hN => c_M_isSign (by rw [hN]; exact hM) hf) lk_X6_170 ty_X6_isSign rfl (Nat.le_of_ble_eq_true rfl) (Nat.le_of_ble_eq_true rfl) (Nat.le_of_ble_eq_true rfl) hM rfl (by decide) rfl rfl dX6_against_20 (fun r5 S4 hf => ?_)
    have hz_r5 := hf.1
    replace hf := hf.2
    refine tj_if_ne C 50 (by decide) dX6_against_23 (fun hc => ?_) (fun hc => ?_)
    · replace hf := hf.2 hc
      exact tj_sub [0, 2, 3] (w_M_against_b50 C hw hR r hM hf) rfl
    · replace hf := hf.1 hc
      refine tj_aload_n C 0 rfl rfl dX6_against_26 ?_
      refine tj_bipush C kb_62 dX6_against_27 ?_
      refine tj_callVz C (k := 0) [.int (nI 62)] [] (fun hN => c_M_isSign (by rw [hN]; exact hM) hf) lk_X6_170 ty_X6_isSign rfl (Nat.le_of_ble_eq_true rfl) (Nat.le_of_ble_eq_true rfl) (Nat.le_of_ble_eq_true rfl) hM rfl (by decide) rfl rfl dX6_against_29 (fun r7 S6 hf => ?_)
      have hz_r7 := hf.1
      replace hf := hf.2
      refine tj_if_ne C 50 (by decide) dX6_against_32 (fun hc => ?_) (fun hc => ?_)
      · replace hf := hf.2 hc
        exact tj_sub [0, 2, 3] (w_M_against_b50 C hw hR r hM hf) rfl
      · replace hf := hf.1 hc
        refine tj_aload_n C 0 rfl rfl dX6_against_35 ?_
        refine tj_bipush C kb_61 dX6_against_36 ?_
        refine tj_callVz C (k := 0) [.int (nI 61)] [] (fun hN => c_M_isSign (by rw [hN]; exact hM) hf) lk_X6_170 ty_X6_isSign rfl (Nat.le_of_ble_eq_true rfl) (Nat.le_of_ble_eq_true rfl) (Nat.le_of_ble_eq_true rfl) hM rfl (by decide) rfl rfl dX6_against_38 (fun r9 S8 hf => ?_)
        have hz_r9 := hf.1
        replace hf := hf.2
        refine tj_if_ne C 50 (by decide) dX6_against_41 (fun hc => ?_) (fun hc => ?_)
        · replace hf := hf.2 hc
          exact tj_sub [0, 2, 3] (w_M_against_b50 C hw hR r hM hf) rfl
        · replace hf := hf.1 hc
          refine tj_aload_n C 0 rfl rfl dX6_against_44 ?_
          refine tj_iconst C kc_2 dX6_against_45 ?_
          refine tj_callVz C (k := 0) [.int (nI 2)] [] (fun hN => c_M_fails (by rw [hN]; exact hM) hf) lk_X6_173 ty_X6_fails rfl (Nat.le_of_ble_eq_true rfl) (Nat.le_of_ble_eq_true rfl) (Nat.le_of_ble_eq_true rfl) hM rfl (by decide) rfl rfl dX6_against_46 (fun r11 S10 hf => ?_)
          have hz_r11 := hf.1
          replace hf := hf.2
          exact r _ _ _ _ dX6_against_49 hz_r11 hf
  · replace hf := hf.1 hc
    refine tj_iconst C kc_1 dX6_against_15 ?_
    exact r _ _ _ _ dX6_against_16 zb1 hf
theorem c_M_against {l : Launch} {G : tG} {ad : Nat → Nat} {A : Nat → Prop} {S : tS} {K : Int32 → tS → Prop} {a1 : Int32} {a2 : Int32} {a3 : Int32} (hM : gN S 0 ≠ 0) (hf : M_against a1 a2 a3 S K) : Met l yX6_against (ws_ yX6_against cX6_against 4 (some .boolean)) (tRm 6 132) (va_Pc [.ref (ad 0), .int a1, .int a2, .int a3] (tPre G ad A S)) (va_Qi (fun r u => r &&& 1 = r ∧ K r u) (tB G ad A (gN S)) A) 0 0 A :=
  tj_met_z [(0, .ref (ad 0)), (1, .int a1), (2, .int a2), (3, .int a3)] pn_X6 rfl (Nat.le_of_ble_eq_true rfl) (fun p e R s m args below meth c Q C hw r => w_M_against_b0 C hw rfl r hM hf)
theorem w_M_aRule_b180 {Γ : tX} {N0 : Nat → Nat} {K : Int32 → tS → Prop} (C : TC Γ cX6_aRule RX6 7 155) (hw : tWf N0) (hR : xnL Γ = 3) (r : TRz Γ N0 cX6_aRule K) (hM : N0 0 ≠ 0) {S : tS} (hf : M_aRule_b180 K  S) : TJ Γ N0 0 0 180 [(0, .ref (xad Γ 0))] [] S := by
  unfold M_aRule_b180 at hf
  refine tj_aload_n C 0 rfl rfl dX6_aRule_180 ?_
  refine gf_X6_7 C hM dX6_aRule_181 ?_
  refine tj_sipush C ks_2010 dX6_aRule_184 ?_
  refine tj_dup2 C rfl rfl dX6_aRule_187 ?_
  refine tj_iald C 48 3548 rfl (ln_48 hw hM) 2010 kn_2010 (vp_in_nI (by decide) (by decide)) dX6_aRule_188 ?_
  refine tj_iconst C kc_1 dX6_aRule_189 ?_
  refine tj_iadd C dX6_aRule_190 ?_
  refine tj_iast C 48 3548 rfl (ln_48 hw hM) 2010 kn_2010 (vp_in_nI (by decide) (by decide)) dX6_aRule_191 ?_
  refine tj_topS (fun S24 eS => ?_)
  replace hf := hf S24 eS
  refine tj_iconst C kc_1 dX6_aRule_192 ?_
  exact r _ _ _ _ dX6_aRule_193 zb1 hf
theorem w_M_aRule_b108 {Γ : tX} {N0 : Nat → Nat} {K : Int32 → tS → Prop} (C : TC Γ cX6_aRule RX6 7 155) (hw : tWf N0) (hR : xnL Γ = 3) (r : TRz Γ N0 cX6_aRule K) (hM : N0 0 ≠ 0) {a1 : Int32} {S : tS} (hf : M_aRule_b108 K a1 S) : TJ Γ N0 0 0 108 [(0, .ref (xad Γ 0)), (1, .int a1)] [] S := by
  unfold M_aRule_b108 at hf
  refine tj_aload_n C 0 rfl rfl dX6_aRule_108 ?_
  refine tj_bipush C kb_10 dX6_aRule_109 ?_
  refine tj_iload_n C 1 rfl rfl dX6_aRule_111 ?_
  refine tj_iconst C kc_2 dX6_aRule_112 ?_
  refine tj_iadd C dX6_aRule_113 ?_
  refine tj_bipush C kb_99 dX6_aRule_114 ?_
  refine tj_callVz C (k := 0) [.int (nI 10), .int (a1 + (nI 2)), .int (nI 99)] [] (fun hN => c_M_against (by rw [hN]; exact hM) hf) lk_X6_221 ty_X6_against rfl (Nat.le_of_ble_eq_true rfl) (Nat.le_of_ble_eq_true rfl) (Nat.le_of_ble_eq_true rfl) hM rfl (by decide) rfl rfl dX6_aRule_116 (fun r16 S15 hf => ?_)
  have hz_r16 := hf.1
  replace hf := hf.2
  refine tj_if_eq C 136 (by decide) dX6_aRule_119 (fun hc => ?_) (fun hc => ?_)
  · replace hf := hf.1 hc
    refine tj_iconst C kc_0 dX6_aRule_136 ?_
    exact r _ _ _ _ dX6_aRule_137 zb0 hf
  · replace hf := hf.2 hc
    refine tj_aload_n C 0 rfl rfl dX6_aRule_122 ?_
    refine tj_bipush C kb_11 dX6_aRule_123 ?_
    refine tj_iload_n C 1 rfl rfl dX6_aRule_125 ?_
    refine tj_iconst C kc_4 dX6_aRule_126 ?_
    refine tj_iadd C dX6_aRule_127 ?_
    refine tj_bipush C kb_9 dX6_aRule_128 ?_
    refine tj_callVz C (k := 0) [.int (nI 11), .int (a1 + (nI 4)), .int (nI 9)] [] (fun hN => c_M_against (by rw [hN]; exact hM) hf) lk_X6_221 ty_X6_against rfl (Nat.le_of_ble_eq_true rfl) (Nat.le_of_ble_eq_true rfl) (Nat.le_of_ble_eq_true rfl) hM rfl (by decide) rfl rfl dX6_aRule_130 (fun r18 S17 hf => ?_)
    have hz_r18 := hf.1
    replace hf := hf.2
    refine tj_if_ne C 138 (by decide) dX6_aRule_133 (fun hc => ?_) (fun hc => ?_)
    · replace hf := hf.2 hc
      refine tj_aload_n C 0 rfl rfl dX6_aRule_138 ?_
      refine gf_X6_7 C hM dX6_aRule_139 ?_
      refine tj_iload_n C 1 rfl rfl dX6_aRule_142 ?_
      refine tj_bipush C kb_6 dX6_aRule_143 ?_
      refine tj_iadd C dX6_aRule_145 ?_
      refine tj_iconst C kc_m1 dX6_aRule_146 ?_
      refine tj_iast C 48 3548 rfl (ln_48 hw hM) _ rfl hf.1 dX6_aRule_147 ?_
      replace hf := hf.2
      refine tj_topS (fun S19 eS => ?_)
      replace hf := hf S19 eS
      refine tj_aload_n C 0 rfl rfl dX6_aRule_148 ?_
      refine tj_bipush C kb_12 dX6_aRule_149 ?_
      refine tj_callVz C (k := 0) [.int (nI 12)] [] (fun hN => c_M_isThere (by rw [hN]; exact hM) hf) lk_X6_209 ty_X6_isThere rfl (Nat.le_of_ble_eq_true rfl) (Nat.le_of_ble_eq_true rfl) (Nat.le_of_ble_eq_true rfl) hM rfl (by decide) rfl rfl dX6_aRule_151 (fun r21 S20 hf => ?_)
      have hz_r21 := hf.1
      replace hf := hf.2
      refine tj_if_eq C 180 (by decide) dX6_aRule_154 (fun hc => ?_) (fun hc => ?_)
      · replace hf := hf.1 hc
        exact tj_sub [0] (w_M_aRule_b180 C hw hR r hM hf) rfl
      · replace hf := hf.2 hc
        refine tj_aload_n C 0 rfl rfl dX6_aRule_157 ?_
        refine tj_bipush C kb_92 dX6_aRule_158 ?_
        refine tj_aload_n C 0 rfl rfl dX6_aRule_160 ?_
        refine gf_X6_7 C hM dX6_aRule_161 ?_
        refine tj_sipush C ks_2008 dX6_aRule_164 ?_
        refine tj_iald C 48 3548 rfl (ln_48 hw hM) 2008 kn_2008 (vp_in_nI (by decide) (by decide)) dX6_aRule_167 ?_
        refine tj_iload_n C 1 rfl rfl dX6_aRule_168 ?_
        refine tj_bipush C kb_6 dX6_aRule_169 ?_
        refine tj_iadd C dX6_aRule_171 ?_
        refine tj_callVz C (k := 0) [.int (nI 92), .int (gI S20 48 2008), .int (a1 + (nI 6))] [] (fun hN => c_M_oldOne (by rw [hN]; exact hM) hf) lk_X6_218 ty_X6_oldOne rfl (Nat.le_of_ble_eq_true rfl) (Nat.le_of_ble_eq_true rfl) (Nat.le_of_ble_eq_true rfl) hM rfl (by decide) rfl rfl dX6_aRule_172 (fun r23 S22 hf => ?_)
        have hz_r23 := hf.1
        replace hf := hf.2
        refine tj_if_ne C 180 (by decide) dX6_aRule_175 (fun hc => ?_) (fun hc => ?_)
        · replace hf := hf.2 hc
          exact tj_sub [0] (w_M_aRule_b180 C hw hR r hM hf) rfl
        · replace hf := hf.1 hc
          refine tj_iconst C kc_0 dX6_aRule_178 ?_
          exact r _ _ _ _ dX6_aRule_179 zb0 hf
    · replace hf := hf.1 hc
      refine tj_iconst C kc_0 dX6_aRule_136 ?_
      exact r _ _ _ _ dX6_aRule_137 zb0 hf
theorem w_M_aRule_b92 {Γ : tX} {N0 : Nat → Nat} {K : Int32 → tS → Prop} (C : TC Γ cX6_aRule RX6 7 155) (hw : tWf N0) (hR : xnL Γ = 3) (r : TRz Γ N0 cX6_aRule K) (hM : N0 0 ≠ 0) {a1 : Int32} {s1 : Int32} {s2 : Int32} {S : tS} (hf : M_aRule_b92 K a1 s1 s2 S) : TJ Γ N0 0 0 92 [(0, .ref (xad Γ 0)), (1, .int a1)] [.int s2, .int s1, .ref (xad Γ 48)] S := by
  unfold M_aRule_b92 at hf
  refine tj_iast C 48 3548 rfl (ln_48 hw hM) _ rfl hf.1 dX6_aRule_92 ?_
  replace hf := hf.2
  refine tj_topS (fun S13 eS => ?_)
  replace hf := hf S13 eS
  refine tj_aload_n C 0 rfl rfl dX6_aRule_93 ?_
  refine gf_X6_7 C hM dX6_aRule_94 ?_
  refine tj_iload_n C 1 rfl rfl dX6_aRule_97 ?_
  refine tj_iconst C kc_1 dX6_aRule_98 ?_
  refine tj_iadd C dX6_aRule_99 ?_
  refine tj_iald C 48 3548 rfl (ln_48 hw hM) _ rfl hf.1 dX6_aRule_100 ?_
  replace hf := hf.2
  refine tj_if_le C 108 (by decide) dX6_aRule_101 (fun hc => ?_) (fun hc => ?_)
  · replace hf := hf.1 hc
    exact w_M_aRule_b108 C hw hR r hM hf
  · replace hf := hf.2 hc
    refine tj_aload_n C 0 rfl rfl dX6_aRule_104 ?_
    refine tj_callVv C (k := 0) [] [] (fun hN => c_M_ahead (by rw [hN]; exact hM) hf) lk_X6_167 ty_X6_ahead rfl (Nat.le_of_ble_eq_true rfl) (Nat.le_of_ble_eq_true rfl) (Nat.le_of_ble_eq_true rfl) hM rfl (by decide) rfl rfl dX6_aRule_105 (fun S14 hf => ?_)
    exact w_M_aRule_b108 C hw hR r hM hf
theorem w_M_aRule_b0 {Γ : tX} {N0 : Nat → Nat} {K : Int32 → tS → Prop} (C : TC Γ cX6_aRule RX6 7 155) (hw : tWf N0) (hR : xnL Γ = 3) (r : TRz Γ N0 cX6_aRule K) (hM : N0 0 ≠ 0) {S : tS} (hf : M_aRule S K) : TJ Γ N0 0 0 0 [(0, .ref (xad Γ 0))] [] S := by
  unfold M_aRule at hf
  refine tj_aload_n C 0 rfl rfl dX6_aRule_0 ?_
  refine tj_iconst C kc_2 dX6_aRule_1 ?_
  refine tj_bipush C kb_8 dX6_aRule_2 ?_
  refine tj_callVz C (k := 0) [.int (nI 2), .int (nI 8)] [] (fun hN => c_M_isFull (by rw [hN]; exact hM) hf) lk_X6_189 ty_X6_isFull rfl (Nat.le_of_ble_eq_true rfl) (Nat.le_of_ble_eq_true rfl) (Nat.le_of_ble_eq_true rfl) hM rfl (by decide) rfl rfl dX6_aRule_4 (fun r2 S1 hf => ?_)
  have hz_r2 := hf.1
  replace hf := hf.2
  refine tj_if_eq C 17 (by decide) dX6_aRule_7 (fun hc => ?_) (fun hc => ?_)
  · replace hf := hf.1 hc
    refine tj_sipush C ks_2008 dX6_aRule_17 ?_
    refine tj_aload_n C 0 rfl rfl dX6_aRule_20 ?_
    refine gf_X6_7 C hM dX6_aRule_21 ?_
    refine tj_sipush C ks_2010 dX6_aRule_24 ?_
    refine tj_iald C 48 3548 rfl (ln_48 hw hM) 2010 kn_2010 (vp_in_nI (by decide) (by decide)) dX6_aRule_27 ?_
    refine tj_callSi C [.int (gI S1 48 2010)] [.int (nI 2008)] (fun hN => c_M_ruleRow hf) lk_X6_215 ty_X6_ruleRow rfl (Nat.le_of_ble_eq_true rfl) (Nat.le_of_ble_eq_true rfl) (Nat.le_of_ble_eq_true rfl) rfl dX6_aRule_28 (fun r4 S3 hf => ?_)
    refine tj_iadd C dX6_aRule_31 ?_
    refine tj_topi (fun x5 ex => ?_)
    replace hf := hf x5 ex
    refine tj_istore_n C (by rw [hR]; decide) [(1, .int x5), (0, .ref (xad Γ 0))] rfl rfl dX6_aRule_32 ?_
    refine tj_aload_n C 1 rfl rfl dX6_aRule_33 ?_
    refine tj_callVv C (k := 0) [] [] (fun hN => c_M_ahead (by rw [hN]; exact hM) hf) lk_X6_167 ty_X6_ahead rfl (Nat.le_of_ble_eq_true rfl) (Nat.le_of_ble_eq_true rfl) (Nat.le_of_ble_eq_true rfl) hM rfl (by decide) rfl rfl dX6_aRule_34 (fun S6 hf => ?_)
    refine tj_aload_n C 1 rfl rfl dX6_aRule_37 ?_
    refine tj_bipush C kb_97 dX6_aRule_38 ?_
    refine tj_aload_n C 1 rfl rfl dX6_aRule_40 ?_
    refine gf_X6_7 C hM dX6_aRule_41 ?_
    refine tj_sipush C ks_2009 dX6_aRule_44 ?_
    refine tj_iald C 48 3548 rfl (ln_48 hw hM) 2009 kn_2009 (vp_in_nI (by decide) (by decide)) dX6_aRule_47 ?_
    refine tj_iload_n C 0 rfl rfl dX6_aRule_48 ?_
    refine tj_callVz C (k := 0) [.int (nI 97), .int (gI S6 48 2009), .int x5] [] (fun hN => c_M_oldOne (by rw [hN]; exact hM) hf) lk_X6_218 ty_X6_oldOne rfl (Nat.le_of_ble_eq_true rfl) (Nat.le_of_ble_eq_true rfl) (Nat.le_of_ble_eq_true rfl) hM rfl (by decide) rfl rfl dX6_aRule_49 (fun r8 S7 hf => ?_)
    have hz_r8 := hf.1
    replace hf := hf.2
    refine tj_if_ne C 57 (by decide) dX6_aRule_52 (fun hc => ?_) (fun hc => ?_)
    · replace hf := hf.2 hc
      refine tj_aload_n C 1 rfl rfl dX6_aRule_57 ?_
      refine tj_ldcS C 0 rfl dX6_aRule_58 ?_
      refine tj_callVi C (k := 0) [.ref (xK Γ 0)] [] (fun hN => c_M_inWords (by rw [hN]; exact hM) (by decide) hf) lk_X6_176 ty_X6_inWords rfl (Nat.le_of_ble_eq_true rfl) (Nat.le_of_ble_eq_true rfl) (Nat.le_of_ble_eq_true rfl) hM rfl (by decide) rfl rfl dX6_aRule_60 (fun r10 S9 hf => ?_)
      refine tj_istore_n C (by rw [hR]; decide) [(2, .int r10), (1, .int x5), (0, .ref (xad Γ 0))] rfl rfl dX6_aRule_63 ?_
      refine tj_aload_n C 2 rfl rfl dX6_aRule_64 ?_
      refine gf_X6_7 C hM dX6_aRule_65 ?_
      refine tj_iload_n C 1 rfl rfl dX6_aRule_68 ?_
      refine tj_iconst C kc_1 dX6_aRule_69 ?_
      refine tj_iadd C dX6_aRule_70 ?_
      refine tj_iload_n C 0 rfl rfl dX6_aRule_71 ?_
      refine tj_bipush C kb_8 dX6_aRule_72 ?_
      refine tj_icmp_ne C 81 (by decide) dX6_aRule_74 (fun hc => ?_) (fun hc => ?_)
      · replace hf := hf.2 hc
        refine tj_iload_n C 0 rfl rfl dX6_aRule_81 ?_
        refine tj_bipush C kb_9 dX6_aRule_82 ?_
        refine tj_icmp_ne C 91 (by decide) dX6_aRule_84 (fun hc => ?_) (fun hc => ?_)
        · replace hf := hf.2 hc
          refine tj_iconst C kc_0 dX6_aRule_91 ?_
          exact tj_sub [2, 1] (w_M_aRule_b92 C hw hR r hM hf) rfl
        · replace hf := hf.1 hc
          refine tj_iconst C kc_2 dX6_aRule_87 ?_
          refine tj_goto C 92 (by decide) dX6_aRule_88 ?_
          exact tj_sub [2, 1] (w_M_aRule_b92 C hw hR r hM hf) rfl
      · replace hf := hf.1 hc
        refine tj_iconst C kc_1 dX6_aRule_77 ?_
        refine tj_goto C 92 (by decide) dX6_aRule_78 ?_
        exact tj_sub [2, 1] (w_M_aRule_b92 C hw hR r hM hf) rfl
    · replace hf := hf.1 hc
      refine tj_iconst C kc_0 dX6_aRule_55 ?_
      exact r _ _ _ _ dX6_aRule_56 zb0 hf
  · replace hf := hf.2 hc
    refine tj_aload_n C 0 rfl rfl dX6_aRule_10 ?_
    refine tj_bipush C kb_6 dX6_aRule_11 ?_
    refine tj_callVz C (k := 0) [.int (nI 6)] [] (fun hN => c_M_fails (by rw [hN]; exact hM) hf) lk_X6_173 ty_X6_fails rfl (Nat.le_of_ble_eq_true rfl) (Nat.le_of_ble_eq_true rfl) (Nat.le_of_ble_eq_true rfl) hM rfl (by decide) rfl rfl dX6_aRule_13 (fun r12 S11 hf => ?_)
    have hz_r12 := hf.1
    replace hf := hf.2
    exact r _ _ _ _ dX6_aRule_16 hz_r12 hf
theorem c_M_aRule {l : Launch} {G : tG} {ad : Nat → Nat} {A : Nat → Prop} {S : tS} {K : Int32 → tS → Prop} (hM : gN S 0 ≠ 0) (hf : M_aRule S K) : Met l yX6_aRule (ws_ yX6_aRule cX6_aRule 3 (some .boolean)) (tRm 7 155) (va_Pc [.ref (ad 0)] (tPre G ad A S)) (va_Qi (fun r u => r &&& 1 = r ∧ K r u) (tB G ad A (gN S)) A) 0 0 A :=
  tj_met_z [(0, .ref (ad 0))] pn_X6 rfl (Nat.le_of_ble_eq_true rfl) (fun p e R s m args below meth c Q C hw r => w_M_aRule_b0 C hw rfl r hM hf)
theorem w_M_aSmell_b0 {Γ : tX} {N0 : Nat → Nat} {K : Int32 → tS → Prop} (C : TC Γ cX6_aSmell RX6 7 155) (hw : tWf N0) (hR : xnL Γ = 1) (r : TRz Γ N0 cX6_aSmell K) (hM : N0 0 ≠ 0) {S : tS} (hf : M_aSmell S K) : TJ Γ N0 0 0 0 [(0, .ref (xad Γ 0))] [] S := by
  unfold M_aSmell at hf
  refine tj_aload_n C 0 rfl rfl dX6_aSmell_0 ?_
  refine tj_iconst C kc_0 dX6_aSmell_1 ?_
  refine tj_iconst C kc_5 dX6_aSmell_2 ?_
  refine tj_iconst C kc_0 dX6_aSmell_3 ?_
  refine tj_callVz C (k := 0) [.int (nI 0), .int (nI 5), .int (nI 0)] [] (fun hN => c_M_newOne (by rw [hN]; exact hM) hf) lk_X6_201 ty_X6_newOne rfl (Nat.le_of_ble_eq_true rfl) (Nat.le_of_ble_eq_true rfl) (Nat.le_of_ble_eq_true rfl) hM rfl (by decide) rfl rfl dX6_aSmell_4 (fun r2 S1 hf => ?_)
  have hz_r2 := hf.1
  replace hf := hf.2
  refine tj_if_ne C 12 (by decide) dX6_aSmell_7 (fun hc => ?_) (fun hc => ?_)
  · replace hf := hf.2 hc
    refine tj_aload_n C 0 rfl rfl dX6_aSmell_12 ?_
    refine gf_X6_7 C hM dX6_aSmell_13 ?_
    refine tj_sipush C ks_2008 dX6_aSmell_16 ?_
    refine tj_dup2 C rfl rfl dX6_aSmell_19 ?_
    refine tj_iald C 48 3548 rfl (ln_48 hw hM) 2008 kn_2008 (vp_in_nI (by decide) (by decide)) dX6_aSmell_20 ?_
    refine tj_iconst C kc_1 dX6_aSmell_21 ?_
    refine tj_iadd C dX6_aSmell_22 ?_
    refine tj_iast C 48 3548 rfl (ln_48 hw hM) 2008 kn_2008 (vp_in_nI (by decide) (by decide)) dX6_aSmell_23 ?_
    refine tj_topS (fun S3 eS => ?_)
    replace hf := hf S3 eS
    refine tj_iconst C kc_1 dX6_aSmell_24 ?_
    exact r _ _ _ _ dX6_aSmell_25 zb1 hf
  · replace hf := hf.1 hc
    refine tj_iconst C kc_0 dX6_aSmell_10 ?_
    exact r _ _ _ _ dX6_aSmell_11 zb0 hf
theorem c_M_aSmell {l : Launch} {G : tG} {ad : Nat → Nat} {A : Nat → Prop} {S : tS} {K : Int32 → tS → Prop} (hM : gN S 0 ≠ 0) (hf : M_aSmell S K) : Met l yX6_aSmell (ws_ yX6_aSmell cX6_aSmell 1 (some .boolean)) (tRm 7 155) (va_Pc [.ref (ad 0)] (tPre G ad A S)) (va_Qi (fun r u => r &&& 1 = r ∧ K r u) (tB G ad A (gN S)) A) 0 0 A :=
  tj_met_z [(0, .ref (ad 0))] pn_X6 rfl (Nat.le_of_ble_eq_true rfl) (fun p e R s m args below meth c Q C hw r => w_M_aSmell_b0 C hw rfl r hM hf)
theorem w_M_aWord_b81 {Γ : tX} {N0 : Nat → Nat} {K : Int32 → tS → Prop} (C : TC Γ cX6_aWord RX6 7 155) (hw : tWf N0) (hR : xnL Γ = 3) (r : TRz Γ N0 cX6_aWord K) (hM : N0 0 ≠ 0) {a1 : Int32} {a2 : Int32} {S : tS} (hf : M_aWord_b81 K a1 a2 S) : TJ Γ N0 0 0 81 [(0, .ref (xad Γ 0)), (1, .int a1), (2, .int a2)] [] S := by
  unfold M_aWord_b81 at hf
  refine tj_aload_n C 0 rfl rfl dX6_aWord_81 ?_
  refine gf_X6_7 C hM dX6_aWord_82 ?_
  refine tj_iload_n C 1 rfl rfl dX6_aWord_85 ?_
  refine tj_iconst C kc_1 dX6_aWord_86 ?_
  refine tj_iadd C dX6_aWord_87 ?_
  refine tj_iload_n C 2 rfl rfl dX6_aWord_88 ?_
  refine tj_bipush C kb_7 dX6_aWord_89 ?_
  refine tj_isub C dX6_aWord_91 ?_
  refine tj_iast C 48 3548 rfl (ln_48 hw hM) _ rfl hf.1 dX6_aWord_92 ?_
  replace hf := hf.2
  refine tj_topS (fun S13 eS => ?_)
  replace hf := hf S13 eS
  refine tj_aload_n C 0 rfl rfl dX6_aWord_93 ?_
  refine tj_callVv C (k := 0) [] [] (fun hN => c_M_ahead (by rw [hN]; exact hM) hf) lk_X6_167 ty_X6_ahead rfl (Nat.le_of_ble_eq_true rfl) (Nat.le_of_ble_eq_true rfl) (Nat.le_of_ble_eq_true rfl) hM rfl (by decide) rfl rfl dX6_aWord_94 (fun S14 hf => ?_)
  refine tj_aload_n C 0 rfl rfl dX6_aWord_97 ?_
  refine gf_X6_7 C hM dX6_aWord_98 ?_
  refine tj_sipush C ks_2013 dX6_aWord_101 ?_
  refine tj_dup2 C rfl rfl dX6_aWord_104 ?_
  refine tj_iald C 48 3548 rfl (ln_48 hw hM) 2013 kn_2013 (vp_in_nI (by decide) (by decide)) dX6_aWord_105 ?_
  refine tj_iconst C kc_1 dX6_aWord_106 ?_
  refine tj_iadd C dX6_aWord_107 ?_
  refine tj_iast C 48 3548 rfl (ln_48 hw hM) 2013 kn_2013 (vp_in_nI (by decide) (by decide)) dX6_aWord_108 ?_
  refine tj_topS (fun S15 eS => ?_)
  replace hf := hf S15 eS
  refine tj_iconst C kc_1 dX6_aWord_109 ?_
  exact r _ _ _ _ dX6_aWord_110 zb1 hf
theorem w_M_aWord_b0 {Γ : tX} {N0 : Nat → Nat} {K : Int32 → tS → Prop} (C : TC Γ cX6_aWord RX6 7 155) (hw : tWf N0) (hR : xnL Γ = 3) (r : TRz Γ N0 cX6_aWord K) (hM : N0 0 ≠ 0) {S : tS} (hf : M_aWord S K) : TJ Γ N0 0 0 0 [(0, .ref (xad Γ 0))] [] S := by
  unfold M_aWord at hf
  refine tj_aload_n C 0 rfl rfl dX6_aWord_0 ?_
  refine tj_iconst C kc_5 dX6_aWord_1 ?_
  refine tj_bipush C kb_10 dX6_aWord_2 ?_
  refine tj_callVz C (k := 0) [.int (nI 5), .int (nI 10)] [] (fun hN => c_M_isFull (by rw [hN]; exact hM) hf) lk_X6_189 ty_X6_isFull rfl (Nat.le_of_ble_eq_true rfl) (Nat.le_of_ble_eq_true rfl) (Nat.le_of_ble_eq_true rfl) hM rfl (by decide) rfl rfl dX6_aWord_4 (fun r2 S1 hf => ?_)
  have hz_r2 := hf.1
  replace hf := hf.2
  refine tj_if_eq C 17 (by decide) dX6_aWord_7 (fun hc => ?_) (fun hc => ?_)
  · replace hf := hf.1 hc
    refine tj_sipush C ks_2122 dX6_aWord_17 ?_
    refine tj_iconst C kc_2 dX6_aWord_20 ?_
    refine tj_aload_n C 0 rfl rfl dX6_aWord_21 ?_
    refine gf_X6_7 C hM dX6_aWord_22 ?_
    refine tj_sipush C ks_2013 dX6_aWord_25 ?_
    refine tj_iald C 48 3548 rfl (ln_48 hw hM) 2013 kn_2013 (vp_in_nI (by decide) (by decide)) dX6_aWord_28 ?_
    refine tj_imul C dX6_aWord_29 ?_
    refine tj_iadd C dX6_aWord_30 ?_
    refine tj_topi (fun x3 ex => ?_)
    replace hf := hf x3 ex
    refine tj_istore_n C (by rw [hR]; decide) [(1, .int x3), (0, .ref (xad Γ 0))] rfl rfl dX6_aWord_31 ?_
    refine tj_aload_n C 1 rfl rfl dX6_aWord_32 ?_
    refine tj_callVv C (k := 0) [] [] (fun hN => c_M_ahead (by rw [hN]; exact hM) hf) lk_X6_167 ty_X6_ahead rfl (Nat.le_of_ble_eq_true rfl) (Nat.le_of_ble_eq_true rfl) (Nat.le_of_ble_eq_true rfl) hM rfl (by decide) rfl rfl dX6_aWord_33 (fun S4 hf => ?_)
    refine tj_aload_n C 1 rfl rfl dX6_aWord_36 ?_
    refine tj_bipush C kb_103 dX6_aWord_37 ?_
    refine tj_aload_n C 1 rfl rfl dX6_aWord_39 ?_
    refine gf_X6_7 C hM dX6_aWord_40 ?_
    refine tj_sipush C ks_2011 dX6_aWord_43 ?_
    refine tj_iald C 48 3548 rfl (ln_48 hw hM) 2011 kn_2011 (vp_in_nI (by decide) (by decide)) dX6_aWord_46 ?_
    refine tj_iload_n C 0 rfl rfl dX6_aWord_47 ?_
    refine tj_callVz C (k := 0) [.int (nI 103), .int (gI S4 48 2011), .int x3] [] (fun hN => c_M_oldOne (by rw [hN]; exact hM) hf) lk_X6_218 ty_X6_oldOne rfl (Nat.le_of_ble_eq_true rfl) (Nat.le_of_ble_eq_true rfl) (Nat.le_of_ble_eq_true rfl) hM rfl (by decide) rfl rfl dX6_aWord_48 (fun r6 S5 hf => ?_)
    have hz_r6 := hf.1
    replace hf := hf.2
    refine tj_if_ne C 56 (by decide) dX6_aWord_51 (fun hc => ?_) (fun hc => ?_)
    · replace hf := hf.2 hc
      refine tj_aload_n C 1 rfl rfl dX6_aWord_56 ?_
      refine tj_ldcS C 0 rfl dX6_aWord_57 ?_
      refine tj_callVi C (k := 0) [.ref (xK Γ 0)] [] (fun hN => c_M_inWords (by rw [hN]; exact hM) (by decide) hf) lk_X6_176 ty_X6_inWords rfl (Nat.le_of_ble_eq_true rfl) (Nat.le_of_ble_eq_true rfl) (Nat.le_of_ble_eq_true rfl) hM rfl (by decide) rfl rfl dX6_aWord_59 (fun r8 S7 hf => ?_)
      refine tj_istore_n C (by rw [hR]; decide) [(2, .int r8), (1, .int x3), (0, .ref (xad Γ 0))] rfl rfl dX6_aWord_62 ?_
      refine tj_iload_n C 0 rfl rfl dX6_aWord_63 ?_
      refine tj_bipush C kb_8 dX6_aWord_64 ?_
      refine tj_icmp_eq C 81 (by decide) dX6_aWord_66 (fun hc => ?_) (fun hc => ?_)
      · replace hf := hf.1 hc
        exact tj_sub [2, 1, 0] (w_M_aWord_b81 C hw hR r hM hf) rfl
      · replace hf := hf.2 hc
        refine tj_iload_n C 0 rfl rfl dX6_aWord_69 ?_
        refine tj_bipush C kb_9 dX6_aWord_70 ?_
        refine tj_icmp_eq C 81 (by decide) dX6_aWord_72 (fun hc => ?_) (fun hc => ?_)
        · replace hf := hf.1 hc
          exact tj_sub [2, 1, 0] (w_M_aWord_b81 C hw hR r hM hf) rfl
        · replace hf := hf.2 hc
          refine tj_aload_n C 2 rfl rfl dX6_aWord_75 ?_
          refine tj_iconst C kc_2 dX6_aWord_76 ?_
          refine tj_callVz C (k := 0) [.int (nI 2)] [] (fun hN => c_M_fails (by rw [hN]; exact hM) hf) lk_X6_173 ty_X6_fails rfl (Nat.le_of_ble_eq_true rfl) (Nat.le_of_ble_eq_true rfl) (Nat.le_of_ble_eq_true rfl) hM rfl (by decide) rfl rfl dX6_aWord_77 (fun r10 S9 hf => ?_)
          have hz_r10 := hf.1
          replace hf := hf.2
          exact r _ _ _ _ dX6_aWord_80 hz_r10 hf
    · replace hf := hf.1 hc
      refine tj_iconst C kc_0 dX6_aWord_54 ?_
      exact r _ _ _ _ dX6_aWord_55 zb0 hf
  · replace hf := hf.2 hc
    refine tj_aload_n C 0 rfl rfl dX6_aWord_10 ?_
    refine tj_bipush C kb_6 dX6_aWord_11 ?_
    refine tj_callVz C (k := 0) [.int (nI 6)] [] (fun hN => c_M_fails (by rw [hN]; exact hM) hf) lk_X6_173 ty_X6_fails rfl (Nat.le_of_ble_eq_true rfl) (Nat.le_of_ble_eq_true rfl) (Nat.le_of_ble_eq_true rfl) hM rfl (by decide) rfl rfl dX6_aWord_13 (fun r12 S11 hf => ?_)
    have hz_r12 := hf.1
    replace hf := hf.2
    exact r _ _ _ _ dX6_aWord_16 hz_r12 hf
theorem c_M_aWord {l : Launch} {G : tG} {ad : Nat → Nat} {A : Nat → Prop} {S : tS} {K : Int32 → tS → Prop} (hM : gN S 0 ≠ 0) (hf : M_aWord S K) : Met l yX6_aWord (ws_ yX6_aWord cX6_aWord 3 (some .boolean)) (tRm 7 155) (va_Pc [.ref (ad 0)] (tPre G ad A S)) (va_Qi (fun r u => r &&& 1 = r ∧ K r u) (tB G ad A (gN S)) A) 0 0 A :=
  tj_met_z [(0, .ref (ad 0))] pn_X6 rfl (Nat.le_of_ble_eq_true rfl) (fun p e R s m args below meth c Q C hw r => w_M_aWord_b0 C hw rfl r hM hf)
theorem w_M_votesOf_b0 {Γ : tX} {N0 : Nat → Nat} {K : Int32 → tS → Prop} (C : TC Γ cX6_votesOf RX6 0 0) (hw : tWf N0) (hR : xnL Γ = 2) (r : TRi Γ N0 cX6_votesOf K) {a1 : Int32} (hM : N0 0 ≠ 0) {S : tS} (hf : M_votesOf a1 S K) : TJ Γ N0 0 0 0 [(0, .ref (xad Γ 0)), (1, .int a1)] [] S := by
  unfold M_votesOf at hf
  refine tj_aload_n C 0 rfl rfl dX6_votesOf_0 ?_
  refine gf_X6_7 C hM dX6_votesOf_1 ?_
  refine tj_bipush C kb_102 dX6_votesOf_4 ?_
  refine tj_iconst C kc_2 dX6_votesOf_6 ?_
  refine tj_iload_n C 1 rfl rfl dX6_votesOf_7 ?_
  refine tj_imul C dX6_votesOf_8 ?_
  refine tj_iadd C dX6_votesOf_9 ?_
  refine tj_iconst C kc_1 dX6_votesOf_10 ?_
  refine tj_iadd C dX6_votesOf_11 ?_
  refine tj_iald C 48 3548 rfl (ln_48 hw hM) _ rfl hf.1 dX6_votesOf_12 ?_
  replace hf := hf.2
  exact r _ _ _ _ dX6_votesOf_13 hf
theorem c_M_votesOf {l : Launch} {G : tG} {ad : Nat → Nat} {A : Nat → Prop} {S : tS} {K : Int32 → tS → Prop} {a1 : Int32} (hM : gN S 0 ≠ 0) (hf : M_votesOf a1 S K) : Met l yX6_votesOf (ws_ yX6_votesOf cX6_votesOf 2 (some .int)) (tRm 0 0) (va_Pc [.ref (ad 0), .int a1] (tPre G ad A S)) (va_Qi K (tB G ad A (gN S)) A) 0 0 A :=
  tj_met_i [(0, .ref (ad 0)), (1, .int a1)] pn_X6 rfl (Nat.le_of_ble_eq_true rfl) (fun p e R s m args below meth c Q C hw r => w_M_votesOf_b0 C hw rfl r hM hf)
theorem w_M_allVotes_l4 {Γ : tX} {N0 : Nat → Nat} {K : Int32 → tS → Prop} (C : TC Γ cX6_allVotes RX6 1 21) (hw : tWf N0) (hR : xnL Γ = 3) (r : TRi Γ N0 cX6_allVotes K) (hM : N0 0 ≠ 0) : ∀ (n : Nat) (a1 : Int32) (a2 : Int32) (S : tS), M_allVotes_l4 K n a1 a2 S → TJ Γ N0 0 0 4 [(0, .ref (xad Γ 0)), (1, .int a1), (2, .int a2)] [] S := by
  intro n
  induction n with
  | zero => intro a1 a2 S hf; exact hf.elim
  | succ n ih =>
    intro a1 a2 S hf
    unfold M_allVotes_l4 at hf
    refine tj_iload_n C 2 rfl rfl dX6_allVotes_4 ?_
    refine tj_aload_n C 0 rfl rfl dX6_allVotes_5 ?_
    refine gf_X6_7 C hM dX6_allVotes_6 ?_
    refine tj_iconst C kc_4 dX6_allVotes_9 ?_
    refine tj_iald C 48 3548 rfl (ln_48 hw hM) 4 kn_4 (vp_in_nI (by decide) (by decide)) dX6_allVotes_10 ?_
    refine tj_icmp_ge C 28 (by decide) dX6_allVotes_11 (fun hc => ?_) (fun hc => ?_)
    · replace hf := hf.1 hc
      refine tj_iload_n C 1 rfl rfl dX6_allVotes_28 ?_
      exact r _ _ _ _ dX6_allVotes_29 hf
    · replace hf := hf.2 hc
      refine tj_iload_n C 1 rfl rfl dX6_allVotes_14 ?_
      refine tj_aload_n C 0 rfl rfl dX6_allVotes_15 ?_
      refine tj_iload_n C 2 rfl rfl dX6_allVotes_16 ?_
      refine tj_callVi C (k := 0) [.int a2] [.int a1] (fun hN => c_M_votesOf (by rw [hN]; exact hM) hf) lk_X6_284 ty_X6_votesOf rfl (Nat.le_of_ble_eq_true rfl) (Nat.le_of_ble_eq_true rfl) (Nat.le_of_ble_eq_true rfl) hM rfl (by decide) rfl rfl dX6_allVotes_17 (fun r2 S1 hf => ?_)
      refine tj_iadd C dX6_allVotes_20 ?_
      refine tj_topi (fun x3 ex => ?_)
      replace hf := hf x3 ex
      refine tj_istore_n C (by rw [hR]; decide) [(1, .int x3), (0, .ref (xad Γ 0)), (2, .int a2)] rfl rfl dX6_allVotes_21 ?_
      obtain ⟨x4, ex⟩ : ∃ y : Int32, y = a2 + nI 1 := ⟨_, rfl⟩
      refine tj_iinc C (by rw [hR]; decide) 2 [(2, .int x4), (1, .int x3), (0, .ref (xad Γ 0))] rfl (by rw [ex]; exact ki_1 _) rfl dX6_allVotes_22 ?_
      replace hf := hf x4 ex
      refine tj_goto C 4 (by decide) dX6_allVotes_25 ?_
      exact tj_sub [2, 1, 0] (ih _ _ _ hf) rfl
theorem w_M_allVotes_b0 {Γ : tX} {N0 : Nat → Nat} {K : Int32 → tS → Prop} (C : TC Γ cX6_allVotes RX6 1 21) (hw : tWf N0) (hR : xnL Γ = 3) (r : TRi Γ N0 cX6_allVotes K) (hM : N0 0 ≠ 0) {S : tS} (hf : M_allVotes S K) : TJ Γ N0 0 0 0 [(0, .ref (xad Γ 0))] [] S := by
  unfold M_allVotes at hf
  refine tj_iconst C kc_0 dX6_allVotes_0 ?_
  refine tj_istore_n C (by rw [hR]; decide) [(1, .int (nI 0)), (0, .ref (xad Γ 0))] rfl rfl dX6_allVotes_1 ?_
  refine tj_iconst C kc_0 dX6_allVotes_2 ?_
  refine tj_istore_n C (by rw [hR]; decide) [(2, .int (nI 0)), (1, .int (nI 0)), (0, .ref (xad Γ 0))] rfl rfl dX6_allVotes_3 ?_
  exact tj_sub [2, 1, 0] (hf.elim fun k hf => w_M_allVotes_l4 C hw hR r hM k _ _ _ hf) rfl
theorem c_M_allVotes {l : Launch} {G : tG} {ad : Nat → Nat} {A : Nat → Prop} {S : tS} {K : Int32 → tS → Prop} (hM : gN S 0 ≠ 0) (hf : M_allVotes S K) : Met l yX6_allVotes (ws_ yX6_allVotes cX6_allVotes 3 (some .int)) (tRm 1 21) (va_Pc [.ref (ad 0)] (tPre G ad A S)) (va_Qi K (tB G ad A (gN S)) A) 0 0 A :=
  tj_met_i [(0, .ref (ad 0))] pn_X6 rfl (Nat.le_of_ble_eq_true rfl) (fun p e R s m args below meth c Q C hw r => w_M_allVotes_b0 C hw rfl r hM hf)
theorem w_M_isPerson_b0 {Γ : tX} {N0 : Nat → Nat} {K : Int32 → tS → Prop} (C : TC Γ cX6_isPerson RX6 0 0) (hw : tWf N0) (hR : xnL Γ = 3) (r : TRz Γ N0 cX6_isPerson K) {a1 : Int64} (hM : N0 0 ≠ 0) {S : tS} (hf : M_isPerson a1 S K) : TJ Γ N0 0 0 0 [(0, .ref (xad Γ 0)), (1, .long a1)] [] S := by
  unfold M_isPerson at hf
  refine tj_lload_n C 1 rfl rfl dX6_isPerson_0 ?_
  refine tj_lconst C (v := lN 0) rfl dX6_isPerson_1 ?_
  refine tj_lcmp C dX6_isPerson_2 ?_
  refine tj_if_lt C 22 (by decide) dX6_isPerson_3 (fun hc => ?_) (fun hc => ?_)
  · replace hf := hf.1 hc
    refine tj_iconst C kc_0 dX6_isPerson_22 ?_
    exact r _ _ _ _ dX6_isPerson_23 zb0 hf
  · replace hf := hf.2 hc
    refine tj_lload_n C 1 rfl rfl dX6_isPerson_6 ?_
    refine tj_aload_n C 0 rfl rfl dX6_isPerson_7 ?_
    refine gf_X6_7 C hM dX6_isPerson_8 ?_
    refine tj_iconst C kc_3 dX6_isPerson_11 ?_
    refine tj_iald C 48 3548 rfl (ln_48 hw hM) 3 kn_3 (vp_in_nI (by decide) (by decide)) dX6_isPerson_12 ?_
    refine tj_i2l C dX6_isPerson_13 ?_
    refine tj_lcmp C dX6_isPerson_14 ?_
    refine tj_if_ge C 22 (by decide) dX6_isPerson_15 (fun hc => ?_) (fun hc => ?_)
    · replace hf := hf.1 hc
      refine tj_iconst C kc_0 dX6_isPerson_22 ?_
      exact r _ _ _ _ dX6_isPerson_23 zb0 hf
    · replace hf := hf.2 hc
      refine tj_iconst C kc_1 dX6_isPerson_18 ?_
      refine tj_goto C 23 (by decide) dX6_isPerson_19 ?_
      exact r _ _ _ _ dX6_isPerson_23 zb1 hf
theorem c_M_isPerson {l : Launch} {G : tG} {ad : Nat → Nat} {A : Nat → Prop} {S : tS} {K : Int32 → tS → Prop} {a1 : Int64} (hM : gN S 0 ≠ 0) (hf : M_isPerson a1 S K) : Met l yX6_isPerson (ws_ yX6_isPerson cX6_isPerson 3 (some .boolean)) (tRm 0 0) (va_Pc [.ref (ad 0), .long a1] (tPre G ad A S)) (va_Qi (fun r u => r &&& 1 = r ∧ K r u) (tB G ad A (gN S)) A) 0 0 A :=
  tj_met_z [(0, .ref (ad 0)), (1, .long a1)] pn_X6 rfl (Nat.le_of_ble_eq_true rfl) (fun p e R s m args below meth c Q C hw r => w_M_isPerson_b0 C hw rfl r hM hf)
theorem w_M_refuse_b0 {Γ : tX} {N0 : Nat → Nat} {K : Int32 → tS → Prop} (C : TC Γ cX6_refuse RX6 0 0) (hw : tWf N0) (hR : xnL Γ = 2) (r : TRi Γ N0 cX6_refuse K) {a1 : Int32} (hM : N0 0 ≠ 0) {S : tS} (hf : M_refuse a1 S K) : TJ Γ N0 0 0 0 [(0, .ref (xad Γ 0)), (1, .int a1)] [] S := by
  unfold M_refuse at hf
  refine tj_aload_n C 0 rfl rfl dX6_refuse_0 ?_
  refine tj_iload_n C 1 rfl rfl dX6_refuse_1 ?_
  refine pf_X6_85 C hM dX6_refuse_2 ?_
  refine tj_topS (fun S1 eS => ?_)
  replace hf := hf S1 eS
  refine tj_iconst C kc_m1 dX6_refuse_5 ?_
  exact r _ _ _ _ dX6_refuse_6 hf
theorem c_M_refuse {l : Launch} {G : tG} {ad : Nat → Nat} {A : Nat → Prop} {S : tS} {K : Int32 → tS → Prop} {a1 : Int32} (hM : gN S 0 ≠ 0) (hf : M_refuse a1 S K) : Met l yX6_refuse (ws_ yX6_refuse cX6_refuse 2 (some .int)) (tRm 0 0) (va_Pc [.ref (ad 0), .int a1] (tPre G ad A S)) (va_Qi K (tB G ad A (gN S)) A) 0 0 A :=
  tj_met_i [(0, .ref (ad 0)), (1, .int a1)] pn_X6 rfl (Nat.le_of_ble_eq_true rfl) (fun p e R s m args below meth c Q C hw r => w_M_refuse_b0 C hw rfl r hM hf)
theorem w_M_personOf_b0 {Γ : tX} {N0 : Nat → Nat} {K : Int32 → tS → Prop} (C : TC Γ cX6_personOf RX6 1 20) (hw : tWf N0) (hR : xnL Γ = 3) (r : TRi Γ N0 cX6_personOf K) {a1 : Int32} {a2 : Int32} (hM : N0 0 ≠ 0) {S : tS} (hf : M_personOf a1 a2 S K) : TJ Γ N0 0 0 0 [(0, .ref (xad Γ 0)), (1, .int a1), (2, .int a2)] [] S := by
  unfold M_personOf at hf
  refine tj_aload_n C 0 rfl rfl dX6_personOf_0 ?_
  refine gf_X6_7 C hM dX6_personOf_1 ?_
  refine tj_iload_n C 1 rfl rfl dX6_personOf_4 ?_
  refine tj_callSi C [.int a1] [.ref (xad Γ 48)] (fun hN => c_M_personRow hf) lk_X6_224 ty_X6_personRow rfl (Nat.le_of_ble_eq_true rfl) (Nat.le_of_ble_eq_true rfl) (Nat.le_of_ble_eq_true rfl) rfl dX6_personOf_5 (fun r2 S1 hf => ?_)
  refine tj_iload_n C 2 rfl rfl dX6_personOf_8 ?_
  refine tj_iadd C dX6_personOf_9 ?_
  refine tj_iald C 48 3548 rfl (ln_48 hw hM) _ rfl hf.1 dX6_personOf_10 ?_
  replace hf := hf.2
  exact r _ _ _ _ dX6_personOf_11 hf
theorem c_M_personOf {l : Launch} {G : tG} {ad : Nat → Nat} {A : Nat → Prop} {S : tS} {K : Int32 → tS → Prop} {a1 : Int32} {a2 : Int32} (hM : gN S 0 ≠ 0) (hf : M_personOf a1 a2 S K) : Met l yX6_personOf (ws_ yX6_personOf cX6_personOf 3 (some .int)) (tRm 1 20) (va_Pc [.ref (ad 0), .int a1, .int a2] (tPre G ad A S)) (va_Qi K (tB G ad A (gN S)) A) 0 0 A :=
  tj_met_i [(0, .ref (ad 0)), (1, .int a1), (2, .int a2)] pn_X6 rfl (Nat.le_of_ble_eq_true rfl) (fun p e R s m args below meth c Q C hw r => w_M_personOf_b0 C hw rfl r hM hf)
theorem w_M_gives_b0 {Γ : tX} {N0 : Nat → Nat} {K : Int32 → tS → Prop} (C : TC Γ cX6_gives RX6 0 0) (hw : tWf N0) (hR : xnL Γ = 2) (r : TRi Γ N0 cX6_gives K) {a1 : Int32} (hM : N0 0 ≠ 0) {S : tS} (hf : M_gives a1 S K) : TJ Γ N0 0 0 0 [(0, .ref (xad Γ 0)), (1, .int a1)] [] S := by
  unfold M_gives at hf
  refine tj_aload_n C 0 rfl rfl dX6_gives_0 ?_
  refine tj_iconst C kc_0 dX6_gives_1 ?_
  refine pf_X6_85 C hM dX6_gives_2 ?_
  refine tj_topS (fun S1 eS => ?_)
  replace hf := hf S1 eS
  refine tj_iload_n C 1 rfl rfl dX6_gives_5 ?_
  exact r _ _ _ _ dX6_gives_6 hf
theorem c_M_gives {l : Launch} {G : tG} {ad : Nat → Nat} {A : Nat → Prop} {S : tS} {K : Int32 → tS → Prop} {a1 : Int32} (hM : gN S 0 ≠ 0) (hf : M_gives a1 S K) : Met l yX6_gives (ws_ yX6_gives cX6_gives 2 (some .int)) (tRm 0 0) (va_Pc [.ref (ad 0), .int a1] (tPre G ad A S)) (va_Qi K (tB G ad A (gN S)) A) 0 0 A :=
  tj_met_i [(0, .ref (ad 0)), (1, .int a1)] pn_X6 rfl (Nat.le_of_ble_eq_true rfl) (fun p e R s m args below meth c Q C hw r => w_M_gives_b0 C hw rfl r hM hf)
theorem w_M_appeal_b0 {Γ : tX} {N0 : Nat → Nat} {K : Int32 → tS → Prop} (C : TC Γ cX6_appeal RX6 2 42) (hw : tWf N0) (hR : xnL Γ = 3) (r : TRi Γ N0 cX6_appeal K) {a1 : Int32} (hM : N0 0 ≠ 0) {S : tS} (hf : M_appeal a1 S K) : TJ Γ N0 0 0 0 [(0, .ref (xad Γ 0)), (1, .int a1)] [] S := by
  unfold M_appeal at hf
  refine tj_aload_n C 0 rfl rfl dX6_appeal_0 ?_
  refine tj_iload_n C 1 rfl rfl dX6_appeal_1 ?_
  refine tj_i2l C dX6_appeal_2 ?_
  refine tj_callVz C (k := 0) [.long (a1.toInt64)] [] (fun hN => c_M_isPerson (by rw [hN]; exact hM) hf) lk_X6_305 ty_X6_isPerson rfl (Nat.le_of_ble_eq_true rfl) (Nat.le_of_ble_eq_true rfl) (Nat.le_of_ble_eq_true rfl) hM rfl (by decide) rfl rfl dX6_appeal_3 (fun r2 S1 hf => ?_)
  have hz_r2 := hf.1
  replace hf := hf.2
  refine tj_if_ne C 15 (by decide) dX6_appeal_6 (fun hc => ?_) (fun hc => ?_)
  · replace hf := hf.2 hc
    refine tj_aload_n C 0 rfl rfl dX6_appeal_15 ?_
    refine tj_iload_n C 1 rfl rfl dX6_appeal_16 ?_
    refine tj_iconst C kc_2 dX6_appeal_17 ?_
    refine tj_callVi C (k := 0) [.int a1, .int (nI 2)] [] (fun hN => c_M_personOf (by rw [hN]; exact hM) hf) lk_X6_281 ty_X6_personOf rfl (Nat.le_of_ble_eq_true rfl) (Nat.le_of_ble_eq_true rfl) (Nat.le_of_ble_eq_true rfl) hM rfl (by decide) rfl rfl dX6_appeal_18 (fun r4 S3 hf => ?_)
    refine tj_istore_n C (by rw [hR]; decide) [(2, .int r4), (0, .ref (xad Γ 0)), (1, .int a1)] rfl rfl dX6_appeal_21 ?_
    refine tj_iload_n C 0 rfl rfl dX6_appeal_22 ?_
    refine tj_if_ne C 33 (by decide) dX6_appeal_23 (fun hc => ?_) (fun hc => ?_)
    · replace hf := hf.2 hc
      refine tj_aload_n C 1 rfl rfl dX6_appeal_33 ?_
      refine gf_X6_7 C hM dX6_appeal_34 ?_
      refine tj_iload_n C 2 rfl rfl dX6_appeal_37 ?_
      refine tj_callSi C [.int a1] [.ref (xad Γ 48)] (fun hN => c_M_personRow hf) lk_X6_224 ty_X6_personRow rfl (Nat.le_of_ble_eq_true rfl) (Nat.le_of_ble_eq_true rfl) (Nat.le_of_ble_eq_true rfl) rfl dX6_appeal_38 (fun r6 S5 hf => ?_)
      refine tj_iconst C kc_2 dX6_appeal_41 ?_
      refine tj_iadd C dX6_appeal_42 ?_
      refine tj_iconst C kc_0 dX6_appeal_43 ?_
      refine tj_iast C 48 3548 rfl (ln_48 hw hM) _ rfl hf.1 dX6_appeal_44 ?_
      replace hf := hf.2
      refine tj_topS (fun S7 eS => ?_)
      replace hf := hf S7 eS
      refine tj_aload_n C 1 rfl rfl dX6_appeal_45 ?_
      refine tj_iload_n C 0 rfl rfl dX6_appeal_46 ?_
      refine tj_callVi C (k := 0) [.int r4] [] (fun hN => c_M_gives (by rw [hN]; exact hM) hf) lk_X6_95 ty_X6_gives rfl (Nat.le_of_ble_eq_true rfl) (Nat.le_of_ble_eq_true rfl) (Nat.le_of_ble_eq_true rfl) hM rfl (by decide) rfl rfl dX6_appeal_47 (fun r9 S8 hf => ?_)
      exact r _ _ _ _ dX6_appeal_50 hf
    · replace hf := hf.1 hc
      refine tj_aload_n C 1 rfl rfl dX6_appeal_26 ?_
      refine tj_bipush C kb_7 dX6_appeal_27 ?_
      refine tj_callVi C (k := 0) [.int (nI 7)] [] (fun hN => c_M_refuse (by rw [hN]; exact hM) hf) lk_X6_91 ty_X6_refuse rfl (Nat.le_of_ble_eq_true rfl) (Nat.le_of_ble_eq_true rfl) (Nat.le_of_ble_eq_true rfl) hM rfl (by decide) rfl rfl dX6_appeal_29 (fun r11 S10 hf => ?_)
      exact r _ _ _ _ dX6_appeal_32 hf
  · replace hf := hf.1 hc
    refine tj_aload_n C 0 rfl rfl dX6_appeal_9 ?_
    refine tj_iconst C kc_1 dX6_appeal_10 ?_
    refine tj_callVi C (k := 0) [.int (nI 1)] [] (fun hN => c_M_refuse (by rw [hN]; exact hM) hf) lk_X6_91 ty_X6_refuse rfl (Nat.le_of_ble_eq_true rfl) (Nat.le_of_ble_eq_true rfl) (Nat.le_of_ble_eq_true rfl) hM rfl (by decide) rfl rfl dX6_appeal_11 (fun r13 S12 hf => ?_)
    exact r _ _ _ _ dX6_appeal_14 hf
theorem c_M_appeal {l : Launch} {G : tG} {ad : Nat → Nat} {A : Nat → Prop} {S : tS} {K : Int32 → tS → Prop} {a1 : Int32} (hM : gN S 0 ≠ 0) (hf : M_appeal a1 S K) : Met l yX6_appeal (ws_ yX6_appeal cX6_appeal 3 (some .int)) (tRm 2 42) (va_Pc [.ref (ad 0), .int a1] (tPre G ad A S)) (va_Qi K (tB G ad A (gN S)) A) 0 0 A :=
  tj_met_i [(0, .ref (ad 0)), (1, .int a1)] pn_X6 rfl (Nat.le_of_ble_eq_true rfl) (fun p e R s m args below meth c Q C hw r => w_M_appeal_b0 C hw rfl r hM hf)
theorem w_M_isIn_b0 {Γ : tX} {N0 : Nat → Nat} {K : Int32 → tS → Prop} (C : TC Γ cX6_isIn RX6 0 0) (hw : tWf N0) (hR : xnL Γ = 3) (r : TRz Γ N0 cX6_isIn K) {a1 : Int32} {a2 : Int32} (hM : N0 0 ≠ 0) {S : tS} (hf : M_isIn a1 a2 S K) : TJ Γ N0 0 0 0 [(0, .ref (xad Γ 0)), (1, .int a1), (2, .int a2)] [] S := by
  unfold M_isIn at hf
  refine tj_iload_n C 1 rfl rfl dX6_isIn_0 ?_
  refine tj_iload_n C 2 rfl rfl dX6_isIn_1 ?_
  refine tj_ishr C dX6_isIn_2 ?_
  refine tj_iconst C kc_1 dX6_isIn_3 ?_
  refine tj_iand C dX6_isIn_4 ?_
  refine tj_iconst C kc_1 dX6_isIn_5 ?_
  refine tj_icmp_ne C 13 (by decide) dX6_isIn_6 (fun hc => ?_) (fun hc => ?_)
  · replace hf := hf.2 hc
    refine tj_iconst C kc_0 dX6_isIn_13 ?_
    exact r _ _ _ _ dX6_isIn_14 zb0 hf
  · replace hf := hf.1 hc
    refine tj_iconst C kc_1 dX6_isIn_9 ?_
    refine tj_goto C 14 (by decide) dX6_isIn_10 ?_
    exact r _ _ _ _ dX6_isIn_14 zb1 hf
theorem c_M_isIn {l : Launch} {G : tG} {ad : Nat → Nat} {A : Nat → Prop} {S : tS} {K : Int32 → tS → Prop} {a1 : Int32} {a2 : Int32} (hM : gN S 0 ≠ 0) (hf : M_isIn a1 a2 S K) : Met l yX6_isIn (ws_ yX6_isIn cX6_isIn 3 (some .boolean)) (tRm 0 0) (va_Pc [.ref (ad 0), .int a1, .int a2] (tPre G ad A S)) (va_Qi (fun r u => r &&& 1 = r ∧ K r u) (tB G ad A (gN S)) A) 0 0 A :=
  tj_met_z [(0, .ref (ad 0)), (1, .int a1), (2, .int a2)] pn_X6 rfl (Nat.le_of_ble_eq_true rfl) (fun p e R s m args below meth c Q C hw r => w_M_isIn_b0 C hw rfl r hM hf)
theorem w_M_wordOf_b0 {Γ : tX} {N0 : Nat → Nat} {K : Int32 → tS → Prop} (C : TC Γ cX6_wordOf RX6 0 0) (hw : tWf N0) (hR : xnL Γ = 3) (r : TRi Γ N0 cX6_wordOf K) {a1 : Int32} {a2 : Int32} (hM : N0 0 ≠ 0) {S : tS} (hf : M_wordOf a1 a2 S K) : TJ Γ N0 0 0 0 [(0, .ref (xad Γ 0)), (1, .int a1), (2, .int a2)] [] S := by
  unfold M_wordOf at hf
  refine tj_aload_n C 0 rfl rfl dX6_wordOf_0 ?_
  refine gf_X6_7 C hM dX6_wordOf_1 ?_
  refine tj_bipush C kb_114 dX6_wordOf_4 ?_
  refine tj_iconst C kc_2 dX6_wordOf_6 ?_
  refine tj_iload_n C 1 rfl rfl dX6_wordOf_7 ?_
  refine tj_imul C dX6_wordOf_8 ?_
  refine tj_iadd C dX6_wordOf_9 ?_
  refine tj_iload_n C 2 rfl rfl dX6_wordOf_10 ?_
  refine tj_iadd C dX6_wordOf_11 ?_
  refine tj_iald C 48 3548 rfl (ln_48 hw hM) _ rfl hf.1 dX6_wordOf_12 ?_
  replace hf := hf.2
  exact r _ _ _ _ dX6_wordOf_13 hf
theorem c_M_wordOf {l : Launch} {G : tG} {ad : Nat → Nat} {A : Nat → Prop} {S : tS} {K : Int32 → tS → Prop} {a1 : Int32} {a2 : Int32} (hM : gN S 0 ≠ 0) (hf : M_wordOf a1 a2 S K) : Met l yX6_wordOf (ws_ yX6_wordOf cX6_wordOf 3 (some .int)) (tRm 0 0) (va_Pc [.ref (ad 0), .int a1, .int a2] (tPre G ad A S)) (va_Qi K (tB G ad A (gN S)) A) 0 0 A :=
  tj_met_i [(0, .ref (ad 0)), (1, .int a1), (2, .int a2)] pn_X6 rfl (Nat.le_of_ble_eq_true rfl) (fun p e R s m args below meth c Q C hw r => w_M_wordOf_b0 C hw rfl r hM hf)
theorem w_M_areUnlike_b76 {Γ : tX} {N0 : Nat → Nat} {K : Int32 → tS → Prop} (C : TC Γ cX6_areUnlike RX6 1 22) (hw : tWf N0) (hR : xnL Γ = 4) (r : TRz Γ N0 cX6_areUnlike K) {a1 : Int32} (hM : N0 0 ≠ 0) {κ2 : Int32 → tS → Prop} (hκ2 : ∀ (a2 : Int32) (S : tS), κ2 a2 S → TJ Γ N0 0 0 2 [(0, .ref (xad Γ 0)), (1, .int a1), (2, .int a2)] [] S) {κ16 : Int32 → Int32 → tS → Prop} (hκ16 : ∀ (a2 : Int32) (a3 : Int32) (S : tS), κ16 a2 a3 S → TJ Γ N0 0 0 16 [(0, .ref (xad Γ 0)), (1, .int a1), (2, .int a2), (3, .int a3)] [] S) {a2 : Int32} {a3 : Int32} {S : tS} (hf : M_areUnlike_b76 a1 K κ2 κ16 a2 a3 S) : TJ Γ N0 0 0 76 [(0, .ref (xad Γ 0)), (1, .int a1), (2, .int a2), (3, .int a3)] [] S := by
  unfold M_areUnlike_b76 at hf
  obtain ⟨x15, ex⟩ : ∃ y : Int32, y = a3 + nI 1 := ⟨_, rfl⟩
  refine tj_iinc C (by rw [hR]; decide) 3 [(3, .int x15), (0, .ref (xad Γ 0)), (1, .int a1), (2, .int a2)] rfl (by rw [ex]; exact ki_1 _) rfl dX6_areUnlike_76 ?_
  replace hf := hf x15 ex
  refine tj_goto C 16 (by decide) dX6_areUnlike_79 ?_
  exact tj_sub [1, 2, 3, 0] (hκ16 _ _ _ hf) rfl
theorem w_M_areUnlike_l16 {Γ : tX} {N0 : Nat → Nat} {K : Int32 → tS → Prop} (C : TC Γ cX6_areUnlike RX6 1 22) (hw : tWf N0) (hR : xnL Γ = 4) (r : TRz Γ N0 cX6_areUnlike K) {a1 : Int32} (hM : N0 0 ≠ 0) {κ2 : Int32 → tS → Prop} (hκ2 : ∀ (a2 : Int32) (S : tS), κ2 a2 S → TJ Γ N0 0 0 2 [(0, .ref (xad Γ 0)), (1, .int a1), (2, .int a2)] [] S) : ∀ (n : Nat) (a2 : Int32) (a3 : Int32) (S : tS), M_areUnlike_l16 a1 K κ2 n a2 a3 S → TJ Γ N0 0 0 16 [(0, .ref (xad Γ 0)), (1, .int a1), (2, .int a2), (3, .int a3)] [] S := by
  intro n
  induction n with
  | zero => intro a2 a3 S hf; exact hf.elim
  | succ n ih =>
    intro a2 a3 S hf
    unfold M_areUnlike_l16 at hf
    refine tj_iload_n C 3 rfl rfl dX6_areUnlike_16 ?_
    refine tj_aload_n C 0 rfl rfl dX6_areUnlike_17 ?_
    refine gf_X6_7 C hM dX6_areUnlike_18 ?_
    refine tj_iconst C kc_5 dX6_areUnlike_21 ?_
    refine tj_iald C 48 3548 rfl (ln_48 hw hM) 5 kn_5 (vp_in_nI (by decide) (by decide)) dX6_areUnlike_22 ?_
    refine tj_icmp_ge C 82 (by decide) dX6_areUnlike_23 (fun hc => ?_) (fun hc => ?_)
    · replace hf := hf.1 hc
      obtain ⟨x2, ex⟩ : ∃ y : Int32, y = a2 + nI 1 := ⟨_, rfl⟩
      refine tj_iinc C (by rw [hR]; decide) 2 [(2, .int x2), (0, .ref (xad Γ 0)), (1, .int a1), (3, .int a3)] rfl (by rw [ex]; exact ki_1 _) rfl dX6_areUnlike_82 ?_
      replace hf := hf x2 ex
      refine tj_goto C 2 (by decide) dX6_areUnlike_85 ?_
      exact tj_sub [1, 2, 0] (hκ2 _ _ hf) rfl
    · replace hf := hf.2 hc
      refine tj_aload_n C 0 rfl rfl dX6_areUnlike_26 ?_
      refine tj_iload_n C 1 rfl rfl dX6_areUnlike_27 ?_
      refine tj_iload_n C 2 rfl rfl dX6_areUnlike_28 ?_
      refine tj_callVz C (k := 0) [.int a1, .int a2] [] (fun hN => c_M_isIn (by rw [hN]; exact hM) hf) lk_X6_315 ty_X6_isIn rfl (Nat.le_of_ble_eq_true rfl) (Nat.le_of_ble_eq_true rfl) (Nat.le_of_ble_eq_true rfl) hM rfl (by decide) rfl rfl dX6_areUnlike_29 (fun r4 S3 hf => ?_)
      have hz_r4 := hf.1
      replace hf := hf.2
      refine tj_if_eq C 76 (by decide) dX6_areUnlike_32 (fun hc => ?_) (fun hc => ?_)
      · replace hf := hf.1 hc
        exact w_M_areUnlike_b76 C hw hR r hM hκ2 ih hf
      · replace hf := hf.2 hc
        refine tj_aload_n C 0 rfl rfl dX6_areUnlike_35 ?_
        refine tj_iload_n C 1 rfl rfl dX6_areUnlike_36 ?_
        refine tj_iload_n C 3 rfl rfl dX6_areUnlike_37 ?_
        refine tj_callVz C (k := 0) [.int a1, .int a3] [] (fun hN => c_M_isIn (by rw [hN]; exact hM) hf) lk_X6_315 ty_X6_isIn rfl (Nat.le_of_ble_eq_true rfl) (Nat.le_of_ble_eq_true rfl) (Nat.le_of_ble_eq_true rfl) hM rfl (by decide) rfl rfl dX6_areUnlike_38 (fun r6 S5 hf => ?_)
        have hz_r6 := hf.1
        replace hf := hf.2
        refine tj_if_eq C 76 (by decide) dX6_areUnlike_41 (fun hc => ?_) (fun hc => ?_)
        · replace hf := hf.1 hc
          exact w_M_areUnlike_b76 C hw hR r hM hκ2 ih hf
        · replace hf := hf.2 hc
          refine tj_aload_n C 0 rfl rfl dX6_areUnlike_44 ?_
          refine tj_iload_n C 2 rfl rfl dX6_areUnlike_45 ?_
          refine tj_iconst C kc_0 dX6_areUnlike_46 ?_
          refine tj_callVi C (k := 0) [.int a2, .int (nI 0)] [] (fun hN => c_M_wordOf (by rw [hN]; exact hM) hf) lk_X6_440 ty_X6_wordOf rfl (Nat.le_of_ble_eq_true rfl) (Nat.le_of_ble_eq_true rfl) (Nat.le_of_ble_eq_true rfl) hM rfl (by decide) rfl rfl dX6_areUnlike_47 (fun r8 S7 hf => ?_)
          refine tj_aload_n C 0 rfl rfl dX6_areUnlike_50 ?_
          refine tj_iload_n C 3 rfl rfl dX6_areUnlike_51 ?_
          refine tj_iconst C kc_0 dX6_areUnlike_52 ?_
          refine tj_callVi C (k := 0) [.int a3, .int (nI 0)] [.int r8] (fun hN => c_M_wordOf (by rw [hN]; exact hM) hf) lk_X6_440 ty_X6_wordOf rfl (Nat.le_of_ble_eq_true rfl) (Nat.le_of_ble_eq_true rfl) (Nat.le_of_ble_eq_true rfl) hM rfl (by decide) rfl rfl dX6_areUnlike_53 (fun r10 S9 hf => ?_)
          refine tj_icmp_ne C 76 (by decide) dX6_areUnlike_56 (fun hc => ?_) (fun hc => ?_)
          · replace hf := hf.2 hc
            exact w_M_areUnlike_b76 C hw hR r hM hκ2 ih hf
          · replace hf := hf.1 hc
            refine tj_aload_n C 0 rfl rfl dX6_areUnlike_59 ?_
            refine tj_iload_n C 2 rfl rfl dX6_areUnlike_60 ?_
            refine tj_iconst C kc_1 dX6_areUnlike_61 ?_
            refine tj_callVi C (k := 0) [.int a2, .int (nI 1)] [] (fun hN => c_M_wordOf (by rw [hN]; exact hM) hf) lk_X6_440 ty_X6_wordOf rfl (Nat.le_of_ble_eq_true rfl) (Nat.le_of_ble_eq_true rfl) (Nat.le_of_ble_eq_true rfl) hM rfl (by decide) rfl rfl dX6_areUnlike_62 (fun r12 S11 hf => ?_)
            refine tj_aload_n C 0 rfl rfl dX6_areUnlike_65 ?_
            refine tj_iload_n C 3 rfl rfl dX6_areUnlike_66 ?_
            refine tj_iconst C kc_1 dX6_areUnlike_67 ?_
            refine tj_callVi C (k := 0) [.int a3, .int (nI 1)] [.int r12] (fun hN => c_M_wordOf (by rw [hN]; exact hM) hf) lk_X6_440 ty_X6_wordOf rfl (Nat.le_of_ble_eq_true rfl) (Nat.le_of_ble_eq_true rfl) (Nat.le_of_ble_eq_true rfl) hM rfl (by decide) rfl rfl dX6_areUnlike_68 (fun r14 S13 hf => ?_)
            refine tj_icmp_eq C 76 (by decide) dX6_areUnlike_71 (fun hc => ?_) (fun hc => ?_)
            · replace hf := hf.1 hc
              exact w_M_areUnlike_b76 C hw hR r hM hκ2 ih hf
            · replace hf := hf.2 hc
              refine tj_iconst C kc_1 dX6_areUnlike_74 ?_
              exact r _ _ _ _ dX6_areUnlike_75 zb1 hf
theorem w_M_areUnlike_l2 {Γ : tX} {N0 : Nat → Nat} {K : Int32 → tS → Prop} (C : TC Γ cX6_areUnlike RX6 1 22) (hw : tWf N0) (hR : xnL Γ = 4) (r : TRz Γ N0 cX6_areUnlike K) {a1 : Int32} (hM : N0 0 ≠ 0) : ∀ (n : Nat) (a2 : Int32) (S : tS), M_areUnlike_l2 a1 K n a2 S → TJ Γ N0 0 0 2 [(0, .ref (xad Γ 0)), (1, .int a1), (2, .int a2)] [] S := by
  intro n
  induction n with
  | zero => intro a2 S hf; exact hf.elim
  | succ n ih =>
    intro a2 S hf
    unfold M_areUnlike_l2 at hf
    refine tj_iload_n C 2 rfl rfl dX6_areUnlike_2 ?_
    refine tj_aload_n C 0 rfl rfl dX6_areUnlike_3 ?_
    refine gf_X6_7 C hM dX6_areUnlike_4 ?_
    refine tj_iconst C kc_5 dX6_areUnlike_7 ?_
    refine tj_iald C 48 3548 rfl (ln_48 hw hM) 5 kn_5 (vp_in_nI (by decide) (by decide)) dX6_areUnlike_8 ?_
    refine tj_icmp_ge C 88 (by decide) dX6_areUnlike_9 (fun hc => ?_) (fun hc => ?_)
    · replace hf := hf.1 hc
      refine tj_iconst C kc_0 dX6_areUnlike_88 ?_
      exact r _ _ _ _ dX6_areUnlike_89 zb0 hf
    · replace hf := hf.2 hc
      refine tj_iload_n C 2 rfl rfl dX6_areUnlike_12 ?_
      refine tj_iconst C kc_1 dX6_areUnlike_13 ?_
      refine tj_iadd C dX6_areUnlike_14 ?_
      refine tj_topi (fun x1 ex => ?_)
      replace hf := hf x1 ex
      refine tj_istore_n C (by rw [hR]; decide) [(3, .int x1), (0, .ref (xad Γ 0)), (1, .int a1), (2, .int a2)] rfl rfl dX6_areUnlike_15 ?_
      exact tj_sub [1, 2, 3, 0] (hf.elim fun k hf => w_M_areUnlike_l16 C hw hR r hM ih k _ _ _ hf) rfl
theorem w_M_areUnlike_b0 {Γ : tX} {N0 : Nat → Nat} {K : Int32 → tS → Prop} (C : TC Γ cX6_areUnlike RX6 1 22) (hw : tWf N0) (hR : xnL Γ = 4) (r : TRz Γ N0 cX6_areUnlike K) {a1 : Int32} (hM : N0 0 ≠ 0) {S : tS} (hf : M_areUnlike a1 S K) : TJ Γ N0 0 0 0 [(0, .ref (xad Γ 0)), (1, .int a1)] [] S := by
  unfold M_areUnlike at hf
  refine tj_iconst C kc_0 dX6_areUnlike_0 ?_
  refine tj_istore_n C (by rw [hR]; decide) [(2, .int (nI 0)), (0, .ref (xad Γ 0)), (1, .int a1)] rfl rfl dX6_areUnlike_1 ?_
  exact tj_sub [1, 2, 0] (hf.elim fun k hf => w_M_areUnlike_l2 C hw hR r hM k _ _ hf) rfl
theorem c_M_areUnlike {l : Launch} {G : tG} {ad : Nat → Nat} {A : Nat → Prop} {S : tS} {K : Int32 → tS → Prop} {a1 : Int32} (hM : gN S 0 ≠ 0) (hf : M_areUnlike a1 S K) : Met l yX6_areUnlike (ws_ yX6_areUnlike cX6_areUnlike 4 (some .boolean)) (tRm 1 22) (va_Pc [.ref (ad 0), .int a1] (tPre G ad A S)) (va_Qi (fun r u => r &&& 1 = r ∧ K r u) (tB G ad A (gN S)) A) 0 0 A :=
  tj_met_z [(0, .ref (ad 0)), (1, .int a1)] pn_X6 rfl (Nat.le_of_ble_eq_true rfl) (fun p e R s m args below meth c Q C hw r => w_M_areUnlike_b0 C hw rfl r hM hf)
theorem w_M_isTray_b0 {Γ : tX} {N0 : Nat → Nat} {K : Int32 → tS → Prop} (C : TC Γ cX6_isTray RX6 0 0) (hw : tWf N0) (hR : xnL Γ = 1) (r : TRz Γ N0 cX6_isTray K) {a0 : Int32} {S : tS} (hf : M_isTray a0 S K) : TJ Γ N0 0 0 0 [(0, .int a0)] [] S := by
  unfold M_isTray at hf
  refine tj_iload_n C 0 rfl rfl dX6_isTray_0 ?_
  refine tj_if_lt C 13 (by decide) dX6_isTray_1 (fun hc => ?_) (fun hc => ?_)
  · replace hf := hf.1 hc
    refine tj_iconst C kc_0 dX6_isTray_13 ?_
    exact r _ _ _ _ dX6_isTray_14 zb0 hf
  · replace hf := hf.2 hc
    refine tj_iload_n C 0 rfl rfl dX6_isTray_4 ?_
    refine tj_iconst C kc_4 dX6_isTray_5 ?_
    refine tj_icmp_ge C 13 (by decide) dX6_isTray_6 (fun hc => ?_) (fun hc => ?_)
    · replace hf := hf.1 hc
      refine tj_iconst C kc_0 dX6_isTray_13 ?_
      exact r _ _ _ _ dX6_isTray_14 zb0 hf
    · replace hf := hf.2 hc
      refine tj_iconst C kc_1 dX6_isTray_9 ?_
      refine tj_goto C 14 (by decide) dX6_isTray_10 ?_
      exact r _ _ _ _ dX6_isTray_14 zb1 hf
theorem c_M_isTray {l : Launch} {G : tG} {ad : Nat → Nat} {A : Nat → Prop} {S : tS} {K : Int32 → tS → Prop} {a0 : Int32} (hf : M_isTray a0 S K) : Met l yX6_isTray (ws_ yX6_isTray cX6_isTray 1 (some .boolean)) (tRm 0 0) (va_Pc [.int a0] (tPre G ad A S)) (va_Qi (fun r u => r &&& 1 = r ∧ K r u) (tB G ad A (gN S)) A) 0 0 A :=
  tj_met_z [(0, .int a0)] pn_X6 rfl (Nat.le_of_ble_eq_true rfl) (fun p e R s m args below meth c Q C hw r => w_M_isTray_b0 C hw rfl r hf)
theorem w_M_isFrom_b0 {Γ : tX} {N0 : Nat → Nat} {K : Int32 → tS → Prop} (C : TC Γ cX6_isFrom RX6 0 0) (hw : tWf N0) (hR : xnL Γ = 6) (r : TRz Γ N0 cX6_isFrom K) {a0 : Int64} {a2 : Int64} {a4 : Int64} {S : tS} (hf : M_isFrom a0 a2 a4 S K) : TJ Γ N0 0 0 0 [(0, .long a0), (2, .long a2), (4, .long a4)] [] S := by
  unfold M_isFrom at hf
  refine tj_lload_n C 0 rfl rfl dX6_isFrom_0 ?_
  refine tj_lload_n C 1 rfl rfl dX6_isFrom_1 ?_
  refine tj_lcmp C dX6_isFrom_2 ?_
  refine tj_if_lt C 17 (by decide) dX6_isFrom_3 (fun hc => ?_) (fun hc => ?_)
  · replace hf := hf.1 hc
    refine tj_iconst C kc_0 dX6_isFrom_17 ?_
    exact r _ _ _ _ dX6_isFrom_18 zb0 hf
  · replace hf := hf.2 hc
    refine tj_lload_n C 0 rfl rfl dX6_isFrom_6 ?_
    refine tj_lload C 2 rfl dX6_isFrom_7 ?_
    refine tj_lcmp C dX6_isFrom_9 ?_
    refine tj_if_gt C 17 (by decide) dX6_isFrom_10 (fun hc => ?_) (fun hc => ?_)
    · replace hf := hf.1 hc
      refine tj_iconst C kc_0 dX6_isFrom_17 ?_
      exact r _ _ _ _ dX6_isFrom_18 zb0 hf
    · replace hf := hf.2 hc
      refine tj_iconst C kc_1 dX6_isFrom_13 ?_
      refine tj_goto C 18 (by decide) dX6_isFrom_14 ?_
      exact r _ _ _ _ dX6_isFrom_18 zb1 hf
theorem c_M_isFrom {l : Launch} {G : tG} {ad : Nat → Nat} {A : Nat → Prop} {S : tS} {K : Int32 → tS → Prop} {a0 : Int64} {a2 : Int64} {a4 : Int64} (hf : M_isFrom a0 a2 a4 S K) : Met l yX6_isFrom (ws_ yX6_isFrom cX6_isFrom 6 (some .boolean)) (tRm 0 0) (va_Pc [.long a0, .long a2, .long a4] (tPre G ad A S)) (va_Qi (fun r u => r &&& 1 = r ∧ K r u) (tB G ad A (gN S)) A) 0 0 A :=
  tj_met_z [(0, .long a0), (2, .long a2), (4, .long a4)] pn_X6 rfl (Nat.le_of_ble_eq_true rfl) (fun p e R s m args below meth c Q C hw r => w_M_isFrom_b0 C hw rfl r hf)
theorem w_M_wrongSeen_l49 {Γ : tX} {N0 : Nat → Nat} {K : Int32 → tS → Prop} (C : TC Γ cX6_wrongSeen RX6 1 25) (hw : tWf N0) (hR : xnL Γ = 5) (r : TRi Γ N0 cX6_wrongSeen K) {a1 : Int32} {a2 : Int32} (hM : N0 0 ≠ 0) : ∀ (n : Nat) (a3 : Int32) (S : tS), M_wrongSeen_l49 a1 a2 K n a3 S → TJ Γ N0 0 0 49 [(0, .ref (xad Γ 0)), (1, .int a1), (2, .int a2), (3, .int a3)] [] S := by
  intro n
  induction n with
  | zero => intro a3 S hf; exact hf.elim
  | succ n ih =>
    intro a3 S hf
    unfold M_wrongSeen_l49 at hf
    refine tj_iload_n C 3 rfl rfl dX6_wrongSeen_49 ?_
    refine tj_iload_n C 2 rfl rfl dX6_wrongSeen_50 ?_
    refine tj_icmp_ge C 128 (by decide) dX6_wrongSeen_51 (fun hc => ?_) (fun hc => ?_)
    · replace hf := hf.1 hc
      refine tj_iconst C kc_0 dX6_wrongSeen_128 ?_
      exact r _ _ _ _ dX6_wrongSeen_129 hf
    · replace hf := hf.2 hc
      refine tj_bipush C kb_60 dX6_wrongSeen_54 ?_
      refine tj_iload_n C 1 rfl rfl dX6_wrongSeen_56 ?_
      refine tj_imul C dX6_wrongSeen_57 ?_
      refine tj_iconst C kc_3 dX6_wrongSeen_58 ?_
      refine tj_iload_n C 3 rfl rfl dX6_wrongSeen_59 ?_
      refine tj_imul C dX6_wrongSeen_60 ?_
      refine tj_iadd C dX6_wrongSeen_61 ?_
      refine tj_topi (fun x5 ex => ?_)
      replace hf := hf x5 ex
      refine tj_istore C (by rw [hR]; decide) [(4, .int x5), (0, .ref (xad Γ 0)), (1, .int a1), (2, .int a2), (3, .int a3)] rfl dX6_wrongSeen_62 ?_
      refine tj_aload_n C 1 rfl rfl dX6_wrongSeen_64 ?_
      refine tj_aload_n C 1 rfl rfl dX6_wrongSeen_65 ?_
      refine gf_X6_27 C hM dX6_wrongSeen_66 ?_
      refine tj_iload C 0 rfl dX6_wrongSeen_69 ?_
      refine tj_lald C 177 240 rfl (ln_177 hw hM) _ rfl hf.1 dX6_wrongSeen_71 ?_
      replace hf := hf.2
      refine tj_callVz C (k := 0) [.long (gL S 177 (x5.toNatClampNeg))] [] (fun hN => c_M_isPerson (by rw [hN]; exact hM) hf) lk_X6_305 ty_X6_isPerson rfl (Nat.le_of_ble_eq_true rfl) (Nat.le_of_ble_eq_true rfl) (Nat.le_of_ble_eq_true rfl) hM rfl (by decide) rfl rfl dX6_wrongSeen_72 (fun r7 S6 hf => ?_)
      have hz_r7 := hf.1
      replace hf := hf.2
      refine tj_if_eq C 120 (by decide) dX6_wrongSeen_75 (fun hc => ?_) (fun hc => ?_)
      · replace hf := hf.1 hc
        refine tj_iconst C kc_5 dX6_wrongSeen_120 ?_
        exact r _ _ _ _ dX6_wrongSeen_121 hf
      · replace hf := hf.2 hc
        refine tj_aload_n C 1 rfl rfl dX6_wrongSeen_78 ?_
        refine gf_X6_27 C hM dX6_wrongSeen_79 ?_
        refine tj_iload C 0 rfl dX6_wrongSeen_82 ?_
        refine tj_iconst C kc_1 dX6_wrongSeen_84 ?_
        refine tj_iadd C dX6_wrongSeen_85 ?_
        refine tj_lald C 177 240 rfl (ln_177 hw hM) _ rfl hf.1 dX6_wrongSeen_86 ?_
        replace hf := hf.2
        refine tj_lconst C (v := lN 0) rfl dX6_wrongSeen_87 ?_
        refine tj_ldc2 C kl_X6_335 dX6_wrongSeen_88 ?_
        refine tj_callSz C [.long (gL S6 177 ((x5 + (nI 1)).toNatClampNeg)), .long (lN 0), .long (lN 9)] [] (fun hN => c_M_isFrom hf) lk_X6_337 ty_X6_isFrom rfl (Nat.le_of_ble_eq_true rfl) (Nat.le_of_ble_eq_true rfl) (Nat.le_of_ble_eq_true rfl) rfl dX6_wrongSeen_91 (fun r9 S8 hf => ?_)
        have hz_r9 := hf.1
        replace hf := hf.2
        refine tj_if_eq C 120 (by decide) dX6_wrongSeen_94 (fun hc => ?_) (fun hc => ?_)
        · replace hf := hf.1 hc
          refine tj_iconst C kc_5 dX6_wrongSeen_120 ?_
          exact r _ _ _ _ dX6_wrongSeen_121 hf
        · replace hf := hf.2 hc
          refine tj_aload_n C 1 rfl rfl dX6_wrongSeen_97 ?_
          refine gf_X6_27 C hM dX6_wrongSeen_98 ?_
          refine tj_iload C 0 rfl dX6_wrongSeen_101 ?_
          refine tj_iconst C kc_2 dX6_wrongSeen_103 ?_
          refine tj_iadd C dX6_wrongSeen_104 ?_
          refine tj_lald C 177 240 rfl (ln_177 hw hM) _ rfl hf.1 dX6_wrongSeen_105 ?_
          replace hf := hf.2
          refine tj_lconst C (v := lN 0) rfl dX6_wrongSeen_106 ?_
          refine tj_aload_n C 1 rfl rfl dX6_wrongSeen_107 ?_
          refine gf_X6_7 C hM dX6_wrongSeen_108 ?_
          refine tj_iconst C kc_1 dX6_wrongSeen_111 ?_
          refine tj_iald C 48 3548 rfl (ln_48 hw hM) 1 kn_1 (vp_in_nI (by decide) (by decide)) dX6_wrongSeen_112 ?_
          refine tj_i2l C dX6_wrongSeen_113 ?_
          refine tj_callSz C [.long (gL S8 177 ((x5 + (nI 2)).toNatClampNeg)), .long (lN 0), .long ((gI S8 48 1).toInt64)] [] (fun hN => c_M_isFrom hf) lk_X6_337 ty_X6_isFrom rfl (Nat.le_of_ble_eq_true rfl) (Nat.le_of_ble_eq_true rfl) (Nat.le_of_ble_eq_true rfl) rfl dX6_wrongSeen_114 (fun r11 S10 hf => ?_)
          have hz_r11 := hf.1
          replace hf := hf.2
          refine tj_if_ne C 122 (by decide) dX6_wrongSeen_117 (fun hc => ?_) (fun hc => ?_)
          · replace hf := hf.2 hc
            obtain ⟨x12, ex⟩ : ∃ y : Int32, y = a3 + nI 1 := ⟨_, rfl⟩
            refine tj_iinc C (by rw [hR]; decide) 4 [(3, .int x12), (4, .int x5), (0, .ref (xad Γ 0)), (1, .int a1), (2, .int a2)] rfl (by rw [ex]; exact ki_1 _) rfl dX6_wrongSeen_122 ?_
            replace hf := hf x12 ex
            refine tj_goto C 49 (by decide) dX6_wrongSeen_125 ?_
            exact tj_sub [2, 3, 4, 0] (ih _ _ hf) rfl
          · replace hf := hf.1 hc
            refine tj_iconst C kc_5 dX6_wrongSeen_120 ?_
            exact r _ _ _ _ dX6_wrongSeen_121 hf
theorem w_M_wrongSeen_b0 {Γ : tX} {N0 : Nat → Nat} {K : Int32 → tS → Prop} (C : TC Γ cX6_wrongSeen RX6 1 25) (hw : tWf N0) (hR : xnL Γ = 5) (r : TRi Γ N0 cX6_wrongSeen K) {a1 : Int32} {a2 : Int32} (hM : N0 0 ≠ 0) {S : tS} (hf : M_wrongSeen a1 a2 S K) : TJ Γ N0 0 0 0 [(0, .ref (xad Γ 0)), (1, .int a1), (2, .int a2)] [] S := by
  unfold M_wrongSeen at hf
  refine tj_iload_n C 1 rfl rfl dX6_wrongSeen_0 ?_
  refine tj_callSz C [.int a1] [] (fun hN => c_M_isTray hf) lk_X6_102 ty_X6_isTray rfl (Nat.le_of_ble_eq_true rfl) (Nat.le_of_ble_eq_true rfl) (Nat.le_of_ble_eq_true rfl) rfl dX6_wrongSeen_1 (fun r2 S1 hf => ?_)
  have hz_r2 := hf.1
  replace hf := hf.2
  refine tj_if_eq C 19 (by decide) dX6_wrongSeen_4 (fun hc => ?_) (fun hc => ?_)
  · replace hf := hf.1 hc
    refine tj_iconst C kc_1 dX6_wrongSeen_19 ?_
    exact r _ _ _ _ dX6_wrongSeen_20 hf
  · replace hf := hf.2 hc
    refine tj_iload_n C 2 rfl rfl dX6_wrongSeen_7 ?_
    refine tj_i2l C dX6_wrongSeen_8 ?_
    refine tj_lconst C (v := lN 0) rfl dX6_wrongSeen_9 ?_
    refine tj_ldc2 C kl_X6_380 dX6_wrongSeen_10 ?_
    refine tj_callSz C [.long (a2.toInt64), .long (lN 0), .long (lN 20)] [] (fun hN => c_M_isFrom hf) lk_X6_337 ty_X6_isFrom rfl (Nat.le_of_ble_eq_true rfl) (Nat.le_of_ble_eq_true rfl) (Nat.le_of_ble_eq_true rfl) rfl dX6_wrongSeen_13 (fun r4 S3 hf => ?_)
    have hz_r4 := hf.1
    replace hf := hf.2
    refine tj_if_ne C 21 (by decide) dX6_wrongSeen_16 (fun hc => ?_) (fun hc => ?_)
    · replace hf := hf.2 hc
      refine tj_aload_n C 0 rfl rfl dX6_wrongSeen_21 ?_
      refine gf_X6_24 C hM dX6_wrongSeen_22 ?_
      refine tj_iload_n C 1 rfl rfl dX6_wrongSeen_25 ?_
      refine tj_iald C 144 4 rfl (ln_144 hw hM) _ rfl hf.1 dX6_wrongSeen_26 ?_
      replace hf := hf.2
      refine tj_iconst C kc_m1 dX6_wrongSeen_27 ?_
      refine tj_icmp_ne C 33 (by decide) dX6_wrongSeen_28 (fun hc => ?_) (fun hc => ?_)
      · replace hf := hf.2 hc
        refine tj_aload_n C 0 rfl rfl dX6_wrongSeen_33 ?_
        refine gf_X6_24 C hM dX6_wrongSeen_34 ?_
        refine tj_iload_n C 1 rfl rfl dX6_wrongSeen_37 ?_
        refine tj_iald C 144 4 rfl (ln_144 hw hM) _ rfl hf.1 dX6_wrongSeen_38 ?_
        replace hf := hf.2
        refine tj_iconst C kc_3 dX6_wrongSeen_39 ?_
        refine tj_iload_n C 2 rfl rfl dX6_wrongSeen_40 ?_
        refine tj_imul C dX6_wrongSeen_41 ?_
        refine tj_icmp_ge C 47 (by decide) dX6_wrongSeen_42 (fun hc => ?_) (fun hc => ?_)
        · replace hf := hf.1 hc
          refine tj_iconst C kc_0 dX6_wrongSeen_47 ?_
          refine tj_istore_n C (by rw [hR]; decide) [(3, .int (nI 0)), (0, .ref (xad Γ 0)), (1, .int a1), (2, .int a2)] rfl rfl dX6_wrongSeen_48 ?_
          exact tj_sub [1, 2, 3, 0] (hf.elim fun k hf => w_M_wrongSeen_l49 C hw hR r hM k _ _ hf) rfl
        · replace hf := hf.2 hc
          refine tj_iconst C kc_3 dX6_wrongSeen_45 ?_
          exact r _ _ _ _ dX6_wrongSeen_46 hf
      · replace hf := hf.1 hc
        refine tj_iconst C kc_2 dX6_wrongSeen_31 ?_
        exact r _ _ _ _ dX6_wrongSeen_32 hf
    · replace hf := hf.1 hc
      refine tj_iconst C kc_1 dX6_wrongSeen_19 ?_
      exact r _ _ _ _ dX6_wrongSeen_20 hf
theorem c_M_wrongSeen {l : Launch} {G : tG} {ad : Nat → Nat} {A : Nat → Prop} {S : tS} {K : Int32 → tS → Prop} {a1 : Int32} {a2 : Int32} (hM : gN S 0 ≠ 0) (hf : M_wrongSeen a1 a2 S K) : Met l yX6_wrongSeen (ws_ yX6_wrongSeen cX6_wrongSeen 5 (some .int)) (tRm 1 25) (va_Pc [.ref (ad 0), .int a1, .int a2] (tPre G ad A S)) (va_Qi K (tB G ad A (gN S)) A) 0 0 A :=
  tj_met_i [(0, .ref (ad 0)), (1, .int a1), (2, .int a2)] pn_X6 rfl (Nat.le_of_ble_eq_true rfl) (fun p e R s m args below meth c Q C hw r => w_M_wrongSeen_b0 C hw rfl r hM hf)
theorem w_M_ruleOf_b0 {Γ : tX} {N0 : Nat → Nat} {K : Int32 → tS → Prop} (C : TC Γ cX6_ruleOf RX6 1 20) (hw : tWf N0) (hR : xnL Γ = 3) (r : TRi Γ N0 cX6_ruleOf K) {a1 : Int32} {a2 : Int32} (hM : N0 0 ≠ 0) {S : tS} (hf : M_ruleOf a1 a2 S K) : TJ Γ N0 0 0 0 [(0, .ref (xad Γ 0)), (1, .int a1), (2, .int a2)] [] S := by
  unfold M_ruleOf at hf
  refine tj_aload_n C 0 rfl rfl dX6_ruleOf_0 ?_
  refine gf_X6_7 C hM dX6_ruleOf_1 ?_
  refine tj_iload_n C 1 rfl rfl dX6_ruleOf_4 ?_
  refine tj_callSi C [.int a1] [.ref (xad Γ 48)] (fun hN => c_M_ruleRow hf) lk_X6_215 ty_X6_ruleRow rfl (Nat.le_of_ble_eq_true rfl) (Nat.le_of_ble_eq_true rfl) (Nat.le_of_ble_eq_true rfl) rfl dX6_ruleOf_5 (fun r2 S1 hf => ?_)
  refine tj_iload_n C 2 rfl rfl dX6_ruleOf_8 ?_
  refine tj_iadd C dX6_ruleOf_9 ?_
  refine tj_iald C 48 3548 rfl (ln_48 hw hM) _ rfl hf.1 dX6_ruleOf_10 ?_
  replace hf := hf.2
  exact r _ _ _ _ dX6_ruleOf_11 hf
theorem c_M_ruleOf {l : Launch} {G : tG} {ad : Nat → Nat} {A : Nat → Prop} {S : tS} {K : Int32 → tS → Prop} {a1 : Int32} {a2 : Int32} (hM : gN S 0 ≠ 0) (hf : M_ruleOf a1 a2 S K) : Met l yX6_ruleOf (ws_ yX6_ruleOf cX6_ruleOf 3 (some .int)) (tRm 1 20) (va_Pc [.ref (ad 0), .int a1, .int a2] (tPre G ad A S)) (va_Qi K (tB G ad A (gN S)) A) 0 0 A :=
  tj_met_i [(0, .ref (ad 0)), (1, .int a1), (2, .int a2)] pn_X6 rfl (Nat.le_of_ble_eq_true rfl) (fun p e R s m args below meth c Q C hw r => w_M_ruleOf_b0 C hw rfl r hM hf)
theorem w_M_isSo_b37 {Γ : tX} {N0 : Nat → Nat} {K : Int32 → tS → Prop} (C : TC Γ cX6_isSo RX6 0 0) (hw : tWf N0) (hR : xnL Γ = 3) (r : TRz Γ N0 cX6_isSo K) {a0 : Int32} {a1 : Int32} {a2 : Int32} {S : tS} (hf : M_isSo_b37 a0 a1 a2 K  S) : TJ Γ N0 0 0 37 [] [] S := by
  unfold M_isSo_b37 at hf
  refine tj_iconst C kc_1 dX6_isSo_37 ?_
  refine tj_goto C 42 (by decide) dX6_isSo_38 ?_
  exact r _ _ _ _ dX6_isSo_42 zb1 hf
theorem w_M_isSo_b0 {Γ : tX} {N0 : Nat → Nat} {K : Int32 → tS → Prop} (C : TC Γ cX6_isSo RX6 0 0) (hw : tWf N0) (hR : xnL Γ = 3) (r : TRz Γ N0 cX6_isSo K) {a0 : Int32} {a1 : Int32} {a2 : Int32} {S : tS} (hf : M_isSo a0 a1 a2 S K) : TJ Γ N0 0 0 0 [(0, .int a0), (1, .int a1), (2, .int a2)] [] S := by
  unfold M_isSo at hf
  refine tj_iload_n C 0 rfl rfl dX6_isSo_0 ?_
  refine tj_if_eq C 37 (by decide) dX6_isSo_1 (fun hc => ?_) (fun hc => ?_)
  · replace hf := hf.1 hc
    exact tj_sub [] (w_M_isSo_b37 C hw hR r hf) rfl
  · replace hf := hf.2 hc
    refine tj_iload_n C 0 rfl rfl dX6_isSo_4 ?_
    refine tj_bipush C kb_60 dX6_isSo_5 ?_
    refine tj_icmp_ne C 18 (by decide) dX6_isSo_7 (fun hc => ?_) (fun hc => ?_)
    · replace hf := hf.2 hc
      refine tj_iload_n C 0 rfl rfl dX6_isSo_18 ?_
      refine tj_bipush C kb_62 dX6_isSo_19 ?_
      refine tj_icmp_ne C 32 (by decide) dX6_isSo_21 (fun hc => ?_) (fun hc => ?_)
      · replace hf := hf.2 hc
        refine tj_iload_n C 1 rfl rfl dX6_isSo_32 ?_
        refine tj_iload_n C 2 rfl rfl dX6_isSo_33 ?_
        refine tj_icmp_ne C 41 (by decide) dX6_isSo_34 (fun hc => ?_) (fun hc => ?_)
        · replace hf := hf.2 hc
          refine tj_iconst C kc_0 dX6_isSo_41 ?_
          exact r _ _ _ _ dX6_isSo_42 zb0 hf
        · replace hf := hf.1 hc
          exact tj_sub [] (w_M_isSo_b37 C hw hR r hf) rfl
      · replace hf := hf.1 hc
        refine tj_iload_n C 1 rfl rfl dX6_isSo_24 ?_
        refine tj_iload_n C 2 rfl rfl dX6_isSo_25 ?_
        refine tj_icmp_le C 41 (by decide) dX6_isSo_26 (fun hc => ?_) (fun hc => ?_)
        · replace hf := hf.1 hc
          refine tj_iconst C kc_0 dX6_isSo_41 ?_
          exact r _ _ _ _ dX6_isSo_42 zb0 hf
        · replace hf := hf.2 hc
          refine tj_goto C 37 (by decide) dX6_isSo_29 ?_
          exact tj_sub [] (w_M_isSo_b37 C hw hR r hf) rfl
    · replace hf := hf.1 hc
      refine tj_iload_n C 1 rfl rfl dX6_isSo_10 ?_
      refine tj_iload_n C 2 rfl rfl dX6_isSo_11 ?_
      refine tj_icmp_ge C 41 (by decide) dX6_isSo_12 (fun hc => ?_) (fun hc => ?_)
      · replace hf := hf.1 hc
        refine tj_iconst C kc_0 dX6_isSo_41 ?_
        exact r _ _ _ _ dX6_isSo_42 zb0 hf
      · replace hf := hf.2 hc
        refine tj_goto C 37 (by decide) dX6_isSo_15 ?_
        exact tj_sub [] (w_M_isSo_b37 C hw hR r hf) rfl
theorem c_M_isSo {l : Launch} {G : tG} {ad : Nat → Nat} {A : Nat → Prop} {S : tS} {K : Int32 → tS → Prop} {a0 : Int32} {a1 : Int32} {a2 : Int32} (hf : M_isSo a0 a1 a2 S K) : Met l yX6_isSo (ws_ yX6_isSo cX6_isSo 3 (some .boolean)) (tRm 0 0) (va_Pc [.int a0, .int a1, .int a2] (tPre G ad A S)) (va_Qi (fun r u => r &&& 1 = r ∧ K r u) (tB G ad A (gN S)) A) 0 0 A :=
  tj_met_z [(0, .int a0), (1, .int a1), (2, .int a2)] pn_X6 rfl (Nat.le_of_ble_eq_true rfl) (fun p e R s m args below meth c Q C hw r => w_M_isSo_b0 C hw rfl r hf)
theorem w_M_doesBear_b51 {Γ : tX} {N0 : Nat → Nat} {K : Int32 → tS → Prop} (C : TC Γ cX6_doesBear RX6 2 42) (hw : tWf N0) (hR : xnL Γ = 8) (r : TRz Γ N0 cX6_doesBear K) {a1 : Int32} {a2 : Int32} {a3 : Int32} {a4 : Int32} {a5 : Int32} (hM : N0 0 ≠ 0) {S : tS} (hf : M_doesBear_b51 a1 a2 a3 a4 a5 K  S) : TJ Γ N0 0 0 51 [(0, .ref (xad Γ 0)), (1, .int a1), (3, .int a3), (4, .int a4)] [] S := by
  unfold M_doesBear_b51 at hf
  refine tj_aload_n C 0 rfl rfl dX6_doesBear_51 ?_
  refine tj_iload_n C 1 rfl rfl dX6_doesBear_52 ?_
  refine tj_iconst C kc_2 dX6_doesBear_53 ?_
  refine tj_callVi C (k := 0) [.int a1, .int (nI 2)] [] (fun hN => c_M_ruleOf (by rw [hN]; exact hM) hf) lk_X6_299 ty_X6_ruleOf rfl (Nat.le_of_ble_eq_true rfl) (Nat.le_of_ble_eq_true rfl) (Nat.le_of_ble_eq_true rfl) hM rfl (by decide) rfl rfl dX6_doesBear_54 (fun r8 S7 hf => ?_)
  refine tj_iload_n C 2 rfl rfl dX6_doesBear_57 ?_
  refine tj_aload_n C 0 rfl rfl dX6_doesBear_58 ?_
  refine tj_iload_n C 1 rfl rfl dX6_doesBear_59 ?_
  refine tj_iconst C kc_3 dX6_doesBear_60 ?_
  refine tj_callVi C (k := 0) [.int a1, .int (nI 3)] [.int a3, .int r8] (fun hN => c_M_ruleOf (by rw [hN]; exact hM) hf) lk_X6_299 ty_X6_ruleOf rfl (Nat.le_of_ble_eq_true rfl) (Nat.le_of_ble_eq_true rfl) (Nat.le_of_ble_eq_true rfl) hM rfl (by decide) rfl rfl dX6_doesBear_61 (fun r10 S9 hf => ?_)
  refine tj_callSz C [.int r8, .int a3, .int r10] [] (fun hN => c_M_isSo hf) lk_X6_318 ty_X6_isSo rfl (Nat.le_of_ble_eq_true rfl) (Nat.le_of_ble_eq_true rfl) (Nat.le_of_ble_eq_true rfl) rfl dX6_doesBear_64 (fun r12 S11 hf => ?_)
  have hz_r12 := hf.1
  replace hf := hf.2
  refine tj_if_eq C 94 (by decide) dX6_doesBear_67 (fun hc => ?_) (fun hc => ?_)
  · replace hf := hf.1 hc
    refine tj_iconst C kc_0 dX6_doesBear_94 ?_
    exact r _ _ _ _ dX6_doesBear_95 zb0 hf
  · replace hf := hf.2 hc
    refine tj_aload_n C 0 rfl rfl dX6_doesBear_70 ?_
    refine tj_iload_n C 1 rfl rfl dX6_doesBear_71 ?_
    refine tj_iconst C kc_4 dX6_doesBear_72 ?_
    refine tj_callVi C (k := 0) [.int a1, .int (nI 4)] [] (fun hN => c_M_ruleOf (by rw [hN]; exact hM) hf) lk_X6_299 ty_X6_ruleOf rfl (Nat.le_of_ble_eq_true rfl) (Nat.le_of_ble_eq_true rfl) (Nat.le_of_ble_eq_true rfl) hM rfl (by decide) rfl rfl dX6_doesBear_73 (fun r14 S13 hf => ?_)
    refine tj_iload C 3 rfl dX6_doesBear_76 ?_
    refine tj_aload_n C 0 rfl rfl dX6_doesBear_78 ?_
    refine tj_iload_n C 1 rfl rfl dX6_doesBear_79 ?_
    refine tj_iconst C kc_5 dX6_doesBear_80 ?_
    refine tj_callVi C (k := 0) [.int a1, .int (nI 5)] [.int a4, .int r14] (fun hN => c_M_ruleOf (by rw [hN]; exact hM) hf) lk_X6_299 ty_X6_ruleOf rfl (Nat.le_of_ble_eq_true rfl) (Nat.le_of_ble_eq_true rfl) (Nat.le_of_ble_eq_true rfl) hM rfl (by decide) rfl rfl dX6_doesBear_81 (fun r16 S15 hf => ?_)
    refine tj_callSz C [.int r14, .int a4, .int r16] [] (fun hN => c_M_isSo hf) lk_X6_318 ty_X6_isSo rfl (Nat.le_of_ble_eq_true rfl) (Nat.le_of_ble_eq_true rfl) (Nat.le_of_ble_eq_true rfl) rfl dX6_doesBear_84 (fun r18 S17 hf => ?_)
    have hz_r18 := hf.1
    replace hf := hf.2
    refine tj_if_eq C 94 (by decide) dX6_doesBear_87 (fun hc => ?_) (fun hc => ?_)
    · replace hf := hf.1 hc
      refine tj_iconst C kc_0 dX6_doesBear_94 ?_
      exact r _ _ _ _ dX6_doesBear_95 zb0 hf
    · replace hf := hf.2 hc
      refine tj_iconst C kc_1 dX6_doesBear_90 ?_
      refine tj_goto C 95 (by decide) dX6_doesBear_91 ?_
      exact r _ _ _ _ dX6_doesBear_95 zb1 hf
theorem w_M_doesBear_b32 {Γ : tX} {N0 : Nat → Nat} {K : Int32 → tS → Prop} (C : TC Γ cX6_doesBear RX6 2 42) (hw : tWf N0) (hR : xnL Γ = 8) (r : TRz Γ N0 cX6_doesBear K) {a1 : Int32} {a2 : Int32} {a3 : Int32} {a4 : Int32} {a5 : Int32} (hM : N0 0 ≠ 0) {a7 : Int32} {S : tS} (hf : M_doesBear_b32 a1 a2 a3 a4 a5 K a7 S) : TJ Γ N0 0 0 32 [(0, .ref (xad Γ 0)), (1, .int a1), (3, .int a3), (4, .int a4), (5, .int a5), (7, .int a7)] [] S := by
  unfold M_doesBear_b32 at hf
  refine tj_iload C 5 rfl dX6_doesBear_32 ?_
  refine tj_iconst C kc_m1 dX6_doesBear_34 ?_
  refine tj_icmp_eq C 51 (by decide) dX6_doesBear_35 (fun hc => ?_) (fun hc => ?_)
  · replace hf := hf.1 hc
    exact tj_sub [0, 1, 2, 3] (w_M_doesBear_b51 C hw hR r hM hf) rfl
  · replace hf := hf.2 hc
    refine tj_aload_n C 0 rfl rfl dX6_doesBear_38 ?_
    refine tj_iload C 4 rfl dX6_doesBear_39 ?_
    refine tj_iload C 5 rfl dX6_doesBear_41 ?_
    refine tj_callVz C (k := 0) [.int a5, .int a7] [] (fun hN => c_M_isIn (by rw [hN]; exact hM) hf) lk_X6_315 ty_X6_isIn rfl (Nat.le_of_ble_eq_true rfl) (Nat.le_of_ble_eq_true rfl) (Nat.le_of_ble_eq_true rfl) hM rfl (by decide) rfl rfl dX6_doesBear_43 (fun r6 S5 hf => ?_)
    have hz_r6 := hf.1
    replace hf := hf.2
    refine tj_if_ne C 51 (by decide) dX6_doesBear_46 (fun hc => ?_) (fun hc => ?_)
    · replace hf := hf.2 hc
      exact tj_sub [0, 1, 2, 3] (w_M_doesBear_b51 C hw hR r hM hf) rfl
    · replace hf := hf.1 hc
      refine tj_iconst C kc_0 dX6_doesBear_49 ?_
      exact r _ _ _ _ dX6_doesBear_50 zb0 hf
theorem w_M_doesBear_b0 {Γ : tX} {N0 : Nat → Nat} {K : Int32 → tS → Prop} (C : TC Γ cX6_doesBear RX6 2 42) (hw : tWf N0) (hR : xnL Γ = 8) (r : TRz Γ N0 cX6_doesBear K) {a1 : Int32} {a2 : Int32} {a3 : Int32} {a4 : Int32} {a5 : Int32} (hM : N0 0 ≠ 0) {S : tS} (hf : M_doesBear a1 a2 a3 a4 a5 S K) : TJ Γ N0 0 0 0 [(0, .ref (xad Γ 0)), (1, .int a1), (2, .int a2), (3, .int a3), (4, .int a4), (5, .int a5)] [] S := by
  unfold M_doesBear at hf
  refine tj_aload_n C 0 rfl rfl dX6_doesBear_0 ?_
  refine tj_iload_n C 1 rfl rfl dX6_doesBear_1 ?_
  refine tj_iconst C kc_1 dX6_doesBear_2 ?_
  refine tj_callVi C (k := 0) [.int a1, .int (nI 1)] [] (fun hN => c_M_ruleOf (by rw [hN]; exact hM) hf) lk_X6_299 ty_X6_ruleOf rfl (Nat.le_of_ble_eq_true rfl) (Nat.le_of_ble_eq_true rfl) (Nat.le_of_ble_eq_true rfl) hM rfl (by decide) rfl rfl dX6_doesBear_3 (fun r2 S1 hf => ?_)
  refine tj_istore C (by rw [hR]; decide) [(6, .int r2), (0, .ref (xad Γ 0)), (1, .int a1), (2, .int a2), (3, .int a3), (4, .int a4), (5, .int a5)] rfl dX6_doesBear_6 ?_
  refine tj_aload_n C 1 rfl rfl dX6_doesBear_8 ?_
  refine tj_iload_n C 2 rfl rfl dX6_doesBear_9 ?_
  refine tj_bipush C kb_6 dX6_doesBear_10 ?_
  refine tj_callVi C (k := 0) [.int a1, .int (nI 6)] [] (fun hN => c_M_ruleOf (by rw [hN]; exact hM) hf) lk_X6_299 ty_X6_ruleOf rfl (Nat.le_of_ble_eq_true rfl) (Nat.le_of_ble_eq_true rfl) (Nat.le_of_ble_eq_true rfl) hM rfl (by decide) rfl rfl dX6_doesBear_12 (fun r4 S3 hf => ?_)
  refine tj_istore C (by rw [hR]; decide) [(7, .int r4), (6, .int r2), (0, .ref (xad Γ 0)), (1, .int a1), (2, .int a2), (3, .int a3), (4, .int a4), (5, .int a5)] rfl dX6_doesBear_15 ?_
  refine tj_iload C 1 rfl dX6_doesBear_17 ?_
  refine tj_if_eq C 32 (by decide) dX6_doesBear_19 (fun hc => ?_) (fun hc => ?_)
  · replace hf := hf.1 hc
    exact tj_sub [2, 3, 5, 6, 7, 0] (w_M_doesBear_b32 C hw hR r hM hf) rfl
  · replace hf := hf.2 hc
    refine tj_iload C 1 rfl dX6_doesBear_22 ?_
    refine tj_iconst C kc_2 dX6_doesBear_24 ?_
    refine tj_iload_n C 4 rfl rfl dX6_doesBear_25 ?_
    refine tj_isub C dX6_doesBear_26 ?_
    refine tj_icmp_eq C 32 (by decide) dX6_doesBear_27 (fun hc => ?_) (fun hc => ?_)
    · replace hf := hf.1 hc
      exact tj_sub [2, 3, 5, 6, 7, 0] (w_M_doesBear_b32 C hw hR r hM hf) rfl
    · replace hf := hf.2 hc
      refine tj_iconst C kc_0 dX6_doesBear_30 ?_
      exact r _ _ _ _ dX6_doesBear_31 zb0 hf
theorem c_M_doesBear {l : Launch} {G : tG} {ad : Nat → Nat} {A : Nat → Prop} {S : tS} {K : Int32 → tS → Prop} {a1 : Int32} {a2 : Int32} {a3 : Int32} {a4 : Int32} {a5 : Int32} (hM : gN S 0 ≠ 0) (hf : M_doesBear a1 a2 a3 a4 a5 S K) : Met l yX6_doesBear (ws_ yX6_doesBear cX6_doesBear 8 (some .boolean)) (tRm 2 42) (va_Pc [.ref (ad 0), .int a1, .int a2, .int a3, .int a4, .int a5] (tPre G ad A S)) (va_Qi (fun r u => r &&& 1 = r ∧ K r u) (tB G ad A (gN S)) A) 0 0 A :=
  tj_met_z [(0, .ref (ad 0)), (1, .int a1), (2, .int a2), (3, .int a3), (4, .int a4), (5, .int a5)] pn_X6 rfl (Nat.le_of_ble_eq_true rfl) (fun p e R s m args below meth c Q C hw r => w_M_doesBear_b0 C hw rfl r hM hf)
theorem w_M_firstOf_l3 {Γ : tX} {N0 : Nat → Nat} {K : Int32 → tS → Prop} (C : TC Γ cX6_firstOf RX6 3 69) (hw : tWf N0) (hR : xnL Γ = 6) (r : TRi Γ N0 cX6_firstOf K) {a1 : Int32} {a2 : Int32} {a3 : Int32} {a4 : Int32} (hM : N0 0 ≠ 0) : ∀ (n : Nat) (a5 : Int32) (S : tS), M_firstOf_l3 a1 a2 a3 a4 K n a5 S → TJ Γ N0 0 0 3 [(0, .ref (xad Γ 0)), (1, .int a1), (2, .int a2), (3, .int a3), (4, .int a4), (5, .int a5)] [] S := by
  intro n
  induction n with
  | zero => intro a5 S hf; exact hf.elim
  | succ n ih =>
    intro a5 S hf
    unfold M_firstOf_l3 at hf
    refine tj_iload C 5 rfl dX6_firstOf_3 ?_
    refine tj_aload_n C 0 rfl rfl dX6_firstOf_5 ?_
    refine gf_X6_7 C hM dX6_firstOf_6 ?_
    refine tj_iconst C kc_2 dX6_firstOf_9 ?_
    refine tj_iald C 48 3548 rfl (ln_48 hw hM) 2 kn_2 (vp_in_nI (by decide) (by decide)) dX6_firstOf_10 ?_
    refine tj_icmp_ge C 37 (by decide) dX6_firstOf_11 (fun hc => ?_) (fun hc => ?_)
    · replace hf := hf.1 hc
      refine tj_iconst C kc_m1 dX6_firstOf_37 ?_
      exact r _ _ _ _ dX6_firstOf_38 hf
    · replace hf := hf.2 hc
      refine tj_aload_n C 0 rfl rfl dX6_firstOf_14 ?_
      refine tj_iload C 5 rfl dX6_firstOf_15 ?_
      refine tj_iload_n C 1 rfl rfl dX6_firstOf_17 ?_
      refine tj_iload_n C 2 rfl rfl dX6_firstOf_18 ?_
      refine tj_iload_n C 3 rfl rfl dX6_firstOf_19 ?_
      refine tj_iload C 4 rfl dX6_firstOf_20 ?_
      refine tj_callVz C (k := 0) [.int a5, .int a1, .int a2, .int a3, .int a4] [] (fun hN => c_M_doesBear (by rw [hN]; exact hM) hf) lk_X6_321 ty_X6_doesBear rfl (Nat.le_of_ble_eq_true rfl) (Nat.le_of_ble_eq_true rfl) (Nat.le_of_ble_eq_true rfl) hM rfl (by decide) rfl rfl dX6_firstOf_22 (fun r2 S1 hf => ?_)
      have hz_r2 := hf.1
      replace hf := hf.2
      refine tj_if_eq C 31 (by decide) dX6_firstOf_25 (fun hc => ?_) (fun hc => ?_)
      · replace hf := hf.1 hc
        obtain ⟨x3, ex⟩ : ∃ y : Int32, y = a5 + nI 1 := ⟨_, rfl⟩
        refine tj_iinc C (by rw [hR]; decide) 5 [(5, .int x3), (0, .ref (xad Γ 0)), (1, .int a1), (2, .int a2), (3, .int a3), (4, .int a4)] rfl (by rw [ex]; exact ki_1 _) rfl dX6_firstOf_31 ?_
        replace hf := hf x3 ex
        refine tj_goto C 3 (by decide) dX6_firstOf_34 ?_
        exact tj_sub [1, 2, 3, 4, 5, 0] (ih _ _ hf) rfl
      · replace hf := hf.2 hc
        refine tj_iload C 5 rfl dX6_firstOf_28 ?_
        exact r _ _ _ _ dX6_firstOf_30 hf
theorem w_M_firstOf_b0 {Γ : tX} {N0 : Nat → Nat} {K : Int32 → tS → Prop} (C : TC Γ cX6_firstOf RX6 3 69) (hw : tWf N0) (hR : xnL Γ = 6) (r : TRi Γ N0 cX6_firstOf K) {a1 : Int32} {a2 : Int32} {a3 : Int32} {a4 : Int32} (hM : N0 0 ≠ 0) {S : tS} (hf : M_firstOf a1 a2 a3 a4 S K) : TJ Γ N0 0 0 0 [(0, .ref (xad Γ 0)), (1, .int a1), (2, .int a2), (3, .int a3), (4, .int a4)] [] S := by
  unfold M_firstOf at hf
  refine tj_iconst C kc_0 dX6_firstOf_0 ?_
  refine tj_istore C (by rw [hR]; decide) [(5, .int (nI 0)), (0, .ref (xad Γ 0)), (1, .int a1), (2, .int a2), (3, .int a3), (4, .int a4)] rfl dX6_firstOf_1 ?_
  exact tj_sub [1, 2, 3, 4, 5, 0] (hf.elim fun k hf => w_M_firstOf_l3 C hw hR r hM k _ _ hf) rfl
theorem c_M_firstOf {l : Launch} {G : tG} {ad : Nat → Nat} {A : Nat → Prop} {S : tS} {K : Int32 → tS → Prop} {a1 : Int32} {a2 : Int32} {a3 : Int32} {a4 : Int32} (hM : gN S 0 ≠ 0) (hf : M_firstOf a1 a2 a3 a4 S K) : Met l yX6_firstOf (ws_ yX6_firstOf cX6_firstOf 6 (some .int)) (tRm 3 69) (va_Pc [.ref (ad 0), .int a1, .int a2, .int a3, .int a4] (tPre G ad A S)) (va_Qi K (tB G ad A (gN S)) A) 0 0 A :=
  tj_met_i [(0, .ref (ad 0)), (1, .int a1), (2, .int a2), (3, .int a3), (4, .int a4)] pn_X6 rfl (Nat.le_of_ble_eq_true rfl) (fun p e R s m args below meth c Q C hw r => w_M_firstOf_b0 C hw rfl r hM hf)
theorem w_M_cueOf_b0 {Γ : tX} {N0 : Nat → Nat} {K : Int32 → tS → Prop} (C : TC Γ cX6_cueOf RX6 4 94) (hw : tWf N0) (hR : xnL Γ = 6) (r : TRi Γ N0 cX6_cueOf K) {a1 : Int32} {a2 : Int32} {a3 : Int32} {a4 : Int32} (hM : N0 0 ≠ 0) {S : tS} (hf : M_cueOf a1 a2 a3 a4 S K) : TJ Γ N0 0 0 0 [(0, .ref (xad Γ 0)), (1, .int a1), (2, .int a2), (3, .int a3), (4, .int a4)] [] S := by
  unfold M_cueOf at hf
  refine tj_aload_n C 0 rfl rfl dX6_cueOf_0 ?_
  refine tj_iload_n C 1 rfl rfl dX6_cueOf_1 ?_
  refine tj_iload_n C 2 rfl rfl dX6_cueOf_2 ?_
  refine tj_iload_n C 3 rfl rfl dX6_cueOf_3 ?_
  refine tj_iload C 4 rfl dX6_cueOf_4 ?_
  refine tj_callVi C (k := 0) [.int a1, .int a2, .int a3, .int a4] [] (fun hN => c_M_firstOf (by rw [hN]; exact hM) hf) lk_X6_325 ty_X6_firstOf rfl (Nat.le_of_ble_eq_true rfl) (Nat.le_of_ble_eq_true rfl) (Nat.le_of_ble_eq_true rfl) hM rfl (by decide) rfl rfl dX6_cueOf_6 (fun r2 S1 hf => ?_)
  refine tj_istore C (by rw [hR]; decide) [(5, .int r2), (0, .ref (xad Γ 0)), (1, .int a1), (2, .int a2), (3, .int a3), (4, .int a4)] rfl dX6_cueOf_9 ?_
  refine tj_iload C 0 rfl dX6_cueOf_11 ?_
  refine tj_iconst C kc_m1 dX6_cueOf_13 ?_
  refine tj_icmp_ne C 21 (by decide) dX6_cueOf_14 (fun hc => ?_) (fun hc => ?_)
  · replace hf := hf.2 hc
    refine tj_aload_n C 1 rfl rfl dX6_cueOf_21 ?_
    refine tj_iload C 0 rfl dX6_cueOf_22 ?_
    refine tj_iconst C kc_0 dX6_cueOf_24 ?_
    refine tj_callVi C (k := 0) [.int r2, .int (nI 0)] [] (fun hN => c_M_ruleOf (by rw [hN]; exact hM) hf) lk_X6_299 ty_X6_ruleOf rfl (Nat.le_of_ble_eq_true rfl) (Nat.le_of_ble_eq_true rfl) (Nat.le_of_ble_eq_true rfl) hM rfl (by decide) rfl rfl dX6_cueOf_25 (fun r4 S3 hf => ?_)
    exact r _ _ _ _ dX6_cueOf_28 hf
  · replace hf := hf.1 hc
    refine tj_iconst C kc_m1 dX6_cueOf_17 ?_
    refine tj_goto C 28 (by decide) dX6_cueOf_18 ?_
    exact r _ _ _ _ dX6_cueOf_28 hf
theorem c_M_cueOf {l : Launch} {G : tG} {ad : Nat → Nat} {A : Nat → Prop} {S : tS} {K : Int32 → tS → Prop} {a1 : Int32} {a2 : Int32} {a3 : Int32} {a4 : Int32} (hM : gN S 0 ≠ 0) (hf : M_cueOf a1 a2 a3 a4 S K) : Met l yX6_cueOf (ws_ yX6_cueOf cX6_cueOf 6 (some .int)) (tRm 4 94) (va_Pc [.ref (ad 0), .int a1, .int a2, .int a3, .int a4] (tPre G ad A S)) (va_Qi K (tB G ad A (gN S)) A) 0 0 A :=
  tj_met_i [(0, .ref (ad 0)), (1, .int a1), (2, .int a2), (3, .int a3), (4, .int a4)] pn_X6 rfl (Nat.le_of_ble_eq_true rfl) (fun p e R s m args below meth c Q C hw r => w_M_cueOf_b0 C hw rfl r hM hf)
