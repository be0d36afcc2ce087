set_option maxRecDepth 100000
theorem w_M_cut_b0 {Γ : tX} {N0 : Nat → Nat} {K : Int64 → tS → Prop} (C : TC Γ cX6_cut RX6 0 0) (hw : tWf N0) (hR : xnL Γ = 3) (r : TRl Γ N0 cX6_cut K) {a0 : Int64} {a2 : Int32} {S : tS} (hf : M_cut a0 a2 S K) : TJ Γ N0 0 0 0 [(0, .long a0), (2, .int a2)] [] S := by
  unfold M_cut at hf
  refine tj_iload_n C 1 rfl rfl dX6_cut_0 ?_
  refine tj_if_ne C 11 (by decide) dX6_cut_1 (fun hc => ?_) (fun hc => ?_)
  · replace hf := hf.2 hc
    refine tj_iload_n C 1 rfl rfl dX6_cut_11 ?_
    refine tj_iconst C kc_1 dX6_cut_12 ?_
    refine tj_icmp_ne C 23 (by decide) dX6_cut_13 (fun hc => ?_) (fun hc => ?_)
    · replace hf := hf.2 hc
      refine tj_iload_n C 1 rfl rfl dX6_cut_23 ?_
      refine tj_iconst C kc_2 dX6_cut_24 ?_
      refine tj_icmp_ne C 34 (by decide) dX6_cut_25 (fun hc => ?_) (fun hc => ?_)
      · replace hf := hf.2 hc
        refine tj_lload_n C 0 rfl rfl dX6_cut_34 ?_
        exact r _ _ _ _ dX6_cut_35 hf
      · replace hf := hf.1 hc
        refine tj_lload_n C 0 rfl rfl dX6_cut_28 ?_
        refine tj_l2i C dX6_cut_29 ?_
        refine tj_i2l C dX6_cut_30 ?_
        refine tj_goto C 35 (by decide) dX6_cut_31 ?_
        exact r _ _ _ _ dX6_cut_35 hf
    · replace hf := hf.1 hc
      refine tj_lload_n C 0 rfl rfl dX6_cut_16 ?_
      refine tj_l2i C dX6_cut_17 ?_
      refine tj_i2s C dX6_cut_18 ?_
      refine tj_i2l C dX6_cut_19 ?_
      refine tj_goto C 35 (by decide) dX6_cut_20 ?_
      exact r _ _ _ _ dX6_cut_35 hf
  · replace hf := hf.1 hc
    refine tj_lload_n C 0 rfl rfl dX6_cut_4 ?_
    refine tj_l2i C dX6_cut_5 ?_
    refine tj_i2b C dX6_cut_6 ?_
    refine tj_i2l C dX6_cut_7 ?_
    refine tj_goto C 35 (by decide) dX6_cut_8 ?_
    exact r _ _ _ _ dX6_cut_35 hf
theorem c_M_cut {l : Launch} {G : tG} {ad : Nat → Nat} {A : Nat → Prop} {S : tS} {K : Int64 → tS → Prop} {a0 : Int64} {a2 : Int32} (hf : M_cut a0 a2 S K) : Met l yX6_cut (ws_ yX6_cut cX6_cut 3 (some .long)) (tRm 0 0) (va_Pc [.long a0, .int a2] (tPre G ad A S)) (va_Ql K (tB G ad A (gN S)) A) 0 0 A :=
  tj_met_l [(0, .long a0), (2, .int a2)] pn_X6 rfl (Nat.le_of_ble_eq_true rfl) (fun p e R s m args below meth c Q C hw r => w_M_cut_b0 C hw rfl r hf)
theorem w_M_copyFed_l52 {Γ : tX} {N0 : Nat → Nat} {K : Int32 → tS → Prop} (C : TC Γ cX6_copyFed RX6 2 42) (hw : tWf N0) (hR : xnL Γ = 3) (r : TRi Γ N0 cX6_copyFed K) {a1 : Int32} (hM : N0 0 ≠ 0) : ∀ (n : Nat) (a2 : Int32) (S : tS), M_copyFed_l52 a1 K n a2 S → TJ Γ N0 0 0 52 [(0, .ref (xad Γ 0)), (1, .int a1), (2, .int a2)] [] S := by
  intro n
  induction n with
  | zero => intro a2 S hf; exact hf.elim
  | succ n ih =>
    intro a2 S hf
    unfold M_copyFed_l52 at hf
    refine tj_iload_n C 2 rfl rfl dX6_copyFed_52 ?_
    refine tj_aload_n C 0 rfl rfl dX6_copyFed_53 ?_
    refine gf_X6_7 C hM dX6_copyFed_54 ?_
    refine tj_iconst C kc_3 dX6_copyFed_57 ?_
    refine tj_iald C 48 3548 rfl (ln_48 hw hM) 3 kn_3 (vp_in_nI (by decide) (by decide)) dX6_copyFed_58 ?_
    refine tj_icmp_ge C 95 (by decide) dX6_copyFed_59 (fun hc => ?_) (fun hc => ?_)
    · replace hf := hf.1 hc
      refine tj_aload_n C 0 rfl rfl dX6_copyFed_95 ?_
      refine tj_aload_n C 0 rfl rfl dX6_copyFed_96 ?_
      refine gf_X6_7 C hM dX6_copyFed_97 ?_
      refine tj_iconst C kc_3 dX6_copyFed_100 ?_
      refine tj_iald C 48 3548 rfl (ln_48 hw hM) 3 kn_3 (vp_in_nI (by decide) (by decide)) dX6_copyFed_101 ?_
      refine tj_callVi C (k := 0) [.int (gI S 48 3)] [] (fun hN => c_M_gives (by rw [hN]; exact hM) hf) lk_X6_95 ty_X6_gives rfl (Nat.le_of_ble_eq_true rfl) (Nat.le_of_ble_eq_true rfl) (Nat.le_of_ble_eq_true rfl) hM rfl (by decide) rfl rfl dX6_copyFed_102 (fun r10 S9 hf => ?_)
      exact r _ _ _ _ dX6_copyFed_105 hf
    · replace hf := hf.2 hc
      refine tj_aload_n C 0 rfl rfl dX6_copyFed_62 ?_
      refine gf_X6_27 C hM dX6_copyFed_63 ?_
      refine tj_bipush C kb_60 dX6_copyFed_66 ?_
      refine tj_iload_n C 1 rfl rfl dX6_copyFed_68 ?_
      refine tj_imul C dX6_copyFed_69 ?_
      refine tj_iload_n C 2 rfl rfl dX6_copyFed_70 ?_
      refine tj_iadd C dX6_copyFed_71 ?_
      refine tj_aload_n C 0 rfl rfl dX6_copyFed_72 ?_
      refine tj_iload_n C 2 rfl rfl dX6_copyFed_73 ?_
      refine tj_iconst C kc_0 dX6_copyFed_74 ?_
      refine tj_callVi C (k := 0) [.int a2, .int (nI 0)] [.int (((nI 60) * a1) + a2), .ref (xad Γ 177)] (fun hN => c_M_personOf (by rw [hN]; exact hM) hf) lk_X6_281 ty_X6_personOf rfl (Nat.le_of_ble_eq_true rfl) (Nat.le_of_ble_eq_true rfl) (Nat.le_of_ble_eq_true rfl) hM rfl (by decide) rfl rfl dX6_copyFed_75 (fun r12 S11 hf => ?_)
      refine tj_i2l C dX6_copyFed_78 ?_
      refine tj_aload_n C 0 rfl rfl dX6_copyFed_79 ?_
      refine gf_X6_21 C hM dX6_copyFed_80 ?_
      refine tj_iload_n C 1 rfl rfl dX6_copyFed_83 ?_
      refine tj_iald C 112 4 rfl (ln_112 hw hM) _ rfl hf.1 dX6_copyFed_84 ?_
      replace hf := hf.2
      refine tj_callSl C [.long (r12.toInt64), .int (gI S11 112 (a1.toNatClampNeg))] [.int (((nI 60) * a1) + a2), .ref (xad Γ 177)] (fun hN => c_M_cut hf) lk_X6_109 ty_X6_cut rfl (Nat.le_of_ble_eq_true rfl) (Nat.le_of_ble_eq_true rfl) (Nat.le_of_ble_eq_true rfl) rfl dX6_copyFed_85 (fun r14 S13 hf => ?_)
      refine tj_last C 177 240 rfl (ln_177 hw hM) _ rfl hf.1 dX6_copyFed_88 ?_
      replace hf := hf.2
      refine tj_topS (fun S15 eS => ?_)
      replace hf := hf S15 eS
      obtain ⟨x16, ex⟩ : ∃ y : Int32, y = a2 + nI 1 := ⟨_, rfl⟩
      refine tj_iinc C (by rw [hR]; decide) 2 [(2, .int x16), (0, .ref (xad Γ 0)), (1, .int a1)] rfl (by rw [ex]; exact ki_1 _) rfl dX6_copyFed_89 ?_
      replace hf := hf x16 ex
      refine tj_goto C 52 (by decide) dX6_copyFed_92 ?_
      exact tj_sub [1, 2, 0] (ih _ _ hf) rfl
theorem w_M_copyFed_b0 {Γ : tX} {N0 : Nat → Nat} {K : Int32 → tS → Prop} (C : TC Γ cX6_copyFed RX6 2 42) (hw : tWf N0) (hR : xnL Γ = 3) (r : TRi Γ N0 cX6_copyFed K) {a1 : Int32} (hM : N0 0 ≠ 0) {S : tS} (hf : M_copyFed a1 S K) : TJ Γ N0 0 0 0 [(0, .ref (xad Γ 0)), (1, .int a1)] [] S := by
  unfold M_copyFed at hf
  refine tj_iload_n C 1 rfl rfl dX6_copyFed_0 ?_
  refine tj_callSz C [.int a1] [] (fun hN => c_M_isTray hf) lk_X6_102 ty_X6_isTray rfl (Nat.le_of_ble_eq_true rfl) (Nat.le_of_ble_eq_true rfl) (Nat.le_of_ble_eq_true rfl) rfl dX6_copyFed_1 (fun r2 S1 hf => ?_)
  have hz_r2 := hf.1
  replace hf := hf.2
  refine tj_if_ne C 13 (by decide) dX6_copyFed_4 (fun hc => ?_) (fun hc => ?_)
  · replace hf := hf.2 hc
    refine tj_aload_n C 0 rfl rfl dX6_copyFed_13 ?_
    refine gf_X6_24 C hM dX6_copyFed_14 ?_
    refine tj_iload_n C 1 rfl rfl dX6_copyFed_17 ?_
    refine tj_iald C 144 4 rfl (ln_144 hw hM) _ rfl hf.1 dX6_copyFed_18 ?_
    replace hf := hf.2
    refine tj_iconst C kc_m1 dX6_copyFed_19 ?_
    refine tj_icmp_ne C 29 (by decide) dX6_copyFed_20 (fun hc => ?_) (fun hc => ?_)
    · replace hf := hf.2 hc
      refine tj_aload_n C 0 rfl rfl dX6_copyFed_29 ?_
      refine gf_X6_24 C hM dX6_copyFed_30 ?_
      refine tj_iload_n C 1 rfl rfl dX6_copyFed_33 ?_
      refine tj_iald C 144 4 rfl (ln_144 hw hM) _ rfl hf.1 dX6_copyFed_34 ?_
      replace hf := hf.2
      refine tj_aload_n C 0 rfl rfl dX6_copyFed_35 ?_
      refine gf_X6_7 C hM dX6_copyFed_36 ?_
      refine tj_iconst C kc_3 dX6_copyFed_39 ?_
      refine tj_iald C 48 3548 rfl (ln_48 hw hM) 3 kn_3 (vp_in_nI (by decide) (by decide)) dX6_copyFed_40 ?_
      refine tj_icmp_ge C 50 (by decide) dX6_copyFed_41 (fun hc => ?_) (fun hc => ?_)
      · replace hf := hf.1 hc
        refine tj_iconst C kc_0 dX6_copyFed_50 ?_
        refine tj_istore_n C (by rw [hR]; decide) [(2, .int (nI 0)), (0, .ref (xad Γ 0)), (1, .int a1)] rfl rfl dX6_copyFed_51 ?_
        exact tj_sub [1, 2, 0] (hf.elim fun k hf => w_M_copyFed_l52 C hw hR r hM k _ _ hf) rfl
      · replace hf := hf.2 hc
        refine tj_aload_n C 0 rfl rfl dX6_copyFed_44 ?_
        refine tj_iconst C kc_3 dX6_copyFed_45 ?_
        refine tj_callVi C (k := 0) [.int (nI 3)] [] (fun hN => c_M_refuse (by rw [hN]; exact hM) hf) lk_X6_91 ty_X6_refuse rfl (Nat.le_of_ble_eq_true rfl) (Nat.le_of_ble_eq_true rfl) (Nat.le_of_ble_eq_true rfl) hM rfl (by decide) rfl rfl dX6_copyFed_46 (fun r4 S3 hf => ?_)
        exact r _ _ _ _ dX6_copyFed_49 hf
    · replace hf := hf.1 hc
      refine tj_aload_n C 0 rfl rfl dX6_copyFed_23 ?_
      refine tj_iconst C kc_2 dX6_copyFed_24 ?_
      refine tj_callVi C (k := 0) [.int (nI 2)] [] (fun hN => c_M_refuse (by rw [hN]; exact hM) hf) lk_X6_91 ty_X6_refuse rfl (Nat.le_of_ble_eq_true rfl) (Nat.le_of_ble_eq_true rfl) (Nat.le_of_ble_eq_true rfl) hM rfl (by decide) rfl rfl dX6_copyFed_25 (fun r6 S5 hf => ?_)
      exact r _ _ _ _ dX6_copyFed_28 hf
  · replace hf := hf.1 hc
    refine tj_aload_n C 0 rfl rfl dX6_copyFed_7 ?_
    refine tj_iconst C kc_1 dX6_copyFed_8 ?_
    refine tj_callVi C (k := 0) [.int (nI 1)] [] (fun hN => c_M_refuse (by rw [hN]; exact hM) hf) lk_X6_91 ty_X6_refuse rfl (Nat.le_of_ble_eq_true rfl) (Nat.le_of_ble_eq_true rfl) (Nat.le_of_ble_eq_true rfl) hM rfl (by decide) rfl rfl dX6_copyFed_9 (fun r8 S7 hf => ?_)
    exact r _ _ _ _ dX6_copyFed_12 hf
theorem c_M_copyFed {l : Launch} {G : tG} {ad : Nat → Nat} {A : Nat → Prop} {S : tS} {K : Int32 → tS → Prop} {a1 : Int32} (hM : gN S 0 ≠ 0) (hf : M_copyFed a1 S K) : Met l yX6_copyFed (ws_ yX6_copyFed cX6_copyFed 3 (some .int)) (tRm 2 42) (va_Pc [.ref (ad 0), .int a1] (tPre G ad A S)) (va_Qi K (tB G ad A (gN S)) A) 0 0 A :=
  tj_met_i [(0, .ref (ad 0)), (1, .int a1)] pn_X6 rfl (Nat.le_of_ble_eq_true rfl) (fun p e R s m args below meth c Q C hw r => w_M_copyFed_b0 C hw rfl r hM hf)
theorem w_M_plain_l2 {Γ : tX} {N0 : Nat → Nat} {K : tS → Prop} (C : TC Γ cX6_plain RX6 0 0) (hw : tWf N0) (hR : xnL Γ = 3) (r : TRv Γ N0 cX6_plain K) {a1 : Int32} (hM : N0 0 ≠ 0) : ∀ (n : Nat) (a2 : Int32) (S : tS), M_plain_l2 a1 K n a2 S → TJ Γ N0 0 0 2 [(0, .ref (xad Γ 0)), (1, .int a1), (2, .int a2)] [] S := by
  intro n
  induction n with
  | zero => intro a2 S hf; exact hf.elim
  | succ n ih =>
    intro a2 S hf
    unfold M_plain_l2 at hf
    refine tj_iload_n C 2 rfl rfl dX6_plain_2 ?_
    refine tj_sipush C ks_502 dX6_plain_3 ?_
    refine tj_icmp_ge C 24 (by decide) dX6_plain_6 (fun hc => ?_) (fun hc => ?_)
    · replace hf := hf.1 hc
      refine tj_aload_n C 0 rfl rfl dX6_plain_24 ?_
      refine gf_X6_7 C hM dX6_plain_25 ?_
      refine tj_iload_n C 1 rfl rfl dX6_plain_28 ?_
      refine tj_bipush C kb_8 dX6_plain_29 ?_
      refine tj_iadd C dX6_plain_31 ?_
      refine tj_iconst C kc_m1 dX6_plain_32 ?_
      refine tj_iast C 48 3548 rfl (ln_48 hw hM) _ rfl hf.1 dX6_plain_33 ?_
      replace hf := hf.2
      refine tj_topS (fun S1 eS => ?_)
      replace hf := hf S1 eS
      exact r _ _ _ dX6_plain_34 hf
    · replace hf := hf.2 hc
      refine tj_aload_n C 0 rfl rfl dX6_plain_9 ?_
      refine gf_X6_7 C hM dX6_plain_10 ?_
      refine tj_iload_n C 1 rfl rfl dX6_plain_13 ?_
      refine tj_iload_n C 2 rfl rfl dX6_plain_14 ?_
      refine tj_iadd C dX6_plain_15 ?_
      refine tj_iconst C kc_0 dX6_plain_16 ?_
      refine tj_iast C 48 3548 rfl (ln_48 hw hM) _ rfl hf.1 dX6_plain_17 ?_
      replace hf := hf.2
      refine tj_topS (fun S2 eS => ?_)
      replace hf := hf S2 eS
      obtain ⟨x3, ex⟩ : ∃ y : Int32, y = a2 + nI 1 := ⟨_, rfl⟩
      refine tj_iinc C (by rw [hR]; decide) 2 [(2, .int x3), (0, .ref (xad Γ 0)), (1, .int a1)] rfl (by rw [ex]; exact ki_1 _) rfl dX6_plain_18 ?_
      replace hf := hf x3 ex
      refine tj_goto C 2 (by decide) dX6_plain_21 ?_
      exact tj_sub [1, 2, 0] (ih _ _ hf) rfl
theorem w_M_plain_b0 {Γ : tX} {N0 : Nat → Nat} {K : tS → Prop} (C : TC Γ cX6_plain RX6 0 0) (hw : tWf N0) (hR : xnL Γ = 3) (r : TRv Γ N0 cX6_plain K) {a1 : Int32} (hM : N0 0 ≠ 0) {S : tS} (hf : M_plain a1 S K) : TJ Γ N0 0 0 0 [(0, .ref (xad Γ 0)), (1, .int a1)] [] S := by
  unfold M_plain at hf
  refine tj_iconst C kc_0 dX6_plain_0 ?_
  refine tj_istore_n C (by rw [hR]; decide) [(2, .int (nI 0)), (0, .ref (xad Γ 0)), (1, .int a1)] rfl rfl dX6_plain_1 ?_
  exact tj_sub [1, 2, 0] (hf.elim fun k hf => w_M_plain_l2 C hw hR r hM k _ _ hf) rfl
theorem c_M_plain {l : Launch} {G : tG} {ad : Nat → Nat} {A : Nat → Prop} {S : tS} {K : tS → Prop} {a1 : Int32} (hM : gN S 0 ≠ 0) (hf : M_plain a1 S K) : Met l yX6_plain (ws_ yX6_plain cX6_plain 3 (none)) (tRm 0 0) (va_Pc [.ref (ad 0), .int a1] (tPre G ad A S)) (va_Qv K (tB G ad A (gN S)) A) 0 0 A :=
  tj_met_v [(0, .ref (ad 0)), (1, .int a1)] pn_X6 rfl (Nat.le_of_ble_eq_true rfl) (fun p e R s m args below meth c Q C hw r => w_M_plain_b0 C hw rfl r hM hf)
theorem w_M_wantSign_b0 {Γ : tX} {N0 : Nat → Nat} {K : Int32 → tS → Prop} (C : TC Γ cX6_wantSign RX6 2 61) (hw : tWf N0) (hR : xnL Γ = 2) (r : TRz Γ N0 cX6_wantSign K) {a1 : Int32} (hM : N0 0 ≠ 0) {S : tS} (hf : M_wantSign a1 S K) : TJ Γ N0 0 0 0 [(0, .ref (xad Γ 0)), (1, .int a1)] [] S := by
  unfold M_wantSign at hf
  refine tj_aload_n C 0 rfl rfl dX6_wantSign_0 ?_
  refine tj_iload_n C 1 rfl rfl dX6_wantSign_1 ?_
  refine tj_callVz C (k := 0) [.int a1] [] (fun hN => c_M_isSign (by rw [hN]; exact hM) hf) lk_X6_170 ty_X6_isSign rfl (Nat.le_of_ble_eq_true rfl) (Nat.le_of_ble_eq_true rfl) (Nat.le_of_ble_eq_true rfl) hM rfl (by decide) rfl rfl dX6_wantSign_2 (fun r2 S1 hf => ?_)
  have hz_r2 := hf.1
  replace hf := hf.2
  refine tj_if_ne C 14 (by decide) dX6_wantSign_5 (fun hc => ?_) (fun hc => ?_)
  · replace hf := hf.2 hc
    refine tj_aload_n C 0 rfl rfl dX6_wantSign_14 ?_
    refine tj_callVv C (k := 0) [] [] (fun hN => c_M_ahead (by rw [hN]; exact hM) hf) lk_X6_167 ty_X6_ahead rfl (Nat.le_of_ble_eq_true rfl) (Nat.le_of_ble_eq_true rfl) (Nat.le_of_ble_eq_true rfl) hM rfl (by decide) rfl rfl dX6_wantSign_15 (fun S3 hf => ?_)
    refine tj_iconst C kc_1 dX6_wantSign_18 ?_
    exact r _ _ _ _ dX6_wantSign_19 zb1 hf
  · replace hf := hf.1 hc
    refine tj_aload_n C 0 rfl rfl dX6_wantSign_8 ?_
    refine tj_iconst C kc_2 dX6_wantSign_9 ?_
    refine tj_callVz C (k := 0) [.int (nI 2)] [] (fun hN => c_M_fails (by rw [hN]; exact hM) hf) lk_X6_173 ty_X6_fails rfl (Nat.le_of_ble_eq_true rfl) (Nat.le_of_ble_eq_true rfl) (Nat.le_of_ble_eq_true rfl) hM rfl (by decide) rfl rfl dX6_wantSign_10 (fun r5 S4 hf => ?_)
    have hz_r5 := hf.1
    replace hf := hf.2
    exact r _ _ _ _ dX6_wantSign_13 hz_r5 hf
theorem c_M_wantSign {l : Launch} {G : tG} {ad : Nat → Nat} {A : Nat → Prop} {S : tS} {K : Int32 → tS → Prop} {a1 : Int32} (hM : gN S 0 ≠ 0) (hf : M_wantSign a1 S K) : Met l yX6_wantSign (ws_ yX6_wantSign cX6_wantSign 2 (some .boolean)) (tRm 2 61) (va_Pc [.ref (ad 0), .int a1] (tPre G ad A S)) (va_Qi (fun r u => r &&& 1 = r ∧ K r u) (tB G ad A (gN S)) A) 0 0 A :=
  tj_met_z [(0, .ref (ad 0)), (1, .int a1)] pn_X6 rfl (Nat.le_of_ble_eq_true rfl) (fun p e R s m args below meth c Q C hw r => w_M_wantSign_b0 C hw rfl r hM hf)
theorem w_M_courtPart_b101 {Γ : tX} {N0 : Nat → Nat} {K : Int32 → tS → Prop} (C : TC Γ cX6_courtPart RX6 8 177) (hw : tWf N0) (hR : xnL Γ = 3) (r : TRz Γ N0 cX6_courtPart K) (hM : N0 0 ≠ 0) {a2 : Int32} {S : tS} (hf : M_courtPart_b101 K a2 S) : TJ Γ N0 0 0 101 [(0, .ref (xad Γ 0)), (2, .int a2)] [] S := by
  unfold M_courtPart_b101 at hf
  refine tj_iload_n C 1 rfl rfl dX6_courtPart_101 ?_
  refine tj_if_eq C 118 (by decide) dX6_courtPart_102 (fun hc => ?_) (fun hc => ?_)
  · replace hf := hf.1 hc
    refine tj_iconst C kc_0 dX6_courtPart_118 ?_
    exact r _ _ _ _ dX6_courtPart_119 zb0 hf
  · replace hf := hf.2 hc
    refine tj_aload_n C 0 rfl rfl dX6_courtPart_105 ?_
    refine tj_bipush C kb_59 dX6_courtPart_106 ?_
    refine tj_callVz C (k := 0) [.int (nI 59)] [] (fun hN => c_M_wantSign (by rw [hN]; exact hM) hf) lk_X6_248 ty_X6_wantSign rfl (Nat.le_of_ble_eq_true rfl) (Nat.le_of_ble_eq_true rfl) (Nat.le_of_ble_eq_true rfl) hM rfl (by decide) rfl rfl dX6_courtPart_108 (fun r18 S17 hf => ?_)
    have hz_r18 := hf.1
    replace hf := hf.2
    refine tj_if_eq C 118 (by decide) dX6_courtPart_111 (fun hc => ?_) (fun hc => ?_)
    · replace hf := hf.1 hc
      refine tj_iconst C kc_0 dX6_courtPart_118 ?_
      exact r _ _ _ _ dX6_courtPart_119 zb0 hf
    · replace hf := hf.2 hc
      refine tj_iconst C kc_1 dX6_courtPart_114 ?_
      refine tj_goto C 119 (by decide) dX6_courtPart_115 ?_
      exact r _ _ _ _ dX6_courtPart_119 zb1 hf
theorem w_M_courtPart_b16 {Γ : tX} {N0 : Nat → Nat} {K : Int32 → tS → Prop} (C : TC Γ cX6_courtPart RX6 8 177) (hw : tWf N0) (hR : xnL Γ = 3) (r : TRz Γ N0 cX6_courtPart K) (hM : N0 0 ≠ 0) {S : tS} (hf : M_courtPart_b16 K  S) : TJ Γ N0 0 0 16 [(0, .ref (xad Γ 0))] [] S := by
  unfold M_courtPart_b16 at hf
  refine tj_aload_n C 0 rfl rfl dX6_courtPart_16 ?_
  refine tj_iconst C kc_2 dX6_courtPart_17 ?_
  refine tj_callVz C (k := 0) [.int (nI 2)] [] (fun hN => c_M_fails (by rw [hN]; exact hM) hf) lk_X6_173 ty_X6_fails rfl (Nat.le_of_ble_eq_true rfl) (Nat.le_of_ble_eq_true rfl) (Nat.le_of_ble_eq_true rfl) hM rfl (by decide) rfl rfl dX6_courtPart_18 (fun r16 S15 hf => ?_)
  have hz_r16 := hf.1
  replace hf := hf.2
  exact r _ _ _ _ dX6_courtPart_21 hz_r16 hf
theorem w_M_courtPart_b0 {Γ : tX} {N0 : Nat → Nat} {K : Int32 → tS → Prop} (C : TC Γ cX6_courtPart RX6 8 177) (hw : tWf N0) (hR : xnL Γ = 3) (r : TRz Γ N0 cX6_courtPart K) (hM : N0 0 ≠ 0) {S : tS} (hf : M_courtPart S K) : TJ Γ N0 0 0 0 [(0, .ref (xad Γ 0))] [] S := by
  unfold M_courtPart at hf
  refine tj_aload_n C 0 rfl rfl dX6_courtPart_0 ?_
  refine tj_ldcS C 0 rfl dX6_courtPart_1 ?_
  refine tj_callVi C (k := 0) [.ref (xK Γ 0)] [] (fun hN => c_M_inWords (by rw [hN]; exact hM) (by decide) hf) lk_X6_176 ty_X6_inWords rfl (Nat.le_of_ble_eq_true rfl) (Nat.le_of_ble_eq_true rfl) (Nat.le_of_ble_eq_true rfl) hM rfl (by decide) rfl rfl dX6_courtPart_3 (fun r2 S1 hf => ?_)
  refine tj_istore_n C (by rw [hR]; decide) [(1, .int r2), (0, .ref (xad Γ 0))] rfl rfl dX6_courtPart_6 ?_
  refine tj_iload_n C 0 rfl rfl dX6_courtPart_7 ?_
  refine tj_if_lt C 16 (by decide) dX6_courtPart_8 (fun hc => ?_) (fun hc => ?_)
  · replace hf := hf.1 hc
    exact tj_sub [1] (w_M_courtPart_b16 C hw hR r hM hf) rfl
  · replace hf := hf.2 hc
    refine tj_iload_n C 0 rfl rfl dX6_courtPart_11 ?_
    refine tj_iconst C kc_5 dX6_courtPart_12 ?_
    refine tj_icmp_le C 22 (by decide) dX6_courtPart_13 (fun hc => ?_) (fun hc => ?_)
    · replace hf := hf.1 hc
      refine tj_iload_n C 0 rfl rfl dX6_courtPart_22 ?_
      by_cases h0 : r2 = nI 0
      · replace hf := hf.1 h0
        refine tj_tswIn C 0 (off := 33) 56 (by decide) h0 (by decide) (by decide) (by decide) (by decide) dX6_courtPart_23 ?_
        refine tj_aload_n C 1 rfl rfl dX6_courtPart_56 ?_
        refine tj_callVz C (k := 0) [] [] (fun hN => c_M_aSmell (by rw [hN]; exact hM) hf) lk_X6_230 ty_X6_aSmell rfl (Nat.le_of_ble_eq_true rfl) (Nat.le_of_ble_eq_true rfl) (Nat.le_of_ble_eq_true rfl) hM rfl (by decide) rfl rfl dX6_courtPart_57 (fun r4 S3 hf => ?_)
        have hz_r4 := hf.1
        replace hf := hf.2
        refine tj_istore_n C (by rw [hR]; decide) [(2, .int r4), (1, .int r2), (0, .ref (xad Γ 0))] rfl rfl dX6_courtPart_60 ?_
        refine tj_goto C 101 (by decide) dX6_courtPart_61 ?_
        exact tj_sub [2, 0] (w_M_courtPart_b101 C hw hR r hM hf) rfl
      · replace hf := hf.2 h0
        by_cases h1 : r2 = nI 1
        · replace hf := hf.1 h1
          refine tj_tswIn C 1 (off := 41) 64 (by decide) h1 (by decide) (by decide) (by decide) (by decide) dX6_courtPart_23 ?_
          refine tj_aload_n C 1 rfl rfl dX6_courtPart_64 ?_
          refine tj_callVz C (k := 0) [] [] (fun hN => c_M_aCue (by rw [hN]; exact hM) hf) lk_X6_233 ty_X6_aCue rfl (Nat.le_of_ble_eq_true rfl) (Nat.le_of_ble_eq_true rfl) (Nat.le_of_ble_eq_true rfl) hM rfl (by decide) rfl rfl dX6_courtPart_65 (fun r6 S5 hf => ?_)
          have hz_r6 := hf.1
          replace hf := hf.2
          refine tj_istore_n C (by rw [hR]; decide) [(2, .int r6), (1, .int r2), (0, .ref (xad Γ 0))] rfl rfl dX6_courtPart_68 ?_
          refine tj_goto C 101 (by decide) dX6_courtPart_69 ?_
          exact tj_sub [2, 0] (w_M_courtPart_b101 C hw hR r hM hf) rfl
        · replace hf := hf.2 h1
          by_cases h2 : r2 = nI 2
          · replace hf := hf.1 h2
            refine tj_tswIn C 2 (off := 49) 72 (by decide) h2 (by decide) (by decide) (by decide) (by decide) dX6_courtPart_23 ?_
            refine tj_aload_n C 1 rfl rfl dX6_courtPart_72 ?_
            refine tj_callVz C (k := 0) [] [] (fun hN => c_M_aRule (by rw [hN]; exact hM) hf) lk_X6_236 ty_X6_aRule rfl (Nat.le_of_ble_eq_true rfl) (Nat.le_of_ble_eq_true rfl) (Nat.le_of_ble_eq_true rfl) hM rfl (by decide) rfl rfl dX6_courtPart_73 (fun r8 S7 hf => ?_)
            have hz_r8 := hf.1
            replace hf := hf.2
            refine tj_istore_n C (by rw [hR]; decide) [(2, .int r8), (1, .int r2), (0, .ref (xad Γ 0))] rfl rfl dX6_courtPart_76 ?_
            refine tj_goto C 101 (by decide) dX6_courtPart_77 ?_
            exact tj_sub [2, 0] (w_M_courtPart_b101 C hw hR r hM hf) rfl
          · replace hf := hf.2 h2
            by_cases h3 : r2 = nI 3
            · replace hf := hf.1 h3
              refine tj_tswIn C 3 (off := 57) 80 (by decide) h3 (by decide) (by decide) (by decide) (by decide) dX6_courtPart_23 ?_
              refine tj_aload_n C 1 rfl rfl dX6_courtPart_80 ?_
              refine tj_callVz C (k := 0) [] [] (fun hN => c_M_aPerson (by rw [hN]; exact hM) hf) lk_X6_239 ty_X6_aPerson rfl (Nat.le_of_ble_eq_true rfl) (Nat.le_of_ble_eq_true rfl) (Nat.le_of_ble_eq_true rfl) hM rfl (by decide) rfl rfl dX6_courtPart_81 (fun r10 S9 hf => ?_)
              have hz_r10 := hf.1
              replace hf := hf.2
              refine tj_istore_n C (by rw [hR]; decide) [(2, .int r10), (1, .int r2), (0, .ref (xad Γ 0))] rfl rfl dX6_courtPart_84 ?_
              refine tj_goto C 101 (by decide) dX6_courtPart_85 ?_
              exact tj_sub [2, 0] (w_M_courtPart_b101 C hw hR r hM hf) rfl
            · replace hf := hf.2 h3
              by_cases h4 : r2 = nI 4
              · replace hf := hf.1 h4
                refine tj_tswIn C 4 (off := 65) 88 (by decide) h4 (by decide) (by decide) (by decide) (by decide) dX6_courtPart_23 ?_
                refine tj_aload_n C 1 rfl rfl dX6_courtPart_88 ?_
                refine tj_callVz C (k := 0) [] [] (fun hN => c_M_aReader (by rw [hN]; exact hM) hf) lk_X6_242 ty_X6_aReader rfl (Nat.le_of_ble_eq_true rfl) (Nat.le_of_ble_eq_true rfl) (Nat.le_of_ble_eq_true rfl) hM rfl (by decide) rfl rfl dX6_courtPart_89 (fun r12 S11 hf => ?_)
                have hz_r12 := hf.1
                replace hf := hf.2
                refine tj_istore_n C (by rw [hR]; decide) [(2, .int r12), (1, .int r2), (0, .ref (xad Γ 0))] rfl rfl dX6_courtPart_92 ?_
                refine tj_goto C 101 (by decide) dX6_courtPart_93 ?_
                exact tj_sub [2, 0] (w_M_courtPart_b101 C hw hR r hM hf) rfl
              · replace hf := hf.2 h4
                refine tj_tswOut C 0 5 96 (by decide) (fun k hk => match k, hk with | 0, _ => h0 | 1, _ => h1 | 2, _ => h2 | 3, _ => h3 | 4, _ => h4 | k + 5, hk => absurd hk (by omega)) (by decide) (by decide) (by decide) dX6_courtPart_23 ?_
                refine tj_aload_n C 1 rfl rfl dX6_courtPart_96 ?_
                refine tj_callVz C (k := 0) [] [] (fun hN => c_M_aWord (by rw [hN]; exact hM) hf) lk_X6_245 ty_X6_aWord rfl (Nat.le_of_ble_eq_true rfl) (Nat.le_of_ble_eq_true rfl) (Nat.le_of_ble_eq_true rfl) hM rfl (by decide) rfl rfl dX6_courtPart_97 (fun r14 S13 hf => ?_)
                have hz_r14 := hf.1
                replace hf := hf.2
                refine tj_istore_n C (by rw [hR]; decide) [(2, .int r14), (1, .int r2), (0, .ref (xad Γ 0))] rfl rfl dX6_courtPart_100 ?_
                exact tj_sub [2, 0] (w_M_courtPart_b101 C hw hR r hM hf) rfl
    · replace hf := hf.2 hc
      exact tj_sub [1] (w_M_courtPart_b16 C hw hR r hM hf) rfl
theorem c_M_courtPart {l : Launch} {G : tG} {ad : Nat → Nat} {A : Nat → Prop} {S : tS} {K : Int32 → tS → Prop} (hM : gN S 0 ≠ 0) (hf : M_courtPart S K) : Met l yX6_courtPart (ws_ yX6_courtPart cX6_courtPart 3 (some .boolean)) (tRm 8 177) (va_Pc [.ref (ad 0)] (tPre G ad A S)) (va_Qi (fun r u => r &&& 1 = r ∧ K r u) (tB G ad A (gN S)) A) 0 0 A :=
  tj_met_z [(0, .ref (ad 0))] pn_X6 rfl (Nat.le_of_ble_eq_true rfl) (fun p e R s m args below meth c Q C hw r => w_M_courtPart_b0 C hw rfl r hM hf)
theorem w_M_taken_b0 {Γ : tX} {N0 : Nat → Nat} {K : Int32 → tS → Prop} (C : TC Γ cX6_taken RX6 1 21) (hw : tWf N0) (hR : xnL Γ = 2) (r : TRi Γ N0 cX6_taken K) {a1 : Int32} (hM : N0 0 ≠ 0) {S : tS} (hf : M_taken a1 S K) : TJ Γ N0 0 0 0 [(0, .ref (xad Γ 0)), (1, .int a1)] [] S := by
  unfold M_taken at hf
  refine tj_aload_n C 0 rfl rfl dX6_taken_0 ?_
  refine tj_aload_n C 0 rfl rfl dX6_taken_1 ?_
  refine gf_X6_161 C hM dX6_taken_2 ?_
  refine pf_X6_37 C hM dX6_taken_5 ?_
  refine tj_topS (fun S1 eS => ?_)
  replace hf := hf S1 eS
  refine tj_aload_n C 0 rfl rfl dX6_taken_8 ?_
  refine gf_X6_161 C hM dX6_taken_9 ?_
  refine tj_if_le C 24 (by decide) dX6_taken_12 (fun hc => ?_) (fun hc => ?_)
  · replace hf := hf.1 hc
    refine tj_aload_n C 0 rfl rfl dX6_taken_24 ?_
    refine tj_iload_n C 1 rfl rfl dX6_taken_25 ?_
    refine tj_callVi C (k := 0) [.int a1] [] (fun hN => c_M_gives (by rw [hN]; exact hM) hf) lk_X6_95 ty_X6_gives rfl (Nat.le_of_ble_eq_true rfl) (Nat.le_of_ble_eq_true rfl) (Nat.le_of_ble_eq_true rfl) hM rfl (by decide) rfl rfl dX6_taken_26 (fun r3 S2 hf => ?_)
    exact r _ _ _ _ dX6_taken_29 hf
  · replace hf := hf.2 hc
    refine tj_aload_n C 0 rfl rfl dX6_taken_15 ?_
    refine tj_bipush C kb_9 dX6_taken_16 ?_
    refine tj_callVi C (k := 0) [.int (nI 9)] [] (fun hN => c_M_refuse (by rw [hN]; exact hM) hf) lk_X6_91 ty_X6_refuse rfl (Nat.le_of_ble_eq_true rfl) (Nat.le_of_ble_eq_true rfl) (Nat.le_of_ble_eq_true rfl) hM rfl (by decide) rfl rfl dX6_taken_18 (fun r5 S4 hf => ?_)
    refine tj_goto C 29 (by decide) dX6_taken_21 ?_
    exact r _ _ _ _ dX6_taken_29 hf
theorem c_M_taken {l : Launch} {G : tG} {ad : Nat → Nat} {A : Nat → Prop} {S : tS} {K : Int32 → tS → Prop} {a1 : Int32} (hM : gN S 0 ≠ 0) (hf : M_taken a1 S K) : Met l yX6_taken (ws_ yX6_taken cX6_taken 2 (some .int)) (tRm 1 21) (va_Pc [.ref (ad 0), .int a1] (tPre G ad A S)) (va_Qi K (tB G ad A (gN S)) A) 0 0 A :=
  tj_met_i [(0, .ref (ad 0)), (1, .int a1)] pn_X6 rfl (Nat.le_of_ble_eq_true rfl) (fun p e R s m args below meth c Q C hw r => w_M_taken_b0 C hw rfl r hM hf)
theorem w_M_court_b112 {Γ : tX} {N0 : Nat → Nat} {K : Int32 → tS → Prop} (C : TC Γ cX6_court RX6 9 199) (hw : tWf N0) (hR : xnL Γ = 4) (r : TRi Γ N0 cX6_court K) {a1 : Int32} (hM : N0 0 ≠ 0) {S : tS} (hf : M_court_b112 a1 K  S) : TJ Γ N0 0 0 112 [(0, .ref (xad Γ 0))] [] S := by
  unfold M_court_b112 at hf
  refine tj_aload_n C 0 rfl rfl dX6_court_112 ?_
  refine tj_aload_n C 0 rfl rfl dX6_court_113 ?_
  refine gf_X6_7 C hM dX6_court_114 ?_
  refine tj_iconst C kc_3 dX6_court_117 ?_
  refine tj_iald C 48 3548 rfl (ln_48 hw hM) 3 kn_3 (vp_in_nI (by decide) (by decide)) dX6_court_118 ?_
  refine tj_callVi C (k := 0) [.int (gI S 48 3)] [] (fun hN => c_M_taken (by rw [hN]; exact hM) hf) lk_X6_257 ty_X6_taken rfl (Nat.le_of_ble_eq_true rfl) (Nat.le_of_ble_eq_true rfl) (Nat.le_of_ble_eq_true rfl) hM rfl (by decide) rfl rfl dX6_court_119 (fun r9 S8 hf => ?_)
  exact r _ _ _ _ dX6_court_122 hf
theorem w_M_court_l85 {Γ : tX} {N0 : Nat → Nat} {K : Int32 → tS → Prop} (C : TC Γ cX6_court RX6 9 199) (hw : tWf N0) (hR : xnL Γ = 4) (r : TRi Γ N0 cX6_court K) {a1 : Int32} (hM : N0 0 ≠ 0) : ∀ (n : Nat) (a3 : Int32) (S : tS), M_court_l85 a1 K n a3 S → TJ Γ N0 0 0 85 [(0, .ref (xad Γ 0)), (3, .int a3)] [] S := by
  intro n
  induction n with
  | zero => intro a3 S hf; exact hf.elim
  | succ n ih =>
    intro a3 S hf
    unfold M_court_l85 at hf
    refine tj_iload_n C 1 rfl rfl dX6_court_85 ?_
    refine tj_bipush C kb_23 dX6_court_86 ?_
    refine tj_icmp_ge C 112 (by decide) dX6_court_88 (fun hc => ?_) (fun hc => ?_)
    · replace hf := hf.1 hc
      exact tj_sub [0] (w_M_court_b112 C hw hR r hM hf) rfl
    · replace hf := hf.2 hc
      refine tj_aload_n C 0 rfl rfl dX6_court_91 ?_
      refine gf_X6_13 C hM dX6_court_92 ?_
      refine tj_iload_n C 1 rfl rfl dX6_court_95 ?_
      refine tj_aload_n C 0 rfl rfl dX6_court_96 ?_
      refine gf_X6_13 C hM dX6_court_97 ?_
      refine tj_bipush C kb_92 dX6_court_100 ?_
      refine tj_iload_n C 1 rfl rfl dX6_court_102 ?_
      refine tj_iadd C dX6_court_103 ?_
      refine tj_lald C 81 138 rfl (ln_81 hw hM) _ rfl hf.1 dX6_court_104 ?_
      replace hf := hf.2
      refine tj_last C 81 138 rfl (ln_81 hw hM) _ rfl hf.1 dX6_court_105 ?_
      replace hf := hf.2
      refine tj_topS (fun S12 eS => ?_)
      replace hf := hf S12 eS
      obtain ⟨x13, ex⟩ : ∃ y : Int32, y = a3 + nI 1 := ⟨_, rfl⟩
      refine tj_iinc C (by rw [hR]; decide) 1 [(3, .int x13), (0, .ref (xad Γ 0))] rfl (by rw [ex]; exact ki_1 _) rfl dX6_court_106 ?_
      replace hf := hf x13 ex
      refine tj_goto C 85 (by decide) dX6_court_109 ?_
      exact tj_sub [1, 0] (ih _ _ hf) rfl
theorem w_M_court_l54 {Γ : tX} {N0 : Nat → Nat} {K : Int32 → tS → Prop} (C : TC Γ cX6_court RX6 9 199) (hw : tWf N0) (hR : xnL Γ = 4) (r : TRi Γ N0 cX6_court K) {a1 : Int32} (hM : N0 0 ≠ 0) : ∀ (n : Nat) (a3 : Int32) (S : tS), M_court_l54 a1 K n a3 S → TJ Γ N0 0 0 54 [(0, .ref (xad Γ 0)), (3, .int a3)] [] S := by
  intro n
  induction n with
  | zero => intro a3 S hf; exact hf.elim
  | succ n ih =>
    intro a3 S hf
    unfold M_court_l54 at hf
    refine tj_iload_n C 1 rfl rfl dX6_court_54 ?_
    refine tj_sipush C ks_502 dX6_court_55 ?_
    refine tj_icmp_ge C 83 (by decide) dX6_court_58 (fun hc => ?_) (fun hc => ?_)
    · replace hf := hf.1 hc
      refine tj_iconst C kc_0 dX6_court_83 ?_
      refine tj_istore_n C (by rw [hR]; decide) [(3, .int (nI 0)), (0, .ref (xad Γ 0))] rfl rfl dX6_court_84 ?_
      exact tj_sub [1, 0] (hf.elim fun k hf => w_M_court_l85 C hw hR r hM k _ _ hf) rfl
    · replace hf := hf.2 hc
      refine tj_aload_n C 0 rfl rfl dX6_court_61 ?_
      refine gf_X6_7 C hM dX6_court_62 ?_
      refine tj_iload_n C 1 rfl rfl dX6_court_65 ?_
      refine tj_aload_n C 0 rfl rfl dX6_court_66 ?_
      refine gf_X6_7 C hM dX6_court_67 ?_
      refine tj_sipush C ks_2008 dX6_court_70 ?_
      refine tj_iload_n C 1 rfl rfl dX6_court_73 ?_
      refine tj_iadd C dX6_court_74 ?_
      refine tj_iald C 48 3548 rfl (ln_48 hw hM) _ rfl hf.1 dX6_court_75 ?_
      replace hf := hf.2
      refine tj_iast C 48 3548 rfl (ln_48 hw hM) _ rfl hf.1 dX6_court_76 ?_
      replace hf := hf.2
      refine tj_topS (fun S10 eS => ?_)
      replace hf := hf S10 eS
      obtain ⟨x11, ex⟩ : ∃ y : Int32, y = a3 + nI 1 := ⟨_, rfl⟩
      refine tj_iinc C (by rw [hR]; decide) 1 [(3, .int x11), (0, .ref (xad Γ 0))] rfl (by rw [ex]; exact ki_1 _) rfl dX6_court_77 ?_
      replace hf := hf x11 ex
      refine tj_goto C 54 (by decide) dX6_court_80 ?_
      exact tj_sub [1, 0] (ih _ _ hf) rfl
theorem w_M_court_b45 {Γ : tX} {N0 : Nat → Nat} {K : Int32 → tS → Prop} (C : TC Γ cX6_court RX6 9 199) (hw : tWf N0) (hR : xnL Γ = 4) (r : TRi Γ N0 cX6_court K) {a1 : Int32} (hM : N0 0 ≠ 0) {S : tS} (hf : M_court_b45 a1 K  S) : TJ Γ N0 0 0 45 [(0, .ref (xad Γ 0))] [] S := by
  unfold M_court_b45 at hf
  refine tj_aload_n C 0 rfl rfl dX6_court_45 ?_
  refine gf_X6_161 C hM dX6_court_46 ?_
  refine tj_if_ne C 112 (by decide) dX6_court_49 (fun hc => ?_) (fun hc => ?_)
  · replace hf := hf.2 hc
    exact w_M_court_b112 C hw hR r hM hf
  · replace hf := hf.1 hc
    refine tj_iconst C kc_0 dX6_court_52 ?_
    refine tj_istore_n C (by rw [hR]; decide) [(3, .int (nI 0)), (0, .ref (xad Γ 0))] rfl rfl dX6_court_53 ?_
    exact tj_sub [1, 0] (hf.elim fun k hf => w_M_court_l54 C hw hR r hM k _ _ hf) rfl
theorem w_M_court_l26 {Γ : tX} {N0 : Nat → Nat} {K : Int32 → tS → Prop} (C : TC Γ cX6_court RX6 9 199) (hw : tWf N0) (hR : xnL Γ = 4) (r : TRi Γ N0 cX6_court K) {a1 : Int32} (hM : N0 0 ≠ 0) : ∀ (n : Nat) (a2 : Int32) (S : tS), M_court_l26 a1 K n a2 S → TJ Γ N0 0 0 26 [(0, .ref (xad Γ 0)), (2, .int a2)] [] S := by
  intro n
  induction n with
  | zero => intro a2 S hf; exact hf.elim
  | succ n ih =>
    intro a2 S hf
    unfold M_court_l26 at hf
    refine tj_iload_n C 1 rfl rfl dX6_court_26 ?_
    refine tj_if_eq C 45 (by decide) dX6_court_27 (fun hc => ?_) (fun hc => ?_)
    · replace hf := hf.1 hc
      exact tj_sub [0] (w_M_court_b45 C hw hR r hM hf) rfl
    · replace hf := hf.2 hc
      refine tj_aload_n C 0 rfl rfl dX6_court_30 ?_
      refine gf_X6_136 C hM dX6_court_31 ?_
      refine tj_if_eq C 45 (by decide) dX6_court_34 (fun hc => ?_) (fun hc => ?_)
      · replace hf := hf.1 hc
        exact tj_sub [0] (w_M_court_b45 C hw hR r hM hf) rfl
      · replace hf := hf.2 hc
        refine tj_aload_n C 0 rfl rfl dX6_court_37 ?_
        refine tj_callVz C (k := 0) [] [] (fun hN => c_M_courtPart (by rw [hN]; exact hM) hf) lk_X6_254 ty_X6_courtPart rfl (Nat.le_of_ble_eq_true rfl) (Nat.le_of_ble_eq_true rfl) (Nat.le_of_ble_eq_true rfl) hM rfl (by decide) rfl rfl dX6_court_38 (fun r7 S6 hf => ?_)
        have hz_r7 := hf.1
        replace hf := hf.2
        refine tj_istore_n C (by rw [hR]; decide) [(2, .int r7), (0, .ref (xad Γ 0))] rfl rfl dX6_court_41 ?_
        refine tj_goto C 26 (by decide) dX6_court_42 ?_
        exact tj_sub [1, 0] (ih _ _ hf) rfl
theorem w_M_court_b0 {Γ : tX} {N0 : Nat → Nat} {K : Int32 → tS → Prop} (C : TC Γ cX6_court RX6 9 199) (hw : tWf N0) (hR : xnL Γ = 4) (r : TRi Γ N0 cX6_court K) {a1 : Int32} (hM : N0 0 ≠ 0) {S : tS} (hf : M_court a1 S K) : TJ Γ N0 0 0 0 [(0, .ref (xad Γ 0)), (1, .int a1)] [] S := by
  unfold M_court at hf
  refine tj_aload_n C 0 rfl rfl dX6_court_0 ?_
  refine tj_iload_n C 1 rfl rfl dX6_court_1 ?_
  refine tj_sipush C ks_900 dX6_court_2 ?_
  refine tj_callVz C (k := 0) [.int a1, .int (nI 900)] [] (fun hN => c_M_begins (by rw [hN]; exact hM) hf) lk_X6_251 ty_X6_begins rfl (Nat.le_of_ble_eq_true rfl) (Nat.le_of_ble_eq_true rfl) (Nat.le_of_ble_eq_true rfl) hM rfl (by decide) rfl rfl dX6_court_5 (fun r2 S1 hf => ?_)
  have hz_r2 := hf.1
  replace hf := hf.2
  refine tj_if_ne C 17 (by decide) dX6_court_8 (fun hc => ?_) (fun hc => ?_)
  · replace hf := hf.2 hc
    refine tj_aload_n C 0 rfl rfl dX6_court_17 ?_
    refine tj_sipush C ks_2008 dX6_court_18 ?_
    refine tj_callVv C (k := 0) [.int (nI 2008)] [] (fun hN => c_M_plain (by rw [hN]; exact hM) hf) lk_X6_81 ty_X6_plain rfl (Nat.le_of_ble_eq_true rfl) (Nat.le_of_ble_eq_true rfl) (Nat.le_of_ble_eq_true rfl) hM rfl (by decide) rfl rfl dX6_court_21 (fun S3 hf => ?_)
    refine tj_iconst C kc_1 dX6_court_24 ?_
    refine tj_istore_n C (by rw [hR]; decide) [(2, .int (nI 1)), (0, .ref (xad Γ 0)), (1, .int a1)] rfl rfl dX6_court_25 ?_
    exact tj_sub [1, 0] (hf.elim fun k hf => w_M_court_l26 C hw hR r hM k _ _ hf) rfl
  · replace hf := hf.1 hc
    refine tj_aload_n C 0 rfl rfl dX6_court_11 ?_
    refine tj_iconst C kc_1 dX6_court_12 ?_
    refine tj_callVi C (k := 0) [.int (nI 1)] [] (fun hN => c_M_refuse (by rw [hN]; exact hM) hf) lk_X6_91 ty_X6_refuse rfl (Nat.le_of_ble_eq_true rfl) (Nat.le_of_ble_eq_true rfl) (Nat.le_of_ble_eq_true rfl) hM rfl (by decide) rfl rfl dX6_court_13 (fun r5 S4 hf => ?_)
    exact r _ _ _ _ dX6_court_16 hf
theorem c_M_court {l : Launch} {G : tG} {ad : Nat → Nat} {A : Nat → Prop} {S : tS} {K : Int32 → tS → Prop} {a1 : Int32} (hM : gN S 0 ≠ 0) (hf : M_court a1 S K) : Met l yX6_court (ws_ yX6_court cX6_court 4 (some .int)) (tRm 9 199) (va_Pc [.ref (ad 0), .int a1] (tPre G ad A S)) (va_Qi K (tB G ad A (gN S)) A) 0 0 A :=
  tj_met_i [(0, .ref (ad 0)), (1, .int a1)] pn_X6 rfl (Nat.le_of_ble_eq_true rfl) (fun p e R s m args below meth c Q C hw r => w_M_court_b0 C hw rfl r hM hf)
theorem w_M_cue_b0 {Γ : tX} {N0 : Nat → Nat} {K : Int32 → tS → Prop} (C : TC Γ cX6_cue RX6 6 139) (hw : tWf N0) (hR : xnL Γ = 2) (r : TRi Γ N0 cX6_cue K) {a1 : Int32} (hM : N0 0 ≠ 0) {S : tS} (hf : M_cue a1 S K) : TJ Γ N0 0 0 0 [(0, .ref (xad Γ 0)), (1, .int a1)] [] S := by
  unfold M_cue at hf
  refine tj_aload_n C 0 rfl rfl dX6_cue_0 ?_
  refine tj_iload_n C 1 rfl rfl dX6_cue_1 ?_
  refine tj_i2l C dX6_cue_2 ?_
  refine tj_callVz C (k := 0) [.long (a1.toInt64)] [] (fun hN => c_M_isPerson (by rw [hN]; exact hM) hf) lk_X6_305 ty_X6_isPerson rfl (Nat.le_of_ble_eq_true rfl) (Nat.le_of_ble_eq_true rfl) (Nat.le_of_ble_eq_true rfl) hM rfl (by decide) rfl rfl dX6_cue_3 (fun r2 S1 hf => ?_)
  have hz_r2 := hf.1
  replace hf := hf.2
  refine tj_if_eq C 28 (by decide) dX6_cue_6 (fun hc => ?_) (fun hc => ?_)
  · replace hf := hf.1 hc
    refine tj_aload_n C 0 rfl rfl dX6_cue_28 ?_
    refine tj_iconst C kc_1 dX6_cue_29 ?_
    refine tj_callVi C (k := 0) [.int (nI 1)] [] (fun hN => c_M_refuse (by rw [hN]; exact hM) hf) lk_X6_91 ty_X6_refuse rfl (Nat.le_of_ble_eq_true rfl) (Nat.le_of_ble_eq_true rfl) (Nat.le_of_ble_eq_true rfl) hM rfl (by decide) rfl rfl dX6_cue_30 (fun r4 S3 hf => ?_)
    exact r _ _ _ _ dX6_cue_33 hf
  · replace hf := hf.2 hc
    refine tj_aload_n C 0 rfl rfl dX6_cue_9 ?_
    refine tj_aload_n C 0 rfl rfl dX6_cue_10 ?_
    refine tj_iload_n C 1 rfl rfl dX6_cue_11 ?_
    refine tj_aload_n C 0 rfl rfl dX6_cue_12 ?_
    refine gf_X6_7 C hM dX6_cue_13 ?_
    refine tj_bipush C kb_6 dX6_cue_16 ?_
    refine tj_iald C 48 3548 rfl (ln_48 hw hM) 6 kn_6 (vp_in_nI (by decide) (by decide)) dX6_cue_18 ?_
    refine tj_callVi C (k := 0) [.int a1, .int (gI S1 48 6)] [.ref (xad Γ 0)] (fun hN => c_M_cueFor (by rw [hN]; exact hM) hf) lk_X6_332 ty_X6_cueFor rfl (Nat.le_of_ble_eq_true rfl) (Nat.le_of_ble_eq_true rfl) (Nat.le_of_ble_eq_true rfl) hM rfl (by decide) rfl rfl dX6_cue_19 (fun r6 S5 hf => ?_)
    refine tj_callVi C (k := 0) [.int r6] [] (fun hN => c_M_orNone (by rw [hN]; exact hM) hf) lk_X6_302 ty_X6_orNone rfl (Nat.le_of_ble_eq_true rfl) (Nat.le_of_ble_eq_true rfl) (Nat.le_of_ble_eq_true rfl) hM rfl (by decide) rfl rfl dX6_cue_22 (fun r8 S7 hf => ?_)
    refine tj_goto C 33 (by decide) dX6_cue_25 ?_
    exact r _ _ _ _ dX6_cue_33 hf
theorem c_M_cue {l : Launch} {G : tG} {ad : Nat → Nat} {A : Nat → Prop} {S : tS} {K : Int32 → tS → Prop} {a1 : Int32} (hM : gN S 0 ≠ 0) (hf : M_cue a1 S K) : Met l yX6_cue (ws_ yX6_cue cX6_cue 2 (some .int)) (tRm 6 139) (va_Pc [.ref (ad 0), .int a1] (tPre G ad A S)) (va_Qi K (tB G ad A (gN S)) A) 0 0 A :=
  tj_met_i [(0, .ref (ad 0)), (1, .int a1)] pn_X6 rfl (Nat.le_of_ble_eq_true rfl) (fun p e R s m args below meth c Q C hw r => w_M_cue_b0 C hw rfl r hM hf)
theorem w_M_cueAt_b34 {Γ : tX} {N0 : Nat → Nat} {K : Int32 → tS → Prop} (C : TC Γ cX6_cueAt RX6 6 139) (hw : tWf N0) (hR : xnL Γ = 3) (r : TRi Γ N0 cX6_cueAt K) {a1 : Int32} {a2 : Int32} (hM : N0 0 ≠ 0) {S : tS} (hf : M_cueAt_b34 a1 a2 K  S) : TJ Γ N0 0 0 34 [(0, .ref (xad Γ 0))] [] S := by
  unfold M_cueAt_b34 at hf
  refine tj_aload_n C 0 rfl rfl dX6_cueAt_34 ?_
  refine tj_iconst C kc_1 dX6_cueAt_35 ?_
  refine tj_callVi C (k := 0) [.int (nI 1)] [] (fun hN => c_M_refuse (by rw [hN]; exact hM) hf) lk_X6_91 ty_X6_refuse rfl (Nat.le_of_ble_eq_true rfl) (Nat.le_of_ble_eq_true rfl) (Nat.le_of_ble_eq_true rfl) hM rfl (by decide) rfl rfl dX6_cueAt_36 (fun r10 S9 hf => ?_)
  exact r _ _ _ _ dX6_cueAt_39 hf
theorem w_M_cueAt_b0 {Γ : tX} {N0 : Nat → Nat} {K : Int32 → tS → Prop} (C : TC Γ cX6_cueAt RX6 6 139) (hw : tWf N0) (hR : xnL Γ = 3) (r : TRi Γ N0 cX6_cueAt K) {a1 : Int32} {a2 : Int32} (hM : N0 0 ≠ 0) {S : tS} (hf : M_cueAt a1 a2 S K) : TJ Γ N0 0 0 0 [(0, .ref (xad Γ 0)), (1, .int a1), (2, .int a2)] [] S := by
  unfold M_cueAt at hf
  refine tj_aload_n C 0 rfl rfl dX6_cueAt_0 ?_
  refine tj_iload_n C 1 rfl rfl dX6_cueAt_1 ?_
  refine tj_i2l C dX6_cueAt_2 ?_
  refine tj_callVz C (k := 0) [.long (a1.toInt64)] [] (fun hN => c_M_isPerson (by rw [hN]; exact hM) hf) lk_X6_305 ty_X6_isPerson rfl (Nat.le_of_ble_eq_true rfl) (Nat.le_of_ble_eq_true rfl) (Nat.le_of_ble_eq_true rfl) hM rfl (by decide) rfl rfl dX6_cueAt_3 (fun r2 S1 hf => ?_)
  have hz_r2 := hf.1
  replace hf := hf.2
  refine tj_if_eq C 34 (by decide) dX6_cueAt_6 (fun hc => ?_) (fun hc => ?_)
  · replace hf := hf.1 hc
    exact tj_sub [0] (w_M_cueAt_b34 C hw hR r hM hf) rfl
  · replace hf := hf.2 hc
    refine tj_iload_n C 2 rfl rfl dX6_cueAt_9 ?_
    refine tj_i2l C dX6_cueAt_10 ?_
    refine tj_lconst C (v := lN 0) rfl dX6_cueAt_11 ?_
    refine tj_ldc2 C kl_X6_335 dX6_cueAt_12 ?_
    refine tj_callSz C [.long (a2.toInt64), .long (lN 0), .long (lN 9)] [] (fun hN => c_M_isFrom hf) lk_X6_337 ty_X6_isFrom rfl (Nat.le_of_ble_eq_true rfl) (Nat.le_of_ble_eq_true rfl) (Nat.le_of_ble_eq_true rfl) rfl dX6_cueAt_15 (fun r4 S3 hf => ?_)
    have hz_r4 := hf.1
    replace hf := hf.2
    refine tj_if_eq C 34 (by decide) dX6_cueAt_18 (fun hc => ?_) (fun hc => ?_)
    · replace hf := hf.1 hc
      exact tj_sub [0] (w_M_cueAt_b34 C hw hR r hM hf) rfl
    · replace hf := hf.2 hc
      refine tj_aload_n C 0 rfl rfl dX6_cueAt_21 ?_
      refine tj_aload_n C 0 rfl rfl dX6_cueAt_22 ?_
      refine tj_iload_n C 1 rfl rfl dX6_cueAt_23 ?_
      refine tj_iload_n C 2 rfl rfl dX6_cueAt_24 ?_
      refine tj_callVi C (k := 0) [.int a1, .int a2] [.ref (xad Γ 0)] (fun hN => c_M_cueFor (by rw [hN]; exact hM) hf) lk_X6_332 ty_X6_cueFor rfl (Nat.le_of_ble_eq_true rfl) (Nat.le_of_ble_eq_true rfl) (Nat.le_of_ble_eq_true rfl) hM rfl (by decide) rfl rfl dX6_cueAt_25 (fun r6 S5 hf => ?_)
      refine tj_callVi C (k := 0) [.int r6] [] (fun hN => c_M_orNone (by rw [hN]; exact hM) hf) lk_X6_302 ty_X6_orNone rfl (Nat.le_of_ble_eq_true rfl) (Nat.le_of_ble_eq_true rfl) (Nat.le_of_ble_eq_true rfl) hM rfl (by decide) rfl rfl dX6_cueAt_28 (fun r8 S7 hf => ?_)
      refine tj_goto C 39 (by decide) dX6_cueAt_31 ?_
      exact r _ _ _ _ dX6_cueAt_39 hf
theorem c_M_cueAt {l : Launch} {G : tG} {ad : Nat → Nat} {A : Nat → Prop} {S : tS} {K : Int32 → tS → Prop} {a1 : Int32} {a2 : Int32} (hM : gN S 0 ≠ 0) (hf : M_cueAt a1 a2 S K) : Met l yX6_cueAt (ws_ yX6_cueAt cX6_cueAt 3 (some .int)) (tRm 6 139) (va_Pc [.ref (ad 0), .int a1, .int a2] (tPre G ad A S)) (va_Qi K (tB G ad A (gN S)) A) 0 0 A :=
  tj_met_i [(0, .ref (ad 0)), (1, .int a1), (2, .int a2)] pn_X6 rfl (Nat.le_of_ble_eq_true rfl) (fun p e R s m args below meth c Q C hw r => w_M_cueAt_b0 C hw rfl r hM hf)
theorem w_M_deeds_b0 {Γ : tX} {N0 : Nat → Nat} {K : Int32 → tS → Prop} (C : TC Γ cX6_deeds RX6 0 0) (hw : tWf N0) (hR : xnL Γ = 1) (r : TRi Γ N0 cX6_deeds K) (hM : N0 0 ≠ 0) {S : tS} (hf : M_deeds S K) : TJ Γ N0 0 0 0 [(0, .ref (xad Γ 0))] [] S := by
  unfold M_deeds at hf
  refine tj_aload_n C 0 rfl rfl dX6_deeds_0 ?_
  refine gf_X6_7 C hM dX6_deeds_1 ?_
  refine tj_iconst C kc_3 dX6_deeds_4 ?_
  refine tj_iald C 48 3548 rfl (ln_48 hw hM) 3 kn_3 (vp_in_nI (by decide) (by decide)) dX6_deeds_5 ?_
  refine tj_iconst C kc_1 dX6_deeds_6 ?_
  refine tj_aload_n C 0 rfl rfl dX6_deeds_7 ?_
  refine gf_X6_7 C hM dX6_deeds_8 ?_
  refine tj_iconst C kc_0 dX6_deeds_11 ?_
  refine tj_iald C 48 3548 rfl (ln_48 hw hM) 0 kn_0 (vp_in_nI (by decide) (by decide)) dX6_deeds_12 ?_
  refine tj_iadd C dX6_deeds_13 ?_
  refine tj_imul C dX6_deeds_14 ?_
  exact r _ _ _ _ dX6_deeds_15 hf
theorem c_M_deeds {l : Launch} {G : tG} {ad : Nat → Nat} {A : Nat → Prop} {S : tS} {K : Int32 → tS → Prop} (hM : gN S 0 ≠ 0) (hf : M_deeds S K) : Met l yX6_deeds (ws_ yX6_deeds cX6_deeds 1 (some .int)) (tRm 0 0) (va_Pc [.ref (ad 0)] (tPre G ad A S)) (va_Qi K (tB G ad A (gN S)) A) 0 0 A :=
  tj_met_i [(0, .ref (ad 0))] pn_X6 rfl (Nat.le_of_ble_eq_true rfl) (fun p e R s m args below meth c Q C hw r => w_M_deeds_b0 C hw rfl r hM hf)
theorem w_M_sits_b0 {Γ : tX} {N0 : Nat → Nat} {K : Int32 → tS → Prop} (C : TC Γ cX6_sits RX6 6 139) (hw : tWf N0) (hR : xnL Γ = 3) (r : TRi Γ N0 cX6_sits K) {a1 : Int32} (hM : N0 0 ≠ 0) {S : tS} (hf : M_sits a1 S K) : TJ Γ N0 0 0 0 [(0, .ref (xad Γ 0)), (1, .int a1)] [] S := by
  unfold M_sits at hf
  refine tj_aload_n C 0 rfl rfl dX6_sits_0 ?_
  refine tj_iload_n C 1 rfl rfl dX6_sits_1 ?_
  refine tj_aload_n C 0 rfl rfl dX6_sits_2 ?_
  refine gf_X6_7 C hM dX6_sits_3 ?_
  refine tj_bipush C kb_6 dX6_sits_6 ?_
  refine tj_iald C 48 3548 rfl (ln_48 hw hM) 6 kn_6 (vp_in_nI (by decide) (by decide)) dX6_sits_8 ?_
  refine tj_callVi C (k := 0) [.int a1, .int (gI S 48 6)] [] (fun hN => c_M_cueFor (by rw [hN]; exact hM) hf) lk_X6_332 ty_X6_cueFor rfl (Nat.le_of_ble_eq_true rfl) (Nat.le_of_ble_eq_true rfl) (Nat.le_of_ble_eq_true rfl) hM rfl (by decide) rfl rfl dX6_sits_9 (fun r2 S1 hf => ?_)
  refine tj_istore_n C (by rw [hR]; decide) [(2, .int r2), (0, .ref (xad Γ 0)), (1, .int a1)] rfl rfl dX6_sits_12 ?_
  refine tj_aload_n C 1 rfl rfl dX6_sits_13 ?_
  refine gf_X6_7 C hM dX6_sits_14 ?_
  refine tj_bipush C kb_6 dX6_sits_17 ?_
  refine tj_bipush C kb_9 dX6_sits_19 ?_
  refine tj_aload_n C 1 rfl rfl dX6_sits_21 ?_
  refine gf_X6_7 C hM dX6_sits_22 ?_
  refine tj_bipush C kb_6 dX6_sits_25 ?_
  refine tj_iald C 48 3548 rfl (ln_48 hw hM) 6 kn_6 (vp_in_nI (by decide) (by decide)) dX6_sits_27 ?_
  refine tj_iconst C kc_1 dX6_sits_28 ?_
  refine tj_iadd C dX6_sits_29 ?_
  refine tj_mmin C q1827 (Nat.le_of_ble_eq_true rfl) (Nat.le_of_ble_eq_true rfl) (Nat.le_of_ble_eq_true rfl) dX6_sits_30 ?_
  refine tj_iast C 48 3548 rfl (ln_48 hw hM) 6 kn_6 (vp_in_nI (by decide) (by decide)) dX6_sits_33 ?_
  refine tj_topS (fun S3 eS => ?_)
  replace hf := hf S3 eS
  refine tj_aload_n C 1 rfl rfl dX6_sits_34 ?_
  refine gf_X6_7 C hM dX6_sits_35 ?_
  refine tj_bipush C kb_7 dX6_sits_38 ?_
  refine tj_dup2 C rfl rfl dX6_sits_40 ?_
  refine tj_iald C 48 3548 rfl (ln_48 hw hM) 7 kn_7 (vp_in_nI (by decide) (by decide)) dX6_sits_41 ?_
  refine tj_iconst C kc_1 dX6_sits_42 ?_
  refine tj_iadd C dX6_sits_43 ?_
  refine tj_iast C 48 3548 rfl (ln_48 hw hM) 7 kn_7 (vp_in_nI (by decide) (by decide)) dX6_sits_44 ?_
  refine tj_topS (fun S4 eS => ?_)
  replace hf := hf S4 eS
  refine tj_aload_n C 1 rfl rfl dX6_sits_45 ?_
  refine gf_X6_7 C hM dX6_sits_46 ?_
  refine tj_iload_n C 2 rfl rfl dX6_sits_49 ?_
  refine tj_callSi C [.int a1] [.ref (xad Γ 48)] (fun hN => c_M_personRow hf) lk_X6_224 ty_X6_personRow rfl (Nat.le_of_ble_eq_true rfl) (Nat.le_of_ble_eq_true rfl) (Nat.le_of_ble_eq_true rfl) rfl dX6_sits_50 (fun r6 S5 hf => ?_)
  refine tj_iconst C kc_4 dX6_sits_53 ?_
  refine tj_iadd C dX6_sits_54 ?_
  refine tj_dup2 C rfl rfl dX6_sits_55 ?_
  refine tj_iald C 48 3548 rfl (ln_48 hw hM) _ rfl hf.1 dX6_sits_56 ?_
  replace hf := hf.2
  refine tj_iconst C kc_1 dX6_sits_57 ?_
  refine tj_iadd C dX6_sits_58 ?_
  refine tj_iast C 48 3548 rfl (ln_48 hw hM) _ rfl hf.1 dX6_sits_59 ?_
  replace hf := hf.2
  refine tj_topS (fun S7 eS => ?_)
  replace hf := hf S7 eS
  refine tj_iload_n C 0 rfl rfl dX6_sits_60 ?_
  exact r _ _ _ _ dX6_sits_61 hf
theorem c_M_sits {l : Launch} {G : tG} {ad : Nat → Nat} {A : Nat → Prop} {S : tS} {K : Int32 → tS → Prop} {a1 : Int32} (hM : gN S 0 ≠ 0) (hf : M_sits a1 S K) : Met l yX6_sits (ws_ yX6_sits cX6_sits 3 (some .int)) (tRm 6 139) (va_Pc [.ref (ad 0), .int a1] (tPre G ad A S)) (va_Qi K (tB G ad A (gN S)) A) 0 0 A :=
  tj_met_i [(0, .ref (ad 0)), (1, .int a1)] pn_X6 rfl (Nat.le_of_ble_eq_true rfl) (fun p e R s m args below meth c Q C hw r => w_M_sits_b0 C hw rfl r hM hf)
theorem w_M_sitsBy_b0 {Γ : tX} {N0 : Nat → Nat} {K : Int32 → tS → Prop} (C : TC Γ cX6_sitsBy RX6 7 161) (hw : tWf N0) (hR : xnL Γ = 2) (r : TRz Γ N0 cX6_sitsBy K) {a1 : Int32} (hM : N0 0 ≠ 0) {S : tS} (hf : M_sitsBy a1 S K) : TJ Γ N0 0 0 0 [(0, .ref (xad Γ 0)), (1, .int a1)] [] S := by
  unfold M_sitsBy at hf
  refine tj_aload_n C 0 rfl rfl dX6_sitsBy_0 ?_
  refine gf_X6_7 C hM dX6_sitsBy_1 ?_
  refine tj_bipush C kb_7 dX6_sitsBy_4 ?_
  refine tj_iald C 48 3548 rfl (ln_48 hw hM) 7 kn_7 (vp_in_nI (by decide) (by decide)) dX6_sitsBy_6 ?_
  refine tj_sipush C ks_9999 dX6_sitsBy_7 ?_
  refine tj_icmp_ne C 15 (by decide) dX6_sitsBy_10 (fun hc => ?_) (fun hc => ?_)
  · replace hf := hf.2 hc
    refine tj_aload_n C 0 rfl rfl dX6_sitsBy_15 ?_
    refine tj_iload_n C 1 rfl rfl dX6_sitsBy_16 ?_
    refine tj_callVi C (k := 0) [.int a1] [] (fun hN => c_M_sits (by rw [hN]; exact hM) hf) lk_X6_341 ty_X6_sits rfl (Nat.le_of_ble_eq_true rfl) (Nat.le_of_ble_eq_true rfl) (Nat.le_of_ble_eq_true rfl) hM rfl (by decide) rfl rfl dX6_sitsBy_17 (fun r2 S1 hf => ?_)
    refine tj_pop C rfl dX6_sitsBy_20 ?_
    refine tj_aload_n C 0 rfl rfl dX6_sitsBy_21 ?_
    refine gf_X6_75 C hM dX6_sitsBy_22 ?_
    refine tj_iconst C kc_1 dX6_sitsBy_25 ?_
    refine tj_dup2 C rfl rfl dX6_sitsBy_26 ?_
    refine tj_iald C 592 5 rfl (ln_592 hw hM) 1 kn_1 (vp_in_nI (by decide) (by decide)) dX6_sitsBy_27 ?_
    refine tj_iconst C kc_1 dX6_sitsBy_28 ?_
    refine tj_iadd C dX6_sitsBy_29 ?_
    refine tj_iast C 592 5 rfl (ln_592 hw hM) 1 kn_1 (vp_in_nI (by decide) (by decide)) dX6_sitsBy_30 ?_
    refine tj_topS (fun S3 eS => ?_)
    replace hf := hf S3 eS
    refine tj_iconst C kc_1 dX6_sitsBy_31 ?_
    exact r _ _ _ _ dX6_sitsBy_32 zb1 hf
  · replace hf := hf.1 hc
    refine tj_iconst C kc_0 dX6_sitsBy_13 ?_
    exact r _ _ _ _ dX6_sitsBy_14 zb0 hf
theorem c_M_sitsBy {l : Launch} {G : tG} {ad : Nat → Nat} {A : Nat → Prop} {S : tS} {K : Int32 → tS → Prop} {a1 : Int32} (hM : gN S 0 ≠ 0) (hf : M_sitsBy a1 S K) : Met l yX6_sitsBy (ws_ yX6_sitsBy cX6_sitsBy 2 (some .boolean)) (tRm 7 161) (va_Pc [.ref (ad 0), .int a1] (tPre G ad A S)) (va_Qi (fun r u => r &&& 1 = r ∧ K r u) (tB G ad A (gN S)) A) 0 0 A :=
  tj_met_z [(0, .ref (ad 0)), (1, .int a1)] pn_X6 rfl (Nat.le_of_ble_eq_true rfl) (fun p e R s m args below meth c Q C hw r => w_M_sitsBy_b0 C hw rfl r hM hf)
theorem w_M_isTooMuch_b0 {Γ : tX} {N0 : Nat → Nat} {K : Int32 → tS → Prop} (C : TC Γ cX6_isTooMuch RX6 3 66) (hw : tWf N0) (hR : xnL Γ = 1) (r : TRz Γ N0 cX6_isTooMuch K) (hM : N0 0 ≠ 0) {S : tS} (hf : M_isTooMuch S K) : TJ Γ N0 0 0 0 [(0, .ref (xad Γ 0))] [] S := by
  unfold M_isTooMuch at hf
  refine tj_aload_n C 0 rfl rfl dX6_isTooMuch_0 ?_
  refine gf_X6_7 C hM dX6_isTooMuch_1 ?_
  refine tj_bipush C kb_7 dX6_isTooMuch_4 ?_
  refine tj_iald C 48 3548 rfl (ln_48 hw hM) 7 kn_7 (vp_in_nI (by decide) (by decide)) dX6_isTooMuch_6 ?_
  refine tj_aload_n C 0 rfl rfl dX6_isTooMuch_7 ?_
  refine tj_iconst C kc_0 dX6_isTooMuch_8 ?_
  refine tj_callVi C (k := 0) [.int (nI 0)] [.int (gI S 48 7)] (fun hN => c_M_peopleThat (by rw [hN]; exact hM) hf) lk_X6_290 ty_X6_peopleThat rfl (Nat.le_of_ble_eq_true rfl) (Nat.le_of_ble_eq_true rfl) (Nat.le_of_ble_eq_true rfl) hM rfl (by decide) rfl rfl dX6_isTooMuch_9 (fun r2 S1 hf => ?_)
  refine tj_callSi C [.int r2] [.int (gI S 48 7)] (fun hN => c_M_bits hf) lk_X6_344 ty_X6_bits rfl (Nat.le_of_ble_eq_true rfl) (Nat.le_of_ble_eq_true rfl) (Nat.le_of_ble_eq_true rfl) rfl dX6_isTooMuch_12 (fun r4 S3 hf => ?_)
  refine tj_iadd C dX6_isTooMuch_15 ?_
  refine tj_sipush C ks_9999 dX6_isTooMuch_16 ?_
  refine tj_icmp_le C 26 (by decide) dX6_isTooMuch_19 (fun hc => ?_) (fun hc => ?_)
  · replace hf := hf.1 hc
    refine tj_iconst C kc_0 dX6_isTooMuch_26 ?_
    exact r _ _ _ _ dX6_isTooMuch_27 zb0 hf
  · replace hf := hf.2 hc
    refine tj_iconst C kc_1 dX6_isTooMuch_22 ?_
    refine tj_goto C 27 (by decide) dX6_isTooMuch_23 ?_
    exact r _ _ _ _ dX6_isTooMuch_27 zb1 hf
theorem c_M_isTooMuch {l : Launch} {G : tG} {ad : Nat → Nat} {A : Nat → Prop} {S : tS} {K : Int32 → tS → Prop} (hM : gN S 0 ≠ 0) (hf : M_isTooMuch S K) : Met l yX6_isTooMuch (ws_ yX6_isTooMuch cX6_isTooMuch 1 (some .boolean)) (tRm 3 66) (va_Pc [.ref (ad 0)] (tPre G ad A S)) (va_Qi (fun r u => r &&& 1 = r ∧ K r u) (tB G ad A (gN S)) A) 0 0 A :=
  tj_met_z [(0, .ref (ad 0))] pn_X6 rfl (Nat.le_of_ble_eq_true rfl) (fun p e R s m args below meth c Q C hw r => w_M_isTooMuch_b0 C hw rfl r hM hf)
theorem w_M_terms_b101 {Γ : tX} {N0 : Nat → Nat} {K : Int32 → tS → Prop} (C : TC Γ cX6_terms RX6 7 161) (hw : tWf N0) (hR : xnL Γ = 6) (r : TRi Γ N0 cX6_terms K) (hM : N0 0 ≠ 0) {κ10 : Int32 → Int32 → Int32 → tS → Prop} (hκ10 : ∀ (a1 : Int32) (a2 : Int32) (a3 : Int32) (S : tS), κ10 a1 a2 a3 S → TJ Γ N0 0 0 10 [(0, .ref (xad Γ 0)), (1, .int a1), (2, .int a2), (3, .int a3)] [] S) {a1 : Int32} {a2 : Int32} {a3 : Int32} {S : tS} (hf : M_terms_b101 K κ10 a1 a2 a3 S) : TJ Γ N0 0 0 101 [(0, .ref (xad Γ 0)), (1, .int a1), (2, .int a2), (3, .int a3)] [] S := by
  unfold M_terms_b101 at hf
  obtain ⟨x9, ex⟩ : ∃ y : Int32, y = a3 + nI 1 := ⟨_, rfl⟩
  refine tj_iinc C (by rw [hR]; decide) 3 [(3, .int x9), (0, .ref (xad Γ 0)), (1, .int a1), (2, .int a2)] rfl (by rw [ex]; exact ki_1 _) rfl dX6_terms_101 ?_
  replace hf := hf x9 ex
  refine tj_goto C 10 (by decide) dX6_terms_104 ?_
  exact tj_sub [1, 2, 3, 0] (hκ10 _ _ _ _ hf) rfl
theorem w_M_terms_b99 {Γ : tX} {N0 : Nat → Nat} {K : Int32 → tS → Prop} (C : TC Γ cX6_terms RX6 7 161) (hw : tWf N0) (hR : xnL Γ = 6) (r : TRi Γ N0 cX6_terms K) (hM : N0 0 ≠ 0) {κ10 : Int32 → Int32 → Int32 → tS → Prop} (hκ10 : ∀ (a1 : Int32) (a2 : Int32) (a3 : Int32) (S : tS), κ10 a1 a2 a3 S → TJ Γ N0 0 0 10 [(0, .ref (xad Γ 0)), (1, .int a1), (2, .int a2), (3, .int a3)] [] S) {a1 : Int32} {a3 : Int32} {s0 : Int32} {s1 : Int32} {S : tS} (hf : M_terms_b99 K κ10 a1 a3 s0 s1 S) : TJ Γ N0 0 0 99 [(0, .ref (xad Γ 0)), (1, .int a1), (3, .int a3)] [.int s1, .int s0] S := by
  unfold M_terms_b99 at hf
  refine tj_ior C dX6_terms_99 ?_
  refine tj_topi (fun x11 ex => ?_)
  replace hf := hf x11 ex
  refine tj_istore_n C (by rw [hR]; decide) [(2, .int x11), (0, .ref (xad Γ 0)), (1, .int a1), (3, .int a3)] rfl rfl dX6_terms_100 ?_
  exact tj_sub [1, 2, 0, 3] (w_M_terms_b101 C hw hR r hM hκ10 hf) rfl
theorem w_M_terms_b84 {Γ : tX} {N0 : Nat → Nat} {K : Int32 → tS → Prop} (C : TC Γ cX6_terms RX6 7 161) (hw : tWf N0) (hR : xnL Γ = 6) (r : TRi Γ N0 cX6_terms K) (hM : N0 0 ≠ 0) {κ10 : Int32 → Int32 → Int32 → tS → Prop} (hκ10 : ∀ (a1 : Int32) (a2 : Int32) (a3 : Int32) (S : tS), κ10 a1 a2 a3 S → TJ Γ N0 0 0 10 [(0, .ref (xad Γ 0)), (1, .int a1), (2, .int a2), (3, .int a3)] [] S) {a1 : Int32} {a2 : Int32} {a3 : Int32} {a5 : Int32} {s1 : Int32} {s2 : Int32} {S : tS} (hf : M_terms_b84 K κ10 a1 a2 a3 a5 s1 s2 S) : TJ Γ N0 0 0 84 [(0, .ref (xad Γ 0)), (1, .int a1), (2, .int a2), (3, .int a3), (5, .int a5)] [.int s2, .int s1, .ref (xad Γ 48)] S := by
  unfold M_terms_b84 at hf
  refine tj_iast C 48 3548 rfl (ln_48 hw hM) _ rfl hf.1 dX6_terms_84 ?_
  replace hf := hf.2
  refine tj_topS (fun S10 eS => ?_)
  replace hf := hf S10 eS
  refine tj_iload_n C 2 rfl rfl dX6_terms_85 ?_
  refine tj_iload C 4 rfl dX6_terms_86 ?_
  refine tj_iconst C kc_2 dX6_terms_88 ?_
  refine tj_icmp_ne C 98 (by decide) dX6_terms_89 (fun hc => ?_) (fun hc => ?_)
  · replace hf := hf.2 hc
    refine tj_iconst C kc_0 dX6_terms_98 ?_
    exact tj_sub [0, 1, 3] (w_M_terms_b99 C hw hR r hM hκ10 hf) rfl
  · replace hf := hf.1 hc
    refine tj_iconst C kc_1 dX6_terms_92 ?_
    refine tj_iload_n C 3 rfl rfl dX6_terms_93 ?_
    refine tj_ishl C dX6_terms_94 ?_
    refine tj_goto C 99 (by decide) dX6_terms_95 ?_
    exact tj_sub [0, 1, 3] (w_M_terms_b99 C hw hR r hM hκ10 hf) rfl
theorem w_M_terms_b59 {Γ : tX} {N0 : Nat → Nat} {K : Int32 → tS → Prop} (C : TC Γ cX6_terms RX6 7 161) (hw : tWf N0) (hR : xnL Γ = 6) (r : TRi Γ N0 cX6_terms K) (hM : N0 0 ≠ 0) {κ10 : Int32 → Int32 → Int32 → tS → Prop} (hκ10 : ∀ (a1 : Int32) (a2 : Int32) (a3 : Int32) (S : tS), κ10 a1 a2 a3 S → TJ Γ N0 0 0 10 [(0, .ref (xad Γ 0)), (1, .int a1), (2, .int a2), (3, .int a3)] [] S) {a1 : Int32} {a2 : Int32} {a3 : Int32} {s0 : Int32} {S : tS} (hf : M_terms_b59 K κ10 a1 a2 a3 s0 S) : TJ Γ N0 0 0 59 [(0, .ref (xad Γ 0)), (1, .int a1), (2, .int a2), (3, .int a3)] [.int s0] S := by
  unfold M_terms_b59 at hf
  refine tj_istore C (by rw [hR]; decide) [(5, .int s0), (0, .ref (xad Γ 0)), (1, .int a1), (2, .int a2), (3, .int a3)] rfl dX6_terms_59 ?_
  refine tj_aload_n C 1 rfl rfl dX6_terms_61 ?_
  refine gf_X6_7 C hM dX6_terms_62 ?_
  refine tj_iload_n C 4 rfl rfl dX6_terms_65 ?_
  refine tj_callSi C [.int a3] [.ref (xad Γ 48)] (fun hN => c_M_personRow hf) lk_X6_224 ty_X6_personRow rfl (Nat.le_of_ble_eq_true rfl) (Nat.le_of_ble_eq_true rfl) (Nat.le_of_ble_eq_true rfl) rfl dX6_terms_66 (fun r8 S7 hf => ?_)
  refine tj_iconst C kc_2 dX6_terms_69 ?_
  refine tj_iadd C dX6_terms_70 ?_
  refine tj_iload C 0 rfl dX6_terms_71 ?_
  refine tj_if_ne C 80 (by decide) dX6_terms_73 (fun hc => ?_) (fun hc => ?_)
  · replace hf := hf.2 hc
    refine tj_iconst C kc_3 dX6_terms_80 ?_
    refine tj_iload C 0 rfl dX6_terms_81 ?_
    refine tj_isub C dX6_terms_83 ?_
    exact tj_sub [1, 2, 3, 4, 0] (w_M_terms_b84 C hw hR r hM hκ10 hf) rfl
  · replace hf := hf.1 hc
    refine tj_iconst C kc_0 dX6_terms_76 ?_
    refine tj_goto C 84 (by decide) dX6_terms_77 ?_
    exact tj_sub [1, 2, 3, 4, 0] (w_M_terms_b84 C hw hR r hM hκ10 hf) rfl
theorem w_M_terms_l10 {Γ : tX} {N0 : Nat → Nat} {K : Int32 → tS → Prop} (C : TC Γ cX6_terms RX6 7 161) (hw : tWf N0) (hR : xnL Γ = 6) (r : TRi Γ N0 cX6_terms K) (hM : N0 0 ≠ 0) : ∀ (n : Nat) (a1 : Int32) (a2 : Int32) (a3 : Int32) (S : tS), M_terms_l10 K n a1 a2 a3 S → TJ Γ N0 0 0 10 [(0, .ref (xad Γ 0)), (1, .int a1), (2, .int a2), (3, .int a3)] [] S := by
  intro n
  induction n with
  | zero => intro a1 a2 a3 S hf; exact hf.elim
  | succ n ih =>
    intro a1 a2 a3 S hf
    unfold M_terms_l10 at hf
    refine tj_iload_n C 3 rfl rfl dX6_terms_10 ?_
    refine tj_aload_n C 0 rfl rfl dX6_terms_11 ?_
    refine gf_X6_7 C hM dX6_terms_12 ?_
    refine tj_iconst C kc_3 dX6_terms_15 ?_
    refine tj_iald C 48 3548 rfl (ln_48 hw hM) 3 kn_3 (vp_in_nI (by decide) (by decide)) dX6_terms_16 ?_
    refine tj_icmp_ge C 107 (by decide) dX6_terms_17 (fun hc => ?_) (fun hc => ?_)
    · replace hf := hf.1 hc
      refine tj_iload_n C 2 rfl rfl dX6_terms_107 ?_
      exact r _ _ _ _ dX6_terms_108 hf
    · replace hf := hf.2 hc
      refine tj_aload_n C 0 rfl rfl dX6_terms_20 ?_
      refine tj_iload_n C 1 rfl rfl dX6_terms_21 ?_
      refine tj_iload_n C 3 rfl rfl dX6_terms_22 ?_
      refine tj_callVz C (k := 0) [.int a1, .int a3] [] (fun hN => c_M_isIn (by rw [hN]; exact hM) hf) lk_X6_315 ty_X6_isIn rfl (Nat.le_of_ble_eq_true rfl) (Nat.le_of_ble_eq_true rfl) (Nat.le_of_ble_eq_true rfl) hM rfl (by decide) rfl rfl dX6_terms_23 (fun r4 S3 hf => ?_)
      have hz_r4 := hf.1
      replace hf := hf.2
      refine tj_if_ne C 32 (by decide) dX6_terms_26 (fun hc => ?_) (fun hc => ?_)
      · replace hf := hf.2 hc
        refine tj_aload_n C 0 rfl rfl dX6_terms_32 ?_
        refine tj_iload_n C 3 rfl rfl dX6_terms_33 ?_
        refine tj_callVi C (k := 0) [.int a3] [] (fun hN => c_M_sits (by rw [hN]; exact hM) hf) lk_X6_341 ty_X6_sits rfl (Nat.le_of_ble_eq_true rfl) (Nat.le_of_ble_eq_true rfl) (Nat.le_of_ble_eq_true rfl) hM rfl (by decide) rfl rfl dX6_terms_34 (fun r6 S5 hf => ?_)
        refine tj_istore C (by rw [hR]; decide) [(4, .int r6), (0, .ref (xad Γ 0)), (1, .int a1), (2, .int a2), (3, .int a3)] rfl dX6_terms_37 ?_
        refine tj_iload C 0 rfl dX6_terms_39 ?_
        refine tj_iconst C kc_m1 dX6_terms_41 ?_
        refine tj_icmp_ne C 49 (by decide) dX6_terms_42 (fun hc => ?_) (fun hc => ?_)
        · replace hf := hf.2 hc
          refine tj_aload_n C 1 rfl rfl dX6_terms_49 ?_
          refine gf_X6_7 C hM dX6_terms_50 ?_
          refine tj_bipush C kb_10 dX6_terms_53 ?_
          refine tj_iload C 0 rfl dX6_terms_55 ?_
          refine tj_iadd C dX6_terms_57 ?_
          refine tj_iald C 48 3548 rfl (ln_48 hw hM) _ rfl hf.1 dX6_terms_58 ?_
          replace hf := hf.2
          exact tj_sub [1, 2, 3, 4] (w_M_terms_b59 C hw hR r hM ih hf) rfl
        · replace hf := hf.1 hc
          refine tj_iconst C kc_0 dX6_terms_45 ?_
          refine tj_goto C 59 (by decide) dX6_terms_46 ?_
          exact tj_sub [1, 2, 3, 4] (w_M_terms_b59 C hw hR r hM ih hf) rfl
      · replace hf := hf.1 hc
        refine tj_goto C 101 (by decide) dX6_terms_29 ?_
        exact w_M_terms_b101 C hw hR r hM ih hf
theorem w_M_terms_b0 {Γ : tX} {N0 : Nat → Nat} {K : Int32 → tS → Prop} (C : TC Γ cX6_terms RX6 7 161) (hw : tWf N0) (hR : xnL Γ = 6) (r : TRi Γ N0 cX6_terms K) (hM : N0 0 ≠ 0) {S : tS} (hf : M_terms S K) : TJ Γ N0 0 0 0 [(0, .ref (xad Γ 0))] [] S := by
  unfold M_terms at hf
  refine tj_aload_n C 0 rfl rfl dX6_terms_0 ?_
  refine tj_iconst C kc_0 dX6_terms_1 ?_
  refine tj_callVi C (k := 0) [.int (nI 0)] [] (fun hN => c_M_peopleThat (by rw [hN]; exact hM) hf) lk_X6_290 ty_X6_peopleThat rfl (Nat.le_of_ble_eq_true rfl) (Nat.le_of_ble_eq_true rfl) (Nat.le_of_ble_eq_true rfl) hM rfl (by decide) rfl rfl dX6_terms_2 (fun r2 S1 hf => ?_)
  refine tj_istore_n C (by rw [hR]; decide) [(1, .int r2), (0, .ref (xad Γ 0))] rfl rfl dX6_terms_5 ?_
  refine tj_iconst C kc_0 dX6_terms_6 ?_
  refine tj_istore_n C (by rw [hR]; decide) [(2, .int (nI 0)), (1, .int r2), (0, .ref (xad Γ 0))] rfl rfl dX6_terms_7 ?_
  refine tj_iconst C kc_0 dX6_terms_8 ?_
  refine tj_istore_n C (by rw [hR]; decide) [(3, .int (nI 0)), (2, .int (nI 0)), (1, .int r2), (0, .ref (xad Γ 0))] rfl rfl dX6_terms_9 ?_
  exact tj_sub [3, 2, 1, 0] (hf.elim fun k hf => w_M_terms_l10 C hw hR r hM k _ _ _ _ hf) rfl
theorem c_M_terms {l : Launch} {G : tG} {ad : Nat → Nat} {A : Nat → Prop} {S : tS} {K : Int32 → tS → Prop} (hM : gN S 0 ≠ 0) (hf : M_terms S K) : Met l yX6_terms (ws_ yX6_terms cX6_terms 6 (some .int)) (tRm 7 161) (va_Pc [.ref (ad 0)] (tPre G ad A S)) (va_Qi K (tB G ad A (gN S)) A) 0 0 A :=
  tj_met_i [(0, .ref (ad 0))] pn_X6 rfl (Nat.le_of_ble_eq_true rfl) (fun p e R s m args below meth c Q C hw r => w_M_terms_b0 C hw rfl r hM hf)
theorem w_M_termsBy_b0 {Γ : tX} {N0 : Nat → Nat} {K : Int32 → tS → Prop} (C : TC Γ cX6_termsBy RX6 8 186) (hw : tWf N0) (hR : xnL Γ = 2) (r : TRz Γ N0 cX6_termsBy K) (hM : N0 0 ≠ 0) {S : tS} (hf : M_termsBy S K) : TJ Γ N0 0 0 0 [(0, .ref (xad Γ 0))] [] S := by
  unfold M_termsBy at hf
  refine tj_aload_n C 0 rfl rfl dX6_termsBy_0 ?_
  refine tj_iconst C kc_0 dX6_termsBy_1 ?_
  refine tj_callVi C (k := 0) [.int (nI 0)] [] (fun hN => c_M_peopleThat (by rw [hN]; exact hM) hf) lk_X6_290 ty_X6_peopleThat rfl (Nat.le_of_ble_eq_true rfl) (Nat.le_of_ble_eq_true rfl) (Nat.le_of_ble_eq_true rfl) hM rfl (by decide) rfl rfl dX6_termsBy_2 (fun r2 S1 hf => ?_)
  refine tj_istore_n C (by rw [hR]; decide) [(1, .int r2), (0, .ref (xad Γ 0))] rfl rfl dX6_termsBy_5 ?_
  refine tj_iload_n C 0 rfl rfl dX6_termsBy_6 ?_
  refine tj_if_eq C 17 (by decide) dX6_termsBy_7 (fun hc => ?_) (fun hc => ?_)
  · replace hf := hf.1 hc
    refine tj_iconst C kc_0 dX6_termsBy_17 ?_
    exact r _ _ _ _ dX6_termsBy_18 zb0 hf
  · replace hf := hf.2 hc
    refine tj_aload_n C 1 rfl rfl dX6_termsBy_10 ?_
    refine tj_callVz C (k := 0) [] [] (fun hN => c_M_isTooMuch (by rw [hN]; exact hM) hf) lk_X6_347 ty_X6_isTooMuch rfl (Nat.le_of_ble_eq_true rfl) (Nat.le_of_ble_eq_true rfl) (Nat.le_of_ble_eq_true rfl) hM rfl (by decide) rfl rfl dX6_termsBy_11 (fun r4 S3 hf => ?_)
    have hz_r4 := hf.1
    replace hf := hf.2
    refine tj_if_eq C 19 (by decide) dX6_termsBy_14 (fun hc => ?_) (fun hc => ?_)
    · replace hf := hf.1 hc
      refine tj_aload_n C 1 rfl rfl dX6_termsBy_19 ?_
      refine gf_X6_75 C hM dX6_termsBy_20 ?_
      refine tj_iconst C kc_1 dX6_termsBy_23 ?_
      refine tj_dup2 C rfl rfl dX6_termsBy_24 ?_
      refine tj_iald C 592 5 rfl (ln_592 hw hM) 1 kn_1 (vp_in_nI (by decide) (by decide)) dX6_termsBy_25 ?_
      refine tj_iload_n C 0 rfl rfl dX6_termsBy_26 ?_
      refine tj_callSi C [.int r2] [.int (gI S3 592 1), .int (nI 1), .ref (xad Γ 592)] (fun hN => c_M_bits hf) lk_X6_344 ty_X6_bits rfl (Nat.le_of_ble_eq_true rfl) (Nat.le_of_ble_eq_true rfl) (Nat.le_of_ble_eq_true rfl) rfl dX6_termsBy_27 (fun r6 S5 hf => ?_)
      refine tj_iadd C dX6_termsBy_30 ?_
      refine tj_iast C 592 5 rfl (ln_592 hw hM) 1 kn_1 (vp_in_nI (by decide) (by decide)) dX6_termsBy_31 ?_
      refine tj_topS (fun S7 eS => ?_)
      replace hf := hf S7 eS
      refine tj_aload_n C 1 rfl rfl dX6_termsBy_32 ?_
      refine gf_X6_75 C hM dX6_termsBy_33 ?_
      refine tj_iconst C kc_2 dX6_termsBy_36 ?_
      refine tj_dup2 C rfl rfl dX6_termsBy_37 ?_
      refine tj_iald C 592 5 rfl (ln_592 hw hM) 2 kn_2 (vp_in_nI (by decide) (by decide)) dX6_termsBy_38 ?_
      refine tj_aload_n C 1 rfl rfl dX6_termsBy_39 ?_
      refine tj_callVi C (k := 0) [] [.int (gI S7 592 2), .int (nI 2), .ref (xad Γ 592)] (fun hN => c_M_terms (by rw [hN]; exact hM) hf) lk_X6_350 ty_X6_terms rfl (Nat.le_of_ble_eq_true rfl) (Nat.le_of_ble_eq_true rfl) (Nat.le_of_ble_eq_true rfl) hM rfl (by decide) rfl rfl dX6_termsBy_40 (fun r9 S8 hf => ?_)
      refine tj_callSi C [.int r9] [.int (gI S7 592 2), .int (nI 2), .ref (xad Γ 592)] (fun hN => c_M_bits hf) lk_X6_344 ty_X6_bits rfl (Nat.le_of_ble_eq_true rfl) (Nat.le_of_ble_eq_true rfl) (Nat.le_of_ble_eq_true rfl) rfl dX6_termsBy_43 (fun r11 S10 hf => ?_)
      refine tj_iadd C dX6_termsBy_46 ?_
      refine tj_iast C 592 5 rfl (ln_592 hw hM) 2 kn_2 (vp_in_nI (by decide) (by decide)) dX6_termsBy_47 ?_
      refine tj_topS (fun S12 eS => ?_)
      replace hf := hf S12 eS
      refine tj_aload_n C 1 rfl rfl dX6_termsBy_48 ?_
      refine gf_X6_75 C hM dX6_termsBy_49 ?_
      refine tj_iconst C kc_3 dX6_termsBy_52 ?_
      refine tj_dup2 C rfl rfl dX6_termsBy_53 ?_
      refine tj_iald C 592 5 rfl (ln_592 hw hM) 3 kn_3 (vp_in_nI (by decide) (by decide)) dX6_termsBy_54 ?_
      refine tj_iload_n C 0 rfl rfl dX6_termsBy_55 ?_
      refine tj_aload_n C 1 rfl rfl dX6_termsBy_56 ?_
      refine tj_iconst C kc_2 dX6_termsBy_57 ?_
      refine tj_callVi C (k := 0) [.int (nI 2)] [.int r2, .int (gI S12 592 3), .int (nI 3), .ref (xad Γ 592)] (fun hN => c_M_peopleThat (by rw [hN]; exact hM) hf) lk_X6_290 ty_X6_peopleThat rfl (Nat.le_of_ble_eq_true rfl) (Nat.le_of_ble_eq_true rfl) (Nat.le_of_ble_eq_true rfl) hM rfl (by decide) rfl rfl dX6_termsBy_58 (fun r14 S13 hf => ?_)
      refine tj_iand C dX6_termsBy_61 ?_
      refine tj_callSi C [.int (r2 &&& r14)] [.int (gI S12 592 3), .int (nI 3), .ref (xad Γ 592)] (fun hN => c_M_bits hf) lk_X6_344 ty_X6_bits rfl (Nat.le_of_ble_eq_true rfl) (Nat.le_of_ble_eq_true rfl) (Nat.le_of_ble_eq_true rfl) rfl dX6_termsBy_62 (fun r16 S15 hf => ?_)
      refine tj_iadd C dX6_termsBy_65 ?_
      refine tj_iast C 592 5 rfl (ln_592 hw hM) 3 kn_3 (vp_in_nI (by decide) (by decide)) dX6_termsBy_66 ?_
      refine tj_topS (fun S17 eS => ?_)
      replace hf := hf S17 eS
      refine tj_iconst C kc_1 dX6_termsBy_67 ?_
      exact r _ _ _ _ dX6_termsBy_68 zb1 hf
    · replace hf := hf.2 hc
      refine tj_iconst C kc_0 dX6_termsBy_17 ?_
      exact r _ _ _ _ dX6_termsBy_18 zb0 hf
theorem c_M_termsBy {l : Launch} {G : tG} {ad : Nat → Nat} {A : Nat → Prop} {S : tS} {K : Int32 → tS → Prop} (hM : gN S 0 ≠ 0) (hf : M_termsBy S K) : Met l yX6_termsBy (ws_ yX6_termsBy cX6_termsBy 2 (some .boolean)) (tRm 8 186) (va_Pc [.ref (ad 0)] (tPre G ad A S)) (va_Qi (fun r u => r &&& 1 = r ∧ K r u) (tB G ad A (gN S)) A) 0 0 A :=
  tj_met_z [(0, .ref (ad 0))] pn_X6 rfl (Nat.le_of_ble_eq_true rfl) (fun p e R s m args below meth c Q C hw r => w_M_termsBy_b0 C hw rfl r hM hf)
theorem w_M_meals_b0 {Γ : tX} {N0 : Nat → Nat} {K : Int32 → tS → Prop} (C : TC Γ cX6_meals RX6 1 40) (hw : tWf N0) (hR : xnL Γ = 4) (r : TRz Γ N0 cX6_meals K) {a1 : Int32} {a2 : Int32} (hM : N0 0 ≠ 0) {S : tS} (hf : M_meals a1 a2 S K) : TJ Γ N0 0 0 0 [(0, .ref (xad Γ 0)), (1, .int a1), (2, .int a2)] [] S := by
  unfold M_meals at hf
  refine tj_iload_n C 1 rfl rfl dX6_meals_0 ?_
  refine tj_callSi C [.int a1] [] (fun hN => c_M_personRow hf) lk_X6_224 ty_X6_personRow rfl (Nat.le_of_ble_eq_true rfl) (Nat.le_of_ble_eq_true rfl) (Nat.le_of_ble_eq_true rfl) rfl dX6_meals_1 (fun r2 S1 hf => ?_)
  refine tj_istore_n C (by rw [hR]; decide) [(3, .int r2), (0, .ref (xad Γ 0)), (1, .int a1), (2, .int a2)] rfl rfl dX6_meals_4 ?_
  refine tj_aload_n C 1 rfl rfl dX6_meals_5 ?_
  refine gf_X6_7 C hM dX6_meals_6 ?_
  refine tj_iload_n C 0 rfl rfl dX6_meals_9 ?_
  refine tj_iald C 48 3548 rfl (ln_48 hw hM) _ rfl hf.1 dX6_meals_10 ?_
  replace hf := hf.2
  refine tj_bipush C kb_99 dX6_meals_11 ?_
  refine tj_icmp_ne C 18 (by decide) dX6_meals_13 (fun hc => ?_) (fun hc => ?_)
  · replace hf := hf.2 hc
    refine tj_aload_n C 1 rfl rfl dX6_meals_18 ?_
    refine gf_X6_7 C hM dX6_meals_19 ?_
    refine tj_iload_n C 0 rfl rfl dX6_meals_22 ?_
    refine tj_bipush C kb_99 dX6_meals_23 ?_
    refine tj_aload_n C 1 rfl rfl dX6_meals_25 ?_
    refine gf_X6_7 C hM dX6_meals_26 ?_
    refine tj_iload_n C 0 rfl rfl dX6_meals_29 ?_
    refine tj_iald C 48 3548 rfl (ln_48 hw hM) _ rfl hf.1 dX6_meals_30 ?_
    replace hf := hf.2
    refine tj_iload_n C 3 rfl rfl dX6_meals_31 ?_
    refine tj_iadd C dX6_meals_32 ?_
    refine tj_mmin C q1827 (Nat.le_of_ble_eq_true rfl) (Nat.le_of_ble_eq_true rfl) (Nat.le_of_ble_eq_true rfl) dX6_meals_33 ?_
    refine tj_iast C 48 3548 rfl (ln_48 hw hM) _ rfl hf.1 dX6_meals_36 ?_
    replace hf := hf.2
    refine tj_topS (fun S3 eS => ?_)
    replace hf := hf S3 eS
    refine tj_iconst C kc_1 dX6_meals_37 ?_
    exact r _ _ _ _ dX6_meals_38 zb1 hf
  · replace hf := hf.1 hc
    refine tj_iconst C kc_0 dX6_meals_16 ?_
    exact r _ _ _ _ dX6_meals_17 zb0 hf
theorem c_M_meals {l : Launch} {G : tG} {ad : Nat → Nat} {A : Nat → Prop} {S : tS} {K : Int32 → tS → Prop} {a1 : Int32} {a2 : Int32} (hM : gN S 0 ≠ 0) (hf : M_meals a1 a2 S K) : Met l yX6_meals (ws_ yX6_meals cX6_meals 4 (some .boolean)) (tRm 1 40) (va_Pc [.ref (ad 0), .int a1, .int a2] (tPre G ad A S)) (va_Qi (fun r u => r &&& 1 = r ∧ K r u) (tB G ad A (gN S)) A) 0 0 A :=
  tj_met_z [(0, .ref (ad 0)), (1, .int a1), (2, .int a2)] pn_X6 rfl (Nat.le_of_ble_eq_true rfl) (fun p e R s m args below meth c Q C hw r => w_M_meals_b0 C hw rfl r hM hf)
theorem w_M_scents_b0 {Γ : tX} {N0 : Nat → Nat} {K : Int32 → tS → Prop} (C : TC Γ cX6_scents RX6 2 42) (hw : tWf N0) (hR : xnL Γ = 4) (r : TRz Γ N0 cX6_scents K) {a1 : Int32} {a2 : Int32} {a3 : Int32} (hM : N0 0 ≠ 0) {S : tS} (hf : M_scents a1 a2 a3 S K) : TJ Γ N0 0 0 0 [(0, .ref (xad Γ 0)), (1, .int a1), (2, .int a2), (3, .int a3)] [] S := by
  unfold M_scents at hf
  refine tj_aload_n C 0 rfl rfl dX6_scents_0 ?_
  refine tj_aload_n C 0 rfl rfl dX6_scents_1 ?_
  refine tj_iload_n C 1 rfl rfl dX6_scents_2 ?_
  refine tj_iconst C kc_1 dX6_scents_3 ?_
  refine tj_callVi C (k := 0) [.int a1, .int (nI 1)] [.ref (xad Γ 0)] (fun hN => c_M_personOf (by rw [hN]; exact hM) hf) lk_X6_281 ty_X6_personOf rfl (Nat.le_of_ble_eq_true rfl) (Nat.le_of_ble_eq_true rfl) (Nat.le_of_ble_eq_true rfl) hM rfl (by decide) rfl rfl dX6_scents_4 (fun r2 S1 hf => ?_)
  refine tj_iload_n C 2 rfl rfl dX6_scents_7 ?_
  refine tj_callVz C (k := 0) [.int r2, .int a2] [] (fun hN => c_M_isIn (by rw [hN]; exact hM) hf) lk_X6_315 ty_X6_isIn rfl (Nat.le_of_ble_eq_true rfl) (Nat.le_of_ble_eq_true rfl) (Nat.le_of_ble_eq_true rfl) hM rfl (by decide) rfl rfl dX6_scents_8 (fun r4 S3 hf => ?_)
  have hz_r4 := hf.1
  replace hf := hf.2
  refine tj_iload_n C 3 rfl rfl dX6_scents_11 ?_
  refine tj_icmp_ne C 17 (by decide) dX6_scents_12 (fun hc => ?_) (fun hc => ?_)
  · replace hf := hf.2 hc
    refine tj_aload_n C 0 rfl rfl dX6_scents_17 ?_
    refine gf_X6_7 C hM dX6_scents_18 ?_
    refine tj_iload_n C 1 rfl rfl dX6_scents_21 ?_
    refine tj_callSi C [.int a1] [.ref (xad Γ 48)] (fun hN => c_M_personRow hf) lk_X6_224 ty_X6_personRow rfl (Nat.le_of_ble_eq_true rfl) (Nat.le_of_ble_eq_true rfl) (Nat.le_of_ble_eq_true rfl) rfl dX6_scents_22 (fun r6 S5 hf => ?_)
    refine tj_iconst C kc_1 dX6_scents_25 ?_
    refine tj_iadd C dX6_scents_26 ?_
    refine tj_dup2 C rfl rfl dX6_scents_27 ?_
    refine tj_iald C 48 3548 rfl (ln_48 hw hM) _ rfl hf.1 dX6_scents_28 ?_
    replace hf := hf.2
    refine tj_iconst C kc_1 dX6_scents_29 ?_
    refine tj_iload_n C 2 rfl rfl dX6_scents_30 ?_
    refine tj_ishl C dX6_scents_31 ?_
    refine tj_ixor C dX6_scents_32 ?_
    refine tj_iast C 48 3548 rfl (ln_48 hw hM) _ rfl hf.1 dX6_scents_33 ?_
    replace hf := hf.2
    refine tj_topS (fun S7 eS => ?_)
    replace hf := hf S7 eS
    refine tj_iconst C kc_1 dX6_scents_34 ?_
    exact r _ _ _ _ dX6_scents_35 zb1 hf
  · replace hf := hf.1 hc
    refine tj_iconst C kc_0 dX6_scents_15 ?_
    exact r _ _ _ _ dX6_scents_16 zb0 hf
theorem c_M_scents {l : Launch} {G : tG} {ad : Nat → Nat} {A : Nat → Prop} {S : tS} {K : Int32 → tS → Prop} {a1 : Int32} {a2 : Int32} {a3 : Int32} (hM : gN S 0 ≠ 0) (hf : M_scents a1 a2 a3 S K) : Met l yX6_scents (ws_ yX6_scents cX6_scents 4 (some .boolean)) (tRm 2 42) (va_Pc [.ref (ad 0), .int a1, .int a2, .int a3] (tPre G ad A S)) (va_Qi (fun r u => r &&& 1 = r ∧ K r u) (tB G ad A (gN S)) A) 0 0 A :=
  tj_met_z [(0, .ref (ad 0)), (1, .int a1), (2, .int a2), (3, .int a3)] pn_X6 rfl (Nat.le_of_ble_eq_true rfl) (fun p e R s m args below meth c Q C hw r => w_M_scents_b0 C hw rfl r hM hf)
theorem w_M_nights_b15 {Γ : tX} {N0 : Nat → Nat} {K : Int32 → tS → Prop} (C : TC Γ cX6_nights RX6 0 0) (hw : tWf N0) (hR : xnL Γ = 2) (r : TRz Γ N0 cX6_nights K) (hM : N0 0 ≠ 0) {s0 : Int32} {S : tS} (hf : M_nights_b15 K s0 S) : TJ Γ N0 0 0 15 [(0, .ref (xad Γ 0))] [.int s0] S := by
  unfold M_nights_b15 at hf
  refine tj_istore_n C (by rw [hR]; decide) [(1, .int s0), (0, .ref (xad Γ 0))] rfl rfl dX6_nights_15 ?_
  refine tj_aload_n C 1 rfl rfl dX6_nights_16 ?_
  refine gf_X6_7 C hM dX6_nights_17 ?_
  refine tj_bipush C kb_6 dX6_nights_20 ?_
  refine tj_iconst C kc_0 dX6_nights_22 ?_
  refine tj_iast C 48 3548 rfl (ln_48 hw hM) 6 kn_6 (vp_in_nI (by decide) (by decide)) dX6_nights_23 ?_
  refine tj_topS (fun S1 eS => ?_)
  replace hf := hf S1 eS
  refine tj_iload_n C 0 rfl rfl dX6_nights_24 ?_
  exact r _ _ _ _ dX6_nights_25 hf.1 hf.2
theorem w_M_nights_b0 {Γ : tX} {N0 : Nat → Nat} {K : Int32 → tS → Prop} (C : TC Γ cX6_nights RX6 0 0) (hw : tWf N0) (hR : xnL Γ = 2) (r : TRz Γ N0 cX6_nights K) (hM : N0 0 ≠ 0) {S : tS} (hf : M_nights S K) : TJ Γ N0 0 0 0 [(0, .ref (xad Γ 0))] [] S := by
  unfold M_nights at hf
  refine tj_aload_n C 0 rfl rfl dX6_nights_0 ?_
  refine gf_X6_7 C hM dX6_nights_1 ?_
  refine tj_bipush C kb_6 dX6_nights_4 ?_
  refine tj_iald C 48 3548 rfl (ln_48 hw hM) 6 kn_6 (vp_in_nI (by decide) (by decide)) dX6_nights_6 ?_
  refine tj_if_le C 14 (by decide) dX6_nights_7 (fun hc => ?_) (fun hc => ?_)
  · replace hf := hf.1 hc
    refine tj_iconst C kc_0 dX6_nights_14 ?_
    exact w_M_nights_b15 C hw hR r hM hf
  · replace hf := hf.2 hc
    refine tj_iconst C kc_1 dX6_nights_10 ?_
    refine tj_goto C 15 (by decide) dX6_nights_11 ?_
    exact w_M_nights_b15 C hw hR r hM hf
theorem c_M_nights {l : Launch} {G : tG} {ad : Nat → Nat} {A : Nat → Prop} {S : tS} {K : Int32 → tS → Prop} (hM : gN S 0 ≠ 0) (hf : M_nights S K) : Met l yX6_nights (ws_ yX6_nights cX6_nights 2 (some .boolean)) (tRm 0 0) (va_Pc [.ref (ad 0)] (tPre G ad A S)) (va_Qi (fun r u => r &&& 1 = r ∧ K r u) (tB G ad A (gN S)) A) 0 0 A :=
  tj_met_z [(0, .ref (ad 0))] pn_X6 rfl (Nat.le_of_ble_eq_true rfl) (fun p e R s m args below meth c Q C hw r => w_M_nights_b0 C hw rfl r hM hf)
theorem w_M_draw_b0 {Γ : tX} {N0 : Nat → Nat} {K : Int32 → tS → Prop} (C : TC Γ cX6_draw RX6 0 0) (hw : tWf N0) (hR : xnL Γ = 2) (r : TRi Γ N0 cX6_draw K) {a1 : Int32} (hM : N0 0 ≠ 0) {S : tS} (hf : M_draw a1 S K) : TJ Γ N0 0 0 0 [(0, .ref (xad Γ 0)), (1, .int a1)] [] S := by
  unfold M_draw at hf
  refine tj_aload_n C 0 rfl rfl dX6_draw_0 ?_
  refine tj_aload_n C 0 rfl rfl dX6_draw_1 ?_
  refine gf_X6_478 C hM dX6_draw_2 ?_
  refine tj_sipush C ks_3181 dX6_draw_5 ?_
  refine tj_imul C dX6_draw_8 ?_
  refine tj_sipush C ks_11399 dX6_draw_9 ?_
  refine tj_iadd C dX6_draw_12 ?_
  refine tj_ldcw C kl_X6_481 dX6_draw_13 ?_
  refine tj_irem C hf.1 dX6_draw_16 ?_
  replace hf := hf.2
  refine pf_X6_478 C hM dX6_draw_17 ?_
  refine tj_topS (fun S1 eS => ?_)
  replace hf := hf S1 eS
  refine tj_aload_n C 0 rfl rfl dX6_draw_20 ?_
  refine gf_X6_478 C hM dX6_draw_21 ?_
  refine tj_bipush C kb_8 dX6_draw_24 ?_
  refine tj_idiv C hf.1 dX6_draw_26 ?_
  replace hf := hf.2
  refine tj_iload_n C 1 rfl rfl dX6_draw_27 ?_
  refine tj_irem C hf.1 dX6_draw_28 ?_
  replace hf := hf.2
  exact r _ _ _ _ dX6_draw_29 hf
theorem c_M_draw {l : Launch} {G : tG} {ad : Nat → Nat} {A : Nat → Prop} {S : tS} {K : Int32 → tS → Prop} {a1 : Int32} (hM : gN S 0 ≠ 0) (hf : M_draw a1 S K) : Met l yX6_draw (ws_ yX6_draw cX6_draw 2 (some .int)) (tRm 0 0) (va_Pc [.ref (ad 0), .int a1] (tPre G ad A S)) (va_Qi K (tB G ad A (gN S)) A) 0 0 A :=
  tj_met_i [(0, .ref (ad 0)), (1, .int a1)] pn_X6 rfl (Nat.le_of_ble_eq_true rfl) (fun p e R s m args below meth c Q C hw r => w_M_draw_b0 C hw rfl r hM hf)
theorem w_M_feedsAny_b0 {Γ : tX} {N0 : Nat → Nat} {K : Int32 → tS → Prop} (C : TC Γ cX6_feedsAny RX6 2 63) (hw : tWf N0) (hR : xnL Γ = 3) (r : TRz Γ N0 cX6_feedsAny K) (hM : N0 0 ≠ 0) {S : tS} (hf : M_feedsAny S K) : TJ Γ N0 0 0 0 [(0, .ref (xad Γ 0))] [] S := by
  unfold M_feedsAny at hf
  refine tj_aload_n C 0 rfl rfl dX6_feedsAny_0 ?_
  refine gf_X6_7 C hM dX6_feedsAny_1 ?_
  refine tj_iconst C kc_3 dX6_feedsAny_4 ?_
  refine tj_iald C 48 3548 rfl (ln_48 hw hM) 3 kn_3 (vp_in_nI (by decide) (by decide)) dX6_feedsAny_5 ?_
  refine tj_if_ne C 11 (by decide) dX6_feedsAny_6 (fun hc => ?_) (fun hc => ?_)
  · replace hf := hf.2 hc
    refine tj_aload_n C 0 rfl rfl dX6_feedsAny_11 ?_
    refine tj_aload_n C 0 rfl rfl dX6_feedsAny_12 ?_
    refine gf_X6_7 C hM dX6_feedsAny_13 ?_
    refine tj_iconst C kc_3 dX6_feedsAny_16 ?_
    refine tj_iald C 48 3548 rfl (ln_48 hw hM) 3 kn_3 (vp_in_nI (by decide) (by decide)) dX6_feedsAny_17 ?_
    refine tj_callVi C (k := 0) [.int (gI S 48 3)] [] (fun hN => c_M_draw (by rw [hN]; exact hM) hf) lk_X6_482 ty_X6_draw rfl (Nat.le_of_ble_eq_true rfl) (Nat.le_of_ble_eq_true rfl) (Nat.le_of_ble_eq_true rfl) hM rfl (by decide) rfl rfl dX6_feedsAny_18 (fun r2 S1 hf => ?_)
    refine tj_istore_n C (by rw [hR]; decide) [(1, .int r2), (0, .ref (xad Γ 0))] rfl rfl dX6_feedsAny_21 ?_
    refine tj_aload_n C 1 rfl rfl dX6_feedsAny_22 ?_
    refine tj_iconst C kc_4 dX6_feedsAny_23 ?_
    refine tj_callVi C (k := 0) [.int (nI 4)] [] (fun hN => c_M_draw (by rw [hN]; exact hM) hf) lk_X6_482 ty_X6_draw rfl (Nat.le_of_ble_eq_true rfl) (Nat.le_of_ble_eq_true rfl) (Nat.le_of_ble_eq_true rfl) hM rfl (by decide) rfl rfl dX6_feedsAny_24 (fun r4 S3 hf => ?_)
    refine tj_istore_n C (by rw [hR]; decide) [(2, .int r4), (1, .int r2), (0, .ref (xad Γ 0))] rfl rfl dX6_feedsAny_27 ?_
    refine tj_iload_n C 0 rfl rfl dX6_feedsAny_28 ?_
    refine tj_if_le C 45 (by decide) dX6_feedsAny_29 (fun hc => ?_) (fun hc => ?_)
    · replace hf := hf.1 hc
      refine tj_iconst C kc_0 dX6_feedsAny_45 ?_
      exact r _ _ _ _ dX6_feedsAny_46 zb0 hf
    · replace hf := hf.2 hc
      refine tj_aload_n C 2 rfl rfl dX6_feedsAny_32 ?_
      refine tj_iload_n C 1 rfl rfl dX6_feedsAny_33 ?_
      refine tj_iload_n C 0 rfl rfl dX6_feedsAny_34 ?_
      refine tj_callVz C (k := 0) [.int r2, .int r4] [] (fun hN => c_M_meals (by rw [hN]; exact hM) hf) lk_X6_355 ty_X6_meals rfl (Nat.le_of_ble_eq_true rfl) (Nat.le_of_ble_eq_true rfl) (Nat.le_of_ble_eq_true rfl) hM rfl (by decide) rfl rfl dX6_feedsAny_35 (fun r6 S5 hf => ?_)
      have hz_r6 := hf.1
      replace hf := hf.2
      refine tj_if_eq C 45 (by decide) dX6_feedsAny_38 (fun hc => ?_) (fun hc => ?_)
      · replace hf := hf.1 hc
        refine tj_iconst C kc_0 dX6_feedsAny_45 ?_
        exact r _ _ _ _ dX6_feedsAny_46 zb0 hf
      · replace hf := hf.2 hc
        refine tj_iconst C kc_1 dX6_feedsAny_41 ?_
        refine tj_goto C 46 (by decide) dX6_feedsAny_42 ?_
        exact r _ _ _ _ dX6_feedsAny_46 zb1 hf
  · replace hf := hf.1 hc
    refine tj_iconst C kc_0 dX6_feedsAny_9 ?_
    exact r _ _ _ _ dX6_feedsAny_10 zb0 hf
theorem c_M_feedsAny {l : Launch} {G : tG} {ad : Nat → Nat} {A : Nat → Prop} {S : tS} {K : Int32 → tS → Prop} (hM : gN S 0 ≠ 0) (hf : M_feedsAny S K) : Met l yX6_feedsAny (ws_ yX6_feedsAny cX6_feedsAny 3 (some .boolean)) (tRm 2 63) (va_Pc [.ref (ad 0)] (tPre G ad A S)) (va_Qi (fun r u => r &&& 1 = r ∧ K r u) (tB G ad A (gN S)) A) 0 0 A :=
  tj_met_z [(0, .ref (ad 0))] pn_X6 rfl (Nat.le_of_ble_eq_true rfl) (fun p e R s m args below meth c Q C hw r => w_M_feedsAny_b0 C hw rfl r hM hf)
theorem w_M_does_b0 {Γ : tX} {N0 : Nat → Nat} {K : Int32 → tS → Prop} (C : TC Γ cX6_does RX6 9 207) (hw : tWf N0) (hR : xnL Γ = 4) (r : TRz Γ N0 cX6_does K) {a1 : Int32} (hM : N0 0 ≠ 0) {S : tS} (hf : M_does a1 S K) : TJ Γ N0 0 0 0 [(0, .ref (xad Γ 0)), (1, .int a1)] [] S := by
  unfold M_does at hf
  refine tj_aload_n C 0 rfl rfl dX6_does_0 ?_
  refine gf_X6_7 C hM dX6_does_1 ?_
  refine tj_iload_n C 1 rfl rfl dX6_does_4 ?_
  refine tj_iconst C kc_1 dX6_does_5 ?_
  refine tj_iadd C dX6_does_6 ?_
  refine tj_iald C 48 3548 rfl (ln_48 hw hM) _ rfl hf.1 dX6_does_7 ?_
  replace hf := hf.2
  refine tj_topi (fun x1 ex => ?_)
  replace hf := hf x1 ex
  refine tj_istore_n C (by rw [hR]; decide) [(2, .int x1), (0, .ref (xad Γ 0)), (1, .int a1)] rfl rfl dX6_does_8 ?_
  refine tj_aload_n C 1 rfl rfl dX6_does_9 ?_
  refine gf_X6_7 C hM dX6_does_10 ?_
  refine tj_iload_n C 2 rfl rfl dX6_does_13 ?_
  refine tj_iconst C kc_2 dX6_does_14 ?_
  refine tj_iadd C dX6_does_15 ?_
  refine tj_iald C 48 3548 rfl (ln_48 hw hM) _ rfl hf.1 dX6_does_16 ?_
  replace hf := hf.2
  refine tj_topi (fun x2 ex => ?_)
  replace hf := hf x2 ex
  refine tj_istore_n C (by rw [hR]; decide) [(3, .int x2), (2, .int x1), (0, .ref (xad Γ 0)), (1, .int a1)] rfl rfl dX6_does_17 ?_
  refine tj_aload_n C 2 rfl rfl dX6_does_18 ?_
  refine gf_X6_7 C hM dX6_does_19 ?_
  refine tj_iload_n C 3 rfl rfl dX6_does_22 ?_
  refine tj_iald C 48 3548 rfl (ln_48 hw hM) _ rfl hf.1 dX6_does_23 ?_
  replace hf := hf.2
  by_cases h0 : (gI S 48 (a1.toNatClampNeg)) = nI 15
  · replace hf := hf.1 h0
    refine tj_tswIn C 15 (off := 44) 68 (by decide) h0 (by decide) (by decide) (by decide) (by decide) dX6_does_24 ?_
    refine tj_aload_n C 2 rfl rfl dX6_does_68 ?_
    refine tj_iload_n C 1 rfl rfl dX6_does_69 ?_
    refine tj_callVz C (k := 0) [.int x1] [] (fun hN => c_M_sitsBy (by rw [hN]; exact hM) hf) lk_X6_485 ty_X6_sitsBy rfl (Nat.le_of_ble_eq_true rfl) (Nat.le_of_ble_eq_true rfl) (Nat.le_of_ble_eq_true rfl) hM rfl (by decide) rfl rfl dX6_does_70 (fun r4 S3 hf => ?_)
    have hz_r4 := hf.1
    replace hf := hf.2
    exact r _ _ _ _ dX6_does_73 hz_r4 hf
  · replace hf := hf.2 h0
    by_cases h1 : (gI S 48 (a1.toNatClampNeg)) = nI 16
    · replace hf := hf.1 h1
      refine tj_tswIn C 16 (off := 50) 74 (by decide) h1 (by decide) (by decide) (by decide) (by decide) dX6_does_24 ?_
      refine tj_aload_n C 2 rfl rfl dX6_does_74 ?_
      refine tj_callVz C (k := 0) [] [] (fun hN => c_M_termsBy (by rw [hN]; exact hM) hf) lk_X6_488 ty_X6_termsBy rfl (Nat.le_of_ble_eq_true rfl) (Nat.le_of_ble_eq_true rfl) (Nat.le_of_ble_eq_true rfl) hM rfl (by decide) rfl rfl dX6_does_75 (fun r6 S5 hf => ?_)
      have hz_r6 := hf.1
      replace hf := hf.2
      exact r _ _ _ _ dX6_does_78 hz_r6 hf
    · replace hf := hf.2 h1
      by_cases h2 : (gI S 48 (a1.toNatClampNeg)) = nI 17
      · replace hf := hf.1 h2
        refine tj_tswIn C 17 (off := 55) 79 (by decide) h2 (by decide) (by decide) (by decide) (by decide) dX6_does_24 ?_
        refine tj_aload_n C 2 rfl rfl dX6_does_79 ?_
        refine tj_iload_n C 1 rfl rfl dX6_does_80 ?_
        refine tj_iload_n C 0 rfl rfl dX6_does_81 ?_
        refine tj_callVz C (k := 0) [.int x1, .int x2] [] (fun hN => c_M_meals (by rw [hN]; exact hM) hf) lk_X6_355 ty_X6_meals rfl (Nat.le_of_ble_eq_true rfl) (Nat.le_of_ble_eq_true rfl) (Nat.le_of_ble_eq_true rfl) hM rfl (by decide) rfl rfl dX6_does_82 (fun r8 S7 hf => ?_)
        have hz_r8 := hf.1
        replace hf := hf.2
        exact r _ _ _ _ dX6_does_85 hz_r8 hf
      · replace hf := hf.2 h2
        by_cases h3 : (gI S 48 (a1.toNatClampNeg)) = nI 18
        · replace hf := hf.1 h3
          refine tj_tswIn C 18 (off := 62) 86 (by decide) h3 (by decide) (by decide) (by decide) (by decide) dX6_does_24 ?_
          refine tj_aload_n C 2 rfl rfl dX6_does_86 ?_
          refine tj_iload_n C 1 rfl rfl dX6_does_87 ?_
          refine tj_iload_n C 0 rfl rfl dX6_does_88 ?_
          refine tj_iconst C kc_1 dX6_does_89 ?_
          refine tj_callVz C (k := 0) [.int x1, .int x2, .int (nI 1)] [] (fun hN => c_M_scents (by rw [hN]; exact hM) hf) lk_X6_361 ty_X6_scents rfl (Nat.le_of_ble_eq_true rfl) (Nat.le_of_ble_eq_true rfl) (Nat.le_of_ble_eq_true rfl) hM rfl (by decide) rfl rfl dX6_does_90 (fun r10 S9 hf => ?_)
          have hz_r10 := hf.1
          replace hf := hf.2
          exact r _ _ _ _ dX6_does_93 hz_r10 hf
        · replace hf := hf.2 h3
          by_cases h4 : (gI S 48 (a1.toNatClampNeg)) = nI 19
          · replace hf := hf.1 h4
            refine tj_tswIn C 19 (off := 70) 94 (by decide) h4 (by decide) (by decide) (by decide) (by decide) dX6_does_24 ?_
            refine tj_aload_n C 2 rfl rfl dX6_does_94 ?_
            refine tj_iload_n C 1 rfl rfl dX6_does_95 ?_
            refine tj_iload_n C 0 rfl rfl dX6_does_96 ?_
            refine tj_iconst C kc_0 dX6_does_97 ?_
            refine tj_callVz C (k := 0) [.int x1, .int x2, .int (nI 0)] [] (fun hN => c_M_scents (by rw [hN]; exact hM) hf) lk_X6_361 ty_X6_scents rfl (Nat.le_of_ble_eq_true rfl) (Nat.le_of_ble_eq_true rfl) (Nat.le_of_ble_eq_true rfl) hM rfl (by decide) rfl rfl dX6_does_98 (fun r12 S11 hf => ?_)
            have hz_r12 := hf.1
            replace hf := hf.2
            exact r _ _ _ _ dX6_does_101 hz_r12 hf
          · replace hf := hf.2 h4
            by_cases h5 : (gI S 48 (a1.toNatClampNeg)) = nI 20
            · replace hf := hf.1 h5
              refine tj_tswIn C 20 (off := 78) 102 (by decide) h5 (by decide) (by decide) (by decide) (by decide) dX6_does_24 ?_
              refine tj_aload_n C 2 rfl rfl dX6_does_102 ?_
              refine tj_callVz C (k := 0) [] [] (fun hN => c_M_nights (by rw [hN]; exact hM) hf) lk_X6_365 ty_X6_nights rfl (Nat.le_of_ble_eq_true rfl) (Nat.le_of_ble_eq_true rfl) (Nat.le_of_ble_eq_true rfl) hM rfl (by decide) rfl rfl dX6_does_103 (fun r14 S13 hf => ?_)
              have hz_r14 := hf.1
              replace hf := hf.2
              exact r _ _ _ _ dX6_does_106 hz_r14 hf
            · replace hf := hf.2 h5
              by_cases h6 : (gI S 48 (a1.toNatClampNeg)) = nI 21
              · replace hf := hf.1 h6
                refine tj_tswIn C 21 (off := 83) 107 (by decide) h6 (by decide) (by decide) (by decide) (by decide) dX6_does_24 ?_
                refine tj_aload_n C 2 rfl rfl dX6_does_107 ?_
                refine tj_callVz C (k := 0) [] [] (fun hN => c_M_feedsAny (by rw [hN]; exact hM) hf) lk_X6_491 ty_X6_feedsAny rfl (Nat.le_of_ble_eq_true rfl) (Nat.le_of_ble_eq_true rfl) (Nat.le_of_ble_eq_true rfl) hM rfl (by decide) rfl rfl dX6_does_108 (fun r16 S15 hf => ?_)
                have hz_r16 := hf.1
                replace hf := hf.2
                exact r _ _ _ _ dX6_does_111 hz_r16 hf
              · replace hf := hf.2 h6
                refine tj_tswOut C 15 7 112 (by decide) (fun k hk => match k, hk with | 0, _ => h0 | 1, _ => h1 | 2, _ => h2 | 3, _ => h3 | 4, _ => h4 | 5, _ => h5 | 6, _ => h6 | k + 7, hk => absurd hk (by omega)) (by decide) (by decide) (by decide) dX6_does_24 ?_
                refine tj_iconst C kc_1 dX6_does_112 ?_
                exact r _ _ _ _ dX6_does_113 zb1 hf
theorem c_M_does {l : Launch} {G : tG} {ad : Nat → Nat} {A : Nat → Prop} {S : tS} {K : Int32 → tS → Prop} {a1 : Int32} (hM : gN S 0 ≠ 0) (hf : M_does a1 S K) : Met l yX6_does (ws_ yX6_does cX6_does 4 (some .boolean)) (tRm 9 207) (va_Pc [.ref (ad 0), .int a1] (tPre G ad A S)) (va_Qi (fun r u => r &&& 1 = r ∧ K r u) (tB G ad A (gN S)) A) 0 0 A :=
  tj_met_z [(0, .ref (ad 0)), (1, .int a1)] pn_X6 rfl (Nat.le_of_ble_eq_true rfl) (fun p e R s m args below meth c Q C hw r => w_M_does_b0 C hw rfl r hM hf)
theorem w_M_doesDeed_b69 {Γ : tX} {N0 : Nat → Nat} {K : Int32 → tS → Prop} (C : TC Γ cX6_doesDeed RX6 3 65) (hw : tWf N0) (hR : xnL Γ = 4) (r : TRz Γ N0 cX6_doesDeed K) {a1 : Int32} (hM : N0 0 ≠ 0) {s1 : Int32} {s2 : Int32} {s3 : Int32} {S : tS} (hf : M_doesDeed_b69 a1 K s1 s2 s3 S) : TJ Γ N0 0 0 69 [] [.int s3, .int s2, .int s1, .ref (xad Γ 0)] S := by
  unfold M_doesDeed_b69 at hf
  refine tj_callVz C (k := 0) [.int s1, .int s2, .int s3] [] (fun hN => c_M_scents (by rw [hN]; exact hM) hf) lk_X6_361 ty_X6_scents rfl (Nat.le_of_ble_eq_true rfl) (Nat.le_of_ble_eq_true rfl) (Nat.le_of_ble_eq_true rfl) hM rfl (by decide) rfl rfl dX6_doesDeed_69 (fun r12 S11 hf => ?_)
  have hz_r12 := hf.1
  replace hf := hf.2
  exact r _ _ _ _ dX6_doesDeed_72 hz_r12 hf
theorem w_M_doesDeed_b0 {Γ : tX} {N0 : Nat → Nat} {K : Int32 → tS → Prop} (C : TC Γ cX6_doesDeed RX6 3 65) (hw : tWf N0) (hR : xnL Γ = 4) (r : TRz Γ N0 cX6_doesDeed K) {a1 : Int32} (hM : N0 0 ≠ 0) {S : tS} (hf : M_doesDeed a1 S K) : TJ Γ N0 0 0 0 [(0, .ref (xad Γ 0)), (1, .int a1)] [] S := by
  unfold M_doesDeed at hf
  refine tj_iload_n C 1 rfl rfl dX6_doesDeed_0 ?_
  refine tj_aload_n C 0 rfl rfl dX6_doesDeed_1 ?_
  refine tj_callVi C (k := 0) [] [.int a1] (fun hN => c_M_deeds (by rw [hN]; exact hM) hf) lk_X6_458 ty_X6_deeds rfl (Nat.le_of_ble_eq_true rfl) (Nat.le_of_ble_eq_true rfl) (Nat.le_of_ble_eq_true rfl) hM rfl (by decide) rfl rfl dX6_doesDeed_2 (fun r2 S1 hf => ?_)
  refine tj_icmp_ne C 10 (by decide) dX6_doesDeed_5 (fun hc => ?_) (fun hc => ?_)
  · replace hf := hf.2 hc
    refine tj_iload_n C 1 rfl rfl dX6_doesDeed_10 ?_
    refine tj_iconst C kc_1 dX6_doesDeed_11 ?_
    refine tj_aload_n C 0 rfl rfl dX6_doesDeed_12 ?_
    refine gf_X6_7 C hM dX6_doesDeed_13 ?_
    refine tj_iconst C kc_0 dX6_doesDeed_16 ?_
    refine tj_iald C 48 3548 rfl (ln_48 hw hM) 0 kn_0 (vp_in_nI (by decide) (by decide)) dX6_doesDeed_17 ?_
    refine tj_iadd C dX6_doesDeed_18 ?_
    refine tj_idiv C hf.1 dX6_doesDeed_19 ?_
    replace hf := hf.2
    refine tj_topi (fun x3 ex => ?_)
    replace hf := hf x3 ex
    refine tj_istore_n C (by rw [hR]; decide) [(2, .int x3), (0, .ref (xad Γ 0)), (1, .int a1)] rfl rfl dX6_doesDeed_20 ?_
    refine tj_iload_n C 2 rfl rfl dX6_doesDeed_21 ?_
    refine tj_iconst C kc_1 dX6_doesDeed_22 ?_
    refine tj_aload_n C 1 rfl rfl dX6_doesDeed_23 ?_
    refine gf_X6_7 C hM dX6_doesDeed_24 ?_
    refine tj_iconst C kc_0 dX6_doesDeed_27 ?_
    refine tj_iald C 48 3548 rfl (ln_48 hw hM) 0 kn_0 (vp_in_nI (by decide) (by decide)) dX6_doesDeed_28 ?_
    refine tj_iadd C dX6_doesDeed_29 ?_
    refine tj_irem C hf.1 dX6_doesDeed_30 ?_
    replace hf := hf.2
    refine tj_iconst C kc_1 dX6_doesDeed_31 ?_
    refine tj_isub C dX6_doesDeed_32 ?_
    refine tj_topi (fun x4 ex => ?_)
    replace hf := hf x4 ex
    refine tj_istore_n C (by rw [hR]; decide) [(3, .int x4), (2, .int x3), (0, .ref (xad Γ 0)), (1, .int a1)] rfl rfl dX6_doesDeed_33 ?_
    refine tj_iload_n C 0 rfl rfl dX6_doesDeed_34 ?_
    refine tj_if_ge C 47 (by decide) dX6_doesDeed_35 (fun hc => ?_) (fun hc => ?_)
    · replace hf := hf.1 hc
      refine tj_aload_n C 2 rfl rfl dX6_doesDeed_47 ?_
      refine tj_iload_n C 1 rfl rfl dX6_doesDeed_48 ?_
      refine tj_iload_n C 0 rfl rfl dX6_doesDeed_49 ?_
      refine tj_aload_n C 2 rfl rfl dX6_doesDeed_50 ?_
      refine tj_aload_n C 2 rfl rfl dX6_doesDeed_51 ?_
      refine tj_iload_n C 1 rfl rfl dX6_doesDeed_52 ?_
      refine tj_iconst C kc_1 dX6_doesDeed_53 ?_
      refine tj_callVi C (k := 0) [.int x3, .int (nI 1)] [.ref (xad Γ 0), .int x4, .int x3, .ref (xad Γ 0)] (fun hN => c_M_personOf (by rw [hN]; exact hM) hf) lk_X6_281 ty_X6_personOf rfl (Nat.le_of_ble_eq_true rfl) (Nat.le_of_ble_eq_true rfl) (Nat.le_of_ble_eq_true rfl) hM rfl (by decide) rfl rfl dX6_doesDeed_54 (fun r6 S5 hf => ?_)
      refine tj_iload_n C 0 rfl rfl dX6_doesDeed_57 ?_
      refine tj_callVz C (k := 0) [.int r6, .int x4] [.int x4, .int x3, .ref (xad Γ 0)] (fun hN => c_M_isIn (by rw [hN]; exact hM) hf) lk_X6_315 ty_X6_isIn rfl (Nat.le_of_ble_eq_true rfl) (Nat.le_of_ble_eq_true rfl) (Nat.le_of_ble_eq_true rfl) hM rfl (by decide) rfl rfl dX6_doesDeed_58 (fun r8 S7 hf => ?_)
      have hz_r8 := hf.1
      replace hf := hf.2
      refine tj_if_ne C 68 (by decide) dX6_doesDeed_61 (fun hc => ?_) (fun hc => ?_)
      · replace hf := hf.2 hc
        refine tj_iconst C kc_0 dX6_doesDeed_68 ?_
        exact tj_sub [] (w_M_doesDeed_b69 C hw hR r hM hf) rfl
      · replace hf := hf.1 hc
        refine tj_iconst C kc_1 dX6_doesDeed_64 ?_
        refine tj_goto C 69 (by decide) dX6_doesDeed_65 ?_
        exact tj_sub [] (w_M_doesDeed_b69 C hw hR r hM hf) rfl
    · replace hf := hf.2 hc
      refine tj_aload_n C 2 rfl rfl dX6_doesDeed_38 ?_
      refine tj_iload_n C 1 rfl rfl dX6_doesDeed_39 ?_
      refine tj_iconst C kc_1 dX6_doesDeed_40 ?_
      refine tj_callVz C (k := 0) [.int x3, .int (nI 1)] [] (fun hN => c_M_meals (by rw [hN]; exact hM) hf) lk_X6_355 ty_X6_meals rfl (Nat.le_of_ble_eq_true rfl) (Nat.le_of_ble_eq_true rfl) (Nat.le_of_ble_eq_true rfl) hM rfl (by decide) rfl rfl dX6_doesDeed_41 (fun r10 S9 hf => ?_)
      have hz_r10 := hf.1
      replace hf := hf.2
      refine tj_goto C 72 (by decide) dX6_doesDeed_44 ?_
      exact r _ _ _ _ dX6_doesDeed_72 hz_r10 hf
  · replace hf := hf.1 hc
    refine tj_iconst C kc_1 dX6_doesDeed_8 ?_
    exact r _ _ _ _ dX6_doesDeed_9 zb1 hf
theorem c_M_doesDeed {l : Launch} {G : tG} {ad : Nat → Nat} {A : Nat → Prop} {S : tS} {K : Int32 → tS → Prop} {a1 : Int32} (hM : gN S 0 ≠ 0) (hf : M_doesDeed a1 S K) : Met l yX6_doesDeed (ws_ yX6_doesDeed cX6_doesDeed 4 (some .boolean)) (tRm 3 65) (va_Pc [.ref (ad 0), .int a1] (tPre G ad A S)) (va_Qi (fun r u => r &&& 1 = r ∧ K r u) (tB G ad A (gN S)) A) 0 0 A :=
  tj_met_z [(0, .ref (ad 0)), (1, .int a1)] pn_X6 rfl (Nat.le_of_ble_eq_true rfl) (fun p e R s m args below meth c Q C hw r => w_M_doesDeed_b0 C hw rfl r hM hf)
theorem w_M_isCue_b0 {Γ : tX} {N0 : Nat → Nat} {K : Int32 → tS → Prop} (C : TC Γ cX6_isCue RX6 0 0) (hw : tWf N0) (hR : xnL Γ = 2) (r : TRz Γ N0 cX6_isCue K) {a1 : Int32} (hM : N0 0 ≠ 0) {S : tS} (hf : M_isCue a1 S K) : TJ Γ N0 0 0 0 [(0, .ref (xad Γ 0)), (1, .int a1)] [] S := by
  unfold M_isCue at hf
  refine tj_iload_n C 1 rfl rfl dX6_isCue_0 ?_
  refine tj_if_lt C 18 (by decide) dX6_isCue_1 (fun hc => ?_) (fun hc => ?_)
  · replace hf := hf.1 hc
    refine tj_iconst C kc_0 dX6_isCue_18 ?_
    exact r _ _ _ _ dX6_isCue_19 zb0 hf
  · replace hf := hf.2 hc
    refine tj_iload_n C 1 rfl rfl dX6_isCue_4 ?_
    refine tj_aload_n C 0 rfl rfl dX6_isCue_5 ?_
    refine gf_X6_7 C hM dX6_isCue_6 ?_
    refine tj_iconst C kc_1 dX6_isCue_9 ?_
    refine tj_iald C 48 3548 rfl (ln_48 hw hM) 1 kn_1 (vp_in_nI (by decide) (by decide)) dX6_isCue_10 ?_
    refine tj_icmp_ge C 18 (by decide) dX6_isCue_11 (fun hc => ?_) (fun hc => ?_)
    · replace hf := hf.1 hc
      refine tj_iconst C kc_0 dX6_isCue_18 ?_
      exact r _ _ _ _ dX6_isCue_19 zb0 hf
    · replace hf := hf.2 hc
      refine tj_iconst C kc_1 dX6_isCue_14 ?_
      refine tj_goto C 19 (by decide) dX6_isCue_15 ?_
      exact r _ _ _ _ dX6_isCue_19 zb1 hf
theorem c_M_isCue {l : Launch} {G : tG} {ad : Nat → Nat} {A : Nat → Prop} {S : tS} {K : Int32 → tS → Prop} {a1 : Int32} (hM : gN S 0 ≠ 0) (hf : M_isCue a1 S K) : Met l yX6_isCue (ws_ yX6_isCue cX6_isCue 2 (some .boolean)) (tRm 0 0) (va_Pc [.ref (ad 0), .int a1] (tPre G ad A S)) (va_Qi (fun r u => r &&& 1 = r ∧ K r u) (tB G ad A (gN S)) A) 0 0 A :=
  tj_met_z [(0, .ref (ad 0)), (1, .int a1)] pn_X6 rfl (Nat.le_of_ble_eq_true rfl) (fun p e R s m args below meth c Q C hw r => w_M_isCue_b0 C hw rfl r hM hf)
theorem w_M_isSmell_b0 {Γ : tX} {N0 : Nat → Nat} {K : Int32 → tS → Prop} (C : TC Γ cX6_isSmell RX6 0 0) (hw : tWf N0) (hR : xnL Γ = 2) (r : TRz Γ N0 cX6_isSmell K) {a1 : Int32} (hM : N0 0 ≠ 0) {S : tS} (hf : M_isSmell a1 S K) : TJ Γ N0 0 0 0 [(0, .ref (xad Γ 0)), (1, .int a1)] [] S := by
  unfold M_isSmell at hf
  refine tj_iload_n C 1 rfl rfl dX6_isSmell_0 ?_
  refine tj_if_lt C 18 (by decide) dX6_isSmell_1 (fun hc => ?_) (fun hc => ?_)
  · replace hf := hf.1 hc
    refine tj_iconst C kc_0 dX6_isSmell_18 ?_
    exact r _ _ _ _ dX6_isSmell_19 zb0 hf
  · replace hf := hf.2 hc
    refine tj_iload_n C 1 rfl rfl dX6_isSmell_4 ?_
    refine tj_aload_n C 0 rfl rfl dX6_isSmell_5 ?_
    refine gf_X6_7 C hM dX6_isSmell_6 ?_
    refine tj_iconst C kc_0 dX6_isSmell_9 ?_
    refine tj_iald C 48 3548 rfl (ln_48 hw hM) 0 kn_0 (vp_in_nI (by decide) (by decide)) dX6_isSmell_10 ?_
    refine tj_icmp_ge C 18 (by decide) dX6_isSmell_11 (fun hc => ?_) (fun hc => ?_)
    · replace hf := hf.1 hc
      refine tj_iconst C kc_0 dX6_isSmell_18 ?_
      exact r _ _ _ _ dX6_isSmell_19 zb0 hf
    · replace hf := hf.2 hc
      refine tj_iconst C kc_1 dX6_isSmell_14 ?_
      refine tj_goto C 19 (by decide) dX6_isSmell_15 ?_
      exact r _ _ _ _ dX6_isSmell_19 zb1 hf
theorem c_M_isSmell {l : Launch} {G : tG} {ad : Nat → Nat} {A : Nat → Prop} {S : tS} {K : Int32 → tS → Prop} {a1 : Int32} (hM : gN S 0 ≠ 0) (hf : M_isSmell a1 S K) : Met l yX6_isSmell (ws_ yX6_isSmell cX6_isSmell 2 (some .boolean)) (tRm 0 0) (va_Pc [.ref (ad 0), .int a1] (tPre G ad A S)) (va_Qi (fun r u => r &&& 1 = r ∧ K r u) (tB G ad A (gN S)) A) 0 0 A :=
  tj_met_z [(0, .ref (ad 0)), (1, .int a1)] pn_X6 rfl (Nat.le_of_ble_eq_true rfl) (fun p e R s m args below meth c Q C hw r => w_M_isSmell_b0 C hw rfl r hM hf)
