set_option maxRecDepth 100000
theorem w_M_live_l43 {Γ : tX} {N0 : Nat → Nat} {K : Int32 → tS → Prop} (C : TC Γ cX6_live RX6 11 253) (hw : tWf N0) (hR : xnL Γ = 3) (r : TRi Γ N0 cX6_live K) {a1 : Int32} (hM : N0 0 ≠ 0) : ∀ (n : Nat) (a2 : Int32) (S : tS), M_live_l43 a1 K n a2 S → TJ Γ N0 0 0 43 [(0, .ref (xad Γ 0)), (2, .int a2)] [] S := by
  intro n
  induction n with
  | zero => intro a2 S hf; exact hf.elim
  | succ n ih =>
    intro a2 S hf
    unfold M_live_l43 at hf
    refine tj_iload_n C 1 rfl rfl dX6_live_43 ?_
    refine tj_iconst C kc_5 dX6_live_44 ?_
    refine tj_icmp_ge C 66 (by decide) dX6_live_45 (fun hc => ?_) (fun hc => ?_)
    · replace hf := hf.1 hc
      refine tj_aload_n C 0 rfl rfl dX6_live_66 ?_
      refine tj_iconst C kc_1 dX6_live_67 ?_
      refine pf_X6_511 C (Or.inr rfl) hM dX6_live_68 ?_
      refine tj_topS (fun S8 eS => ?_)
      replace hf := hf S8 eS
      refine tj_aload_n C 0 rfl rfl dX6_live_71 ?_
      refine tj_aload_n C 0 rfl rfl dX6_live_72 ?_
      refine gf_X6_494 C hM dX6_live_73 ?_
      refine tj_callVi C (k := 0) [.int (gI S8 0 36)] [] (fun hN => c_M_gives (by rw [hN]; exact hM) hf) lk_X6_95 ty_X6_gives rfl (Nat.le_of_ble_eq_true rfl) (Nat.le_of_ble_eq_true rfl) (Nat.le_of_ble_eq_true rfl) hM rfl (by decide) rfl rfl dX6_live_76 (fun r10 S9 hf => ?_)
      exact r _ _ _ _ dX6_live_79 hf
    · replace hf := hf.2 hc
      refine tj_aload_n C 0 rfl rfl dX6_live_48 ?_
      refine gf_X6_78 C hM dX6_live_49 ?_
      refine tj_iload_n C 1 rfl rfl dX6_live_52 ?_
      refine tj_aload_n C 0 rfl rfl dX6_live_53 ?_
      refine gf_X6_75 C hM dX6_live_54 ?_
      refine tj_iload_n C 1 rfl rfl dX6_live_57 ?_
      refine tj_iald C 592 5 rfl (ln_592 hw hM) _ rfl hf.1 dX6_live_58 ?_
      replace hf := hf.2
      refine tj_iast C 624 5 rfl (ln_624 hw hM) _ rfl hf.1 dX6_live_59 ?_
      replace hf := hf.2
      refine tj_topS (fun S11 eS => ?_)
      replace hf := hf S11 eS
      obtain ⟨x12, ex⟩ : ∃ y : Int32, y = a2 + nI 1 := ⟨_, rfl⟩
      refine tj_iinc C (by rw [hR]; decide) 1 [(2, .int x12), (0, .ref (xad Γ 0))] rfl (by rw [ex]; exact ki_1 _) rfl dX6_live_60 ?_
      replace hf := hf x12 ex
      refine tj_goto C 43 (by decide) dX6_live_63 ?_
      exact tj_sub [1, 0] (ih _ _ hf) rfl
theorem w_M_live_b0 {Γ : tX} {N0 : Nat → Nat} {K : Int32 → tS → Prop} (C : TC Γ cX6_live RX6 11 253) (hw : tWf N0) (hR : xnL Γ = 3) (r : TRi Γ N0 cX6_live K) {a1 : Int32} (hM : N0 0 ≠ 0) {S : tS} (hf : M_live a1 S K) : TJ Γ N0 0 0 0 [(0, .ref (xad Γ 0)), (1, .int a1)] [] S := by
  unfold M_live at hf
  refine tj_iload_n C 1 rfl rfl dX6_live_0 ?_
  refine tj_i2l C dX6_live_1 ?_
  refine tj_lconst C (v := lN 0) rfl dX6_live_2 ?_
  refine tj_ldc2 C kl_X6_506 dX6_live_3 ?_
  refine tj_callSz C [.long (a1.toInt64), .long (lN 0), .long (lN 9999)] [] (fun hN => c_M_isFrom hf) lk_X6_337 ty_X6_isFrom rfl (Nat.le_of_ble_eq_true rfl) (Nat.le_of_ble_eq_true rfl) (Nat.le_of_ble_eq_true rfl) rfl dX6_live_6 (fun r2 S1 hf => ?_)
  have hz_r2 := hf.1
  replace hf := hf.2
  refine tj_if_ne C 18 (by decide) dX6_live_9 (fun hc => ?_) (fun hc => ?_)
  · replace hf := hf.2 hc
    refine tj_aload_n C 0 rfl rfl dX6_live_18 ?_
    refine gf_X6_7 C hM dX6_live_19 ?_
    refine tj_bipush C kb_8 dX6_live_22 ?_
    refine tj_iald C 48 3548 rfl (ln_48 hw hM) 8 kn_8 (vp_in_nI (by decide) (by decide)) dX6_live_24 ?_
    refine tj_iconst C kc_m1 dX6_live_25 ?_
    refine tj_icmp_ne C 36 (by decide) dX6_live_26 (fun hc => ?_) (fun hc => ?_)
    · replace hf := hf.2 hc
      refine tj_aload_n C 0 rfl rfl dX6_live_36 ?_
      refine tj_iload_n C 1 rfl rfl dX6_live_37 ?_
      refine tj_callVv C (k := 0) [.int a1] [] (fun hN => c_M_lives (by rw [hN]; exact hM) hf) lk_X6_508 ty_X6_lives rfl (Nat.le_of_ble_eq_true rfl) (Nat.le_of_ble_eq_true rfl) (Nat.le_of_ble_eq_true rfl) hM rfl (by decide) rfl rfl dX6_live_38 (fun S3 hf => ?_)
      refine tj_iconst C kc_0 dX6_live_41 ?_
      refine tj_istore_n C (by rw [hR]; decide) [(2, .int (nI 0)), (0, .ref (xad Γ 0)), (1, .int a1)] rfl rfl dX6_live_42 ?_
      exact tj_sub [1, 0] (hf.elim fun k hf => w_M_live_l43 C hw hR r hM k _ _ hf) rfl
    · replace hf := hf.1 hc
      refine tj_aload_n C 0 rfl rfl dX6_live_29 ?_
      refine tj_bipush C kb_6 dX6_live_30 ?_
      refine tj_callVi C (k := 0) [.int (nI 6)] [] (fun hN => c_M_refuse (by rw [hN]; exact hM) hf) lk_X6_91 ty_X6_refuse rfl (Nat.le_of_ble_eq_true rfl) (Nat.le_of_ble_eq_true rfl) (Nat.le_of_ble_eq_true rfl) hM rfl (by decide) rfl rfl dX6_live_32 (fun r5 S4 hf => ?_)
      exact r _ _ _ _ dX6_live_35 hf
  · replace hf := hf.1 hc
    refine tj_aload_n C 0 rfl rfl dX6_live_12 ?_
    refine tj_iconst C kc_1 dX6_live_13 ?_
    refine tj_callVi C (k := 0) [.int (nI 1)] [] (fun hN => c_M_refuse (by rw [hN]; exact hM) hf) lk_X6_91 ty_X6_refuse rfl (Nat.le_of_ble_eq_true rfl) (Nat.le_of_ble_eq_true rfl) (Nat.le_of_ble_eq_true rfl) hM rfl (by decide) rfl rfl dX6_live_14 (fun r7 S6 hf => ?_)
    exact r _ _ _ _ dX6_live_17 hf
theorem c_M_live {l : Launch} {G : tG} {ad : Nat → Nat} {A : Nat → Prop} {S : tS} {K : Int32 → tS → Prop} {a1 : Int32} (hM : gN S 0 ≠ 0) (hf : M_live a1 S K) : Met l yX6_live (ws_ yX6_live cX6_live 3 (some .int)) (tRm 11 253) (va_Pc [.ref (ad 0), .int a1] (tPre G ad A S)) (va_Qi K (tB G ad A (gN S)) A) 0 0 A :=
  tj_met_i [(0, .ref (ad 0)), (1, .int a1)] pn_X6 rfl (Nat.le_of_ble_eq_true rfl) (fun p e R s m args below meth c Q C hw r => w_M_live_b0 C hw rfl r hM hf)
theorem w_M_lived_b9 {Γ : tX} {N0 : Nat → Nat} {K : Int32 → tS → Prop} (C : TC Γ cX6_lived RX6 1 21) (hw : tWf N0) (hR : xnL Γ = 2) (r : TRi Γ N0 cX6_lived K) {a1 : Int32} (hM : N0 0 ≠ 0) {S : tS} (hf : M_lived_b9 a1 K  S) : TJ Γ N0 0 0 9 [(0, .ref (xad Γ 0))] [] S := by
  unfold M_lived_b9 at hf
  refine tj_aload_n C 0 rfl rfl dX6_lived_9 ?_
  refine tj_iconst C kc_1 dX6_lived_10 ?_
  refine tj_callVi C (k := 0) [.int (nI 1)] [] (fun hN => c_M_refuse (by rw [hN]; exact hM) hf) lk_X6_91 ty_X6_refuse rfl (Nat.le_of_ble_eq_true rfl) (Nat.le_of_ble_eq_true rfl) (Nat.le_of_ble_eq_true rfl) hM rfl (by decide) rfl rfl dX6_lived_11 (fun r6 S5 hf => ?_)
  refine tj_goto C 43 (by decide) dX6_lived_14 ?_
  exact r _ _ _ _ dX6_lived_43 hf
theorem w_M_lived_b0 {Γ : tX} {N0 : Nat → Nat} {K : Int32 → tS → Prop} (C : TC Γ cX6_lived RX6 1 21) (hw : tWf N0) (hR : xnL Γ = 2) (r : TRi Γ N0 cX6_lived K) {a1 : Int32} (hM : N0 0 ≠ 0) {S : tS} (hf : M_lived a1 S K) : TJ Γ N0 0 0 0 [(0, .ref (xad Γ 0)), (1, .int a1)] [] S := by
  unfold M_lived at hf
  refine tj_iload_n C 1 rfl rfl dX6_lived_0 ?_
  refine tj_if_lt C 9 (by decide) dX6_lived_1 (fun hc => ?_) (fun hc => ?_)
  · replace hf := hf.1 hc
    exact tj_sub [0] (w_M_lived_b9 C hw hR r hM hf) rfl
  · replace hf := hf.2 hc
    refine tj_iload_n C 1 rfl rfl dX6_lived_4 ?_
    refine tj_iconst C kc_4 dX6_lived_5 ?_
    refine tj_icmp_le C 17 (by decide) dX6_lived_6 (fun hc => ?_) (fun hc => ?_)
    · replace hf := hf.1 hc
      refine tj_aload_n C 0 rfl rfl dX6_lived_17 ?_
      refine gf_X6_511 C hM dX6_lived_18 ?_
      refine tj_if_eq C 37 (by decide) dX6_lived_21 (fun hc => ?_) (fun hc => ?_)
      · replace hf := hf.1 hc
        refine tj_aload_n C 0 rfl rfl dX6_lived_37 ?_
        refine tj_bipush C kb_6 dX6_lived_38 ?_
        refine tj_callVi C (k := 0) [.int (nI 6)] [] (fun hN => c_M_refuse (by rw [hN]; exact hM) hf) lk_X6_91 ty_X6_refuse rfl (Nat.le_of_ble_eq_true rfl) (Nat.le_of_ble_eq_true rfl) (Nat.le_of_ble_eq_true rfl) hM rfl (by decide) rfl rfl dX6_lived_40 (fun r2 S1 hf => ?_)
        exact r _ _ _ _ dX6_lived_43 hf
      · replace hf := hf.2 hc
        refine tj_aload_n C 0 rfl rfl dX6_lived_24 ?_
        refine tj_aload_n C 0 rfl rfl dX6_lived_25 ?_
        refine gf_X6_78 C hM dX6_lived_26 ?_
        refine tj_iload_n C 1 rfl rfl dX6_lived_29 ?_
        refine tj_iald C 624 5 rfl (ln_624 hw hM) _ rfl hf.1 dX6_lived_30 ?_
        replace hf := hf.2
        refine tj_callVi C (k := 0) [.int (gI S 624 (a1.toNatClampNeg))] [] (fun hN => c_M_gives (by rw [hN]; exact hM) hf) lk_X6_95 ty_X6_gives rfl (Nat.le_of_ble_eq_true rfl) (Nat.le_of_ble_eq_true rfl) (Nat.le_of_ble_eq_true rfl) hM rfl (by decide) rfl rfl dX6_lived_31 (fun r4 S3 hf => ?_)
        refine tj_goto C 43 (by decide) dX6_lived_34 ?_
        exact r _ _ _ _ dX6_lived_43 hf
    · replace hf := hf.2 hc
      exact tj_sub [0] (w_M_lived_b9 C hw hR r hM hf) rfl
theorem c_M_lived {l : Launch} {G : tG} {ad : Nat → Nat} {A : Nat → Prop} {S : tS} {K : Int32 → tS → Prop} {a1 : Int32} (hM : gN S 0 ≠ 0) (hf : M_lived a1 S K) : Met l yX6_lived (ws_ yX6_lived cX6_lived 2 (some .int)) (tRm 1 21) (va_Pc [.ref (ad 0), .int a1] (tPre G ad A S)) (va_Qi K (tB G ad A (gN S)) A) 0 0 A :=
  tj_met_i [(0, .ref (ad 0)), (1, .int a1)] pn_X6 rfl (Nat.le_of_ble_eq_true rfl) (fun p e R s m args below meth c Q C hw r => w_M_lived_b0 C hw rfl r hM hf)
theorem w_M_mark_b0 {Γ : tX} {N0 : Nat → Nat} {K : Int32 → tS → Prop} (C : TC Γ cX6_mark RX6 1 23) (hw : tWf N0) (hR : xnL Γ = 1) (r : TRi Γ N0 cX6_mark K) (hM : N0 0 ≠ 0) {S : tS} (hf : M_mark S K) : TJ Γ N0 0 0 0 [(0, .ref (xad Γ 0))] [] S := by
  unfold M_mark at hf
  refine tj_aload_n C 0 rfl rfl dX6_mark_0 ?_
  refine gf_X6_515 C hM dX6_mark_1 ?_
  refine tj_iconst C kc_3 dX6_mark_4 ?_
  refine tj_icmp_ne C 14 (by decide) dX6_mark_5 (fun hc => ?_) (fun hc => ?_)
  · replace hf := hf.2 hc
    refine tj_aload_n C 0 rfl rfl dX6_mark_14 ?_
    refine tj_dup C rfl dX6_mark_15 ?_
    refine gf_X6_515 C hM dX6_mark_16 ?_
    refine tj_iconst C kc_1 dX6_mark_19 ?_
    refine tj_iadd C dX6_mark_20 ?_
    refine pf_X6_515 C hM dX6_mark_21 ?_
    refine tj_topS (fun S1 eS => ?_)
    replace hf := hf S1 eS
    refine tj_aload_n C 0 rfl rfl dX6_mark_24 ?_
    refine tj_iconst C kc_0 dX6_mark_25 ?_
    refine tj_aload_n C 0 rfl rfl dX6_mark_26 ?_
    refine gf_X6_515 C hM dX6_mark_27 ?_
    refine tj_callVv C (k := 0) [.int (nI 0), .int (gI S1 0 41)] [] (fun hN => c_M_copies (by rw [hN]; exact hM) hf) lk_X6_518 ty_X6_copies rfl (Nat.le_of_ble_eq_true rfl) (Nat.le_of_ble_eq_true rfl) (Nat.le_of_ble_eq_true rfl) hM rfl (by decide) rfl rfl dX6_mark_30 (fun S2 hf => ?_)
    refine tj_aload_n C 0 rfl rfl dX6_mark_33 ?_
    refine tj_aload_n C 0 rfl rfl dX6_mark_34 ?_
    refine gf_X6_515 C hM dX6_mark_35 ?_
    refine tj_callVi C (k := 0) [.int (gI S2 0 41)] [] (fun hN => c_M_gives (by rw [hN]; exact hM) hf) lk_X6_95 ty_X6_gives rfl (Nat.le_of_ble_eq_true rfl) (Nat.le_of_ble_eq_true rfl) (Nat.le_of_ble_eq_true rfl) hM rfl (by decide) rfl rfl dX6_mark_38 (fun r4 S3 hf => ?_)
    exact r _ _ _ _ dX6_mark_41 hf
  · replace hf := hf.1 hc
    refine tj_aload_n C 0 rfl rfl dX6_mark_8 ?_
    refine tj_iconst C kc_4 dX6_mark_9 ?_
    refine tj_callVi C (k := 0) [.int (nI 4)] [] (fun hN => c_M_refuse (by rw [hN]; exact hM) hf) lk_X6_91 ty_X6_refuse rfl (Nat.le_of_ble_eq_true rfl) (Nat.le_of_ble_eq_true rfl) (Nat.le_of_ble_eq_true rfl) hM rfl (by decide) rfl rfl dX6_mark_10 (fun r6 S5 hf => ?_)
    exact r _ _ _ _ dX6_mark_13 hf
theorem c_M_mark {l : Launch} {G : tG} {ad : Nat → Nat} {A : Nat → Prop} {S : tS} {K : Int32 → tS → Prop} (hM : gN S 0 ≠ 0) (hf : M_mark S K) : Met l yX6_mark (ws_ yX6_mark cX6_mark 1 (some .int)) (tRm 1 23) (va_Pc [.ref (ad 0)] (tPre G ad A S)) (va_Qi K (tB G ad A (gN S)) A) 0 0 A :=
  tj_met_i [(0, .ref (ad 0))] pn_X6 rfl (Nat.le_of_ble_eq_true rfl) (fun p e R s m args below meth c Q C hw r => w_M_mark_b0 C hw rfl r hM hf)
theorem w_M_meal_b21 {Γ : tX} {N0 : Nat → Nat} {K : Int32 → tS → Prop} (C : TC Γ cX6_meal RX6 2 63) (hw : tWf N0) (hR : xnL Γ = 3) (r : TRi Γ N0 cX6_meal K) {a1 : Int32} {a2 : Int32} (hM : N0 0 ≠ 0) {S : tS} (hf : M_meal_b21 a1 a2 K  S) : TJ Γ N0 0 0 21 [(0, .ref (xad Γ 0))] [] S := by
  unfold M_meal_b21 at hf
  refine tj_aload_n C 0 rfl rfl dX6_meal_21 ?_
  refine tj_iconst C kc_1 dX6_meal_22 ?_
  refine tj_callVi C (k := 0) [.int (nI 1)] [] (fun hN => c_M_refuse (by rw [hN]; exact hM) hf) lk_X6_91 ty_X6_refuse rfl (Nat.le_of_ble_eq_true rfl) (Nat.le_of_ble_eq_true rfl) (Nat.le_of_ble_eq_true rfl) hM rfl (by decide) rfl rfl dX6_meal_23 (fun r14 S13 hf => ?_)
  exact r _ _ _ _ dX6_meal_26 hf
theorem w_M_meal_b0 {Γ : tX} {N0 : Nat → Nat} {K : Int32 → tS → Prop} (C : TC Γ cX6_meal RX6 2 63) (hw : tWf N0) (hR : xnL Γ = 3) (r : TRi Γ N0 cX6_meal K) {a1 : Int32} {a2 : Int32} (hM : N0 0 ≠ 0) {S : tS} (hf : M_meal a1 a2 S K) : TJ Γ N0 0 0 0 [(0, .ref (xad Γ 0)), (1, .int a1), (2, .int a2)] [] S := by
  unfold M_meal at hf
  refine tj_aload_n C 0 rfl rfl dX6_meal_0 ?_
  refine tj_iload_n C 1 rfl rfl dX6_meal_1 ?_
  refine tj_i2l C dX6_meal_2 ?_
  refine tj_callVz C (k := 0) [.long (a1.toInt64)] [] (fun hN => c_M_isPerson (by rw [hN]; exact hM) hf) lk_X6_305 ty_X6_isPerson rfl (Nat.le_of_ble_eq_true rfl) (Nat.le_of_ble_eq_true rfl) (Nat.le_of_ble_eq_true rfl) hM rfl (by decide) rfl rfl dX6_meal_3 (fun r2 S1 hf => ?_)
  have hz_r2 := hf.1
  replace hf := hf.2
  refine tj_if_eq C 21 (by decide) dX6_meal_6 (fun hc => ?_) (fun hc => ?_)
  · replace hf := hf.1 hc
    exact tj_sub [0] (w_M_meal_b21 C hw hR r hM hf) rfl
  · replace hf := hf.2 hc
    refine tj_iload_n C 2 rfl rfl dX6_meal_9 ?_
    refine tj_i2l C dX6_meal_10 ?_
    refine tj_lconst C (v := lN 1) rfl dX6_meal_11 ?_
    refine tj_ldc2 C kl_X6_353 dX6_meal_12 ?_
    refine tj_callSz C [.long (a2.toInt64), .long (lN 1), .long (lN 99)] [] (fun hN => c_M_isFrom hf) lk_X6_337 ty_X6_isFrom rfl (Nat.le_of_ble_eq_true rfl) (Nat.le_of_ble_eq_true rfl) (Nat.le_of_ble_eq_true rfl) rfl dX6_meal_15 (fun r4 S3 hf => ?_)
    have hz_r4 := hf.1
    replace hf := hf.2
    refine tj_if_ne C 27 (by decide) dX6_meal_18 (fun hc => ?_) (fun hc => ?_)
    · replace hf := hf.2 hc
      refine tj_aload_n C 0 rfl rfl dX6_meal_27 ?_
      refine tj_iload_n C 1 rfl rfl dX6_meal_28 ?_
      refine tj_iload_n C 2 rfl rfl dX6_meal_29 ?_
      refine tj_callVz C (k := 0) [.int a1, .int a2] [] (fun hN => c_M_meals (by rw [hN]; exact hM) hf) lk_X6_355 ty_X6_meals rfl (Nat.le_of_ble_eq_true rfl) (Nat.le_of_ble_eq_true rfl) (Nat.le_of_ble_eq_true rfl) hM rfl (by decide) rfl rfl dX6_meal_30 (fun r6 S5 hf => ?_)
      have hz_r6 := hf.1
      replace hf := hf.2
      refine tj_if_eq C 49 (by decide) dX6_meal_33 (fun hc => ?_) (fun hc => ?_)
      · replace hf := hf.1 hc
        refine tj_aload_n C 0 rfl rfl dX6_meal_49 ?_
        refine tj_bipush C kb_7 dX6_meal_50 ?_
        refine tj_callVi C (k := 0) [.int (nI 7)] [] (fun hN => c_M_refuse (by rw [hN]; exact hM) hf) lk_X6_91 ty_X6_refuse rfl (Nat.le_of_ble_eq_true rfl) (Nat.le_of_ble_eq_true rfl) (Nat.le_of_ble_eq_true rfl) hM rfl (by decide) rfl rfl dX6_meal_52 (fun r8 S7 hf => ?_)
        exact r _ _ _ _ dX6_meal_55 hf
      · replace hf := hf.2 hc
        refine tj_aload_n C 0 rfl rfl dX6_meal_36 ?_
        refine tj_aload_n C 0 rfl rfl dX6_meal_37 ?_
        refine tj_iload_n C 1 rfl rfl dX6_meal_38 ?_
        refine tj_iconst C kc_0 dX6_meal_39 ?_
        refine tj_callVi C (k := 0) [.int a1, .int (nI 0)] [.ref (xad Γ 0)] (fun hN => c_M_personOf (by rw [hN]; exact hM) hf) lk_X6_281 ty_X6_personOf rfl (Nat.le_of_ble_eq_true rfl) (Nat.le_of_ble_eq_true rfl) (Nat.le_of_ble_eq_true rfl) hM rfl (by decide) rfl rfl dX6_meal_40 (fun r10 S9 hf => ?_)
        refine tj_callVi C (k := 0) [.int r10] [] (fun hN => c_M_gives (by rw [hN]; exact hM) hf) lk_X6_95 ty_X6_gives rfl (Nat.le_of_ble_eq_true rfl) (Nat.le_of_ble_eq_true rfl) (Nat.le_of_ble_eq_true rfl) hM rfl (by decide) rfl rfl dX6_meal_43 (fun r12 S11 hf => ?_)
        refine tj_goto C 55 (by decide) dX6_meal_46 ?_
        exact r _ _ _ _ dX6_meal_55 hf
    · replace hf := hf.1 hc
      exact tj_sub [0] (w_M_meal_b21 C hw hR r hM hf) rfl
theorem c_M_meal {l : Launch} {G : tG} {ad : Nat → Nat} {A : Nat → Prop} {S : tS} {K : Int32 → tS → Prop} {a1 : Int32} {a2 : Int32} (hM : gN S 0 ≠ 0) (hf : M_meal a1 a2 S K) : Met l yX6_meal (ws_ yX6_meal cX6_meal 3 (some .int)) (tRm 2 63) (va_Pc [.ref (ad 0), .int a1, .int a2] (tPre G ad A S)) (va_Qi K (tB G ad A (gN S)) A) 0 0 A :=
  tj_met_i [(0, .ref (ad 0)), (1, .int a1), (2, .int a2)] pn_X6 rfl (Nat.le_of_ble_eq_true rfl) (fun p e R s m args below meth c Q C hw r => w_M_meal_b0 C hw rfl r hM hf)
theorem w_M_tellsBy_l6 {Γ : tX} {N0 : Nat → Nat} {K : Int32 → tS → Prop} (C : TC Γ cX6_tellsBy RX6 1 21) (hw : tWf N0) (hR : xnL Γ = 11) (r : TRz Γ N0 cX6_tellsBy K) {a1 : Int64} {a3 : Int64} (hM : N0 0 ≠ 0) : ∀ (n : Nat) (a5 : Int64) (a7 : Int64) (S : tS), M_tellsBy_l6 a1 a3 K n a5 a7 S → TJ Γ N0 0 0 6 [(0, .ref (xad Γ 0)), (1, .long a1), (3, .long a3), (5, .long a5), (7, .long a7)] [] S := by
  intro n
  induction n with
  | zero => intro a5 a7 S hf; exact hf.elim
  | succ n ih =>
    intro a5 a7 S hf
    unfold M_tellsBy_l6 at hf
    refine tj_lload C 4 rfl dX6_tellsBy_6 ?_
    refine tj_lconst C (v := lN 0) rfl dX6_tellsBy_8 ?_
    refine tj_lcmp C dX6_tellsBy_9 ?_
    refine tj_if_eq C 31 (by decide) dX6_tellsBy_10 (fun hc => ?_) (fun hc => ?_)
    · replace hf := hf.1 hc
      refine tj_aload_n C 0 rfl rfl dX6_tellsBy_31 ?_
      refine tj_lload_n C 1 rfl rfl dX6_tellsBy_32 ?_
      refine tj_lload C 3 rfl dX6_tellsBy_33 ?_
      refine tj_ldiv C hf.1 dX6_tellsBy_35 ?_
      replace hf := hf.2
      refine pf_X6_88 C hM dX6_tellsBy_36 ?_
      refine tj_topS (fun S1 eS => ?_)
      replace hf := hf S1 eS
      refine tj_aload_n C 0 rfl rfl dX6_tellsBy_39 ?_
      refine tj_lload_n C 2 rfl rfl dX6_tellsBy_40 ?_
      refine tj_lload C 3 rfl dX6_tellsBy_41 ?_
      refine tj_ldiv C hf.1 dX6_tellsBy_43 ?_
      replace hf := hf.2
      refine pf_X6_17 C hM dX6_tellsBy_44 ?_
      refine tj_topS (fun S2 eS => ?_)
      replace hf := hf S2 eS
      refine tj_aload_n C 0 rfl rfl dX6_tellsBy_47 ?_
      refine tj_iconst C kc_0 dX6_tellsBy_48 ?_
      refine tj_callVz C (k := 0) [.int (nI 0)] [] (fun hN => c_M_is (by rw [hN]; exact hM) hf) lk_X6_98 ty_X6_is rfl (Nat.le_of_ble_eq_true rfl) (Nat.le_of_ble_eq_true rfl) (Nat.le_of_ble_eq_true rfl) hM rfl (by decide) rfl rfl dX6_tellsBy_49 (fun r4 S3 hf => ?_)
      have hz_r4 := hf.1
      replace hf := hf.2
      exact r _ _ _ _ dX6_tellsBy_52 hz_r4 hf
    · replace hf := hf.2 hc
      refine tj_lload C 3 rfl dX6_tellsBy_13 ?_
      refine tj_lload C 4 rfl dX6_tellsBy_15 ?_
      refine tj_lrem C hf.1 dX6_tellsBy_17 ?_
      replace hf := hf.2
      refine tj_topl (fun x5 ex => ?_)
      replace hf := hf x5 ex
      refine tj_lstore C (by rw [hR]; decide) [(9, .long x5), (0, .ref (xad Γ 0)), (1, .long a1), (3, .long a3), (5, .long a5), (7, .long a7)] rfl dX6_tellsBy_18 ?_
      refine tj_lload C 5 rfl dX6_tellsBy_20 ?_
      refine tj_lstore C (by rw [hR]; decide) [(5, .long a7), (9, .long x5), (0, .ref (xad Γ 0)), (1, .long a1), (3, .long a3), (7, .long a7)] rfl dX6_tellsBy_22 ?_
      refine tj_lload C 1 rfl dX6_tellsBy_24 ?_
      refine tj_lstore C (by rw [hR]; decide) [(7, .long x5), (5, .long a7), (9, .long x5), (0, .ref (xad Γ 0)), (1, .long a1), (3, .long a3)] rfl dX6_tellsBy_26 ?_
      refine tj_goto C 6 (by decide) dX6_tellsBy_28 ?_
      exact tj_sub [3, 4, 5, 1, 0] (ih _ _ _ hf) rfl
theorem w_M_tellsBy_b0 {Γ : tX} {N0 : Nat → Nat} {K : Int32 → tS → Prop} (C : TC Γ cX6_tellsBy RX6 1 21) (hw : tWf N0) (hR : xnL Γ = 11) (r : TRz Γ N0 cX6_tellsBy K) {a1 : Int64} {a3 : Int64} (hM : N0 0 ≠ 0) {S : tS} (hf : M_tellsBy a1 a3 S K) : TJ Γ N0 0 0 0 [(0, .ref (xad Γ 0)), (1, .long a1), (3, .long a3)] [] S := by
  unfold M_tellsBy at hf
  refine tj_lload_n C 1 rfl rfl dX6_tellsBy_0 ?_
  refine tj_lstore C (by rw [hR]; decide) [(5, .long a1), (0, .ref (xad Γ 0)), (1, .long a1), (3, .long a3)] rfl dX6_tellsBy_1 ?_
  refine tj_lload_n C 3 rfl rfl dX6_tellsBy_3 ?_
  refine tj_lstore C (by rw [hR]; decide) [(7, .long a3), (5, .long a1), (0, .ref (xad Γ 0)), (1, .long a1), (3, .long a3)] rfl dX6_tellsBy_4 ?_
  exact tj_sub [2, 3, 4, 1, 0] (hf.elim fun k hf => w_M_tellsBy_l6 C hw hR r hM k _ _ _ hf) rfl
theorem c_M_tellsBy {l : Launch} {G : tG} {ad : Nat → Nat} {A : Nat → Prop} {S : tS} {K : Int32 → tS → Prop} {a1 : Int64} {a3 : Int64} (hM : gN S 0 ≠ 0) (hf : M_tellsBy a1 a3 S K) : Met l yX6_tellsBy (ws_ yX6_tellsBy cX6_tellsBy 11 (some .boolean)) (tRm 1 21) (va_Pc [.ref (ad 0), .long a1, .long a3] (tPre G ad A S)) (va_Qi (fun r u => r &&& 1 = r ∧ K r u) (tB G ad A (gN S)) A) 0 0 A :=
  tj_met_z [(0, .ref (ad 0)), (1, .long a1), (3, .long a3)] pn_X6 rfl (Nat.le_of_ble_eq_true rfl) (fun p e R s m args below meth c Q C hw r => w_M_tellsBy_b0 C hw rfl r hM hf)
theorem w_M_mean_l88 {Γ : tX} {N0 : Nat → Nat} {K : Int32 → tS → Prop} (C : TC Γ cX6_mean RX6 11 253) (hw : tWf N0) (hR : xnL Γ = 7) (r : TRz Γ N0 cX6_mean K) {a1 : Int32} {a2 : Int32} (hM : N0 0 ≠ 0) {κ71 : Int64 → Int32 → tS → Prop} (hκ71 : ∀ (a3 : Int64) (a5 : Int32) (S : tS), κ71 a3 a5 S → TJ Γ N0 0 0 71 [(0, .ref (xad Γ 0)), (1, .int a1), (2, .int a2), (3, .long a3), (5, .int a5)] [] S) : ∀ (n : Nat) (a3 : Int64) (a5 : Int32) (a6 : Int32) (S : tS), M_mean_l88 a1 a2 K κ71 n a3 a5 a6 S → TJ Γ N0 0 0 88 [(0, .ref (xad Γ 0)), (1, .int a1), (2, .int a2), (3, .long a3), (5, .int a5), (6, .int a6)] [] S := by
  intro n
  induction n with
  | zero => intro a3 a5 a6 S hf; exact hf.elim
  | succ n ih =>
    intro a3 a5 a6 S hf
    unfold M_mean_l88 at hf
    refine tj_iload C 5 rfl dX6_mean_88 ?_
    refine tj_aload_n C 0 rfl rfl dX6_mean_90 ?_
    refine gf_X6_7 C hM dX6_mean_91 ?_
    refine tj_iconst C kc_3 dX6_mean_94 ?_
    refine tj_iald C 48 3548 rfl (ln_48 hw hM) 3 kn_3 (vp_in_nI (by decide) (by decide)) dX6_mean_95 ?_
    refine tj_icmp_ge C 116 (by decide) dX6_mean_96 (fun hc => ?_) (fun hc => ?_)
    · replace hf := hf.1 hc
      refine tj_aload_n C 0 rfl rfl dX6_mean_116 ?_
      refine tj_sipush C ks_2510 dX6_mean_117 ?_
      refine tj_callVv C (k := 0) [.int (nI 2510)] [] (fun hN => c_M_restores (by rw [hN]; exact hM) hf) lk_X6_377 ty_X6_restores rfl (Nat.le_of_ble_eq_true rfl) (Nat.le_of_ble_eq_true rfl) (Nat.le_of_ble_eq_true rfl) hM rfl (by decide) rfl rfl dX6_mean_120 (fun S14 hf => ?_)
      obtain ⟨x15, ex⟩ : ∃ y : Int32, y = a5 + nI 1 := ⟨_, rfl⟩
      refine tj_iinc C (by rw [hR]; decide) 4 [(5, .int x15), (0, .ref (xad Γ 0)), (1, .int a1), (2, .int a2), (3, .long a3), (6, .int a6)] rfl (by rw [ex]; exact ki_1 _) rfl dX6_mean_123 ?_
      replace hf := hf x15 ex
      refine tj_goto C 71 (by decide) dX6_mean_126 ?_
      exact tj_sub [1, 2, 3, 4, 0] (hκ71 _ _ _ hf) rfl
    · replace hf := hf.2 hc
      refine tj_lload_n C 3 rfl rfl dX6_mean_99 ?_
      refine tj_aload_n C 0 rfl rfl dX6_mean_100 ?_
      refine tj_iload C 5 rfl dX6_mean_101 ?_
      refine tj_iconst C kc_0 dX6_mean_103 ?_
      refine tj_callVi C (k := 0) [.int a6, .int (nI 0)] [.long a3] (fun hN => c_M_personOf (by rw [hN]; exact hM) hf) lk_X6_281 ty_X6_personOf rfl (Nat.le_of_ble_eq_true rfl) (Nat.le_of_ble_eq_true rfl) (Nat.le_of_ble_eq_true rfl) hM rfl (by decide) rfl rfl dX6_mean_104 (fun r17 S16 hf => ?_)
      refine tj_i2l C dX6_mean_107 ?_
      refine tj_ladd C dX6_mean_108 ?_
      refine tj_topl (fun x18 ex => ?_)
      replace hf := hf x18 ex
      refine tj_lstore_n C (by rw [hR]; decide) [(3, .long x18), (0, .ref (xad Γ 0)), (1, .int a1), (2, .int a2), (5, .int a5), (6, .int a6)] rfl rfl dX6_mean_109 ?_
      obtain ⟨x19, ex⟩ : ∃ y : Int32, y = a6 + nI 1 := ⟨_, rfl⟩
      refine tj_iinc C (by rw [hR]; decide) 5 [(6, .int x19), (3, .long x18), (0, .ref (xad Γ 0)), (1, .int a1), (2, .int a2), (5, .int a5)] rfl (by rw [ex]; exact ki_1 _) rfl dX6_mean_110 ?_
      replace hf := hf x19 ex
      refine tj_goto C 88 (by decide) dX6_mean_113 ?_
      exact tj_sub [2, 3, 4, 1, 5, 0] (ih _ _ _ _ hf) rfl
theorem w_M_mean_l71 {Γ : tX} {N0 : Nat → Nat} {K : Int32 → tS → Prop} (C : TC Γ cX6_mean RX6 11 253) (hw : tWf N0) (hR : xnL Γ = 7) (r : TRz Γ N0 cX6_mean K) {a1 : Int32} {a2 : Int32} (hM : N0 0 ≠ 0) : ∀ (n : Nat) (a3 : Int64) (a5 : Int32) (S : tS), M_mean_l71 a1 a2 K n a3 a5 S → TJ Γ N0 0 0 71 [(0, .ref (xad Γ 0)), (1, .int a1), (2, .int a2), (3, .long a3), (5, .int a5)] [] S := by
  intro n
  induction n with
  | zero => intro a3 a5 S hf; exact hf.elim
  | succ n ih =>
    intro a3 a5 S hf
    unfold M_mean_l71 at hf
    refine tj_iload C 4 rfl dX6_mean_71 ?_
    refine tj_iload_n C 2 rfl rfl dX6_mean_73 ?_
    refine tj_icmp_ge C 129 (by decide) dX6_mean_74 (fun hc => ?_) (fun hc => ?_)
    · replace hf := hf.1 hc
      refine tj_aload_n C 0 rfl rfl dX6_mean_129 ?_
      refine tj_lload_n C 3 rfl rfl dX6_mean_130 ?_
      refine tj_iload_n C 2 rfl rfl dX6_mean_131 ?_
      refine tj_i2l C dX6_mean_132 ?_
      refine tj_callVz C (k := 0) [.long a3, .long (a2.toInt64)] [] (fun hN => c_M_tellsBy (by rw [hN]; exact hM) hf) lk_X6_405 ty_X6_tellsBy rfl (Nat.le_of_ble_eq_true rfl) (Nat.le_of_ble_eq_true rfl) (Nat.le_of_ble_eq_true rfl) hM rfl (by decide) rfl rfl dX6_mean_133 (fun r12 S11 hf => ?_)
      have hz_r12 := hf.1
      replace hf := hf.2
      exact r _ _ _ _ dX6_mean_136 hz_r12 hf
    · replace hf := hf.2 hc
      refine tj_aload_n C 0 rfl rfl dX6_mean_77 ?_
      refine tj_iload_n C 1 rfl rfl dX6_mean_78 ?_
      refine tj_iload C 4 rfl dX6_mean_79 ?_
      refine tj_iadd C dX6_mean_81 ?_
      refine tj_callVv C (k := 0) [.int (a1 + a5)] [] (fun hN => c_M_lives (by rw [hN]; exact hM) hf) lk_X6_508 ty_X6_lives rfl (Nat.le_of_ble_eq_true rfl) (Nat.le_of_ble_eq_true rfl) (Nat.le_of_ble_eq_true rfl) hM rfl (by decide) rfl rfl dX6_mean_82 (fun S13 hf => ?_)
      refine tj_iconst C kc_0 dX6_mean_85 ?_
      refine tj_istore C (by rw [hR]; decide) [(6, .int (nI 0)), (0, .ref (xad Γ 0)), (1, .int a1), (2, .int a2), (3, .long a3), (5, .int a5)] rfl dX6_mean_86 ?_
      exact tj_sub [1, 2, 3, 4, 5, 0] (hf.elim fun k hf => w_M_mean_l88 C hw hR r hM ih k _ _ _ _ hf) rfl
theorem w_M_mean_b35 {Γ : tX} {N0 : Nat → Nat} {K : Int32 → tS → Prop} (C : TC Γ cX6_mean RX6 11 253) (hw : tWf N0) (hR : xnL Γ = 7) (r : TRz Γ N0 cX6_mean K) {a1 : Int32} {a2 : Int32} (hM : N0 0 ≠ 0) {S : tS} (hf : M_mean_b35 a1 a2 K  S) : TJ Γ N0 0 0 35 [(0, .ref (xad Γ 0))] [] S := by
  unfold M_mean_b35 at hf
  refine tj_aload_n C 0 rfl rfl dX6_mean_35 ?_
  refine tj_iconst C kc_1 dX6_mean_36 ?_
  refine tj_callVz C (k := 0) [.int (nI 1)] [] (fun hN => c_M_is (by rw [hN]; exact hM) hf) lk_X6_98 ty_X6_is rfl (Nat.le_of_ble_eq_true rfl) (Nat.le_of_ble_eq_true rfl) (Nat.le_of_ble_eq_true rfl) hM rfl (by decide) rfl rfl dX6_mean_37 (fun r10 S9 hf => ?_)
  have hz_r10 := hf.1
  replace hf := hf.2
  exact r _ _ _ _ dX6_mean_40 hz_r10 hf
theorem w_M_mean_b0 {Γ : tX} {N0 : Nat → Nat} {K : Int32 → tS → Prop} (C : TC Γ cX6_mean RX6 11 253) (hw : tWf N0) (hR : xnL Γ = 7) (r : TRz Γ N0 cX6_mean K) {a1 : Int32} {a2 : Int32} (hM : N0 0 ≠ 0) {S : tS} (hf : M_mean a1 a2 S K) : TJ Γ N0 0 0 0 [(0, .ref (xad Γ 0)), (1, .int a1), (2, .int a2)] [] S := by
  unfold M_mean at hf
  refine tj_iload_n C 1 rfl rfl dX6_mean_0 ?_
  refine tj_i2l C dX6_mean_1 ?_
  refine tj_lconst C (v := lN 0) rfl dX6_mean_2 ?_
  refine tj_ldc2 C kl_X6_506 dX6_mean_3 ?_
  refine tj_callSz C [.long (a1.toInt64), .long (lN 0), .long (lN 9999)] [] (fun hN => c_M_isFrom hf) lk_X6_337 ty_X6_isFrom rfl (Nat.le_of_ble_eq_true rfl) (Nat.le_of_ble_eq_true rfl) (Nat.le_of_ble_eq_true rfl) rfl dX6_mean_6 (fun r2 S1 hf => ?_)
  have hz_r2 := hf.1
  replace hf := hf.2
  refine tj_if_eq C 35 (by decide) dX6_mean_9 (fun hc => ?_) (fun hc => ?_)
  · replace hf := hf.1 hc
    exact tj_sub [0] (w_M_mean_b35 C hw hR r hM hf) rfl
  · replace hf := hf.2 hc
    refine tj_iload_n C 2 rfl rfl dX6_mean_12 ?_
    refine tj_i2l C dX6_mean_13 ?_
    refine tj_lconst C (v := lN 1) rfl dX6_mean_14 ?_
    refine tj_ldc2 C kl_X6_380 dX6_mean_15 ?_
    refine tj_callSz C [.long (a2.toInt64), .long (lN 1), .long (lN 20)] [] (fun hN => c_M_isFrom hf) lk_X6_337 ty_X6_isFrom rfl (Nat.le_of_ble_eq_true rfl) (Nat.le_of_ble_eq_true rfl) (Nat.le_of_ble_eq_true rfl) rfl dX6_mean_18 (fun r4 S3 hf => ?_)
    have hz_r4 := hf.1
    replace hf := hf.2
    refine tj_if_eq C 35 (by decide) dX6_mean_21 (fun hc => ?_) (fun hc => ?_)
    · replace hf := hf.1 hc
      exact tj_sub [0] (w_M_mean_b35 C hw hR r hM hf) rfl
    · replace hf := hf.2 hc
      refine tj_iload_n C 1 rfl rfl dX6_mean_24 ?_
      refine tj_iload_n C 2 rfl rfl dX6_mean_25 ?_
      refine tj_iadd C dX6_mean_26 ?_
      refine tj_iconst C kc_1 dX6_mean_27 ?_
      refine tj_isub C dX6_mean_28 ?_
      refine tj_sipush C ks_9999 dX6_mean_29 ?_
      refine tj_icmp_le C 41 (by decide) dX6_mean_32 (fun hc => ?_) (fun hc => ?_)
      · replace hf := hf.1 hc
        refine tj_aload_n C 0 rfl rfl dX6_mean_41 ?_
        refine gf_X6_7 C hM dX6_mean_42 ?_
        refine tj_bipush C kb_8 dX6_mean_45 ?_
        refine tj_iald C 48 3548 rfl (ln_48 hw hM) 8 kn_8 (vp_in_nI (by decide) (by decide)) dX6_mean_47 ?_
        refine tj_iconst C kc_m1 dX6_mean_48 ?_
        refine tj_icmp_ne C 59 (by decide) dX6_mean_49 (fun hc => ?_) (fun hc => ?_)
        · replace hf := hf.2 hc
          refine tj_aload_n C 0 rfl rfl dX6_mean_59 ?_
          refine tj_sipush C ks_2510 dX6_mean_60 ?_
          refine tj_callVv C (k := 0) [.int (nI 2510)] [] (fun hN => c_M_keeps (by rw [hN]; exact hM) hf) lk_X6_374 ty_X6_keeps rfl (Nat.le_of_ble_eq_true rfl) (Nat.le_of_ble_eq_true rfl) (Nat.le_of_ble_eq_true rfl) hM rfl (by decide) rfl rfl dX6_mean_63 (fun S5 hf => ?_)
          refine tj_lconst C (v := lN 0) rfl dX6_mean_66 ?_
          refine tj_topl (fun x6 ex => ?_)
          replace hf := hf x6 ex
          refine tj_lstore_n C (by rw [hR]; decide) [(3, .long x6), (0, .ref (xad Γ 0)), (1, .int a1), (2, .int a2)] rfl rfl dX6_mean_67 ?_
          refine tj_iconst C kc_0 dX6_mean_68 ?_
          refine tj_istore C (by rw [hR]; decide) [(5, .int (nI 0)), (3, .long x6), (0, .ref (xad Γ 0)), (1, .int a1), (2, .int a2)] rfl dX6_mean_69 ?_
          exact tj_sub [2, 3, 4, 1, 0] (hf.elim fun k hf => w_M_mean_l71 C hw hR r hM k _ _ _ hf) rfl
        · replace hf := hf.1 hc
          refine tj_aload_n C 0 rfl rfl dX6_mean_52 ?_
          refine tj_bipush C kb_6 dX6_mean_53 ?_
          refine tj_callVz C (k := 0) [.int (nI 6)] [] (fun hN => c_M_is (by rw [hN]; exact hM) hf) lk_X6_98 ty_X6_is rfl (Nat.le_of_ble_eq_true rfl) (Nat.le_of_ble_eq_true rfl) (Nat.le_of_ble_eq_true rfl) hM rfl (by decide) rfl rfl dX6_mean_55 (fun r8 S7 hf => ?_)
          have hz_r8 := hf.1
          replace hf := hf.2
          exact r _ _ _ _ dX6_mean_58 hz_r8 hf
      · replace hf := hf.2 hc
        exact tj_sub [0] (w_M_mean_b35 C hw hR r hM hf) rfl
theorem c_M_mean {l : Launch} {G : tG} {ad : Nat → Nat} {A : Nat → Prop} {S : tS} {K : Int32 → tS → Prop} {a1 : Int32} {a2 : Int32} (hM : gN S 0 ≠ 0) (hf : M_mean a1 a2 S K) : Met l yX6_mean (ws_ yX6_mean cX6_mean 7 (some .boolean)) (tRm 11 253) (va_Pc [.ref (ad 0), .int a1, .int a2] (tPre G ad A S)) (va_Qi (fun r u => r &&& 1 = r ∧ K r u) (tB G ad A (gN S)) A) 0 0 A :=
  tj_met_z [(0, .ref (ad 0)), (1, .int a1), (2, .int a2)] pn_X6 rfl (Nat.le_of_ble_eq_true rfl) (fun p e R s m args below meth c Q C hw r => w_M_mean_b0 C hw rfl r hM hf)
theorem w_M_moveOf_b84 {Γ : tX} {N0 : Nat → Nat} {K : Int32 → tS → Prop} (C : TC Γ cX6_moveOf RX6 9 207) (hw : tWf N0) (hR : xnL Γ = 4) (r : TRi Γ N0 cX6_moveOf K) {a1 : Int32} {a2 : Int32} (hM : N0 0 ≠ 0) {s1 : Int32} {S : tS} (hf : M_moveOf_b84 a1 a2 K s1 S) : TJ Γ N0 0 0 84 [] [.int s1, .ref (xad Γ 0)] S := by
  unfold M_moveOf_b84 at hf
  refine tj_callVi C (k := 0) [.int s1] [] (fun hN => c_M_gives (by rw [hN]; exact hM) hf) lk_X6_95 ty_X6_gives rfl (Nat.le_of_ble_eq_true rfl) (Nat.le_of_ble_eq_true rfl) (Nat.le_of_ble_eq_true rfl) hM rfl (by decide) rfl rfl dX6_moveOf_84 (fun r15 S14 hf => ?_)
  exact r _ _ _ _ dX6_moveOf_87 hf
theorem w_M_moveOf_b22 {Γ : tX} {N0 : Nat → Nat} {K : Int32 → tS → Prop} (C : TC Γ cX6_moveOf RX6 9 207) (hw : tWf N0) (hR : xnL Γ = 4) (r : TRi Γ N0 cX6_moveOf K) {a1 : Int32} {a2 : Int32} (hM : N0 0 ≠ 0) {S : tS} (hf : M_moveOf_b22 a1 a2 K  S) : TJ Γ N0 0 0 22 [(0, .ref (xad Γ 0))] [] S := by
  unfold M_moveOf_b22 at hf
  refine tj_aload_n C 0 rfl rfl dX6_moveOf_22 ?_
  refine tj_iconst C kc_1 dX6_moveOf_23 ?_
  refine tj_callVi C (k := 0) [.int (nI 1)] [] (fun hN => c_M_refuse (by rw [hN]; exact hM) hf) lk_X6_91 ty_X6_refuse rfl (Nat.le_of_ble_eq_true rfl) (Nat.le_of_ble_eq_true rfl) (Nat.le_of_ble_eq_true rfl) hM rfl (by decide) rfl rfl dX6_moveOf_24 (fun r13 S12 hf => ?_)
  exact r _ _ _ _ dX6_moveOf_27 hf
theorem w_M_moveOf_b0 {Γ : tX} {N0 : Nat → Nat} {K : Int32 → tS → Prop} (C : TC Γ cX6_moveOf RX6 9 207) (hw : tWf N0) (hR : xnL Γ = 4) (r : TRi Γ N0 cX6_moveOf K) {a1 : Int32} {a2 : Int32} (hM : N0 0 ≠ 0) {S : tS} (hf : M_moveOf a1 a2 S K) : TJ Γ N0 0 0 0 [(0, .ref (xad Γ 0)), (1, .int a1), (2, .int a2)] [] S := by
  unfold M_moveOf at hf
  refine tj_iload_n C 1 rfl rfl dX6_moveOf_0 ?_
  refine tj_i2l C dX6_moveOf_1 ?_
  refine tj_lconst C (v := lN 1) rfl dX6_moveOf_2 ?_
  refine tj_ldc2 C kl_X6_473 dX6_moveOf_3 ?_
  refine tj_callSz C [.long (a1.toInt64), .long (lN 1), .long (lN 3)] [] (fun hN => c_M_isFrom hf) lk_X6_337 ty_X6_isFrom rfl (Nat.le_of_ble_eq_true rfl) (Nat.le_of_ble_eq_true rfl) (Nat.le_of_ble_eq_true rfl) rfl dX6_moveOf_6 (fun r2 S1 hf => ?_)
  have hz_r2 := hf.1
  replace hf := hf.2
  refine tj_if_eq C 22 (by decide) dX6_moveOf_9 (fun hc => ?_) (fun hc => ?_)
  · replace hf := hf.1 hc
    exact tj_sub [0] (w_M_moveOf_b22 C hw hR r hM hf) rfl
  · replace hf := hf.2 hc
    refine tj_iload_n C 2 rfl rfl dX6_moveOf_12 ?_
    refine tj_i2l C dX6_moveOf_13 ?_
    refine tj_lconst C (v := lN 0) rfl dX6_moveOf_14 ?_
    refine tj_lconst C (v := lN 1) rfl dX6_moveOf_15 ?_
    refine tj_callSz C [.long (a2.toInt64), .long (lN 0), .long (lN 1)] [] (fun hN => c_M_isFrom hf) lk_X6_337 ty_X6_isFrom rfl (Nat.le_of_ble_eq_true rfl) (Nat.le_of_ble_eq_true rfl) (Nat.le_of_ble_eq_true rfl) rfl dX6_moveOf_16 (fun r4 S3 hf => ?_)
    have hz_r4 := hf.1
    replace hf := hf.2
    refine tj_if_ne C 28 (by decide) dX6_moveOf_19 (fun hc => ?_) (fun hc => ?_)
    · replace hf := hf.2 hc
      refine tj_aload_n C 0 rfl rfl dX6_moveOf_28 ?_
      refine tj_iload_n C 1 rfl rfl dX6_moveOf_29 ?_
      refine tj_callVi C (k := 0) [.int a1] [] (fun hN => c_M_playing (by rw [hN]; exact hM) hf) lk_X6_475 ty_X6_playing rfl (Nat.le_of_ble_eq_true rfl) (Nat.le_of_ble_eq_true rfl) (Nat.le_of_ble_eq_true rfl) hM rfl (by decide) rfl rfl dX6_moveOf_30 (fun r6 S5 hf => ?_)
      refine tj_pop C rfl dX6_moveOf_33 ?_
      refine tj_aload_n C 0 rfl rfl dX6_moveOf_34 ?_
      refine gf_X6_69 C hM dX6_moveOf_35 ?_
      refine tj_iconst C kc_0 dX6_moveOf_38 ?_
      refine tj_iald C 528 4 rfl (ln_528 hw hM) 0 kn_0 (vp_in_nI (by decide) (by decide)) dX6_moveOf_39 ?_
      refine tj_topi (fun x7 ex => ?_)
      replace hf := hf x7 ex
      refine tj_istore_n C (by rw [hR]; decide) [(3, .int x7), (0, .ref (xad Γ 0)), (1, .int a1), (2, .int a2)] rfl rfl dX6_moveOf_40 ?_
      refine tj_iload_n C 0 rfl rfl dX6_moveOf_41 ?_
      refine tj_aload_n C 1 rfl rfl dX6_moveOf_42 ?_
      refine tj_callVi C (k := 0) [] [.int x7] (fun hN => c_M_deeds (by rw [hN]; exact hM) hf) lk_X6_458 ty_X6_deeds rfl (Nat.le_of_ble_eq_true rfl) (Nat.le_of_ble_eq_true rfl) (Nat.le_of_ble_eq_true rfl) hM rfl (by decide) rfl rfl dX6_moveOf_43 (fun r9 S8 hf => ?_)
      refine tj_icmp_ne C 56 (by decide) dX6_moveOf_46 (fun hc => ?_) (fun hc => ?_)
      · replace hf := hf.2 hc
        refine tj_aload_n C 1 rfl rfl dX6_moveOf_56 ?_
        refine tj_iload_n C 3 rfl rfl dX6_moveOf_57 ?_
        refine tj_if_ne C 74 (by decide) dX6_moveOf_58 (fun hc => ?_) (fun hc => ?_)
        · replace hf := hf.2 hc
          refine tj_iload_n C 0 rfl rfl dX6_moveOf_74 ?_
          refine tj_iconst C kc_1 dX6_moveOf_75 ?_
          refine tj_aload_n C 1 rfl rfl dX6_moveOf_76 ?_
          refine gf_X6_7 C hM dX6_moveOf_77 ?_
          refine tj_iconst C kc_0 dX6_moveOf_80 ?_
          refine tj_iald C 48 3548 rfl (ln_48 hw hM) 0 kn_0 (vp_in_nI (by decide) (by decide)) dX6_moveOf_81 ?_
          refine tj_iadd C dX6_moveOf_82 ?_
          refine tj_irem C hf.1 dX6_moveOf_83 ?_
          replace hf := hf.2
          exact tj_sub [] (w_M_moveOf_b84 C hw hR r hM hf) rfl
        · replace hf := hf.1 hc
          refine tj_iload_n C 0 rfl rfl dX6_moveOf_61 ?_
          refine tj_iconst C kc_1 dX6_moveOf_62 ?_
          refine tj_aload_n C 1 rfl rfl dX6_moveOf_63 ?_
          refine gf_X6_7 C hM dX6_moveOf_64 ?_
          refine tj_iconst C kc_0 dX6_moveOf_67 ?_
          refine tj_iald C 48 3548 rfl (ln_48 hw hM) 0 kn_0 (vp_in_nI (by decide) (by decide)) dX6_moveOf_68 ?_
          refine tj_iadd C dX6_moveOf_69 ?_
          refine tj_idiv C hf.1 dX6_moveOf_70 ?_
          replace hf := hf.2
          refine tj_goto C 84 (by decide) dX6_moveOf_71 ?_
          exact tj_sub [] (w_M_moveOf_b84 C hw hR r hM hf) rfl
      · replace hf := hf.1 hc
        refine tj_aload_n C 1 rfl rfl dX6_moveOf_49 ?_
        refine tj_bipush C kb_6 dX6_moveOf_50 ?_
        refine tj_callVi C (k := 0) [.int (nI 6)] [] (fun hN => c_M_refuse (by rw [hN]; exact hM) hf) lk_X6_91 ty_X6_refuse rfl (Nat.le_of_ble_eq_true rfl) (Nat.le_of_ble_eq_true rfl) (Nat.le_of_ble_eq_true rfl) hM rfl (by decide) rfl rfl dX6_moveOf_52 (fun r11 S10 hf => ?_)
        exact r _ _ _ _ dX6_moveOf_55 hf
    · replace hf := hf.1 hc
      exact tj_sub [0] (w_M_moveOf_b22 C hw hR r hM hf) rfl
theorem c_M_moveOf {l : Launch} {G : tG} {ad : Nat → Nat} {A : Nat → Prop} {S : tS} {K : Int32 → tS → Prop} {a1 : Int32} {a2 : Int32} (hM : gN S 0 ≠ 0) (hf : M_moveOf a1 a2 S K) : Met l yX6_moveOf (ws_ yX6_moveOf cX6_moveOf 4 (some .int)) (tRm 9 207) (va_Pc [.ref (ad 0), .int a1, .int a2] (tPre G ad A S)) (va_Qi K (tB G ad A (gN S)) A) 0 0 A :=
  tj_met_i [(0, .ref (ad 0)), (1, .int a1), (2, .int a2)] pn_X6 rfl (Nat.le_of_ble_eq_true rfl) (fun p e R s m args below meth c Q C hw r => w_M_moveOf_b0 C hw rfl r hM hf)
theorem w_M_mute_b0 {Γ : tX} {N0 : Nat → Nat} {K : Int32 → tS → Prop} (C : TC Γ cX6_mute RX6 5 117) (hw : tWf N0) (hR : xnL Γ = 1) (r : TRi Γ N0 cX6_mute K) (hM : N0 0 ≠ 0) {S : tS} (hf : M_mute S K) : TJ Γ N0 0 0 0 [(0, .ref (xad Γ 0))] [] S := by
  unfold M_mute at hf
  refine tj_aload_n C 0 rfl rfl dX6_mute_0 ?_
  refine tj_callVv C (k := 0) [] [] (fun hN => c_M_laysWorlds (by rw [hN]; exact hM) hf) lk_X6_428 ty_X6_laysWorlds rfl (Nat.le_of_ble_eq_true rfl) (Nat.le_of_ble_eq_true rfl) (Nat.le_of_ble_eq_true rfl) hM rfl (by decide) rfl rfl dX6_mute_1 (fun S1 hf => ?_)
  refine tj_aload_n C 0 rfl rfl dX6_mute_4 ?_
  refine tj_aload_n C 0 rfl rfl dX6_mute_5 ?_
  refine gf_X6_54 C hM dX6_mute_6 ?_
  refine tj_bipush C kb_8 dX6_mute_9 ?_
  refine tj_iald C 368 9 rfl (ln_368 hw hM) 8 kn_8 (vp_in_nI (by decide) (by decide)) dX6_mute_11 ?_
  refine tj_callVi C (k := 0) [.int (gI S1 368 8)] [] (fun hN => c_M_gives (by rw [hN]; exact hM) hf) lk_X6_95 ty_X6_gives rfl (Nat.le_of_ble_eq_true rfl) (Nat.le_of_ble_eq_true rfl) (Nat.le_of_ble_eq_true rfl) hM rfl (by decide) rfl rfl dX6_mute_12 (fun r3 S2 hf => ?_)
  exact r _ _ _ _ dX6_mute_15 hf
theorem c_M_mute {l : Launch} {G : tG} {ad : Nat → Nat} {A : Nat → Prop} {S : tS} {K : Int32 → tS → Prop} (hM : gN S 0 ≠ 0) (hf : M_mute S K) : Met l yX6_mute (ws_ yX6_mute cX6_mute 1 (some .int)) (tRm 5 117) (va_Pc [.ref (ad 0)] (tPre G ad A S)) (va_Qi K (tB G ad A (gN S)) A) 0 0 A :=
  tj_met_i [(0, .ref (ad 0))] pn_X6 rfl (Nat.le_of_ble_eq_true rfl) (fun p e R s m args below meth c Q C hw r => w_M_mute_b0 C hw rfl r hM hf)
theorem w_M_night_b0 {Γ : tX} {N0 : Nat → Nat} {K : Int32 → tS → Prop} (C : TC Γ cX6_night RX6 1 21) (hw : tWf N0) (hR : xnL Γ = 2) (r : TRi Γ N0 cX6_night K) (hM : N0 0 ≠ 0) {S : tS} (hf : M_night S K) : TJ Γ N0 0 0 0 [(0, .ref (xad Γ 0))] [] S := by
  unfold M_night at hf
  refine tj_aload_n C 0 rfl rfl dX6_night_0 ?_
  refine gf_X6_7 C hM dX6_night_1 ?_
  refine tj_bipush C kb_6 dX6_night_4 ?_
  refine tj_iald C 48 3548 rfl (ln_48 hw hM) 6 kn_6 (vp_in_nI (by decide) (by decide)) dX6_night_6 ?_
  refine tj_topi (fun x1 ex => ?_)
  replace hf := hf x1 ex
  refine tj_istore_n C (by rw [hR]; decide) [(1, .int x1), (0, .ref (xad Γ 0))] rfl rfl dX6_night_7 ?_
  refine tj_aload_n C 1 rfl rfl dX6_night_8 ?_
  refine tj_callVz C (k := 0) [] [] (fun hN => c_M_nights (by rw [hN]; exact hM) hf) lk_X6_365 ty_X6_nights rfl (Nat.le_of_ble_eq_true rfl) (Nat.le_of_ble_eq_true rfl) (Nat.le_of_ble_eq_true rfl) hM rfl (by decide) rfl rfl dX6_night_9 (fun r3 S2 hf => ?_)
  have hz_r3 := hf.1
  replace hf := hf.2
  refine tj_if_eq C 23 (by decide) dX6_night_12 (fun hc => ?_) (fun hc => ?_)
  · replace hf := hf.1 hc
    refine tj_aload_n C 1 rfl rfl dX6_night_23 ?_
    refine tj_bipush C kb_7 dX6_night_24 ?_
    refine tj_callVi C (k := 0) [.int (nI 7)] [] (fun hN => c_M_refuse (by rw [hN]; exact hM) hf) lk_X6_91 ty_X6_refuse rfl (Nat.le_of_ble_eq_true rfl) (Nat.le_of_ble_eq_true rfl) (Nat.le_of_ble_eq_true rfl) hM rfl (by decide) rfl rfl dX6_night_26 (fun r5 S4 hf => ?_)
    exact r _ _ _ _ dX6_night_29 hf
  · replace hf := hf.2 hc
    refine tj_aload_n C 1 rfl rfl dX6_night_15 ?_
    refine tj_iload_n C 0 rfl rfl dX6_night_16 ?_
    refine tj_callVi C (k := 0) [.int x1] [] (fun hN => c_M_gives (by rw [hN]; exact hM) hf) lk_X6_95 ty_X6_gives rfl (Nat.le_of_ble_eq_true rfl) (Nat.le_of_ble_eq_true rfl) (Nat.le_of_ble_eq_true rfl) hM rfl (by decide) rfl rfl dX6_night_17 (fun r7 S6 hf => ?_)
    refine tj_goto C 29 (by decide) dX6_night_20 ?_
    exact r _ _ _ _ dX6_night_29 hf
theorem c_M_night {l : Launch} {G : tG} {ad : Nat → Nat} {A : Nat → Prop} {S : tS} {K : Int32 → tS → Prop} (hM : gN S 0 ≠ 0) (hf : M_night S K) : Met l yX6_night (ws_ yX6_night cX6_night 2 (some .int)) (tRm 1 21) (va_Pc [.ref (ad 0)] (tPre G ad A S)) (va_Qi K (tB G ad A (gN S)) A) 0 0 A :=
  tj_met_i [(0, .ref (ad 0))] pn_X6 rfl (Nat.le_of_ble_eq_true rfl) (fun p e R s m args below meth c Q C hw r => w_M_night_b0 C hw rfl r hM hf)
theorem w_M_odds_b19 {Γ : tX} {N0 : Nat → Nat} {K : Int32 → tS → Prop} (C : TC Γ cX6_odds RX6 8 191) (hw : tWf N0) (hR : xnL Γ = 5) (r : TRz Γ N0 cX6_odds K) {a1 : Int32} {a2 : Int32} {a3 : Int32} (hM : N0 0 ≠ 0) {s0 : Int32} {S : tS} (hf : M_odds_b19 a1 a2 a3 K s0 S) : TJ Γ N0 0 0 19 [(0, .ref (xad Γ 0)), (1, .int a1), (2, .int a2), (3, .int a3)] [.int s0] S := by
  unfold M_odds_b19 at hf
  refine tj_istore C (by rw [hR]; decide) [(4, .int s0), (0, .ref (xad Γ 0)), (1, .int a1), (2, .int a2), (3, .int a3)] rfl dX6_odds_19 ?_
  refine tj_iload C 0 rfl dX6_odds_21 ?_
  refine tj_if_le C 33 (by decide) dX6_odds_23 (fun hc => ?_) (fun hc => ?_)
  · replace hf := hf.1 hc
    refine tj_aload_n C 1 rfl rfl dX6_odds_33 ?_
    refine tj_iload_n C 3 rfl rfl dX6_odds_34 ?_
    refine tj_iload_n C 4 rfl rfl dX6_odds_35 ?_
    refine tj_callVv C (k := 0) [.int a2, .int a3] [] (fun hN => c_M_laysFits (by rw [hN]; exact hM) hf) lk_X6_398 ty_X6_laysFits rfl (Nat.le_of_ble_eq_true rfl) (Nat.le_of_ble_eq_true rfl) (Nat.le_of_ble_eq_true rfl) hM rfl (by decide) rfl rfl dX6_odds_36 (fun S5 hf => ?_)
    refine tj_aload_n C 1 rfl rfl dX6_odds_39 ?_
    refine gf_X6_389 C hM dX6_odds_40 ?_
    refine tj_if_ne C 55 (by decide) dX6_odds_43 (fun hc => ?_) (fun hc => ?_)
    · replace hf := hf.2 hc
      refine tj_aload_n C 1 rfl rfl dX6_odds_55 ?_
      refine tj_aload_n C 1 rfl rfl dX6_odds_56 ?_
      refine tj_iload_n C 2 rfl rfl dX6_odds_57 ?_
      refine tj_callVi C (k := 0) [.int a1] [.ref (xad Γ 0)] (fun hN => c_M_guiltyIn (by rw [hN]; exact hM) hf) lk_X6_402 ty_X6_guiltyIn rfl (Nat.le_of_ble_eq_true rfl) (Nat.le_of_ble_eq_true rfl) (Nat.le_of_ble_eq_true rfl) hM rfl (by decide) rfl rfl dX6_odds_58 (fun r7 S6 hf => ?_)
      refine tj_i2l C dX6_odds_61 ?_
      refine tj_aload_n C 1 rfl rfl dX6_odds_62 ?_
      refine gf_X6_389 C hM dX6_odds_63 ?_
      refine tj_i2l C dX6_odds_66 ?_
      refine tj_callVz C (k := 0) [.long (r7.toInt64), .long ((gI S6 0 24).toInt64)] [] (fun hN => c_M_tellsBy (by rw [hN]; exact hM) hf) lk_X6_405 ty_X6_tellsBy rfl (Nat.le_of_ble_eq_true rfl) (Nat.le_of_ble_eq_true rfl) (Nat.le_of_ble_eq_true rfl) hM rfl (by decide) rfl rfl dX6_odds_67 (fun r9 S8 hf => ?_)
      have hz_r9 := hf.1
      replace hf := hf.2
      exact r _ _ _ _ dX6_odds_70 hz_r9 hf
    · replace hf := hf.1 hc
      refine tj_aload_n C 1 rfl rfl dX6_odds_46 ?_
      refine tj_bipush C kb_6 dX6_odds_47 ?_
      refine tj_callVz C (k := 0) [.int (nI 6)] [] (fun hN => c_M_is (by rw [hN]; exact hM) hf) lk_X6_98 ty_X6_is rfl (Nat.le_of_ble_eq_true rfl) (Nat.le_of_ble_eq_true rfl) (Nat.le_of_ble_eq_true rfl) hM rfl (by decide) rfl rfl dX6_odds_49 (fun r11 S10 hf => ?_)
      have hz_r11 := hf.1
      replace hf := hf.2
      refine tj_goto C 70 (by decide) dX6_odds_52 ?_
      exact r _ _ _ _ dX6_odds_70 hz_r11 hf
  · replace hf := hf.2 hc
    refine tj_aload_n C 1 rfl rfl dX6_odds_26 ?_
    refine tj_iload C 0 rfl dX6_odds_27 ?_
    refine tj_callVz C (k := 0) [.int s0] [] (fun hN => c_M_is (by rw [hN]; exact hM) hf) lk_X6_98 ty_X6_is rfl (Nat.le_of_ble_eq_true rfl) (Nat.le_of_ble_eq_true rfl) (Nat.le_of_ble_eq_true rfl) hM rfl (by decide) rfl rfl dX6_odds_29 (fun r13 S12 hf => ?_)
    have hz_r13 := hf.1
    replace hf := hf.2
    exact r _ _ _ _ dX6_odds_32 hz_r13 hf
theorem w_M_odds_b0 {Γ : tX} {N0 : Nat → Nat} {K : Int32 → tS → Prop} (C : TC Γ cX6_odds RX6 8 191) (hw : tWf N0) (hR : xnL Γ = 5) (r : TRz Γ N0 cX6_odds K) {a1 : Int32} {a2 : Int32} {a3 : Int32} (hM : N0 0 ≠ 0) {S : tS} (hf : M_odds a1 a2 a3 S K) : TJ Γ N0 0 0 0 [(0, .ref (xad Γ 0)), (1, .int a1), (2, .int a2), (3, .int a3)] [] S := by
  unfold M_odds at hf
  refine tj_aload_n C 0 rfl rfl dX6_odds_0 ?_
  refine tj_iload_n C 1 rfl rfl dX6_odds_1 ?_
  refine tj_i2l C dX6_odds_2 ?_
  refine tj_callVz C (k := 0) [.long (a1.toInt64)] [] (fun hN => c_M_isPerson (by rw [hN]; exact hM) hf) lk_X6_305 ty_X6_isPerson rfl (Nat.le_of_ble_eq_true rfl) (Nat.le_of_ble_eq_true rfl) (Nat.le_of_ble_eq_true rfl) hM rfl (by decide) rfl rfl dX6_odds_3 (fun r2 S1 hf => ?_)
  have hz_r2 := hf.1
  replace hf := hf.2
  refine tj_if_eq C 18 (by decide) dX6_odds_6 (fun hc => ?_) (fun hc => ?_)
  · replace hf := hf.1 hc
    refine tj_iconst C kc_1 dX6_odds_18 ?_
    exact w_M_odds_b19 C hw hR r hM hf
  · replace hf := hf.2 hc
    refine tj_aload_n C 0 rfl rfl dX6_odds_9 ?_
    refine tj_iload_n C 2 rfl rfl dX6_odds_10 ?_
    refine tj_iload_n C 3 rfl rfl dX6_odds_11 ?_
    refine tj_callVi C (k := 0) [.int a2, .int a3] [] (fun hN => c_M_wrongSeen (by rw [hN]; exact hM) hf) lk_X6_395 ty_X6_wrongSeen rfl (Nat.le_of_ble_eq_true rfl) (Nat.le_of_ble_eq_true rfl) (Nat.le_of_ble_eq_true rfl) hM rfl (by decide) rfl rfl dX6_odds_12 (fun r4 S3 hf => ?_)
    refine tj_goto C 19 (by decide) dX6_odds_15 ?_
    exact w_M_odds_b19 C hw hR r hM hf
theorem c_M_odds {l : Launch} {G : tG} {ad : Nat → Nat} {A : Nat → Prop} {S : tS} {K : Int32 → tS → Prop} {a1 : Int32} {a2 : Int32} {a3 : Int32} (hM : gN S 0 ≠ 0) (hf : M_odds a1 a2 a3 S K) : Met l yX6_odds (ws_ yX6_odds cX6_odds 5 (some .boolean)) (tRm 8 191) (va_Pc [.ref (ad 0), .int a1, .int a2, .int a3] (tPre G ad A S)) (va_Qi (fun r u => r &&& 1 = r ∧ K r u) (tB G ad A (gN S)) A) 0 0 A :=
  tj_met_z [(0, .ref (ad 0)), (1, .int a1), (2, .int a2), (3, .int a3)] pn_X6 rfl (Nat.le_of_ble_eq_true rfl) (fun p e R s m args below meth c Q C hw r => w_M_odds_b0 C hw rfl r hM hf)
theorem w_M_orders_l4 {Γ : tX} {N0 : Nat → Nat} {K : Int64 → tS → Prop} (C : TC Γ cX6_orders RX6 0 0) (hw : tWf N0) (hR : xnL Γ = 4) (r : TRl Γ N0 cX6_orders K) {a0 : Int32} : ∀ (n : Nat) (a1 : Int64) (a3 : Int32) (S : tS), M_orders_l4 a0 K n a1 a3 S → TJ Γ N0 0 0 4 [(0, .int a0), (1, .long a1), (3, .int a3)] [] S := by
  intro n
  induction n with
  | zero => intro a1 a3 S hf; exact hf.elim
  | succ n ih =>
    intro a1 a3 S hf
    unfold M_orders_l4 at hf
    refine tj_iload_n C 2 rfl rfl dX6_orders_4 ?_
    refine tj_iload_n C 0 rfl rfl dX6_orders_5 ?_
    refine tj_icmp_gt C 20 (by decide) dX6_orders_6 (fun hc => ?_) (fun hc => ?_)
    · replace hf := hf.1 hc
      refine tj_lload_n C 1 rfl rfl dX6_orders_20 ?_
      exact r _ _ _ _ dX6_orders_21 hf
    · replace hf := hf.2 hc
      refine tj_lload_n C 1 rfl rfl dX6_orders_9 ?_
      refine tj_iload_n C 2 rfl rfl dX6_orders_10 ?_
      refine tj_i2l C dX6_orders_11 ?_
      refine tj_lmul C dX6_orders_12 ?_
      refine tj_topl (fun x2 ex => ?_)
      replace hf := hf x2 ex
      refine tj_lstore_n C (by rw [hR]; decide) [(1, .long x2), (0, .int a0), (3, .int a3)] rfl rfl dX6_orders_13 ?_
      obtain ⟨x3, ex⟩ : ∃ y : Int32, y = a3 + nI 1 := ⟨_, rfl⟩
      refine tj_iinc C (by rw [hR]; decide) 2 [(3, .int x3), (1, .long x2), (0, .int a0)] rfl (by rw [ex]; exact ki_1 _) rfl dX6_orders_14 ?_
      replace hf := hf x3 ex
      refine tj_goto C 4 (by decide) dX6_orders_17 ?_
      exact tj_sub [2, 1, 0] (ih _ _ _ hf) rfl
theorem w_M_orders_b0 {Γ : tX} {N0 : Nat → Nat} {K : Int64 → tS → Prop} (C : TC Γ cX6_orders RX6 0 0) (hw : tWf N0) (hR : xnL Γ = 4) (r : TRl Γ N0 cX6_orders K) {a0 : Int32} {S : tS} (hf : M_orders a0 S K) : TJ Γ N0 0 0 0 [(0, .int a0)] [] S := by
  unfold M_orders at hf
  refine tj_lconst C (v := lN 1) rfl dX6_orders_0 ?_
  refine tj_topl (fun x1 ex => ?_)
  replace hf := hf x1 ex
  refine tj_lstore_n C (by rw [hR]; decide) [(1, .long x1), (0, .int a0)] rfl rfl dX6_orders_1 ?_
  refine tj_iconst C kc_2 dX6_orders_2 ?_
  refine tj_istore_n C (by rw [hR]; decide) [(3, .int (nI 2)), (1, .long x1), (0, .int a0)] rfl rfl dX6_orders_3 ?_
  exact tj_sub [2, 1, 0] (hf.elim fun k hf => w_M_orders_l4 C hw hR r k _ _ _ hf) rfl
theorem c_M_orders {l : Launch} {G : tG} {ad : Nat → Nat} {A : Nat → Prop} {S : tS} {K : Int64 → tS → Prop} {a0 : Int32} (hf : M_orders a0 S K) : Met l yX6_orders (ws_ yX6_orders cX6_orders 4 (some .long)) (tRm 0 0) (va_Pc [.int a0] (tPre G ad A S)) (va_Ql K (tB G ad A (gN S)) A) 0 0 A :=
  tj_met_l [(0, .int a0)] pn_X6 rfl (Nat.le_of_ble_eq_true rfl) (fun p e R s m args below meth c Q C hw r => w_M_orders_b0 C hw rfl r hf)
theorem w_M_person_b18 {Γ : tX} {N0 : Nat → Nat} {K : Int32 → tS → Prop} (C : TC Γ cX6_person RX6 2 42) (hw : tWf N0) (hR : xnL Γ = 3) (r : TRi Γ N0 cX6_person K) {a1 : Int32} {a2 : Int32} (hM : N0 0 ≠ 0) {S : tS} (hf : M_person_b18 a1 a2 K  S) : TJ Γ N0 0 0 18 [(0, .ref (xad Γ 0))] [] S := by
  unfold M_person_b18 at hf
  refine tj_aload_n C 0 rfl rfl dX6_person_18 ?_
  refine tj_iconst C kc_1 dX6_person_19 ?_
  refine tj_callVi C (k := 0) [.int (nI 1)] [] (fun hN => c_M_refuse (by rw [hN]; exact hM) hf) lk_X6_91 ty_X6_refuse rfl (Nat.le_of_ble_eq_true rfl) (Nat.le_of_ble_eq_true rfl) (Nat.le_of_ble_eq_true rfl) hM rfl (by decide) rfl rfl dX6_person_20 (fun r8 S7 hf => ?_)
  exact r _ _ _ _ dX6_person_23 hf
theorem w_M_person_b0 {Γ : tX} {N0 : Nat → Nat} {K : Int32 → tS → Prop} (C : TC Γ cX6_person RX6 2 42) (hw : tWf N0) (hR : xnL Γ = 3) (r : TRi Γ N0 cX6_person K) {a1 : Int32} {a2 : Int32} (hM : N0 0 ≠ 0) {S : tS} (hf : M_person a1 a2 S K) : TJ Γ N0 0 0 0 [(0, .ref (xad Γ 0)), (1, .int a1), (2, .int a2)] [] S := by
  unfold M_person at hf
  refine tj_aload_n C 0 rfl rfl dX6_person_0 ?_
  refine tj_iload_n C 1 rfl rfl dX6_person_1 ?_
  refine tj_i2l C dX6_person_2 ?_
  refine tj_callVz C (k := 0) [.long (a1.toInt64)] [] (fun hN => c_M_isPerson (by rw [hN]; exact hM) hf) lk_X6_305 ty_X6_isPerson rfl (Nat.le_of_ble_eq_true rfl) (Nat.le_of_ble_eq_true rfl) (Nat.le_of_ble_eq_true rfl) hM rfl (by decide) rfl rfl dX6_person_3 (fun r2 S1 hf => ?_)
  have hz_r2 := hf.1
  replace hf := hf.2
  refine tj_if_eq C 18 (by decide) dX6_person_6 (fun hc => ?_) (fun hc => ?_)
  · replace hf := hf.1 hc
    exact tj_sub [0] (w_M_person_b18 C hw hR r hM hf) rfl
  · replace hf := hf.2 hc
    refine tj_iload_n C 2 rfl rfl dX6_person_9 ?_
    refine tj_if_lt C 18 (by decide) dX6_person_10 (fun hc => ?_) (fun hc => ?_)
    · replace hf := hf.1 hc
      exact tj_sub [0] (w_M_person_b18 C hw hR r hM hf) rfl
    · replace hf := hf.2 hc
      refine tj_iload_n C 2 rfl rfl dX6_person_13 ?_
      refine tj_iconst C kc_4 dX6_person_14 ?_
      refine tj_icmp_le C 24 (by decide) dX6_person_15 (fun hc => ?_) (fun hc => ?_)
      · replace hf := hf.1 hc
        refine tj_aload_n C 0 rfl rfl dX6_person_24 ?_
        refine tj_aload_n C 0 rfl rfl dX6_person_25 ?_
        refine tj_iload_n C 1 rfl rfl dX6_person_26 ?_
        refine tj_iload_n C 2 rfl rfl dX6_person_27 ?_
        refine tj_callVi C (k := 0) [.int a1, .int a2] [.ref (xad Γ 0)] (fun hN => c_M_personOf (by rw [hN]; exact hM) hf) lk_X6_281 ty_X6_personOf rfl (Nat.le_of_ble_eq_true rfl) (Nat.le_of_ble_eq_true rfl) (Nat.le_of_ble_eq_true rfl) hM rfl (by decide) rfl rfl dX6_person_28 (fun r4 S3 hf => ?_)
        refine tj_callVi C (k := 0) [.int r4] [] (fun hN => c_M_gives (by rw [hN]; exact hM) hf) lk_X6_95 ty_X6_gives rfl (Nat.le_of_ble_eq_true rfl) (Nat.le_of_ble_eq_true rfl) (Nat.le_of_ble_eq_true rfl) hM rfl (by decide) rfl rfl dX6_person_31 (fun r6 S5 hf => ?_)
        exact r _ _ _ _ dX6_person_34 hf
      · replace hf := hf.2 hc
        exact tj_sub [0] (w_M_person_b18 C hw hR r hM hf) rfl
theorem c_M_person {l : Launch} {G : tG} {ad : Nat → Nat} {A : Nat → Prop} {S : tS} {K : Int32 → tS → Prop} {a1 : Int32} {a2 : Int32} (hM : gN S 0 ≠ 0) (hf : M_person a1 a2 S K) : Met l yX6_person (ws_ yX6_person cX6_person 3 (some .int)) (tRm 2 42) (va_Pc [.ref (ad 0), .int a1, .int a2] (tPre G ad A S)) (va_Qi K (tB G ad A (gN S)) A) 0 0 A :=
  tj_met_i [(0, .ref (ad 0)), (1, .int a1), (2, .int a2)] pn_X6 rfl (Nat.le_of_ble_eq_true rfl) (fun p e R s m args below meth c Q C hw r => w_M_person_b0 C hw rfl r hM hf)
theorem w_M_personTo_b0 {Γ : tX} {N0 : Nat → Nat} {K : Int32 → tS → Prop} (C : TC Γ cX6_personTo RX6 7 155) (hw : tWf N0) (hR : xnL Γ = 2) (r : TRz Γ N0 cX6_personTo K) {a1 : Int32} (hM : N0 0 ≠ 0) {S : tS} (hf : M_personTo a1 S K) : TJ Γ N0 0 0 0 [(0, .ref (xad Γ 0)), (1, .int a1)] [] S := by
  unfold M_personTo at hf
  refine tj_aload_n C 0 rfl rfl dX6_personTo_0 ?_
  refine tj_bipush C kb_11 dX6_personTo_1 ?_
  refine tj_aload_n C 0 rfl rfl dX6_personTo_3 ?_
  refine gf_X6_7 C hM dX6_personTo_4 ?_
  refine tj_iconst C kc_3 dX6_personTo_7 ?_
  refine tj_iald C 48 3548 rfl (ln_48 hw hM) 3 kn_3 (vp_in_nI (by decide) (by decide)) dX6_personTo_8 ?_
  refine tj_iload_n C 1 rfl rfl dX6_personTo_9 ?_
  refine tj_callVz C (k := 0) [.int (nI 11), .int (gI S 48 3), .int a1] [] (fun hN => c_M_oldOne (by rw [hN]; exact hM) hf) lk_X6_218 ty_X6_oldOne rfl (Nat.le_of_ble_eq_true rfl) (Nat.le_of_ble_eq_true rfl) (Nat.le_of_ble_eq_true rfl) hM rfl (by decide) rfl rfl dX6_personTo_10 (fun r2 S1 hf => ?_)
  have hz_r2 := hf.1
  replace hf := hf.2
  exact r _ _ _ _ dX6_personTo_13 hz_r2 hf
theorem c_M_personTo {l : Launch} {G : tG} {ad : Nat → Nat} {A : Nat → Prop} {S : tS} {K : Int32 → tS → Prop} {a1 : Int32} (hM : gN S 0 ≠ 0) (hf : M_personTo a1 S K) : Met l yX6_personTo (ws_ yX6_personTo cX6_personTo 2 (some .boolean)) (tRm 7 155) (va_Pc [.ref (ad 0), .int a1] (tPre G ad A S)) (va_Qi (fun r u => r &&& 1 = r ∧ K r u) (tB G ad A (gN S)) A) 0 0 A :=
  tj_met_z [(0, .ref (ad 0)), (1, .int a1)] pn_X6 rfl (Nat.le_of_ble_eq_true rfl) (fun p e R s m args below meth c Q C hw r => w_M_personTo_b0 C hw rfl r hM hf)
theorem w_M_pour_b143 {Γ : tX} {N0 : Nat → Nat} {K : Int32 → tS → Prop} (C : TC Γ cX6_pour RX6 1 21) (hw : tWf N0) (hR : xnL Γ = 8) (r : TRz Γ N0 cX6_pour K) {a1 : Int32} {a2 : Int32} {a3 : Int32} {a4 : Int32} {a5 : Int32} (hM : N0 0 ≠ 0) {κ118 : Int32 → tS → Prop} (hκ118 : ∀ (a6 : Int32) (S : tS), κ118 a6 S → TJ Γ N0 0 0 118 [(0, .ref (xad Γ 0)), (1, .int a1), (2, .int a2), (3, .int a3), (4, .int a4), (5, .int a5), (6, .int a6)] [] S) {a6 : Int32} {s0 : Int32} {S : tS} (hf : M_pour_b143 a1 a2 a3 a4 a5 K κ118 a6 s0 S) : TJ Γ N0 0 0 143 [(0, .ref (xad Γ 0)), (1, .int a1), (2, .int a2), (3, .int a3), (4, .int a4), (5, .int a5), (6, .int a6)] [.int s0] S := by
  unfold M_pour_b143 at hf
  refine tj_istore C (by rw [hR]; decide) [(7, .int s0), (0, .ref (xad Γ 0)), (1, .int a1), (2, .int a2), (3, .int a3), (4, .int a4), (5, .int a5), (6, .int a6)] rfl dX6_pour_143 ?_
  refine tj_aload_n C 1 rfl rfl dX6_pour_145 ?_
  refine gf_X6_27 C hM dX6_pour_146 ?_
  refine tj_bipush C kb_60 dX6_pour_149 ?_
  refine tj_iload_n C 4 rfl rfl dX6_pour_151 ?_
  refine tj_imul C dX6_pour_152 ?_
  refine tj_iload C 5 rfl dX6_pour_153 ?_
  refine tj_iadd C dX6_pour_155 ?_
  refine tj_iload C 0 rfl dX6_pour_156 ?_
  refine tj_iadd C dX6_pour_158 ?_
  refine tj_aload_n C 1 rfl rfl dX6_pour_159 ?_
  refine gf_X6_27 C hM dX6_pour_160 ?_
  refine tj_bipush C kb_60 dX6_pour_163 ?_
  refine tj_iload_n C 2 rfl rfl dX6_pour_165 ?_
  refine tj_imul C dX6_pour_166 ?_
  refine tj_iload_n C 3 rfl rfl dX6_pour_167 ?_
  refine tj_iadd C dX6_pour_168 ?_
  refine tj_iload C 0 rfl dX6_pour_169 ?_
  refine tj_iadd C dX6_pour_171 ?_
  refine tj_lald C 177 240 rfl (ln_177 hw hM) _ rfl hf.1 dX6_pour_172 ?_
  replace hf := hf.2
  refine tj_last C 177 240 rfl (ln_177 hw hM) _ rfl hf.1 dX6_pour_173 ?_
  replace hf := hf.2
  refine tj_topS (fun S15 eS => ?_)
  replace hf := hf S15 eS
  obtain ⟨x16, ex⟩ : ∃ y : Int32, y = a6 + nI 1 := ⟨_, rfl⟩
  refine tj_iinc C (by rw [hR]; decide) 7 [(6, .int x16), (7, .int s0), (0, .ref (xad Γ 0)), (1, .int a1), (2, .int a2), (3, .int a3), (4, .int a4), (5, .int a5)] rfl (by rw [ex]; exact ki_1 _) rfl dX6_pour_174 ?_
  replace hf := hf x16 ex
  refine tj_goto C 118 (by decide) dX6_pour_177 ?_
  exact tj_sub [2, 3, 4, 5, 6, 7, 0] (hκ118 _ _ hf) rfl
theorem w_M_pour_l118 {Γ : tX} {N0 : Nat → Nat} {K : Int32 → tS → Prop} (C : TC Γ cX6_pour RX6 1 21) (hw : tWf N0) (hR : xnL Γ = 8) (r : TRz Γ N0 cX6_pour K) {a1 : Int32} {a2 : Int32} {a3 : Int32} {a4 : Int32} {a5 : Int32} (hM : N0 0 ≠ 0) : ∀ (n : Nat) (a6 : Int32) (S : tS), M_pour_l118 a1 a2 a3 a4 a5 K n a6 S → TJ Γ N0 0 0 118 [(0, .ref (xad Γ 0)), (1, .int a1), (2, .int a2), (3, .int a3), (4, .int a4), (5, .int a5), (6, .int a6)] [] S := by
  intro n
  induction n with
  | zero => intro a6 S hf; exact hf.elim
  | succ n ih =>
    intro a6 S hf
    unfold M_pour_l118 at hf
    refine tj_iload C 6 rfl dX6_pour_118 ?_
    refine tj_iload C 5 rfl dX6_pour_120 ?_
    refine tj_icmp_ge C 180 (by decide) dX6_pour_122 (fun hc => ?_) (fun hc => ?_)
    · replace hf := hf.1 hc
      refine tj_aload_n C 0 rfl rfl dX6_pour_180 ?_
      refine tj_iconst C kc_0 dX6_pour_181 ?_
      refine tj_callVz C (k := 0) [.int (nI 0)] [] (fun hN => c_M_is (by rw [hN]; exact hM) hf) lk_X6_98 ty_X6_is rfl (Nat.le_of_ble_eq_true rfl) (Nat.le_of_ble_eq_true rfl) (Nat.le_of_ble_eq_true rfl) hM rfl (by decide) rfl rfl dX6_pour_182 (fun r14 S13 hf => ?_)
      have hz_r14 := hf.1
      replace hf := hf.2
      exact r _ _ _ _ dX6_pour_185 hz_r14 hf
    · replace hf := hf.2 hc
      refine tj_iload_n C 2 rfl rfl dX6_pour_125 ?_
      refine tj_iload C 4 rfl dX6_pour_126 ?_
      refine tj_icmp_ge C 141 (by decide) dX6_pour_128 (fun hc => ?_) (fun hc => ?_)
      · replace hf := hf.1 hc
        refine tj_iload C 6 rfl dX6_pour_141 ?_
        exact w_M_pour_b143 C hw hR r hM ih hf
      · replace hf := hf.2 hc
        refine tj_iload C 5 rfl dX6_pour_131 ?_
        refine tj_iconst C kc_1 dX6_pour_133 ?_
        refine tj_isub C dX6_pour_134 ?_
        refine tj_iload C 6 rfl dX6_pour_135 ?_
        refine tj_isub C dX6_pour_137 ?_
        refine tj_goto C 143 (by decide) dX6_pour_138 ?_
        exact w_M_pour_b143 C hw hR r hM ih hf
theorem w_M_pour_b109 {Γ : tX} {N0 : Nat → Nat} {K : Int32 → tS → Prop} (C : TC Γ cX6_pour RX6 1 21) (hw : tWf N0) (hR : xnL Γ = 8) (r : TRz Γ N0 cX6_pour K) {a1 : Int32} {a2 : Int32} {a3 : Int32} {a4 : Int32} {a5 : Int32} (hM : N0 0 ≠ 0) {S : tS} (hf : M_pour_b109 a1 a2 a3 a4 a5 K  S) : TJ Γ N0 0 0 109 [(0, .ref (xad Γ 0))] [] S := by
  unfold M_pour_b109 at hf
  refine tj_aload_n C 0 rfl rfl dX6_pour_109 ?_
  refine tj_iconst C kc_3 dX6_pour_110 ?_
  refine tj_callVz C (k := 0) [.int (nI 3)] [] (fun hN => c_M_is (by rw [hN]; exact hM) hf) lk_X6_98 ty_X6_is rfl (Nat.le_of_ble_eq_true rfl) (Nat.le_of_ble_eq_true rfl) (Nat.le_of_ble_eq_true rfl) hM rfl (by decide) rfl rfl dX6_pour_111 (fun r12 S11 hf => ?_)
  have hz_r12 := hf.1
  replace hf := hf.2
  exact r _ _ _ _ dX6_pour_114 hz_r12 hf
theorem w_M_pour_b54 {Γ : tX} {N0 : Nat → Nat} {K : Int32 → tS → Prop} (C : TC Γ cX6_pour RX6 1 21) (hw : tWf N0) (hR : xnL Γ = 8) (r : TRz Γ N0 cX6_pour K) {a1 : Int32} {a2 : Int32} {a3 : Int32} {a4 : Int32} {a5 : Int32} (hM : N0 0 ≠ 0) {S : tS} (hf : M_pour_b54 a1 a2 a3 a4 a5 K  S) : TJ Γ N0 0 0 54 [(0, .ref (xad Γ 0))] [] S := by
  unfold M_pour_b54 at hf
  refine tj_aload_n C 0 rfl rfl dX6_pour_54 ?_
  refine tj_iconst C kc_2 dX6_pour_55 ?_
  refine tj_callVz C (k := 0) [.int (nI 2)] [] (fun hN => c_M_is (by rw [hN]; exact hM) hf) lk_X6_98 ty_X6_is rfl (Nat.le_of_ble_eq_true rfl) (Nat.le_of_ble_eq_true rfl) (Nat.le_of_ble_eq_true rfl) hM rfl (by decide) rfl rfl dX6_pour_56 (fun r10 S9 hf => ?_)
  have hz_r10 := hf.1
  replace hf := hf.2
  exact r _ _ _ _ dX6_pour_59 hz_r10 hf
theorem w_M_pour_b28 {Γ : tX} {N0 : Nat → Nat} {K : Int32 → tS → Prop} (C : TC Γ cX6_pour RX6 1 21) (hw : tWf N0) (hR : xnL Γ = 8) (r : TRz Γ N0 cX6_pour K) {a1 : Int32} {a2 : Int32} {a3 : Int32} {a4 : Int32} {a5 : Int32} (hM : N0 0 ≠ 0) {S : tS} (hf : M_pour_b28 a1 a2 a3 a4 a5 K  S) : TJ Γ N0 0 0 28 [(0, .ref (xad Γ 0))] [] S := by
  unfold M_pour_b28 at hf
  refine tj_aload_n C 0 rfl rfl dX6_pour_28 ?_
  refine tj_iconst C kc_1 dX6_pour_29 ?_
  refine tj_callVz C (k := 0) [.int (nI 1)] [] (fun hN => c_M_is (by rw [hN]; exact hM) hf) lk_X6_98 ty_X6_is rfl (Nat.le_of_ble_eq_true rfl) (Nat.le_of_ble_eq_true rfl) (Nat.le_of_ble_eq_true rfl) hM rfl (by decide) rfl rfl dX6_pour_30 (fun r8 S7 hf => ?_)
  have hz_r8 := hf.1
  replace hf := hf.2
  exact r _ _ _ _ dX6_pour_33 hz_r8 hf
theorem w_M_pour_b0 {Γ : tX} {N0 : Nat → Nat} {K : Int32 → tS → Prop} (C : TC Γ cX6_pour RX6 1 21) (hw : tWf N0) (hR : xnL Γ = 8) (r : TRz Γ N0 cX6_pour K) {a1 : Int32} {a2 : Int32} {a3 : Int32} {a4 : Int32} {a5 : Int32} (hM : N0 0 ≠ 0) {S : tS} (hf : M_pour a1 a2 a3 a4 a5 S K) : TJ Γ N0 0 0 0 [(0, .ref (xad Γ 0)), (1, .int a1), (2, .int a2), (3, .int a3), (4, .int a4), (5, .int a5)] [] S := by
  unfold M_pour at hf
  refine tj_iload_n C 1 rfl rfl dX6_pour_0 ?_
  refine tj_callSz C [.int a1] [] (fun hN => c_M_isTray hf) lk_X6_102 ty_X6_isTray rfl (Nat.le_of_ble_eq_true rfl) (Nat.le_of_ble_eq_true rfl) (Nat.le_of_ble_eq_true rfl) rfl dX6_pour_1 (fun r2 S1 hf => ?_)
  have hz_r2 := hf.1
  replace hf := hf.2
  refine tj_if_eq C 28 (by decide) dX6_pour_4 (fun hc => ?_) (fun hc => ?_)
  · replace hf := hf.1 hc
    exact tj_sub [0] (w_M_pour_b28 C hw hR r hM hf) rfl
  · replace hf := hf.2 hc
    refine tj_iload_n C 3 rfl rfl dX6_pour_7 ?_
    refine tj_callSz C [.int a3] [] (fun hN => c_M_isTray hf) lk_X6_102 ty_X6_isTray rfl (Nat.le_of_ble_eq_true rfl) (Nat.le_of_ble_eq_true rfl) (Nat.le_of_ble_eq_true rfl) rfl dX6_pour_8 (fun r4 S3 hf => ?_)
    have hz_r4 := hf.1
    replace hf := hf.2
    refine tj_if_eq C 28 (by decide) dX6_pour_11 (fun hc => ?_) (fun hc => ?_)
    · replace hf := hf.1 hc
      exact tj_sub [0] (w_M_pour_b28 C hw hR r hM hf) rfl
    · replace hf := hf.2 hc
      refine tj_iload_n C 2 rfl rfl dX6_pour_14 ?_
      refine tj_if_lt C 28 (by decide) dX6_pour_15 (fun hc => ?_) (fun hc => ?_)
      · replace hf := hf.1 hc
        exact tj_sub [0] (w_M_pour_b28 C hw hR r hM hf) rfl
      · replace hf := hf.2 hc
        refine tj_iload C 4 rfl dX6_pour_18 ?_
        refine tj_if_lt C 28 (by decide) dX6_pour_20 (fun hc => ?_) (fun hc => ?_)
        · replace hf := hf.1 hc
          exact tj_sub [0] (w_M_pour_b28 C hw hR r hM hf) rfl
        · replace hf := hf.2 hc
          refine tj_iload C 5 rfl dX6_pour_23 ?_
          refine tj_if_ge C 34 (by decide) dX6_pour_25 (fun hc => ?_) (fun hc => ?_)
          · replace hf := hf.1 hc
            refine tj_aload_n C 0 rfl rfl dX6_pour_34 ?_
            refine gf_X6_24 C hM dX6_pour_35 ?_
            refine tj_iload_n C 1 rfl rfl dX6_pour_38 ?_
            refine tj_iald C 144 4 rfl (ln_144 hw hM) _ rfl hf.1 dX6_pour_39 ?_
            replace hf := hf.2
            refine tj_iconst C kc_m1 dX6_pour_40 ?_
            refine tj_icmp_eq C 54 (by decide) dX6_pour_41 (fun hc => ?_) (fun hc => ?_)
            · replace hf := hf.1 hc
              exact tj_sub [0] (w_M_pour_b54 C hw hR r hM hf) rfl
            · replace hf := hf.2 hc
              refine tj_aload_n C 0 rfl rfl dX6_pour_44 ?_
              refine gf_X6_24 C hM dX6_pour_45 ?_
              refine tj_iload_n C 3 rfl rfl dX6_pour_48 ?_
              refine tj_iald C 144 4 rfl (ln_144 hw hM) _ rfl hf.1 dX6_pour_49 ?_
              replace hf := hf.2
              refine tj_iconst C kc_m1 dX6_pour_50 ?_
              refine tj_icmp_ne C 60 (by decide) dX6_pour_51 (fun hc => ?_) (fun hc => ?_)
              · replace hf := hf.2 hc
                refine tj_aload_n C 0 rfl rfl dX6_pour_60 ?_
                refine gf_X6_21 C hM dX6_pour_61 ?_
                refine tj_iload_n C 1 rfl rfl dX6_pour_64 ?_
                refine tj_iald C 112 4 rfl (ln_112 hw hM) _ rfl hf.1 dX6_pour_65 ?_
                replace hf := hf.2
                refine tj_aload_n C 0 rfl rfl dX6_pour_66 ?_
                refine gf_X6_21 C hM dX6_pour_67 ?_
                refine tj_iload_n C 3 rfl rfl dX6_pour_70 ?_
                refine tj_iald C 112 4 rfl (ln_112 hw hM) _ rfl hf.1 dX6_pour_71 ?_
                replace hf := hf.2
                refine tj_icmp_eq C 82 (by decide) dX6_pour_72 (fun hc => ?_) (fun hc => ?_)
                · replace hf := hf.1 hc
                  refine tj_iload C 5 rfl dX6_pour_82 ?_
                  refine tj_aload_n C 0 rfl rfl dX6_pour_84 ?_
                  refine gf_X6_24 C hM dX6_pour_85 ?_
                  refine tj_iload_n C 1 rfl rfl dX6_pour_88 ?_
                  refine tj_iald C 144 4 rfl (ln_144 hw hM) _ rfl hf.1 dX6_pour_89 ?_
                  replace hf := hf.2
                  refine tj_iload_n C 2 rfl rfl dX6_pour_90 ?_
                  refine tj_isub C dX6_pour_91 ?_
                  refine tj_icmp_gt C 109 (by decide) dX6_pour_92 (fun hc => ?_) (fun hc => ?_)
                  · replace hf := hf.1 hc
                    exact tj_sub [0] (w_M_pour_b109 C hw hR r hM hf) rfl
                  · replace hf := hf.2 hc
                    refine tj_iload C 5 rfl dX6_pour_95 ?_
                    refine tj_aload_n C 0 rfl rfl dX6_pour_97 ?_
                    refine gf_X6_24 C hM dX6_pour_98 ?_
                    refine tj_iload_n C 3 rfl rfl dX6_pour_101 ?_
                    refine tj_iald C 144 4 rfl (ln_144 hw hM) _ rfl hf.1 dX6_pour_102 ?_
                    replace hf := hf.2
                    refine tj_iload C 4 rfl dX6_pour_103 ?_
                    refine tj_isub C dX6_pour_105 ?_
                    refine tj_icmp_le C 115 (by decide) dX6_pour_106 (fun hc => ?_) (fun hc => ?_)
                    · replace hf := hf.1 hc
                      refine tj_iconst C kc_0 dX6_pour_115 ?_
                      refine tj_istore C (by rw [hR]; decide) [(6, .int (nI 0)), (0, .ref (xad Γ 0)), (1, .int a1), (2, .int a2), (3, .int a3), (4, .int a4), (5, .int a5)] rfl dX6_pour_116 ?_
                      exact tj_sub [1, 2, 3, 4, 5, 6, 0] (hf.elim fun k hf => w_M_pour_l118 C hw hR r hM k _ _ hf) rfl
                    · replace hf := hf.2 hc
                      exact tj_sub [0] (w_M_pour_b109 C hw hR r hM hf) rfl
                · replace hf := hf.2 hc
                  refine tj_aload_n C 0 rfl rfl dX6_pour_75 ?_
                  refine tj_bipush C kb_8 dX6_pour_76 ?_
                  refine tj_callVz C (k := 0) [.int (nI 8)] [] (fun hN => c_M_is (by rw [hN]; exact hM) hf) lk_X6_98 ty_X6_is rfl (Nat.le_of_ble_eq_true rfl) (Nat.le_of_ble_eq_true rfl) (Nat.le_of_ble_eq_true rfl) hM rfl (by decide) rfl rfl dX6_pour_78 (fun r6 S5 hf => ?_)
                  have hz_r6 := hf.1
                  replace hf := hf.2
                  exact r _ _ _ _ dX6_pour_81 hz_r6 hf
              · replace hf := hf.1 hc
                exact tj_sub [0] (w_M_pour_b54 C hw hR r hM hf) rfl
          · replace hf := hf.2 hc
            exact tj_sub [0] (w_M_pour_b28 C hw hR r hM hf) rfl
theorem c_M_pour {l : Launch} {G : tG} {ad : Nat → Nat} {A : Nat → Prop} {S : tS} {K : Int32 → tS → Prop} {a1 : Int32} {a2 : Int32} {a3 : Int32} {a4 : Int32} {a5 : Int32} (hM : gN S 0 ≠ 0) (hf : M_pour a1 a2 a3 a4 a5 S K) : Met l yX6_pour (ws_ yX6_pour cX6_pour 8 (some .boolean)) (tRm 1 21) (va_Pc [.ref (ad 0), .int a1, .int a2, .int a3, .int a4, .int a5] (tPre G ad A S)) (va_Qi (fun r u => r &&& 1 = r ∧ K r u) (tB G ad A (gN S)) A) 0 0 A :=
  tj_met_z [(0, .ref (ad 0)), (1, .int a1), (2, .int a2), (3, .int a3), (4, .int a4), (5, .int a5)] pn_X6 rfl (Nat.le_of_ble_eq_true rfl) (fun p e R s m args below meth c Q C hw r => w_M_pour_b0 C hw rfl r hM hf)
theorem w_M_power_b159 {Γ : tX} {N0 : Nat → Nat} {K : Int32 → tS → Prop} (C : TC Γ cX6_power RX6 2 51) (hw : tWf N0) (hR : xnL Γ = 8) (r : TRz Γ N0 cX6_power K) {a1 : Int32} (hM : N0 0 ≠ 0) {κ26 : Int32 → Int64 → Int32 → tS → Prop} (hκ26 : ∀ (a2 : Int32) (a3 : Int64) (a5 : Int32) (S : tS), κ26 a2 a3 a5 S → TJ Γ N0 0 0 26 [(0, .ref (xad Γ 0)), (1, .int a1), (2, .int a2), (3, .long a3), (5, .int a5)] [] S) {a2 : Int32} {a3 : Int64} {a5 : Int32} {S : tS} (hf : M_power_b159 a1 K κ26 a2 a3 a5 S) : TJ Γ N0 0 0 159 [(0, .ref (xad Γ 0)), (1, .int a1), (2, .int a2), (3, .long a3), (5, .int a5)] [] S := by
  unfold M_power_b159 at hf
  obtain ⟨x23, ex⟩ : ∃ y : Int32, y = a5 + nI 1 := ⟨_, rfl⟩
  refine tj_iinc C (by rw [hR]; decide) 4 [(5, .int x23), (0, .ref (xad Γ 0)), (1, .int a1), (2, .int a2), (3, .long a3)] rfl (by rw [ex]; exact ki_1 _) rfl dX6_power_159 ?_
  replace hf := hf x23 ex
  refine tj_goto C 26 (by decide) dX6_power_162 ?_
  exact tj_sub [1, 2, 3, 4, 0] (hκ26 _ _ _ _ hf) rfl
theorem w_M_power_b157 {Γ : tX} {N0 : Nat → Nat} {K : Int32 → tS → Prop} (C : TC Γ cX6_power RX6 2 51) (hw : tWf N0) (hR : xnL Γ = 8) (r : TRz Γ N0 cX6_power K) {a1 : Int32} (hM : N0 0 ≠ 0) {κ26 : Int32 → Int64 → Int32 → tS → Prop} (hκ26 : ∀ (a2 : Int32) (a3 : Int64) (a5 : Int32) (S : tS), κ26 a2 a3 a5 S → TJ Γ N0 0 0 26 [(0, .ref (xad Γ 0)), (1, .int a1), (2, .int a2), (3, .long a3), (5, .int a5)] [] S) {a2 : Int32} {a5 : Int32} {s0 : Int64} {s1 : Int64} {S : tS} (hf : M_power_b157 a1 K κ26 a2 a5 s0 s1 S) : TJ Γ N0 0 0 157 [(0, .ref (xad Γ 0)), (1, .int a1), (2, .int a2), (5, .int a5)] [.long s1, .long s0] S := by
  unfold M_power_b157 at hf
  refine tj_ladd C dX6_power_157 ?_
  refine tj_topl (fun x34 ex => ?_)
  replace hf := hf x34 ex
  refine tj_lstore_n C (by rw [hR]; decide) [(3, .long x34), (0, .ref (xad Γ 0)), (1, .int a1), (2, .int a2), (5, .int a5)] rfl rfl dX6_power_158 ?_
  exact tj_sub [1, 2, 3, 0, 4] (w_M_power_b159 C hw hR r hM hκ26 hf) rfl
theorem w_M_power_b124 {Γ : tX} {N0 : Nat → Nat} {K : Int32 → tS → Prop} (C : TC Γ cX6_power RX6 2 51) (hw : tWf N0) (hR : xnL Γ = 8) (r : TRz Γ N0 cX6_power K) {a1 : Int32} (hM : N0 0 ≠ 0) {κ26 : Int32 → Int64 → Int32 → tS → Prop} (hκ26 : ∀ (a2 : Int32) (a3 : Int64) (a5 : Int32) (S : tS), κ26 a2 a3 a5 S → TJ Γ N0 0 0 26 [(0, .ref (xad Γ 0)), (1, .int a1), (2, .int a2), (3, .long a3), (5, .int a5)] [] S) {a2 : Int32} {a3 : Int64} {a5 : Int32} {s0 : Int32} {S : tS} (hf : M_power_b124 a1 K κ26 a2 a3 a5 s0 S) : TJ Γ N0 0 0 124 [(0, .ref (xad Γ 0)), (1, .int a1), (2, .int a2), (3, .long a3), (5, .int a5)] [.int s0] S := by
  unfold M_power_b124 at hf
  refine tj_istore C (by rw [hR]; decide) [(7, .int s0), (0, .ref (xad Γ 0)), (1, .int a1), (2, .int a2), (3, .long a3), (5, .int a5)] rfl dX6_power_124 ?_
  refine tj_lload_n C 4 rfl rfl dX6_power_126 ?_
  refine tj_iload C 0 rfl dX6_power_127 ?_
  refine tj_if_eq C 156 (by decide) dX6_power_129 (fun hc => ?_) (fun hc => ?_)
  · replace hf := hf.1 hc
    refine tj_lconst C (v := lN 0) rfl dX6_power_156 ?_
    exact tj_sub [1, 2, 3, 5] (w_M_power_b157 C hw hR r hM hκ26 hf) rfl
  · replace hf := hf.2 hc
    refine tj_iload C 5 rfl dX6_power_132 ?_
    refine tj_callSi C [.int a5] [.long a3] (fun hN => c_M_bits hf) lk_X6_344 ty_X6_bits rfl (Nat.le_of_ble_eq_true rfl) (Nat.le_of_ble_eq_true rfl) (Nat.le_of_ble_eq_true rfl) rfl dX6_power_134 (fun r25 S24 hf => ?_)
    refine tj_callSl C [.int r25] [.long a3] (fun hN => c_M_orders hf) lk_X6_437 ty_X6_orders rfl (Nat.le_of_ble_eq_true rfl) (Nat.le_of_ble_eq_true rfl) (Nat.le_of_ble_eq_true rfl) rfl dX6_power_137 (fun r27 S26 hf => ?_)
    refine tj_iload_n C 3 rfl rfl dX6_power_140 ?_
    refine tj_iconst C kc_1 dX6_power_141 ?_
    refine tj_isub C dX6_power_142 ?_
    refine tj_iload C 5 rfl dX6_power_143 ?_
    refine tj_callSi C [.int a5] [.int (a2 - (nI 1)), .long r27, .long a3] (fun hN => c_M_bits hf) lk_X6_344 ty_X6_bits rfl (Nat.le_of_ble_eq_true rfl) (Nat.le_of_ble_eq_true rfl) (Nat.le_of_ble_eq_true rfl) rfl dX6_power_145 (fun r29 S28 hf => ?_)
    refine tj_isub C dX6_power_148 ?_
    refine tj_callSl C [.int ((a2 - (nI 1)) - r29)] [.long r27, .long a3] (fun hN => c_M_orders hf) lk_X6_437 ty_X6_orders rfl (Nat.le_of_ble_eq_true rfl) (Nat.le_of_ble_eq_true rfl) (Nat.le_of_ble_eq_true rfl) rfl dX6_power_149 (fun r31 S30 hf => ?_)
    refine tj_lmul C dX6_power_152 ?_
    refine tj_goto C 157 (by decide) dX6_power_153 ?_
    exact tj_sub [1, 2, 3, 5] (w_M_power_b157 C hw hR r hM hκ26 hf) rfl
theorem w_M_power_b123 {Γ : tX} {N0 : Nat → Nat} {K : Int32 → tS → Prop} (C : TC Γ cX6_power RX6 2 51) (hw : tWf N0) (hR : xnL Γ = 8) (r : TRz Γ N0 cX6_power K) {a1 : Int32} (hM : N0 0 ≠ 0) {κ26 : Int32 → Int64 → Int32 → tS → Prop} (hκ26 : ∀ (a2 : Int32) (a3 : Int64) (a5 : Int32) (S : tS), κ26 a2 a3 a5 S → TJ Γ N0 0 0 26 [(0, .ref (xad Γ 0)), (1, .int a1), (2, .int a2), (3, .long a3), (5, .int a5)] [] S) {a2 : Int32} {a3 : Int64} {a5 : Int32} {S : tS} (hf : M_power_b123 a1 K κ26 a2 a3 a5 S) : TJ Γ N0 0 0 123 [(0, .ref (xad Γ 0)), (1, .int a1), (2, .int a2), (3, .long a3), (5, .int a5)] [] S := by
  unfold M_power_b123 at hf
  refine tj_iconst C kc_0 dX6_power_123 ?_
  exact w_M_power_b124 C hw hR r hM hκ26 hf
theorem w_M_power_b82 {Γ : tX} {N0 : Nat → Nat} {K : Int32 → tS → Prop} (C : TC Γ cX6_power RX6 2 51) (hw : tWf N0) (hR : xnL Γ = 8) (r : TRz Γ N0 cX6_power K) {a1 : Int32} (hM : N0 0 ≠ 0) {κ26 : Int32 → Int64 → Int32 → tS → Prop} (hκ26 : ∀ (a2 : Int32) (a3 : Int64) (a5 : Int32) (S : tS), κ26 a2 a3 a5 S → TJ Γ N0 0 0 26 [(0, .ref (xad Γ 0)), (1, .int a1), (2, .int a2), (3, .long a3), (5, .int a5)] [] S) {κ53 : Int32 → Int64 → Int32 → Int32 → Int32 → tS → Prop} (hκ53 : ∀ (a2 : Int32) (a3 : Int64) (a5 : Int32) (a6 : Int32) (a7 : Int32) (S : tS), κ53 a2 a3 a5 a6 a7 S → TJ Γ N0 0 0 53 [(0, .ref (xad Γ 0)), (1, .int a1), (2, .int a2), (3, .long a3), (5, .int a5), (6, .int a6), (7, .int a7)] [] S) {a2 : Int32} {a3 : Int64} {a5 : Int32} {a7 : Int32} {s0 : Int32} {s1 : Int32} {S : tS} (hf : M_power_b82 a1 K κ26 κ53 a2 a3 a5 a7 s0 s1 S) : TJ Γ N0 0 0 82 [(0, .ref (xad Γ 0)), (1, .int a1), (2, .int a2), (3, .long a3), (5, .int a5), (7, .int a7)] [.int s1, .int s0] S := by
  unfold M_power_b82 at hf
  refine tj_iadd C dX6_power_82 ?_
  refine tj_topi (fun x32 ex => ?_)
  replace hf := hf x32 ex
  refine tj_istore C (by rw [hR]; decide) [(6, .int x32), (0, .ref (xad Γ 0)), (1, .int a1), (2, .int a2), (3, .long a3), (5, .int a5), (7, .int a7)] rfl dX6_power_83 ?_
  obtain ⟨x33, ex⟩ : ∃ y : Int32, y = a7 + nI 1 := ⟨_, rfl⟩
  refine tj_iinc C (by rw [hR]; decide) 6 [(7, .int x33), (6, .int x32), (0, .ref (xad Γ 0)), (1, .int a1), (2, .int a2), (3, .long a3), (5, .int a5)] rfl (by rw [ex]; exact ki_1 _) rfl dX6_power_85 ?_
  replace hf := hf x33 ex
  refine tj_goto C 53 (by decide) dX6_power_88 ?_
  exact tj_sub [2, 3, 4, 5, 6, 1, 0] (hκ53 _ _ _ _ _ _ hf) rfl
theorem w_M_power_l53 {Γ : tX} {N0 : Nat → Nat} {K : Int32 → tS → Prop} (C : TC Γ cX6_power RX6 2 51) (hw : tWf N0) (hR : xnL Γ = 8) (r : TRz Γ N0 cX6_power K) {a1 : Int32} (hM : N0 0 ≠ 0) {κ26 : Int32 → Int64 → Int32 → tS → Prop} (hκ26 : ∀ (a2 : Int32) (a3 : Int64) (a5 : Int32) (S : tS), κ26 a2 a3 a5 S → TJ Γ N0 0 0 26 [(0, .ref (xad Γ 0)), (1, .int a1), (2, .int a2), (3, .long a3), (5, .int a5)] [] S) : ∀ (n : Nat) (a2 : Int32) (a3 : Int64) (a5 : Int32) (a6 : Int32) (a7 : Int32) (S : tS), M_power_l53 a1 K κ26 n a2 a3 a5 a6 a7 S → TJ Γ N0 0 0 53 [(0, .ref (xad Γ 0)), (1, .int a1), (2, .int a2), (3, .long a3), (5, .int a5), (6, .int a6), (7, .int a7)] [] S := by
  intro n
  induction n with
  | zero => intro a2 a3 a5 a6 a7 S hf; exact hf.elim
  | succ n ih =>
    intro a2 a3 a5 a6 a7 S hf
    unfold M_power_l53 at hf
    refine tj_iload C 6 rfl dX6_power_53 ?_
    refine tj_iload_n C 2 rfl rfl dX6_power_55 ?_
    refine tj_icmp_ge C 91 (by decide) dX6_power_56 (fun hc => ?_) (fun hc => ?_)
    · replace hf := hf.1 hc
      refine tj_iconst C kc_2 dX6_power_91 ?_
      refine tj_iload C 5 rfl dX6_power_92 ?_
      refine tj_imul C dX6_power_94 ?_
      refine tj_aload_n C 0 rfl rfl dX6_power_95 ?_
      refine tj_callVi C (k := 0) [] [.int ((nI 2) * a6)] (fun hN => c_M_allVotes (by rw [hN]; exact hM) hf) lk_X6_287 ty_X6_allVotes rfl (Nat.le_of_ble_eq_true rfl) (Nat.le_of_ble_eq_true rfl) (Nat.le_of_ble_eq_true rfl) hM rfl (by decide) rfl rfl dX6_power_96 (fun r14 S13 hf => ?_)
      refine tj_icmp_gt C 123 (by decide) dX6_power_99 (fun hc => ?_) (fun hc => ?_)
      · replace hf := hf.1 hc
        exact tj_sub [0, 1, 2, 3, 4] (w_M_power_b123 C hw hR r hM hκ26 hf) rfl
      · replace hf := hf.2 hc
        refine tj_iconst C kc_2 dX6_power_102 ?_
        refine tj_iload C 5 rfl dX6_power_103 ?_
        refine tj_aload_n C 0 rfl rfl dX6_power_105 ?_
        refine tj_iload_n C 1 rfl rfl dX6_power_106 ?_
        refine tj_callVi C (k := 0) [.int a1] [.int a6, .int (nI 2)] (fun hN => c_M_votesOf (by rw [hN]; exact hM) hf) lk_X6_284 ty_X6_votesOf rfl (Nat.le_of_ble_eq_true rfl) (Nat.le_of_ble_eq_true rfl) (Nat.le_of_ble_eq_true rfl) hM rfl (by decide) rfl rfl dX6_power_107 (fun r16 S15 hf => ?_)
        refine tj_iadd C dX6_power_110 ?_
        refine tj_imul C dX6_power_111 ?_
        refine tj_aload_n C 0 rfl rfl dX6_power_112 ?_
        refine tj_callVi C (k := 0) [] [.int ((nI 2) * (a6 + r16))] (fun hN => c_M_allVotes (by rw [hN]; exact hM) hf) lk_X6_287 ty_X6_allVotes rfl (Nat.le_of_ble_eq_true rfl) (Nat.le_of_ble_eq_true rfl) (Nat.le_of_ble_eq_true rfl) hM rfl (by decide) rfl rfl dX6_power_113 (fun r18 S17 hf => ?_)
        refine tj_icmp_le C 123 (by decide) dX6_power_116 (fun hc => ?_) (fun hc => ?_)
        · replace hf := hf.1 hc
          exact tj_sub [0, 1, 2, 3, 4] (w_M_power_b123 C hw hR r hM hκ26 hf) rfl
        · replace hf := hf.2 hc
          refine tj_iconst C kc_1 dX6_power_119 ?_
          refine tj_goto C 124 (by decide) dX6_power_120 ?_
          exact tj_sub [0, 1, 2, 3, 4] (w_M_power_b124 C hw hR r hM hκ26 hf) rfl
    · replace hf := hf.2 hc
      refine tj_iload C 5 rfl dX6_power_59 ?_
      refine tj_aload_n C 0 rfl rfl dX6_power_61 ?_
      refine tj_iload C 4 rfl dX6_power_62 ?_
      refine tj_iload C 6 rfl dX6_power_64 ?_
      refine tj_callVz C (k := 0) [.int a5, .int a7] [.int a6] (fun hN => c_M_isIn (by rw [hN]; exact hM) hf) lk_X6_315 ty_X6_isIn rfl (Nat.le_of_ble_eq_true rfl) (Nat.le_of_ble_eq_true rfl) (Nat.le_of_ble_eq_true rfl) hM rfl (by decide) rfl rfl dX6_power_66 (fun r20 S19 hf => ?_)
      have hz_r20 := hf.1
      replace hf := hf.2
      refine tj_if_eq C 81 (by decide) dX6_power_69 (fun hc => ?_) (fun hc => ?_)
      · replace hf := hf.1 hc
        refine tj_iconst C kc_0 dX6_power_81 ?_
        exact tj_sub [0, 1, 2, 3, 4, 6] (w_M_power_b82 C hw hR r hM hκ26 ih hf) rfl
      · replace hf := hf.2 hc
        refine tj_aload_n C 0 rfl rfl dX6_power_72 ?_
        refine tj_iload C 6 rfl dX6_power_73 ?_
        refine tj_callVi C (k := 0) [.int a7] [.int a6] (fun hN => c_M_votesOf (by rw [hN]; exact hM) hf) lk_X6_284 ty_X6_votesOf rfl (Nat.le_of_ble_eq_true rfl) (Nat.le_of_ble_eq_true rfl) (Nat.le_of_ble_eq_true rfl) hM rfl (by decide) rfl rfl dX6_power_75 (fun r22 S21 hf => ?_)
        refine tj_goto C 82 (by decide) dX6_power_78 ?_
        exact tj_sub [0, 1, 2, 3, 4, 6] (w_M_power_b82 C hw hR r hM hκ26 ih hf) rfl
theorem w_M_power_l26 {Γ : tX} {N0 : Nat → Nat} {K : Int32 → tS → Prop} (C : TC Γ cX6_power RX6 2 51) (hw : tWf N0) (hR : xnL Γ = 8) (r : TRz Γ N0 cX6_power K) {a1 : Int32} (hM : N0 0 ≠ 0) : ∀ (n : Nat) (a2 : Int32) (a3 : Int64) (a5 : Int32) (S : tS), M_power_l26 a1 K n a2 a3 a5 S → TJ Γ N0 0 0 26 [(0, .ref (xad Γ 0)), (1, .int a1), (2, .int a2), (3, .long a3), (5, .int a5)] [] S := by
  intro n
  induction n with
  | zero => intro a2 a3 a5 S hf; exact hf.elim
  | succ n ih =>
    intro a2 a3 a5 S hf
    unfold M_power_l26 at hf
    refine tj_iload C 4 rfl dX6_power_26 ?_
    refine tj_iconst C kc_1 dX6_power_28 ?_
    refine tj_iload_n C 2 rfl rfl dX6_power_29 ?_
    refine tj_ishl C dX6_power_30 ?_
    refine tj_icmp_ge C 165 (by decide) dX6_power_31 (fun hc => ?_) (fun hc => ?_)
    · replace hf := hf.1 hc
      refine tj_aload_n C 0 rfl rfl dX6_power_165 ?_
      refine tj_lload_n C 3 rfl rfl dX6_power_166 ?_
      refine tj_iload_n C 2 rfl rfl dX6_power_167 ?_
      refine tj_callSl C [.int a2] [.long a3, .ref (xad Γ 0)] (fun hN => c_M_orders hf) lk_X6_437 ty_X6_orders rfl (Nat.le_of_ble_eq_true rfl) (Nat.le_of_ble_eq_true rfl) (Nat.le_of_ble_eq_true rfl) rfl dX6_power_168 (fun r8 S7 hf => ?_)
      refine tj_callVz C (k := 0) [.long a3, .long r8] [] (fun hN => c_M_tellsBy (by rw [hN]; exact hM) hf) lk_X6_405 ty_X6_tellsBy rfl (Nat.le_of_ble_eq_true rfl) (Nat.le_of_ble_eq_true rfl) (Nat.le_of_ble_eq_true rfl) hM rfl (by decide) rfl rfl dX6_power_171 (fun r10 S9 hf => ?_)
      have hz_r10 := hf.1
      replace hf := hf.2
      exact r _ _ _ _ dX6_power_174 hz_r10 hf
    · replace hf := hf.2 hc
      refine tj_aload_n C 0 rfl rfl dX6_power_34 ?_
      refine tj_iload C 4 rfl dX6_power_35 ?_
      refine tj_iload_n C 1 rfl rfl dX6_power_37 ?_
      refine tj_callVz C (k := 0) [.int a5, .int a1] [] (fun hN => c_M_isIn (by rw [hN]; exact hM) hf) lk_X6_315 ty_X6_isIn rfl (Nat.le_of_ble_eq_true rfl) (Nat.le_of_ble_eq_true rfl) (Nat.le_of_ble_eq_true rfl) hM rfl (by decide) rfl rfl dX6_power_38 (fun r12 S11 hf => ?_)
      have hz_r12 := hf.1
      replace hf := hf.2
      refine tj_if_eq C 47 (by decide) dX6_power_41 (fun hc => ?_) (fun hc => ?_)
      · replace hf := hf.1 hc
        refine tj_iconst C kc_0 dX6_power_47 ?_
        refine tj_istore C (by rw [hR]; decide) [(6, .int (nI 0)), (0, .ref (xad Γ 0)), (1, .int a1), (2, .int a2), (3, .long a3), (5, .int a5)] rfl dX6_power_48 ?_
        refine tj_iconst C kc_0 dX6_power_50 ?_
        refine tj_istore C (by rw [hR]; decide) [(7, .int (nI 0)), (6, .int (nI 0)), (0, .ref (xad Γ 0)), (1, .int a1), (2, .int a2), (3, .long a3), (5, .int a5)] rfl dX6_power_51 ?_
        exact tj_sub [2, 3, 4, 5, 6, 1, 0] (hf.elim fun k hf => w_M_power_l53 C hw hR r hM ih k _ _ _ _ _ _ hf) rfl
      · replace hf := hf.2 hc
        refine tj_goto C 159 (by decide) dX6_power_44 ?_
        exact w_M_power_b159 C hw hR r hM ih hf
theorem w_M_power_b0 {Γ : tX} {N0 : Nat → Nat} {K : Int32 → tS → Prop} (C : TC Γ cX6_power RX6 2 51) (hw : tWf N0) (hR : xnL Γ = 8) (r : TRz Γ N0 cX6_power K) {a1 : Int32} (hM : N0 0 ≠ 0) {S : tS} (hf : M_power a1 S K) : TJ Γ N0 0 0 0 [(0, .ref (xad Γ 0)), (1, .int a1)] [] S := by
  unfold M_power at hf
  refine tj_aload_n C 0 rfl rfl dX6_power_0 ?_
  refine tj_iload_n C 1 rfl rfl dX6_power_1 ?_
  refine tj_callVz C (k := 0) [.int a1] [] (fun hN => c_M_isReader (by rw [hN]; exact hM) hf) lk_X6_309 ty_X6_isReader rfl (Nat.le_of_ble_eq_true rfl) (Nat.le_of_ble_eq_true rfl) (Nat.le_of_ble_eq_true rfl) hM rfl (by decide) rfl rfl dX6_power_2 (fun r2 S1 hf => ?_)
  have hz_r2 := hf.1
  replace hf := hf.2
  refine tj_if_ne C 14 (by decide) dX6_power_5 (fun hc => ?_) (fun hc => ?_)
  · replace hf := hf.2 hc
    refine tj_aload_n C 0 rfl rfl dX6_power_14 ?_
    refine gf_X6_7 C hM dX6_power_15 ?_
    refine tj_iconst C kc_4 dX6_power_18 ?_
    refine tj_iald C 48 3548 rfl (ln_48 hw hM) 4 kn_4 (vp_in_nI (by decide) (by decide)) dX6_power_19 ?_
    refine tj_topi (fun x3 ex => ?_)
    replace hf := hf x3 ex
    refine tj_istore_n C (by rw [hR]; decide) [(2, .int x3), (0, .ref (xad Γ 0)), (1, .int a1)] rfl rfl dX6_power_20 ?_
    refine tj_lconst C (v := lN 0) rfl dX6_power_21 ?_
    refine tj_topl (fun x4 ex => ?_)
    replace hf := hf x4 ex
    refine tj_lstore_n C (by rw [hR]; decide) [(3, .long x4), (2, .int x3), (0, .ref (xad Γ 0)), (1, .int a1)] rfl rfl dX6_power_22 ?_
    refine tj_iconst C kc_0 dX6_power_23 ?_
    refine tj_istore C (by rw [hR]; decide) [(5, .int (nI 0)), (3, .long x4), (2, .int x3), (0, .ref (xad Γ 0)), (1, .int a1)] rfl dX6_power_24 ?_
    exact tj_sub [3, 4, 2, 1, 0] (hf.elim fun k hf => w_M_power_l26 C hw hR r hM k _ _ _ _ hf) rfl
  · replace hf := hf.1 hc
    refine tj_aload_n C 0 rfl rfl dX6_power_8 ?_
    refine tj_iconst C kc_1 dX6_power_9 ?_
    refine tj_callVz C (k := 0) [.int (nI 1)] [] (fun hN => c_M_is (by rw [hN]; exact hM) hf) lk_X6_98 ty_X6_is rfl (Nat.le_of_ble_eq_true rfl) (Nat.le_of_ble_eq_true rfl) (Nat.le_of_ble_eq_true rfl) hM rfl (by decide) rfl rfl dX6_power_10 (fun r6 S5 hf => ?_)
    have hz_r6 := hf.1
    replace hf := hf.2
    exact r _ _ _ _ dX6_power_13 hz_r6 hf
theorem c_M_power {l : Launch} {G : tG} {ad : Nat → Nat} {A : Nat → Prop} {S : tS} {K : Int32 → tS → Prop} {a1 : Int32} (hM : gN S 0 ≠ 0) (hf : M_power a1 S K) : Met l yX6_power (ws_ yX6_power cX6_power 8 (some .boolean)) (tRm 2 51) (va_Pc [.ref (ad 0), .int a1] (tPre G ad A S)) (va_Qi (fun r u => r &&& 1 = r ∧ K r u) (tB G ad A (gN S)) A) 0 0 A :=
  tj_met_z [(0, .ref (ad 0)), (1, .int a1)] pn_X6 rfl (Nat.le_of_ble_eq_true rfl) (fun p e R s m args below meth c Q C hw r => w_M_power_b0 C hw rfl r hM hf)
theorem w_M_reach_b0 {Γ : tX} {N0 : Nat → Nat} {K : Int32 → tS → Prop} (C : TC Γ cX6_reach RX6 5 117) (hw : tWf N0) (hR : xnL Γ = 2) (r : TRi Γ N0 cX6_reach K) {a1 : Int32} (hM : N0 0 ≠ 0) {S : tS} (hf : M_reach a1 S K) : TJ Γ N0 0 0 0 [(0, .ref (xad Γ 0)), (1, .int a1)] [] S := by
  unfold M_reach at hf
  refine tj_aload_n C 0 rfl rfl dX6_reach_0 ?_
  refine tj_iload_n C 1 rfl rfl dX6_reach_1 ?_
  refine tj_callVz C (k := 0) [.int a1] [] (fun hN => c_M_isRule (by rw [hN]; exact hM) hf) lk_X6_296 ty_X6_isRule rfl (Nat.le_of_ble_eq_true rfl) (Nat.le_of_ble_eq_true rfl) (Nat.le_of_ble_eq_true rfl) hM rfl (by decide) rfl rfl dX6_reach_2 (fun r2 S1 hf => ?_)
  have hz_r2 := hf.1
  replace hf := hf.2
  refine tj_if_ne C 14 (by decide) dX6_reach_5 (fun hc => ?_) (fun hc => ?_)
  · replace hf := hf.2 hc
    refine tj_aload_n C 0 rfl rfl dX6_reach_14 ?_
    refine tj_callVv C (k := 0) [] [] (fun hN => c_M_laysWorlds (by rw [hN]; exact hM) hf) lk_X6_428 ty_X6_laysWorlds rfl (Nat.le_of_ble_eq_true rfl) (Nat.le_of_ble_eq_true rfl) (Nat.le_of_ble_eq_true rfl) hM rfl (by decide) rfl rfl dX6_reach_15 (fun S3 hf => ?_)
    refine tj_aload_n C 0 rfl rfl dX6_reach_18 ?_
    refine tj_aload_n C 0 rfl rfl dX6_reach_19 ?_
    refine gf_X6_54 C hM dX6_reach_20 ?_
    refine tj_iload_n C 1 rfl rfl dX6_reach_23 ?_
    refine tj_iald C 368 9 rfl (ln_368 hw hM) _ rfl hf.1 dX6_reach_24 ?_
    replace hf := hf.2
    refine tj_callVi C (k := 0) [.int (gI S3 368 (a1.toNatClampNeg))] [] (fun hN => c_M_gives (by rw [hN]; exact hM) hf) lk_X6_95 ty_X6_gives rfl (Nat.le_of_ble_eq_true rfl) (Nat.le_of_ble_eq_true rfl) (Nat.le_of_ble_eq_true rfl) hM rfl (by decide) rfl rfl dX6_reach_25 (fun r5 S4 hf => ?_)
    exact r _ _ _ _ dX6_reach_28 hf
  · replace hf := hf.1 hc
    refine tj_aload_n C 0 rfl rfl dX6_reach_8 ?_
    refine tj_iconst C kc_1 dX6_reach_9 ?_
    refine tj_callVi C (k := 0) [.int (nI 1)] [] (fun hN => c_M_refuse (by rw [hN]; exact hM) hf) lk_X6_91 ty_X6_refuse rfl (Nat.le_of_ble_eq_true rfl) (Nat.le_of_ble_eq_true rfl) (Nat.le_of_ble_eq_true rfl) hM rfl (by decide) rfl rfl dX6_reach_10 (fun r7 S6 hf => ?_)
    exact r _ _ _ _ dX6_reach_13 hf
theorem c_M_reach {l : Launch} {G : tG} {ad : Nat → Nat} {A : Nat → Prop} {S : tS} {K : Int32 → tS → Prop} {a1 : Int32} (hM : gN S 0 ≠ 0) (hf : M_reach a1 S K) : Met l yX6_reach (ws_ yX6_reach cX6_reach 2 (some .int)) (tRm 5 117) (va_Pc [.ref (ad 0), .int a1] (tPre G ad A S)) (va_Qi K (tB G ad A (gN S)) A) 0 0 A :=
  tj_met_i [(0, .ref (ad 0)), (1, .int a1)] pn_X6 rfl (Nat.le_of_ble_eq_true rfl) (fun p e R s m args below meth c Q C hw r => w_M_reach_b0 C hw rfl r hM hf)
theorem w_M_wrongPlace_b39 {Γ : tX} {N0 : Nat → Nat} {K : Int32 → tS → Prop} (C : TC Γ cX6_wrongPlace RX6 1 20) (hw : tWf N0) (hR : xnL Γ = 3) (r : TRi Γ N0 cX6_wrongPlace K) {a1 : Int32} {a2 : Int32} (hM : N0 0 ≠ 0) {S : tS} (hf : M_wrongPlace_b39 a1 a2 K  S) : TJ Γ N0 0 0 39 [] [] S := by
  unfold M_wrongPlace_b39 at hf
  refine tj_iconst C kc_3 dX6_wrongPlace_39 ?_
  refine tj_goto C 44 (by decide) dX6_wrongPlace_40 ?_
  exact r _ _ _ _ dX6_wrongPlace_44 hf
theorem w_M_wrongPlace_b0 {Γ : tX} {N0 : Nat → Nat} {K : Int32 → tS → Prop} (C : TC Γ cX6_wrongPlace RX6 1 20) (hw : tWf N0) (hR : xnL Γ = 3) (r : TRi Γ N0 cX6_wrongPlace K) {a1 : Int32} {a2 : Int32} (hM : N0 0 ≠ 0) {S : tS} (hf : M_wrongPlace a1 a2 S K) : TJ Γ N0 0 0 0 [(0, .ref (xad Γ 0)), (1, .int a1), (2, .int a2)] [] S := by
  unfold M_wrongPlace at hf
  refine tj_iload_n C 1 rfl rfl dX6_wrongPlace_0 ?_
  refine tj_callSz C [.int a1] [] (fun hN => c_M_isTray hf) lk_X6_102 ty_X6_isTray rfl (Nat.le_of_ble_eq_true rfl) (Nat.le_of_ble_eq_true rfl) (Nat.le_of_ble_eq_true rfl) rfl dX6_wrongPlace_1 (fun r2 S1 hf => ?_)
  have hz_r2 := hf.1
  replace hf := hf.2
  refine tj_if_ne C 11 (by decide) dX6_wrongPlace_4 (fun hc => ?_) (fun hc => ?_)
  · replace hf := hf.2 hc
    refine tj_aload_n C 0 rfl rfl dX6_wrongPlace_11 ?_
    refine gf_X6_24 C hM dX6_wrongPlace_12 ?_
    refine tj_iload_n C 1 rfl rfl dX6_wrongPlace_15 ?_
    refine tj_iald C 144 4 rfl (ln_144 hw hM) _ rfl hf.1 dX6_wrongPlace_16 ?_
    replace hf := hf.2
    refine tj_iconst C kc_m1 dX6_wrongPlace_17 ?_
    refine tj_icmp_ne C 25 (by decide) dX6_wrongPlace_18 (fun hc => ?_) (fun hc => ?_)
    · replace hf := hf.2 hc
      refine tj_iload_n C 2 rfl rfl dX6_wrongPlace_25 ?_
      refine tj_if_lt C 39 (by decide) dX6_wrongPlace_26 (fun hc => ?_) (fun hc => ?_)
      · replace hf := hf.1 hc
        exact tj_sub [] (w_M_wrongPlace_b39 C hw hR r hM hf) rfl
      · replace hf := hf.2 hc
        refine tj_iload_n C 2 rfl rfl dX6_wrongPlace_29 ?_
        refine tj_aload_n C 0 rfl rfl dX6_wrongPlace_30 ?_
        refine gf_X6_24 C hM dX6_wrongPlace_31 ?_
        refine tj_iload_n C 1 rfl rfl dX6_wrongPlace_34 ?_
        refine tj_iald C 144 4 rfl (ln_144 hw hM) _ rfl hf.1 dX6_wrongPlace_35 ?_
        replace hf := hf.2
        refine tj_icmp_lt C 43 (by decide) dX6_wrongPlace_36 (fun hc => ?_) (fun hc => ?_)
        · replace hf := hf.1 hc
          refine tj_iconst C kc_0 dX6_wrongPlace_43 ?_
          exact r _ _ _ _ dX6_wrongPlace_44 hf
        · replace hf := hf.2 hc
          exact tj_sub [] (w_M_wrongPlace_b39 C hw hR r hM hf) rfl
    · replace hf := hf.1 hc
      refine tj_iconst C kc_2 dX6_wrongPlace_21 ?_
      refine tj_goto C 44 (by decide) dX6_wrongPlace_22 ?_
      exact r _ _ _ _ dX6_wrongPlace_44 hf
  · replace hf := hf.1 hc
    refine tj_iconst C kc_1 dX6_wrongPlace_7 ?_
    refine tj_goto C 44 (by decide) dX6_wrongPlace_8 ?_
    exact r _ _ _ _ dX6_wrongPlace_44 hf
theorem c_M_wrongPlace {l : Launch} {G : tG} {ad : Nat → Nat} {A : Nat → Prop} {S : tS} {K : Int32 → tS → Prop} {a1 : Int32} {a2 : Int32} (hM : gN S 0 ≠ 0) (hf : M_wrongPlace a1 a2 S K) : Met l yX6_wrongPlace (ws_ yX6_wrongPlace cX6_wrongPlace 3 (some .int)) (tRm 1 20) (va_Pc [.ref (ad 0), .int a1, .int a2] (tPre G ad A S)) (va_Qi K (tB G ad A (gN S)) A) 0 0 A :=
  tj_met_i [(0, .ref (ad 0)), (1, .int a1), (2, .int a2)] pn_X6 rfl (Nat.le_of_ble_eq_true rfl) (fun p e R s m args below meth c Q C hw r => w_M_wrongPlace_b0 C hw rfl r hM hf)
theorem w_M_read_b0 {Γ : tX} {N0 : Nat → Nat} {K : Int64 → tS → Prop} (C : TC Γ cX6_read RX6 2 42) (hw : tWf N0) (hR : xnL Γ = 3) (r : TRl Γ N0 cX6_read K) {a1 : Int32} {a2 : Int32} (hM : N0 0 ≠ 0) {S : tS} (hf : M_read a1 a2 S K) : TJ Γ N0 0 0 0 [(0, .ref (xad Γ 0)), (1, .int a1), (2, .int a2)] [] S := by
  unfold M_read at hf
  refine tj_aload_n C 0 rfl rfl dX6_read_0 ?_
  refine tj_aload_n C 0 rfl rfl dX6_read_1 ?_
  refine tj_iload_n C 1 rfl rfl dX6_read_2 ?_
  refine tj_iload_n C 2 rfl rfl dX6_read_3 ?_
  refine tj_callVi C (k := 0) [.int a1, .int a2] [.ref (xad Γ 0)] (fun hN => c_M_wrongPlace (by rw [hN]; exact hM) hf) lk_X6_105 ty_X6_wrongPlace rfl (Nat.le_of_ble_eq_true rfl) (Nat.le_of_ble_eq_true rfl) (Nat.le_of_ble_eq_true rfl) hM rfl (by decide) rfl rfl dX6_read_4 (fun r2 S1 hf => ?_)
  refine pf_X6_85 C hM dX6_read_7 ?_
  refine tj_topS (fun S3 eS => ?_)
  replace hf := hf S3 eS
  refine tj_aload_n C 0 rfl rfl dX6_read_10 ?_
  refine gf_X6_85 C hM dX6_read_11 ?_
  refine tj_if_le C 23 (by decide) dX6_read_14 (fun hc => ?_) (fun hc => ?_)
  · replace hf := hf.1 hc
    refine tj_aload_n C 0 rfl rfl dX6_read_23 ?_
    refine gf_X6_27 C hM dX6_read_24 ?_
    refine tj_bipush C kb_60 dX6_read_27 ?_
    refine tj_iload_n C 1 rfl rfl dX6_read_29 ?_
    refine tj_imul C dX6_read_30 ?_
    refine tj_iload_n C 2 rfl rfl dX6_read_31 ?_
    refine tj_iadd C dX6_read_32 ?_
    refine tj_lald C 177 240 rfl (ln_177 hw hM) _ rfl hf.1 dX6_read_33 ?_
    replace hf := hf.2
    exact r _ _ _ _ dX6_read_34 hf
  · replace hf := hf.2 hc
    refine tj_ldc2 C kl_X6_113 dX6_read_17 ?_
    refine tj_goto C 34 (by decide) dX6_read_20 ?_
    exact r _ _ _ _ dX6_read_34 hf
theorem c_M_read {l : Launch} {G : tG} {ad : Nat → Nat} {A : Nat → Prop} {S : tS} {K : Int64 → tS → Prop} {a1 : Int32} {a2 : Int32} (hM : gN S 0 ≠ 0) (hf : M_read a1 a2 S K) : Met l yX6_read (ws_ yX6_read cX6_read 3 (some .long)) (tRm 2 42) (va_Pc [.ref (ad 0), .int a1, .int a2] (tPre G ad A S)) (va_Ql K (tB G ad A (gN S)) A) 0 0 A :=
  tj_met_l [(0, .ref (ad 0)), (1, .int a1), (2, .int a2)] pn_X6 rfl (Nat.le_of_ble_eq_true rfl) (fun p e R s m args below meth c Q C hw r => w_M_read_b0 C hw rfl r hM hf)
theorem w_M_slipOf_b0 {Γ : tX} {N0 : Nat → Nat} {K : Int32 → tS → Prop} (C : TC Γ cX6_slipOf RX6 0 0) (hw : tWf N0) (hR : xnL Γ = 2) (r : TRi Γ N0 cX6_slipOf K) {a1 : Int32} (hM : N0 0 ≠ 0) {S : tS} (hf : M_slipOf a1 S K) : TJ Γ N0 0 0 0 [(0, .ref (xad Γ 0)), (1, .int a1)] [] S := by
  unfold M_slipOf at hf
  refine tj_aload_n C 0 rfl rfl dX6_slipOf_0 ?_
  refine gf_X6_7 C hM dX6_slipOf_1 ?_
  refine tj_bipush C kb_102 dX6_slipOf_4 ?_
  refine tj_iconst C kc_2 dX6_slipOf_6 ?_
  refine tj_iload_n C 1 rfl rfl dX6_slipOf_7 ?_
  refine tj_imul C dX6_slipOf_8 ?_
  refine tj_iadd C dX6_slipOf_9 ?_
  refine tj_iald C 48 3548 rfl (ln_48 hw hM) _ rfl hf.1 dX6_slipOf_10 ?_
  replace hf := hf.2
  exact r _ _ _ _ dX6_slipOf_11 hf
theorem c_M_slipOf {l : Launch} {G : tG} {ad : Nat → Nat} {A : Nat → Prop} {S : tS} {K : Int32 → tS → Prop} {a1 : Int32} (hM : gN S 0 ≠ 0) (hf : M_slipOf a1 S K) : Met l yX6_slipOf (ws_ yX6_slipOf cX6_slipOf 2 (some .int)) (tRm 0 0) (va_Pc [.ref (ad 0), .int a1] (tPre G ad A S)) (va_Qi K (tB G ad A (gN S)) A) 0 0 A :=
  tj_met_i [(0, .ref (ad 0)), (1, .int a1)] pn_X6 rfl (Nat.le_of_ble_eq_true rfl) (fun p e R s m args below meth c Q C hw r => w_M_slipOf_b0 C hw rfl r hM hf)
theorem w_M_reader_b41 {Γ : tX} {N0 : Nat → Nat} {K : Int32 → tS → Prop} (C : TC Γ cX6_reader RX6 1 21) (hw : tWf N0) (hR : xnL Γ = 3) (r : TRi Γ N0 cX6_reader K) {a1 : Int32} {a2 : Int32} (hM : N0 0 ≠ 0) {s1 : Int32} {S : tS} (hf : M_reader_b41 a1 a2 K s1 S) : TJ Γ N0 0 0 41 [] [.int s1, .ref (xad Γ 0)] S := by
  unfold M_reader_b41 at hf
  refine tj_callVi C (k := 0) [.int s1] [] (fun hN => c_M_gives (by rw [hN]; exact hM) hf) lk_X6_95 ty_X6_gives rfl (Nat.le_of_ble_eq_true rfl) (Nat.le_of_ble_eq_true rfl) (Nat.le_of_ble_eq_true rfl) hM rfl (by decide) rfl rfl dX6_reader_41 (fun r10 S9 hf => ?_)
  exact r _ _ _ _ dX6_reader_44 hf
theorem w_M_reader_b17 {Γ : tX} {N0 : Nat → Nat} {K : Int32 → tS → Prop} (C : TC Γ cX6_reader RX6 1 21) (hw : tWf N0) (hR : xnL Γ = 3) (r : TRi Γ N0 cX6_reader K) {a1 : Int32} {a2 : Int32} (hM : N0 0 ≠ 0) {S : tS} (hf : M_reader_b17 a1 a2 K  S) : TJ Γ N0 0 0 17 [(0, .ref (xad Γ 0))] [] S := by
  unfold M_reader_b17 at hf
  refine tj_aload_n C 0 rfl rfl dX6_reader_17 ?_
  refine tj_iconst C kc_1 dX6_reader_18 ?_
  refine tj_callVi C (k := 0) [.int (nI 1)] [] (fun hN => c_M_refuse (by rw [hN]; exact hM) hf) lk_X6_91 ty_X6_refuse rfl (Nat.le_of_ble_eq_true rfl) (Nat.le_of_ble_eq_true rfl) (Nat.le_of_ble_eq_true rfl) hM rfl (by decide) rfl rfl dX6_reader_19 (fun r8 S7 hf => ?_)
  exact r _ _ _ _ dX6_reader_22 hf
theorem w_M_reader_b0 {Γ : tX} {N0 : Nat → Nat} {K : Int32 → tS → Prop} (C : TC Γ cX6_reader RX6 1 21) (hw : tWf N0) (hR : xnL Γ = 3) (r : TRi Γ N0 cX6_reader K) {a1 : Int32} {a2 : Int32} (hM : N0 0 ≠ 0) {S : tS} (hf : M_reader a1 a2 S K) : TJ Γ N0 0 0 0 [(0, .ref (xad Γ 0)), (1, .int a1), (2, .int a2)] [] S := by
  unfold M_reader at hf
  refine tj_aload_n C 0 rfl rfl dX6_reader_0 ?_
  refine tj_iload_n C 1 rfl rfl dX6_reader_1 ?_
  refine tj_callVz C (k := 0) [.int a1] [] (fun hN => c_M_isReader (by rw [hN]; exact hM) hf) lk_X6_309 ty_X6_isReader rfl (Nat.le_of_ble_eq_true rfl) (Nat.le_of_ble_eq_true rfl) (Nat.le_of_ble_eq_true rfl) hM rfl (by decide) rfl rfl dX6_reader_2 (fun r2 S1 hf => ?_)
  have hz_r2 := hf.1
  replace hf := hf.2
  refine tj_if_eq C 17 (by decide) dX6_reader_5 (fun hc => ?_) (fun hc => ?_)
  · replace hf := hf.1 hc
    exact tj_sub [0] (w_M_reader_b17 C hw hR r hM hf) rfl
  · replace hf := hf.2 hc
    refine tj_iload_n C 2 rfl rfl dX6_reader_8 ?_
    refine tj_if_lt C 17 (by decide) dX6_reader_9 (fun hc => ?_) (fun hc => ?_)
    · replace hf := hf.1 hc
      exact tj_sub [0] (w_M_reader_b17 C hw hR r hM hf) rfl
    · replace hf := hf.2 hc
      refine tj_iload_n C 2 rfl rfl dX6_reader_12 ?_
      refine tj_iconst C kc_1 dX6_reader_13 ?_
      refine tj_icmp_le C 23 (by decide) dX6_reader_14 (fun hc => ?_) (fun hc => ?_)
      · replace hf := hf.1 hc
        refine tj_aload_n C 0 rfl rfl dX6_reader_23 ?_
        refine tj_iload_n C 2 rfl rfl dX6_reader_24 ?_
        refine tj_if_ne C 36 (by decide) dX6_reader_25 (fun hc => ?_) (fun hc => ?_)
        · replace hf := hf.2 hc
          refine tj_aload_n C 0 rfl rfl dX6_reader_36 ?_
          refine tj_iload_n C 1 rfl rfl dX6_reader_37 ?_
          refine tj_callVi C (k := 0) [.int a1] [.ref (xad Γ 0)] (fun hN => c_M_votesOf (by rw [hN]; exact hM) hf) lk_X6_284 ty_X6_votesOf rfl (Nat.le_of_ble_eq_true rfl) (Nat.le_of_ble_eq_true rfl) (Nat.le_of_ble_eq_true rfl) hM rfl (by decide) rfl rfl dX6_reader_38 (fun r4 S3 hf => ?_)
          exact tj_sub [] (w_M_reader_b41 C hw hR r hM hf) rfl
        · replace hf := hf.1 hc
          refine tj_aload_n C 0 rfl rfl dX6_reader_28 ?_
          refine tj_iload_n C 1 rfl rfl dX6_reader_29 ?_
          refine tj_callVi C (k := 0) [.int a1] [.ref (xad Γ 0)] (fun hN => c_M_slipOf (by rw [hN]; exact hM) hf) lk_X6_312 ty_X6_slipOf rfl (Nat.le_of_ble_eq_true rfl) (Nat.le_of_ble_eq_true rfl) (Nat.le_of_ble_eq_true rfl) hM rfl (by decide) rfl rfl dX6_reader_30 (fun r6 S5 hf => ?_)
          refine tj_goto C 41 (by decide) dX6_reader_33 ?_
          exact tj_sub [] (w_M_reader_b41 C hw hR r hM hf) rfl
      · replace hf := hf.2 hc
        exact tj_sub [0] (w_M_reader_b17 C hw hR r hM hf) rfl
theorem c_M_reader {l : Launch} {G : tG} {ad : Nat → Nat} {A : Nat → Prop} {S : tS} {K : Int32 → tS → Prop} {a1 : Int32} {a2 : Int32} (hM : gN S 0 ≠ 0) (hf : M_reader a1 a2 S K) : Met l yX6_reader (ws_ yX6_reader cX6_reader 3 (some .int)) (tRm 1 21) (va_Pc [.ref (ad 0), .int a1, .int a2] (tPre G ad A S)) (va_Qi K (tB G ad A (gN S)) A) 0 0 A :=
  tj_met_i [(0, .ref (ad 0)), (1, .int a1), (2, .int a2)] pn_X6 rfl (Nat.le_of_ble_eq_true rfl) (fun p e R s m args below meth c Q C hw r => w_M_reader_b0 C hw rfl r hM hf)
theorem w_M_repeal_l29 {Γ : tX} {N0 : Nat → Nat} {K : Int32 → tS → Prop} (C : TC Γ cX6_repeal RX6 1 21) (hw : tWf N0) (hR : xnL Γ = 3) (r : TRi Γ N0 cX6_repeal K) {a1 : Int32} (hM : N0 0 ≠ 0) : ∀ (n : Nat) (a2 : Int32) (S : tS), M_repeal_l29 a1 K n a2 S → TJ Γ N0 0 0 29 [(0, .ref (xad Γ 0)), (2, .int a2)] [] S := by
  intro n
  induction n with
  | zero => intro a2 S hf; exact hf.elim
  | succ n ih =>
    intro a2 S hf
    unfold M_repeal_l29 at hf
    refine tj_iload_n C 1 rfl rfl dX6_repeal_29 ?_
    refine tj_aload_n C 0 rfl rfl dX6_repeal_30 ?_
    refine gf_X6_7 C hM dX6_repeal_31 ?_
    refine tj_iconst C kc_2 dX6_repeal_34 ?_
    refine tj_iald C 48 3548 rfl (ln_48 hw hM) 2 kn_2 (vp_in_nI (by decide) (by decide)) dX6_repeal_35 ?_
    refine tj_callSi C [.int (gI S 48 2)] [.int a2] (fun hN => c_M_ruleRow hf) lk_X6_215 ty_X6_ruleRow rfl (Nat.le_of_ble_eq_true rfl) (Nat.le_of_ble_eq_true rfl) (Nat.le_of_ble_eq_true rfl) rfl dX6_repeal_36 (fun r9 S8 hf => ?_)
    refine tj_icmp_ge C 63 (by decide) dX6_repeal_39 (fun hc => ?_) (fun hc => ?_)
    · replace hf := hf.1 hc
      refine tj_aload_n C 0 rfl rfl dX6_repeal_63 ?_
      refine tj_aload_n C 0 rfl rfl dX6_repeal_64 ?_
      refine gf_X6_7 C hM dX6_repeal_65 ?_
      refine tj_iconst C kc_2 dX6_repeal_68 ?_
      refine tj_iald C 48 3548 rfl (ln_48 hw hM) 2 kn_2 (vp_in_nI (by decide) (by decide)) dX6_repeal_69 ?_
      refine tj_callVi C (k := 0) [.int (gI S8 48 2)] [] (fun hN => c_M_gives (by rw [hN]; exact hM) hf) lk_X6_95 ty_X6_gives rfl (Nat.le_of_ble_eq_true rfl) (Nat.le_of_ble_eq_true rfl) (Nat.le_of_ble_eq_true rfl) hM rfl (by decide) rfl rfl dX6_repeal_70 (fun r11 S10 hf => ?_)
      exact r _ _ _ _ dX6_repeal_73 hf
    · replace hf := hf.2 hc
      refine tj_aload_n C 0 rfl rfl dX6_repeal_42 ?_
      refine gf_X6_7 C hM dX6_repeal_43 ?_
      refine tj_iload_n C 1 rfl rfl dX6_repeal_46 ?_
      refine tj_aload_n C 0 rfl rfl dX6_repeal_47 ?_
      refine gf_X6_7 C hM dX6_repeal_48 ?_
      refine tj_iload_n C 1 rfl rfl dX6_repeal_51 ?_
      refine tj_bipush C kb_7 dX6_repeal_52 ?_
      refine tj_iadd C dX6_repeal_54 ?_
      refine tj_iald C 48 3548 rfl (ln_48 hw hM) _ rfl hf.1 dX6_repeal_55 ?_
      replace hf := hf.2
      refine tj_iast C 48 3548 rfl (ln_48 hw hM) _ rfl hf.1 dX6_repeal_56 ?_
      replace hf := hf.2
      refine tj_topS (fun S12 eS => ?_)
      replace hf := hf S12 eS
      obtain ⟨x13, ex⟩ : ∃ y : Int32, y = a2 + nI 1 := ⟨_, rfl⟩
      refine tj_iinc C (by rw [hR]; decide) 1 [(2, .int x13), (0, .ref (xad Γ 0))] rfl (by rw [ex]; exact ki_1 _) rfl dX6_repeal_57 ?_
      replace hf := hf x13 ex
      refine tj_goto C 29 (by decide) dX6_repeal_60 ?_
      exact tj_sub [1, 0] (ih _ _ hf) rfl
theorem w_M_repeal_b0 {Γ : tX} {N0 : Nat → Nat} {K : Int32 → tS → Prop} (C : TC Γ cX6_repeal RX6 1 21) (hw : tWf N0) (hR : xnL Γ = 3) (r : TRi Γ N0 cX6_repeal K) {a1 : Int32} (hM : N0 0 ≠ 0) {S : tS} (hf : M_repeal a1 S K) : TJ Γ N0 0 0 0 [(0, .ref (xad Γ 0)), (1, .int a1)] [] S := by
  unfold M_repeal at hf
  refine tj_aload_n C 0 rfl rfl dX6_repeal_0 ?_
  refine tj_iload_n C 1 rfl rfl dX6_repeal_1 ?_
  refine tj_callVz C (k := 0) [.int a1] [] (fun hN => c_M_isRule (by rw [hN]; exact hM) hf) lk_X6_296 ty_X6_isRule rfl (Nat.le_of_ble_eq_true rfl) (Nat.le_of_ble_eq_true rfl) (Nat.le_of_ble_eq_true rfl) hM rfl (by decide) rfl rfl dX6_repeal_2 (fun r2 S1 hf => ?_)
  have hz_r2 := hf.1
  replace hf := hf.2
  refine tj_if_ne C 14 (by decide) dX6_repeal_5 (fun hc => ?_) (fun hc => ?_)
  · replace hf := hf.2 hc
    refine tj_aload_n C 0 rfl rfl dX6_repeal_14 ?_
    refine gf_X6_7 C hM dX6_repeal_15 ?_
    refine tj_iconst C kc_2 dX6_repeal_18 ?_
    refine tj_dup2 C rfl rfl dX6_repeal_19 ?_
    refine tj_iald C 48 3548 rfl (ln_48 hw hM) 2 kn_2 (vp_in_nI (by decide) (by decide)) dX6_repeal_20 ?_
    refine tj_iconst C kc_1 dX6_repeal_21 ?_
    refine tj_isub C dX6_repeal_22 ?_
    refine tj_iast C 48 3548 rfl (ln_48 hw hM) 2 kn_2 (vp_in_nI (by decide) (by decide)) dX6_repeal_23 ?_
    refine tj_topS (fun S3 eS => ?_)
    replace hf := hf S3 eS
    refine tj_iload_n C 1 rfl rfl dX6_repeal_24 ?_
    refine tj_callSi C [.int a1] [] (fun hN => c_M_ruleRow hf) lk_X6_215 ty_X6_ruleRow rfl (Nat.le_of_ble_eq_true rfl) (Nat.le_of_ble_eq_true rfl) (Nat.le_of_ble_eq_true rfl) rfl dX6_repeal_25 (fun r5 S4 hf => ?_)
    refine tj_istore_n C (by rw [hR]; decide) [(2, .int r5), (0, .ref (xad Γ 0)), (1, .int a1)] rfl rfl dX6_repeal_28 ?_
    exact tj_sub [1, 0] (hf.elim fun k hf => w_M_repeal_l29 C hw hR r hM k _ _ hf) rfl
  · replace hf := hf.1 hc
    refine tj_aload_n C 0 rfl rfl dX6_repeal_8 ?_
    refine tj_iconst C kc_1 dX6_repeal_9 ?_
    refine tj_callVi C (k := 0) [.int (nI 1)] [] (fun hN => c_M_refuse (by rw [hN]; exact hM) hf) lk_X6_91 ty_X6_refuse rfl (Nat.le_of_ble_eq_true rfl) (Nat.le_of_ble_eq_true rfl) (Nat.le_of_ble_eq_true rfl) hM rfl (by decide) rfl rfl dX6_repeal_10 (fun r7 S6 hf => ?_)
    exact r _ _ _ _ dX6_repeal_13 hf
theorem c_M_repeal {l : Launch} {G : tG} {ad : Nat → Nat} {A : Nat → Prop} {S : tS} {K : Int32 → tS → Prop} {a1 : Int32} (hM : gN S 0 ≠ 0) (hf : M_repeal a1 S K) : Met l yX6_repeal (ws_ yX6_repeal cX6_repeal 3 (some .int)) (tRm 1 21) (va_Pc [.ref (ad 0), .int a1] (tPre G ad A S)) (va_Qi K (tB G ad A (gN S)) A) 0 0 A :=
  tj_met_i [(0, .ref (ad 0)), (1, .int a1)] pn_X6 rfl (Nat.le_of_ble_eq_true rfl) (fun p e R s m args below meth c Q C hw r => w_M_repeal_b0 C hw rfl r hM hf)
theorem w_M_reread_b20 {Γ : tX} {N0 : Nat → Nat} {K : Int32 → tS → Prop} (C : TC Γ cX6_reread RX6 1 25) (hw : tWf N0) (hR : xnL Γ = 3) (r : TRz Γ N0 cX6_reread K) {a1 : Int32} {a2 : Int32} (hM : N0 0 ≠ 0) {S : tS} (hf : M_reread_b20 a1 a2 K  S) : TJ Γ N0 0 0 20 [(0, .ref (xad Γ 0))] [] S := by
  unfold M_reread_b20 at hf
  refine tj_aload_n C 0 rfl rfl dX6_reread_20 ?_
  refine tj_iconst C kc_1 dX6_reread_21 ?_
  refine tj_callVz C (k := 0) [.int (nI 1)] [] (fun hN => c_M_is (by rw [hN]; exact hM) hf) lk_X6_98 ty_X6_is rfl (Nat.le_of_ble_eq_true rfl) (Nat.le_of_ble_eq_true rfl) (Nat.le_of_ble_eq_true rfl) hM rfl (by decide) rfl rfl dX6_reread_22 (fun r9 S8 hf => ?_)
  have hz_r9 := hf.1
  replace hf := hf.2
  exact r _ _ _ _ dX6_reread_25 hz_r9 hf
theorem w_M_reread_b0 {Γ : tX} {N0 : Nat → Nat} {K : Int32 → tS → Prop} (C : TC Γ cX6_reread RX6 1 25) (hw : tWf N0) (hR : xnL Γ = 3) (r : TRz Γ N0 cX6_reread K) {a1 : Int32} {a2 : Int32} (hM : N0 0 ≠ 0) {S : tS} (hf : M_reread a1 a2 S K) : TJ Γ N0 0 0 0 [(0, .ref (xad Γ 0)), (1, .int a1), (2, .int a2)] [] S := by
  unfold M_reread at hf
  refine tj_aload_n C 0 rfl rfl dX6_reread_0 ?_
  refine tj_iload_n C 1 rfl rfl dX6_reread_1 ?_
  refine tj_callVz C (k := 0) [.int a1] [] (fun hN => c_M_isCue (by rw [hN]; exact hM) hf) lk_X6_293 ty_X6_isCue rfl (Nat.le_of_ble_eq_true rfl) (Nat.le_of_ble_eq_true rfl) (Nat.le_of_ble_eq_true rfl) hM rfl (by decide) rfl rfl dX6_reread_2 (fun r2 S1 hf => ?_)
  have hz_r2 := hf.1
  replace hf := hf.2
  refine tj_if_eq C 20 (by decide) dX6_reread_5 (fun hc => ?_) (fun hc => ?_)
  · replace hf := hf.1 hc
    exact tj_sub [0] (w_M_reread_b20 C hw hR r hM hf) rfl
  · replace hf := hf.2 hc
    refine tj_iload_n C 2 rfl rfl dX6_reread_8 ?_
    refine tj_i2l C dX6_reread_9 ?_
    refine tj_lconst C (v := lN 0) rfl dX6_reread_10 ?_
    refine tj_ldc2 C kl_X6_368 dX6_reread_11 ?_
    refine tj_callSz C [.long (a2.toInt64), .long (lN 0), .long (lN 2)] [] (fun hN => c_M_isFrom hf) lk_X6_337 ty_X6_isFrom rfl (Nat.le_of_ble_eq_true rfl) (Nat.le_of_ble_eq_true rfl) (Nat.le_of_ble_eq_true rfl) rfl dX6_reread_14 (fun r4 S3 hf => ?_)
    have hz_r4 := hf.1
    replace hf := hf.2
    refine tj_if_ne C 26 (by decide) dX6_reread_17 (fun hc => ?_) (fun hc => ?_)
    · replace hf := hf.2 hc
      refine tj_aload_n C 0 rfl rfl dX6_reread_26 ?_
      refine gf_X6_7 C hM dX6_reread_27 ?_
      refine tj_bipush C kb_10 dX6_reread_30 ?_
      refine tj_iload_n C 1 rfl rfl dX6_reread_32 ?_
      refine tj_iadd C dX6_reread_33 ?_
      refine tj_iload_n C 2 rfl rfl dX6_reread_34 ?_
      refine tj_iast C 48 3548 rfl (ln_48 hw hM) _ rfl hf.1 dX6_reread_35 ?_
      replace hf := hf.2
      refine tj_topS (fun S5 eS => ?_)
      replace hf := hf S5 eS
      refine tj_aload_n C 0 rfl rfl dX6_reread_36 ?_
      refine tj_iconst C kc_0 dX6_reread_37 ?_
      refine tj_callVz C (k := 0) [.int (nI 0)] [] (fun hN => c_M_is (by rw [hN]; exact hM) hf) lk_X6_98 ty_X6_is rfl (Nat.le_of_ble_eq_true rfl) (Nat.le_of_ble_eq_true rfl) (Nat.le_of_ble_eq_true rfl) hM rfl (by decide) rfl rfl dX6_reread_38 (fun r7 S6 hf => ?_)
      have hz_r7 := hf.1
      replace hf := hf.2
      exact r _ _ _ _ dX6_reread_41 hz_r7 hf
    · replace hf := hf.1 hc
      exact tj_sub [0] (w_M_reread_b20 C hw hR r hM hf) rfl
theorem c_M_reread {l : Launch} {G : tG} {ad : Nat → Nat} {A : Nat → Prop} {S : tS} {K : Int32 → tS → Prop} {a1 : Int32} {a2 : Int32} (hM : gN S 0 ≠ 0) (hf : M_reread a1 a2 S K) : Met l yX6_reread (ws_ yX6_reread cX6_reread 3 (some .boolean)) (tRm 1 25) (va_Pc [.ref (ad 0), .int a1, .int a2] (tPre G ad A S)) (va_Qi (fun r u => r &&& 1 = r ∧ K r u) (tB G ad A (gN S)) A) 0 0 A :=
  tj_met_z [(0, .ref (ad 0)), (1, .int a1), (2, .int a2)] pn_X6 rfl (Nat.le_of_ble_eq_true rfl) (fun p e R s m args below meth c Q C hw r => w_M_reread_b0 C hw rfl r hM hf)
theorem w_M_rightOf_b149 {Γ : tX} {N0 : Nat → Nat} {K : Int64 → tS → Prop} (C : TC Γ cX6_rightOf RX6 1 22) (hw : tWf N0) (hR : xnL Γ = 10) (r : TRl Γ N0 cX6_rightOf K) {a1 : Int32} (hM : N0 0 ≠ 0) {κ5 : Int64 → Int32 → tS → Prop} (hκ5 : ∀ (a2 : Int64) (a4 : Int32) (S : tS), κ5 a2 a4 S → TJ Γ N0 0 0 5 [(0, .ref (xad Γ 0)), (1, .int a1), (2, .long a2), (4, .int a4)] [] S) {a2 : Int64} {a4 : Int32} {S : tS} (hf : M_rightOf_b149 a1 K κ5 a2 a4 S) : TJ Γ N0 0 0 149 [(0, .ref (xad Γ 0)), (1, .int a1), (2, .long a2), (4, .int a4)] [] S := by
  unfold M_rightOf_b149 at hf
  obtain ⟨x11, ex⟩ : ∃ y : Int32, y = a4 + nI 1 := ⟨_, rfl⟩
  refine tj_iinc C (by rw [hR]; decide) 3 [(4, .int x11), (0, .ref (xad Γ 0)), (1, .int a1), (2, .long a2)] rfl (by rw [ex]; exact ki_1 _) rfl dX6_rightOf_149 ?_
  replace hf := hf x11 ex
  refine tj_goto C 5 (by decide) dX6_rightOf_152 ?_
  exact tj_sub [1, 2, 3, 0] (hκ5 _ _ _ hf) rfl
theorem w_M_rightOf_b147 {Γ : tX} {N0 : Nat → Nat} {K : Int64 → tS → Prop} (C : TC Γ cX6_rightOf RX6 1 22) (hw : tWf N0) (hR : xnL Γ = 10) (r : TRl Γ N0 cX6_rightOf K) {a1 : Int32} (hM : N0 0 ≠ 0) {κ5 : Int64 → Int32 → tS → Prop} (hκ5 : ∀ (a2 : Int64) (a4 : Int32) (S : tS), κ5 a2 a4 S → TJ Γ N0 0 0 5 [(0, .ref (xad Γ 0)), (1, .int a1), (2, .long a2), (4, .int a4)] [] S) {a4 : Int32} {s0 : Int64} {s1 : Int64} {S : tS} (hf : M_rightOf_b147 a1 K κ5 a4 s0 s1 S) : TJ Γ N0 0 0 147 [(0, .ref (xad Γ 0)), (1, .int a1), (4, .int a4)] [.long s1, .long s0] S := by
  unfold M_rightOf_b147 at hf
  refine tj_ladd C dX6_rightOf_147 ?_
  refine tj_topl (fun x12 ex => ?_)
  replace hf := hf x12 ex
  refine tj_lstore_n C (by rw [hR]; decide) [(2, .long x12), (0, .ref (xad Γ 0)), (1, .int a1), (4, .int a4)] rfl rfl dX6_rightOf_148 ?_
  exact tj_sub [1, 2, 0, 3] (w_M_rightOf_b149 C hw hR r hM hκ5 hf) rfl
theorem w_M_rightOf_b129 {Γ : tX} {N0 : Nat → Nat} {K : Int64 → tS → Prop} (C : TC Γ cX6_rightOf RX6 1 22) (hw : tWf N0) (hR : xnL Γ = 10) (r : TRl Γ N0 cX6_rightOf K) {a1 : Int32} (hM : N0 0 ≠ 0) {κ5 : Int64 → Int32 → tS → Prop} (hκ5 : ∀ (a2 : Int64) (a4 : Int32) (S : tS), κ5 a2 a4 S → TJ Γ N0 0 0 5 [(0, .ref (xad Γ 0)), (1, .int a1), (2, .long a2), (4, .int a4)] [] S) {κ39 : Int64 → Int32 → Int64 → Int32 → Int32 → tS → Prop} (hκ39 : ∀ (a2 : Int64) (a4 : Int32) (a5 : Int64) (a7 : Int32) (a8 : Int32) (S : tS), κ39 a2 a4 a5 a7 a8 S → TJ Γ N0 0 0 39 [(0, .ref (xad Γ 0)), (1, .int a1), (2, .long a2), (4, .int a4), (5, .long a5), (7, .int a7), (8, .int a8)] [] S) {a2 : Int64} {a4 : Int32} {a5 : Int64} {a7 : Int32} {a8 : Int32} {S : tS} (hf : M_rightOf_b129 a1 K κ5 κ39 a2 a4 a5 a7 a8 S) : TJ Γ N0 0 0 129 [(0, .ref (xad Γ 0)), (1, .int a1), (2, .long a2), (4, .int a4), (5, .long a5), (7, .int a7), (8, .int a8)] [] S := by
  unfold M_rightOf_b129 at hf
  obtain ⟨x18, ex⟩ : ∃ y : Int32, y = a8 + nI 1 := ⟨_, rfl⟩
  refine tj_iinc C (by rw [hR]; decide) 6 [(8, .int x18), (0, .ref (xad Γ 0)), (1, .int a1), (2, .long a2), (4, .int a4), (5, .long a5), (7, .int a7)] rfl (by rw [ex]; exact ki_1 _) rfl dX6_rightOf_129 ?_
  replace hf := hf x18 ex
  refine tj_goto C 39 (by decide) dX6_rightOf_132 ?_
  exact tj_sub [1, 2, 3, 4, 5, 6, 0] (hκ39 _ _ _ _ _ _ hf) rfl
theorem w_M_rightOf_b126 {Γ : tX} {N0 : Nat → Nat} {K : Int64 → tS → Prop} (C : TC Γ cX6_rightOf RX6 1 22) (hw : tWf N0) (hR : xnL Γ = 10) (r : TRl Γ N0 cX6_rightOf K) {a1 : Int32} (hM : N0 0 ≠ 0) {κ5 : Int64 → Int32 → tS → Prop} (hκ5 : ∀ (a2 : Int64) (a4 : Int32) (S : tS), κ5 a2 a4 S → TJ Γ N0 0 0 5 [(0, .ref (xad Γ 0)), (1, .int a1), (2, .long a2), (4, .int a4)] [] S) {κ39 : Int64 → Int32 → Int64 → Int32 → Int32 → tS → Prop} (hκ39 : ∀ (a2 : Int64) (a4 : Int32) (a5 : Int64) (a7 : Int32) (a8 : Int32) (S : tS), κ39 a2 a4 a5 a7 a8 S → TJ Γ N0 0 0 39 [(0, .ref (xad Γ 0)), (1, .int a1), (2, .long a2), (4, .int a4), (5, .long a5), (7, .int a7), (8, .int a8)] [] S) {a2 : Int64} {a4 : Int32} {a5 : Int64} {a8 : Int32} {s0 : Int32} {s1 : Int32} {S : tS} (hf : M_rightOf_b126 a1 K κ5 κ39 a2 a4 a5 a8 s0 s1 S) : TJ Γ N0 0 0 126 [(0, .ref (xad Γ 0)), (1, .int a1), (2, .long a2), (4, .int a4), (5, .long a5), (8, .int a8)] [.int s1, .int s0] S := by
  unfold M_rightOf_b126 at hf
  refine tj_iadd C dX6_rightOf_126 ?_
  refine tj_topi (fun x19 ex => ?_)
  replace hf := hf x19 ex
  refine tj_istore C (by rw [hR]; decide) [(7, .int x19), (0, .ref (xad Γ 0)), (1, .int a1), (2, .long a2), (4, .int a4), (5, .long a5), (8, .int a8)] rfl dX6_rightOf_127 ?_
  exact tj_sub [1, 2, 3, 4, 5, 0, 6] (w_M_rightOf_b129 C hw hR r hM hκ5 hκ39 hf) rfl
theorem w_M_rightOf_b100 {Γ : tX} {N0 : Nat → Nat} {K : Int64 → tS → Prop} (C : TC Γ cX6_rightOf RX6 1 22) (hw : tWf N0) (hR : xnL Γ = 10) (r : TRl Γ N0 cX6_rightOf K) {a1 : Int32} (hM : N0 0 ≠ 0) {κ5 : Int64 → Int32 → tS → Prop} (hκ5 : ∀ (a2 : Int64) (a4 : Int32) (S : tS), κ5 a2 a4 S → TJ Γ N0 0 0 5 [(0, .ref (xad Γ 0)), (1, .int a1), (2, .long a2), (4, .int a4)] [] S) {κ39 : Int64 → Int32 → Int64 → Int32 → Int32 → tS → Prop} (hκ39 : ∀ (a2 : Int64) (a4 : Int32) (a5 : Int64) (a7 : Int32) (a8 : Int32) (S : tS), κ39 a2 a4 a5 a7 a8 S → TJ Γ N0 0 0 39 [(0, .ref (xad Γ 0)), (1, .int a1), (2, .long a2), (4, .int a4), (5, .long a5), (7, .int a7), (8, .int a8)] [] S) {a2 : Int64} {a4 : Int32} {a7 : Int32} {a8 : Int32} {a9 : Int32} {s0 : Int64} {s1 : Int64} {S : tS} (hf : M_rightOf_b100 a1 K κ5 κ39 a2 a4 a7 a8 a9 s0 s1 S) : TJ Γ N0 0 0 100 [(0, .ref (xad Γ 0)), (1, .int a1), (2, .long a2), (4, .int a4), (7, .int a7), (8, .int a8), (9, .int a9)] [.long s1, .long s0] S := by
  unfold M_rightOf_b100 at hf
  refine tj_lmul C dX6_rightOf_100 ?_
  refine tj_topl (fun x13 ex => ?_)
  replace hf := hf x13 ex
  refine tj_lstore C (by rw [hR]; decide) [(5, .long x13), (0, .ref (xad Γ 0)), (1, .int a1), (2, .long a2), (4, .int a4), (7, .int a7), (8, .int a8), (9, .int a9)] rfl dX6_rightOf_101 ?_
  refine tj_iload C 5 rfl dX6_rightOf_103 ?_
  refine tj_iload C 7 rfl dX6_rightOf_105 ?_
  refine tj_if_eq C 119 (by decide) dX6_rightOf_107 (fun hc => ?_) (fun hc => ?_)
  · replace hf := hf.1 hc
    refine tj_aload_n C 1 rfl rfl dX6_rightOf_119 ?_
    refine tj_iload C 6 rfl dX6_rightOf_120 ?_
    refine tj_callVi C (k := 0) [.int a8] [.int a7] (fun hN => c_M_votesOf (by rw [hN]; exact hM) hf) lk_X6_284 ty_X6_votesOf rfl (Nat.le_of_ble_eq_true rfl) (Nat.le_of_ble_eq_true rfl) (Nat.le_of_ble_eq_true rfl) hM rfl (by decide) rfl rfl dX6_rightOf_122 (fun r15 S14 hf => ?_)
    refine tj_ineg C dX6_rightOf_125 ?_
    exact tj_sub [1, 2, 3, 4, 0, 6] (w_M_rightOf_b126 C hw hR r hM hκ5 hκ39 hf) rfl
  · replace hf := hf.2 hc
    refine tj_aload_n C 1 rfl rfl dX6_rightOf_110 ?_
    refine tj_iload C 6 rfl dX6_rightOf_111 ?_
    refine tj_callVi C (k := 0) [.int a8] [.int a7] (fun hN => c_M_votesOf (by rw [hN]; exact hM) hf) lk_X6_284 ty_X6_votesOf rfl (Nat.le_of_ble_eq_true rfl) (Nat.le_of_ble_eq_true rfl) (Nat.le_of_ble_eq_true rfl) hM rfl (by decide) rfl rfl dX6_rightOf_113 (fun r17 S16 hf => ?_)
    refine tj_goto C 126 (by decide) dX6_rightOf_116 ?_
    exact tj_sub [1, 2, 3, 4, 0, 6] (w_M_rightOf_b126 C hw hR r hM hκ5 hκ39 hf) rfl
theorem w_M_rightOf_l39 {Γ : tX} {N0 : Nat → Nat} {K : Int64 → tS → Prop} (C : TC Γ cX6_rightOf RX6 1 22) (hw : tWf N0) (hR : xnL Γ = 10) (r : TRl Γ N0 cX6_rightOf K) {a1 : Int32} (hM : N0 0 ≠ 0) {κ5 : Int64 → Int32 → tS → Prop} (hκ5 : ∀ (a2 : Int64) (a4 : Int32) (S : tS), κ5 a2 a4 S → TJ Γ N0 0 0 5 [(0, .ref (xad Γ 0)), (1, .int a1), (2, .long a2), (4, .int a4)] [] S) : ∀ (n : Nat) (a2 : Int64) (a4 : Int32) (a5 : Int64) (a7 : Int32) (a8 : Int32) (S : tS), M_rightOf_l39 a1 K κ5 n a2 a4 a5 a7 a8 S → TJ Γ N0 0 0 39 [(0, .ref (xad Γ 0)), (1, .int a1), (2, .long a2), (4, .int a4), (5, .long a5), (7, .int a7), (8, .int a8)] [] S := by
  intro n
  induction n with
  | zero => intro a2 a4 a5 a7 a8 S hf; exact hf.elim
  | succ n ih =>
    intro a2 a4 a5 a7 a8 S hf
    unfold M_rightOf_l39 at hf
    refine tj_iload C 6 rfl dX6_rightOf_39 ?_
    refine tj_aload_n C 0 rfl rfl dX6_rightOf_41 ?_
    refine gf_X6_7 C hM dX6_rightOf_42 ?_
    refine tj_iconst C kc_4 dX6_rightOf_45 ?_
    refine tj_iald C 48 3548 rfl (ln_48 hw hM) 4 kn_4 (vp_in_nI (by decide) (by decide)) dX6_rightOf_46 ?_
    refine tj_icmp_ge C 135 (by decide) dX6_rightOf_47 (fun hc => ?_) (fun hc => ?_)
    · replace hf := hf.1 hc
      refine tj_lload_n C 2 rfl rfl dX6_rightOf_135 ?_
      refine tj_iload C 5 rfl dX6_rightOf_136 ?_
      refine tj_if_le C 146 (by decide) dX6_rightOf_138 (fun hc => ?_) (fun hc => ?_)
      · replace hf := hf.1 hc
        refine tj_lconst C (v := lN 0) rfl dX6_rightOf_146 ?_
        exact tj_sub [0, 1, 3] (w_M_rightOf_b147 C hw hR r hM hκ5 hf) rfl
      · replace hf := hf.2 hc
        refine tj_lload C 4 rfl dX6_rightOf_141 ?_
        refine tj_goto C 147 (by decide) dX6_rightOf_143 ?_
        exact tj_sub [0, 1, 3] (w_M_rightOf_b147 C hw hR r hM hκ5 hf) rfl
    · replace hf := hf.2 hc
      refine tj_aload_n C 0 rfl rfl dX6_rightOf_50 ?_
      refine tj_iload_n C 1 rfl rfl dX6_rightOf_51 ?_
      refine tj_iload C 6 rfl dX6_rightOf_52 ?_
      refine tj_callVz C (k := 0) [.int a1, .int a8] [] (fun hN => c_M_isIn (by rw [hN]; exact hM) hf) lk_X6_315 ty_X6_isIn rfl (Nat.le_of_ble_eq_true rfl) (Nat.le_of_ble_eq_true rfl) (Nat.le_of_ble_eq_true rfl) hM rfl (by decide) rfl rfl dX6_rightOf_54 (fun r4 S3 hf => ?_)
      have hz_r4 := hf.1
      replace hf := hf.2
      refine tj_if_ne C 63 (by decide) dX6_rightOf_57 (fun hc => ?_) (fun hc => ?_)
      · replace hf := hf.2 hc
        refine tj_aload_n C 0 rfl rfl dX6_rightOf_63 ?_
        refine tj_iload C 3 rfl dX6_rightOf_64 ?_
        refine tj_iload C 6 rfl dX6_rightOf_66 ?_
        refine tj_callVz C (k := 0) [.int a4, .int a8] [] (fun hN => c_M_isIn (by rw [hN]; exact hM) hf) lk_X6_315 ty_X6_isIn rfl (Nat.le_of_ble_eq_true rfl) (Nat.le_of_ble_eq_true rfl) (Nat.le_of_ble_eq_true rfl) hM rfl (by decide) rfl rfl dX6_rightOf_68 (fun r6 S5 hf => ?_)
        have hz_r6 := hf.1
        replace hf := hf.2
        refine tj_istore C (by rw [hR]; decide) [(9, .int r6), (0, .ref (xad Γ 0)), (1, .int a1), (2, .long a2), (4, .int a4), (5, .long a5), (7, .int a7), (8, .int a8)] rfl dX6_rightOf_71 ?_
        refine tj_lload C 5 rfl dX6_rightOf_73 ?_
        refine tj_iload C 0 rfl dX6_rightOf_75 ?_
        refine tj_if_eq C 93 (by decide) dX6_rightOf_77 (fun hc => ?_) (fun hc => ?_)
        · replace hf := hf.1 hc
          refine tj_aload_n C 1 rfl rfl dX6_rightOf_93 ?_
          refine tj_iload C 7 rfl dX6_rightOf_94 ?_
          refine tj_callVi C (k := 0) [.int a8] [.long a5] (fun hN => c_M_slipOf (by rw [hN]; exact hM) hf) lk_X6_312 ty_X6_slipOf rfl (Nat.le_of_ble_eq_true rfl) (Nat.le_of_ble_eq_true rfl) (Nat.le_of_ble_eq_true rfl) hM rfl (by decide) rfl rfl dX6_rightOf_96 (fun r8 S7 hf => ?_)
          refine tj_i2l C dX6_rightOf_99 ?_
          exact tj_sub [1, 2, 3, 4, 6, 7, 0] (w_M_rightOf_b100 C hw hR r hM hκ5 ih hf) rfl
        · replace hf := hf.2 hc
          refine tj_bipush C kb_16 dX6_rightOf_80 ?_
          refine tj_aload_n C 1 rfl rfl dX6_rightOf_82 ?_
          refine tj_iload C 7 rfl dX6_rightOf_83 ?_
          refine tj_callVi C (k := 0) [.int a8] [.int (nI 16), .long a5] (fun hN => c_M_slipOf (by rw [hN]; exact hM) hf) lk_X6_312 ty_X6_slipOf rfl (Nat.le_of_ble_eq_true rfl) (Nat.le_of_ble_eq_true rfl) (Nat.le_of_ble_eq_true rfl) hM rfl (by decide) rfl rfl dX6_rightOf_85 (fun r10 S9 hf => ?_)
          refine tj_isub C dX6_rightOf_88 ?_
          refine tj_i2l C dX6_rightOf_89 ?_
          refine tj_goto C 100 (by decide) dX6_rightOf_90 ?_
          exact tj_sub [1, 2, 3, 4, 6, 7, 0] (w_M_rightOf_b100 C hw hR r hM hκ5 ih hf) rfl
      · replace hf := hf.1 hc
        refine tj_goto C 129 (by decide) dX6_rightOf_60 ?_
        exact w_M_rightOf_b129 C hw hR r hM hκ5 ih hf
theorem w_M_rightOf_l5 {Γ : tX} {N0 : Nat → Nat} {K : Int64 → tS → Prop} (C : TC Γ cX6_rightOf RX6 1 22) (hw : tWf N0) (hR : xnL Γ = 10) (r : TRl Γ N0 cX6_rightOf K) {a1 : Int32} (hM : N0 0 ≠ 0) : ∀ (n : Nat) (a2 : Int64) (a4 : Int32) (S : tS), M_rightOf_l5 a1 K n a2 a4 S → TJ Γ N0 0 0 5 [(0, .ref (xad Γ 0)), (1, .int a1), (2, .long a2), (4, .int a4)] [] S := by
  intro n
  induction n with
  | zero => intro a2 a4 S hf; exact hf.elim
  | succ n ih =>
    intro a2 a4 S hf
    unfold M_rightOf_l5 at hf
    refine tj_iload C 3 rfl dX6_rightOf_5 ?_
    refine tj_iconst C kc_1 dX6_rightOf_7 ?_
    refine tj_aload_n C 0 rfl rfl dX6_rightOf_8 ?_
    refine gf_X6_7 C hM dX6_rightOf_9 ?_
    refine tj_iconst C kc_4 dX6_rightOf_12 ?_
    refine tj_iald C 48 3548 rfl (ln_48 hw hM) 4 kn_4 (vp_in_nI (by decide) (by decide)) dX6_rightOf_13 ?_
    refine tj_ishl C dX6_rightOf_14 ?_
    refine tj_icmp_ge C 155 (by decide) dX6_rightOf_15 (fun hc => ?_) (fun hc => ?_)
    · replace hf := hf.1 hc
      refine tj_lload_n C 2 rfl rfl dX6_rightOf_155 ?_
      exact r _ _ _ _ dX6_rightOf_156 hf
    · replace hf := hf.2 hc
      refine tj_iload C 3 rfl dX6_rightOf_18 ?_
      refine tj_iload_n C 1 rfl rfl dX6_rightOf_20 ?_
      refine tj_iconst C kc_m1 dX6_rightOf_21 ?_
      refine tj_ixor C dX6_rightOf_22 ?_
      refine tj_iand C dX6_rightOf_23 ?_
      refine tj_if_eq C 30 (by decide) dX6_rightOf_24 (fun hc => ?_) (fun hc => ?_)
      · replace hf := hf.1 hc
        refine tj_lconst C (v := lN 1) rfl dX6_rightOf_30 ?_
        refine tj_topl (fun x2 ex => ?_)
        replace hf := hf x2 ex
        refine tj_lstore C (by rw [hR]; decide) [(5, .long x2), (0, .ref (xad Γ 0)), (1, .int a1), (2, .long a2), (4, .int a4)] rfl dX6_rightOf_31 ?_
        refine tj_iconst C kc_0 dX6_rightOf_33 ?_
        refine tj_istore C (by rw [hR]; decide) [(7, .int (nI 0)), (5, .long x2), (0, .ref (xad Γ 0)), (1, .int a1), (2, .long a2), (4, .int a4)] rfl dX6_rightOf_34 ?_
        refine tj_iconst C kc_0 dX6_rightOf_36 ?_
        refine tj_istore C (by rw [hR]; decide) [(8, .int (nI 0)), (7, .int (nI 0)), (5, .long x2), (0, .ref (xad Γ 0)), (1, .int a1), (2, .long a2), (4, .int a4)] rfl dX6_rightOf_37 ?_
        exact tj_sub [3, 4, 5, 6, 2, 1, 0] (hf.elim fun k hf => w_M_rightOf_l39 C hw hR r hM ih k _ _ _ _ _ _ hf) rfl
      · replace hf := hf.2 hc
        refine tj_goto C 149 (by decide) dX6_rightOf_27 ?_
        exact w_M_rightOf_b149 C hw hR r hM ih hf
theorem w_M_rightOf_b0 {Γ : tX} {N0 : Nat → Nat} {K : Int64 → tS → Prop} (C : TC Γ cX6_rightOf RX6 1 22) (hw : tWf N0) (hR : xnL Γ = 10) (r : TRl Γ N0 cX6_rightOf K) {a1 : Int32} (hM : N0 0 ≠ 0) {S : tS} (hf : M_rightOf a1 S K) : TJ Γ N0 0 0 0 [(0, .ref (xad Γ 0)), (1, .int a1)] [] S := by
  unfold M_rightOf at hf
  refine tj_lconst C (v := lN 0) rfl dX6_rightOf_0 ?_
  refine tj_topl (fun x1 ex => ?_)
  replace hf := hf x1 ex
  refine tj_lstore_n C (by rw [hR]; decide) [(2, .long x1), (0, .ref (xad Γ 0)), (1, .int a1)] rfl rfl dX6_rightOf_1 ?_
  refine tj_iconst C kc_0 dX6_rightOf_2 ?_
  refine tj_istore C (by rw [hR]; decide) [(4, .int (nI 0)), (2, .long x1), (0, .ref (xad Γ 0)), (1, .int a1)] rfl dX6_rightOf_3 ?_
  exact tj_sub [2, 3, 1, 0] (hf.elim fun k hf => w_M_rightOf_l5 C hw hR r hM k _ _ _ hf) rfl
theorem c_M_rightOf {l : Launch} {G : tG} {ad : Nat → Nat} {A : Nat → Prop} {S : tS} {K : Int64 → tS → Prop} {a1 : Int32} (hM : gN S 0 ≠ 0) (hf : M_rightOf a1 S K) : Met l yX6_rightOf (ws_ yX6_rightOf cX6_rightOf 10 (some .long)) (tRm 1 22) (va_Pc [.ref (ad 0), .int a1] (tPre G ad A S)) (va_Ql K (tB G ad A (gN S)) A) 0 0 A :=
  tj_met_l [(0, .ref (ad 0)), (1, .int a1)] pn_X6 rfl (Nat.le_of_ble_eq_true rfl) (fun p e R s m args below meth c Q C hw r => w_M_rightOf_b0 C hw rfl r hM hf)
theorem w_M_rule_b17 {Γ : tX} {N0 : Nat → Nat} {K : Int32 → tS → Prop} (C : TC Γ cX6_rule RX6 2 42) (hw : tWf N0) (hR : xnL Γ = 3) (r : TRi Γ N0 cX6_rule K) {a1 : Int32} {a2 : Int32} (hM : N0 0 ≠ 0) {S : tS} (hf : M_rule_b17 a1 a2 K  S) : TJ Γ N0 0 0 17 [(0, .ref (xad Γ 0))] [] S := by
  unfold M_rule_b17 at hf
  refine tj_aload_n C 0 rfl rfl dX6_rule_17 ?_
  refine tj_iconst C kc_1 dX6_rule_18 ?_
  refine tj_callVi C (k := 0) [.int (nI 1)] [] (fun hN => c_M_refuse (by rw [hN]; exact hM) hf) lk_X6_91 ty_X6_refuse rfl (Nat.le_of_ble_eq_true rfl) (Nat.le_of_ble_eq_true rfl) (Nat.le_of_ble_eq_true rfl) hM rfl (by decide) rfl rfl dX6_rule_19 (fun r32 S31 hf => ?_)
  exact r _ _ _ _ dX6_rule_22 hf
theorem w_M_rule_b0 {Γ : tX} {N0 : Nat → Nat} {K : Int32 → tS → Prop} (C : TC Γ cX6_rule RX6 2 42) (hw : tWf N0) (hR : xnL Γ = 3) (r : TRi Γ N0 cX6_rule K) {a1 : Int32} {a2 : Int32} (hM : N0 0 ≠ 0) {S : tS} (hf : M_rule a1 a2 S K) : TJ Γ N0 0 0 0 [(0, .ref (xad Γ 0)), (1, .int a1), (2, .int a2)] [] S := by
  unfold M_rule at hf
  refine tj_aload_n C 0 rfl rfl dX6_rule_0 ?_
  refine tj_iload_n C 1 rfl rfl dX6_rule_1 ?_
  refine tj_callVz C (k := 0) [.int a1] [] (fun hN => c_M_isRule (by rw [hN]; exact hM) hf) lk_X6_296 ty_X6_isRule rfl (Nat.le_of_ble_eq_true rfl) (Nat.le_of_ble_eq_true rfl) (Nat.le_of_ble_eq_true rfl) hM rfl (by decide) rfl rfl dX6_rule_2 (fun r2 S1 hf => ?_)
  have hz_r2 := hf.1
  replace hf := hf.2
  refine tj_if_eq C 17 (by decide) dX6_rule_5 (fun hc => ?_) (fun hc => ?_)
  · replace hf := hf.1 hc
    exact tj_sub [0] (w_M_rule_b17 C hw hR r hM hf) rfl
  · replace hf := hf.2 hc
    refine tj_iload_n C 2 rfl rfl dX6_rule_8 ?_
    refine tj_if_lt C 17 (by decide) dX6_rule_9 (fun hc => ?_) (fun hc => ?_)
    · replace hf := hf.1 hc
      exact tj_sub [0] (w_M_rule_b17 C hw hR r hM hf) rfl
    · replace hf := hf.2 hc
      refine tj_iload_n C 2 rfl rfl dX6_rule_12 ?_
      refine tj_iconst C kc_4 dX6_rule_13 ?_
      refine tj_icmp_le C 23 (by decide) dX6_rule_14 (fun hc => ?_) (fun hc => ?_)
      · replace hf := hf.1 hc
        refine tj_iload_n C 2 rfl rfl dX6_rule_23 ?_
        by_cases h0 : a2 = nI 0
        · replace hf := hf.1 h0
          refine tj_tswIn C 0 (off := 32) 56 (by decide) h0 (by decide) (by decide) (by decide) (by decide) dX6_rule_24 ?_
          refine tj_aload_n C 0 rfl rfl dX6_rule_56 ?_
          refine tj_aload_n C 0 rfl rfl dX6_rule_57 ?_
          refine tj_iload_n C 1 rfl rfl dX6_rule_58 ?_
          refine tj_iload_n C 2 rfl rfl dX6_rule_59 ?_
          refine tj_callVi C (k := 0) [.int a1, .int a2] [.ref (xad Γ 0)] (fun hN => c_M_ruleOf (by rw [hN]; exact hM) hf) lk_X6_299 ty_X6_ruleOf rfl (Nat.le_of_ble_eq_true rfl) (Nat.le_of_ble_eq_true rfl) (Nat.le_of_ble_eq_true rfl) hM rfl (by decide) rfl rfl dX6_rule_60 (fun r4 S3 hf => ?_)
          refine tj_callVi C (k := 0) [.int r4] [] (fun hN => c_M_gives (by rw [hN]; exact hM) hf) lk_X6_95 ty_X6_gives rfl (Nat.le_of_ble_eq_true rfl) (Nat.le_of_ble_eq_true rfl) (Nat.le_of_ble_eq_true rfl) hM rfl (by decide) rfl rfl dX6_rule_63 (fun r6 S5 hf => ?_)
          exact r _ _ _ _ dX6_rule_66 hf
        · replace hf := hf.2 h0
          by_cases h1 : a2 = nI 1
          · replace hf := hf.1 h1
            refine tj_tswIn C 1 (off := 32) 56 (by decide) h1 (by decide) (by decide) (by decide) (by decide) dX6_rule_24 ?_
            refine tj_aload_n C 0 rfl rfl dX6_rule_56 ?_
            refine tj_aload_n C 0 rfl rfl dX6_rule_57 ?_
            refine tj_iload_n C 1 rfl rfl dX6_rule_58 ?_
            refine tj_iload_n C 2 rfl rfl dX6_rule_59 ?_
            refine tj_callVi C (k := 0) [.int a1, .int a2] [.ref (xad Γ 0)] (fun hN => c_M_ruleOf (by rw [hN]; exact hM) hf) lk_X6_299 ty_X6_ruleOf rfl (Nat.le_of_ble_eq_true rfl) (Nat.le_of_ble_eq_true rfl) (Nat.le_of_ble_eq_true rfl) hM rfl (by decide) rfl rfl dX6_rule_60 (fun r8 S7 hf => ?_)
            refine tj_callVi C (k := 0) [.int r8] [] (fun hN => c_M_gives (by rw [hN]; exact hM) hf) lk_X6_95 ty_X6_gives rfl (Nat.le_of_ble_eq_true rfl) (Nat.le_of_ble_eq_true rfl) (Nat.le_of_ble_eq_true rfl) hM rfl (by decide) rfl rfl dX6_rule_63 (fun r10 S9 hf => ?_)
            exact r _ _ _ _ dX6_rule_66 hf
          · replace hf := hf.2 h1
            by_cases h2 : a2 = nI 2
            · replace hf := hf.1 h2
              refine tj_tswIn C 2 (off := 43) 67 (by decide) h2 (by decide) (by decide) (by decide) (by decide) dX6_rule_24 ?_
              refine tj_aload_n C 0 rfl rfl dX6_rule_67 ?_
              refine tj_iload_n C 1 rfl rfl dX6_rule_68 ?_
              refine tj_iconst C kc_2 dX6_rule_69 ?_
              refine tj_callVi C (k := 0) [.int a1, .int (nI 2)] [] (fun hN => c_M_ruleOf (by rw [hN]; exact hM) hf) lk_X6_299 ty_X6_ruleOf rfl (Nat.le_of_ble_eq_true rfl) (Nat.le_of_ble_eq_true rfl) (Nat.le_of_ble_eq_true rfl) hM rfl (by decide) rfl rfl dX6_rule_70 (fun r12 S11 hf => ?_)
              refine tj_if_ne C 85 (by decide) dX6_rule_73 (fun hc => ?_) (fun hc => ?_)
              · replace hf := hf.2 hc
                refine tj_aload_n C 0 rfl rfl dX6_rule_85 ?_
                refine tj_aload_n C 0 rfl rfl dX6_rule_86 ?_
                refine tj_iload_n C 1 rfl rfl dX6_rule_87 ?_
                refine tj_iconst C kc_3 dX6_rule_88 ?_
                refine tj_callVi C (k := 0) [.int a1, .int (nI 3)] [.ref (xad Γ 0)] (fun hN => c_M_ruleOf (by rw [hN]; exact hM) hf) lk_X6_299 ty_X6_ruleOf rfl (Nat.le_of_ble_eq_true rfl) (Nat.le_of_ble_eq_true rfl) (Nat.le_of_ble_eq_true rfl) hM rfl (by decide) rfl rfl dX6_rule_89 (fun r14 S13 hf => ?_)
                refine tj_callVi C (k := 0) [.int r14] [] (fun hN => c_M_gives (by rw [hN]; exact hM) hf) lk_X6_95 ty_X6_gives rfl (Nat.le_of_ble_eq_true rfl) (Nat.le_of_ble_eq_true rfl) (Nat.le_of_ble_eq_true rfl) hM rfl (by decide) rfl rfl dX6_rule_92 (fun r16 S15 hf => ?_)
                exact r _ _ _ _ dX6_rule_95 hf
              · replace hf := hf.1 hc
                refine tj_aload_n C 0 rfl rfl dX6_rule_76 ?_
                refine tj_bipush C kb_6 dX6_rule_77 ?_
                refine tj_callVi C (k := 0) [.int (nI 6)] [] (fun hN => c_M_refuse (by rw [hN]; exact hM) hf) lk_X6_91 ty_X6_refuse rfl (Nat.le_of_ble_eq_true rfl) (Nat.le_of_ble_eq_true rfl) (Nat.le_of_ble_eq_true rfl) hM rfl (by decide) rfl rfl dX6_rule_79 (fun r18 S17 hf => ?_)
                refine tj_goto C 95 (by decide) dX6_rule_82 ?_
                exact r _ _ _ _ dX6_rule_95 hf
            · replace hf := hf.2 h2
              by_cases h3 : a2 = nI 3
              · replace hf := hf.1 h3
                refine tj_tswIn C 3 (off := 72) 96 (by decide) h3 (by decide) (by decide) (by decide) (by decide) dX6_rule_24 ?_
                refine tj_aload_n C 0 rfl rfl dX6_rule_96 ?_
                refine tj_iload_n C 1 rfl rfl dX6_rule_97 ?_
                refine tj_iconst C kc_4 dX6_rule_98 ?_
                refine tj_callVi C (k := 0) [.int a1, .int (nI 4)] [] (fun hN => c_M_ruleOf (by rw [hN]; exact hM) hf) lk_X6_299 ty_X6_ruleOf rfl (Nat.le_of_ble_eq_true rfl) (Nat.le_of_ble_eq_true rfl) (Nat.le_of_ble_eq_true rfl) hM rfl (by decide) rfl rfl dX6_rule_99 (fun r20 S19 hf => ?_)
                refine tj_if_ne C 114 (by decide) dX6_rule_102 (fun hc => ?_) (fun hc => ?_)
                · replace hf := hf.2 hc
                  refine tj_aload_n C 0 rfl rfl dX6_rule_114 ?_
                  refine tj_aload_n C 0 rfl rfl dX6_rule_115 ?_
                  refine tj_iload_n C 1 rfl rfl dX6_rule_116 ?_
                  refine tj_iconst C kc_5 dX6_rule_117 ?_
                  refine tj_callVi C (k := 0) [.int a1, .int (nI 5)] [.ref (xad Γ 0)] (fun hN => c_M_ruleOf (by rw [hN]; exact hM) hf) lk_X6_299 ty_X6_ruleOf rfl (Nat.le_of_ble_eq_true rfl) (Nat.le_of_ble_eq_true rfl) (Nat.le_of_ble_eq_true rfl) hM rfl (by decide) rfl rfl dX6_rule_118 (fun r22 S21 hf => ?_)
                  refine tj_callVi C (k := 0) [.int r22] [] (fun hN => c_M_gives (by rw [hN]; exact hM) hf) lk_X6_95 ty_X6_gives rfl (Nat.le_of_ble_eq_true rfl) (Nat.le_of_ble_eq_true rfl) (Nat.le_of_ble_eq_true rfl) hM rfl (by decide) rfl rfl dX6_rule_121 (fun r24 S23 hf => ?_)
                  exact r _ _ _ _ dX6_rule_124 hf
                · replace hf := hf.1 hc
                  refine tj_aload_n C 0 rfl rfl dX6_rule_105 ?_
                  refine tj_bipush C kb_6 dX6_rule_106 ?_
                  refine tj_callVi C (k := 0) [.int (nI 6)] [] (fun hN => c_M_refuse (by rw [hN]; exact hM) hf) lk_X6_91 ty_X6_refuse rfl (Nat.le_of_ble_eq_true rfl) (Nat.le_of_ble_eq_true rfl) (Nat.le_of_ble_eq_true rfl) hM rfl (by decide) rfl rfl dX6_rule_108 (fun r26 S25 hf => ?_)
                  refine tj_goto C 124 (by decide) dX6_rule_111 ?_
                  exact r _ _ _ _ dX6_rule_124 hf
              · replace hf := hf.2 h3
                refine tj_tswOut C 0 4 125 (by decide) (fun k hk => match k, hk with | 0, _ => h0 | 1, _ => h1 | 2, _ => h2 | 3, _ => h3 | k + 4, hk => absurd hk (by omega)) (by decide) (by decide) (by decide) dX6_rule_24 ?_
                refine tj_aload_n C 0 rfl rfl dX6_rule_125 ?_
                refine tj_aload_n C 0 rfl rfl dX6_rule_126 ?_
                refine tj_iload_n C 1 rfl rfl dX6_rule_127 ?_
                refine tj_bipush C kb_6 dX6_rule_128 ?_
                refine tj_callVi C (k := 0) [.int a1, .int (nI 6)] [.ref (xad Γ 0)] (fun hN => c_M_ruleOf (by rw [hN]; exact hM) hf) lk_X6_299 ty_X6_ruleOf rfl (Nat.le_of_ble_eq_true rfl) (Nat.le_of_ble_eq_true rfl) (Nat.le_of_ble_eq_true rfl) hM rfl (by decide) rfl rfl dX6_rule_130 (fun r28 S27 hf => ?_)
                refine tj_callVi C (k := 0) [.int r28] [] (fun hN => c_M_orNone (by rw [hN]; exact hM) hf) lk_X6_302 ty_X6_orNone rfl (Nat.le_of_ble_eq_true rfl) (Nat.le_of_ble_eq_true rfl) (Nat.le_of_ble_eq_true rfl) hM rfl (by decide) rfl rfl dX6_rule_133 (fun r30 S29 hf => ?_)
                exact r _ _ _ _ dX6_rule_136 hf
      · replace hf := hf.2 hc
        exact tj_sub [0] (w_M_rule_b17 C hw hR r hM hf) rfl
theorem c_M_rule {l : Launch} {G : tG} {ad : Nat → Nat} {A : Nat → Prop} {S : tS} {K : Int32 → tS → Prop} {a1 : Int32} {a2 : Int32} (hM : gN S 0 ≠ 0) (hf : M_rule a1 a2 S K) : Met l yX6_rule (ws_ yX6_rule cX6_rule 3 (some .int)) (tRm 2 42) (va_Pc [.ref (ad 0), .int a1, .int a2] (tPre G ad A S)) (va_Qi K (tB G ad A (gN S)) A) 0 0 A :=
  tj_met_i [(0, .ref (ad 0)), (1, .int a1), (2, .int a2)] pn_X6 rfl (Nat.le_of_ble_eq_true rfl) (fun p e R s m args below meth c Q C hw r => w_M_rule_b0 C hw rfl r hM hf)
