set_option maxRecDepth 100000
theorem w_M_wouldShow_b0 {Γ : tX} {N0 : Nat → Nat} {K : Int32 → tS → Prop} (C : TC Γ cX6_wouldShow RX6 5 119) (hw : tWf N0) (hR : xnL Γ = 5) (r : TRi Γ N0 cX6_wouldShow K) {a1 : Int32} {a2 : Int32} {a3 : Int32} (hM : N0 0 ≠ 0) {S : tS} (hf : M_wouldShow a1 a2 a3 S K) : TJ Γ N0 0 0 0 [(0, .ref (xad Γ 0)), (1, .int a1), (2, .int a2), (3, .int a3)] [] S := by
  unfold M_wouldShow at hf
  refine tj_aload_n C 0 rfl rfl dX6_wouldShow_0 ?_
  refine tj_iload_n C 1 rfl rfl dX6_wouldShow_1 ?_
  refine tj_iload_n C 2 rfl rfl dX6_wouldShow_2 ?_
  refine tj_ishr C dX6_wouldShow_3 ?_
  refine tj_iconst C kc_1 dX6_wouldShow_4 ?_
  refine tj_iand C dX6_wouldShow_5 ?_
  refine tj_aload_n C 0 rfl rfl dX6_wouldShow_6 ?_
  refine tj_iload_n C 2 rfl rfl dX6_wouldShow_7 ?_
  refine tj_iconst C kc_0 dX6_wouldShow_8 ?_
  refine tj_callVi C (k := 0) [.int a2, .int (nI 0)] [.int ((a1 >>> (a2 &&& 31)) &&& (nI 1)), .ref (xad Γ 0)] (fun hN => c_M_personOf (by rw [hN]; exact hM) hf) lk_X6_281 ty_X6_personOf rfl (Nat.le_of_ble_eq_true rfl) (Nat.le_of_ble_eq_true rfl) (Nat.le_of_ble_eq_true rfl) hM rfl (by decide) rfl rfl dX6_wouldShow_9 (fun r2 S1 hf => ?_)
  refine tj_iload_n C 3 rfl rfl dX6_wouldShow_12 ?_
  refine tj_aload_n C 0 rfl rfl dX6_wouldShow_13 ?_
  refine tj_iload_n C 2 rfl rfl dX6_wouldShow_14 ?_
  refine tj_iconst C kc_1 dX6_wouldShow_15 ?_
  refine tj_callVi C (k := 0) [.int a2, .int (nI 1)] [.int a3, .int r2, .int ((a1 >>> (a2 &&& 31)) &&& (nI 1)), .ref (xad Γ 0)] (fun hN => c_M_personOf (by rw [hN]; exact hM) hf) lk_X6_281 ty_X6_personOf rfl (Nat.le_of_ble_eq_true rfl) (Nat.le_of_ble_eq_true rfl) (Nat.le_of_ble_eq_true rfl) hM rfl (by decide) rfl rfl dX6_wouldShow_16 (fun r4 S3 hf => ?_)
  refine tj_callVi C (k := 0) [.int ((a1 >>> (a2 &&& 31)) &&& (nI 1)), .int r2, .int a3, .int r4] [] (fun hN => c_M_cueOf (by rw [hN]; exact hM) hf) lk_X6_382 ty_X6_cueOf rfl (Nat.le_of_ble_eq_true rfl) (Nat.le_of_ble_eq_true rfl) (Nat.le_of_ble_eq_true rfl) hM rfl (by decide) rfl rfl dX6_wouldShow_19 (fun r6 S5 hf => ?_)
  refine tj_istore C (by rw [hR]; decide) [(4, .int r6), (0, .ref (xad Γ 0)), (1, .int a1), (2, .int a2), (3, .int a3)] rfl dX6_wouldShow_22 ?_
  refine tj_iload C 0 rfl dX6_wouldShow_24 ?_
  refine tj_iconst C kc_m1 dX6_wouldShow_26 ?_
  refine tj_icmp_ne C 39 (by decide) dX6_wouldShow_27 (fun hc => ?_) (fun hc => ?_)
  · replace hf := hf.2 hc
    refine tj_iload C 0 rfl dX6_wouldShow_39 ?_
    exact r _ _ _ _ dX6_wouldShow_41 hf
  · replace hf := hf.1 hc
    refine tj_aload_n C 1 rfl rfl dX6_wouldShow_30 ?_
    refine gf_X6_7 C hM dX6_wouldShow_31 ?_
    refine tj_iconst C kc_1 dX6_wouldShow_34 ?_
    refine tj_iald C 48 3548 rfl (ln_48 hw hM) 1 kn_1 (vp_in_nI (by decide) (by decide)) dX6_wouldShow_35 ?_
    refine tj_goto C 41 (by decide) dX6_wouldShow_36 ?_
    exact r _ _ _ _ dX6_wouldShow_41 hf
theorem c_M_wouldShow {l : Launch} {G : tG} {ad : Nat → Nat} {A : Nat → Prop} {S : tS} {K : Int32 → tS → Prop} {a1 : Int32} {a2 : Int32} {a3 : Int32} (hM : gN S 0 ≠ 0) (hf : M_wouldShow a1 a2 a3 S K) : Met l yX6_wouldShow (ws_ yX6_wouldShow cX6_wouldShow 5 (some .int)) (tRm 5 119) (va_Pc [.ref (ad 0), .int a1, .int a2, .int a3] (tPre G ad A S)) (va_Qi K (tB G ad A (gN S)) A) 0 0 A :=
  tj_met_i [(0, .ref (ad 0)), (1, .int a1), (2, .int a2), (3, .int a3)] pn_X6 rfl (Nat.le_of_ble_eq_true rfl) (fun p e R s m args below meth c Q C hw r => w_M_wouldShow_b0 C hw rfl r hM hf)
theorem w_M_doesFit_l3 {Γ : tX} {N0 : Nat → Nat} {K : Int32 → tS → Prop} (C : TC Γ cX6_doesFit RX6 6 143) (hw : tWf N0) (hR : xnL Γ = 6) (r : TRz Γ N0 cX6_doesFit K) {a1 : Int32} {a2 : Int32} {a3 : Int32} (hM : N0 0 ≠ 0) : ∀ (n : Nat) (a4 : Int32) (S : tS), M_doesFit_l3 a1 a2 a3 K n a4 S → TJ Γ N0 0 0 3 [(0, .ref (xad Γ 0)), (1, .int a1), (2, .int a2), (3, .int a3), (4, .int a4)] [] S := by
  intro n
  induction n with
  | zero => intro a4 S hf; exact hf.elim
  | succ n ih =>
    intro a4 S hf
    unfold M_doesFit_l3 at hf
    refine tj_iload C 4 rfl dX6_doesFit_3 ?_
    refine tj_iload_n C 3 rfl rfl dX6_doesFit_5 ?_
    refine tj_icmp_ge C 65 (by decide) dX6_doesFit_6 (fun hc => ?_) (fun hc => ?_)
    · replace hf := hf.1 hc
      refine tj_iconst C kc_1 dX6_doesFit_65 ?_
      exact r _ _ _ _ dX6_doesFit_66 zb1 hf
    · replace hf := hf.2 hc
      refine tj_bipush C kb_60 dX6_doesFit_9 ?_
      refine tj_iload_n C 2 rfl rfl dX6_doesFit_11 ?_
      refine tj_imul C dX6_doesFit_12 ?_
      refine tj_iconst C kc_3 dX6_doesFit_13 ?_
      refine tj_iload C 4 rfl dX6_doesFit_14 ?_
      refine tj_imul C dX6_doesFit_16 ?_
      refine tj_iadd C dX6_doesFit_17 ?_
      refine tj_topi (fun x1 ex => ?_)
      replace hf := hf x1 ex
      refine tj_istore C (by rw [hR]; decide) [(5, .int x1), (0, .ref (xad Γ 0)), (1, .int a1), (2, .int a2), (3, .int a3), (4, .int a4)] rfl dX6_doesFit_18 ?_
      refine tj_aload_n C 1 rfl rfl dX6_doesFit_20 ?_
      refine tj_iload_n C 2 rfl rfl dX6_doesFit_21 ?_
      refine tj_aload_n C 1 rfl rfl dX6_doesFit_22 ?_
      refine gf_X6_27 C hM dX6_doesFit_23 ?_
      refine tj_iload C 0 rfl dX6_doesFit_26 ?_
      refine tj_lald C 177 240 rfl (ln_177 hw hM) _ rfl hf.1 dX6_doesFit_28 ?_
      replace hf := hf.2
      refine tj_l2i C dX6_doesFit_29 ?_
      refine tj_aload_n C 1 rfl rfl dX6_doesFit_30 ?_
      refine gf_X6_27 C hM dX6_doesFit_31 ?_
      refine tj_iload C 0 rfl dX6_doesFit_34 ?_
      refine tj_iconst C kc_1 dX6_doesFit_36 ?_
      refine tj_iadd C dX6_doesFit_37 ?_
      refine tj_lald C 177 240 rfl (ln_177 hw hM) _ rfl hf.1 dX6_doesFit_38 ?_
      replace hf := hf.2
      refine tj_l2i C dX6_doesFit_39 ?_
      refine tj_callVi C (k := 0) [.int a1, .int ((gL S 177 (x1.toNatClampNeg)).toInt32), .int ((gL S 177 ((x1 + (nI 1)).toNatClampNeg)).toInt32)] [] (fun hN => c_M_wouldShow (by rw [hN]; exact hM) hf) lk_X6_385 ty_X6_wouldShow rfl (Nat.le_of_ble_eq_true rfl) (Nat.le_of_ble_eq_true rfl) (Nat.le_of_ble_eq_true rfl) hM rfl (by decide) rfl rfl dX6_doesFit_40 (fun r3 S2 hf => ?_)
      refine tj_i2l C dX6_doesFit_43 ?_
      refine tj_aload_n C 1 rfl rfl dX6_doesFit_44 ?_
      refine gf_X6_27 C hM dX6_doesFit_45 ?_
      refine tj_iload C 0 rfl dX6_doesFit_48 ?_
      refine tj_iconst C kc_2 dX6_doesFit_50 ?_
      refine tj_iadd C dX6_doesFit_51 ?_
      refine tj_lald C 177 240 rfl (ln_177 hw hM) _ rfl hf.1 dX6_doesFit_52 ?_
      replace hf := hf.2
      refine tj_lcmp C dX6_doesFit_53 ?_
      refine tj_if_eq C 59 (by decide) dX6_doesFit_54 (fun hc => ?_) (fun hc => ?_)
      · replace hf := hf.1 hc
        obtain ⟨x4, ex⟩ : ∃ y : Int32, y = a4 + nI 1 := ⟨_, rfl⟩
        refine tj_iinc C (by rw [hR]; decide) 5 [(4, .int x4), (5, .int x1), (0, .ref (xad Γ 0)), (1, .int a1), (2, .int a2), (3, .int a3)] rfl (by rw [ex]; exact ki_1 _) rfl dX6_doesFit_59 ?_
        replace hf := hf x4 ex
        refine tj_goto C 3 (by decide) dX6_doesFit_62 ?_
        exact tj_sub [2, 3, 4, 5, 0] (ih _ _ hf) rfl
      · replace hf := hf.2 hc
        refine tj_iconst C kc_0 dX6_doesFit_57 ?_
        exact r _ _ _ _ dX6_doesFit_58 zb0 hf
theorem w_M_doesFit_b0 {Γ : tX} {N0 : Nat → Nat} {K : Int32 → tS → Prop} (C : TC Γ cX6_doesFit RX6 6 143) (hw : tWf N0) (hR : xnL Γ = 6) (r : TRz Γ N0 cX6_doesFit K) {a1 : Int32} {a2 : Int32} {a3 : Int32} (hM : N0 0 ≠ 0) {S : tS} (hf : M_doesFit a1 a2 a3 S K) : TJ Γ N0 0 0 0 [(0, .ref (xad Γ 0)), (1, .int a1), (2, .int a2), (3, .int a3)] [] S := by
  unfold M_doesFit at hf
  refine tj_iconst C kc_0 dX6_doesFit_0 ?_
  refine tj_istore C (by rw [hR]; decide) [(4, .int (nI 0)), (0, .ref (xad Γ 0)), (1, .int a1), (2, .int a2), (3, .int a3)] rfl dX6_doesFit_1 ?_
  exact tj_sub [1, 2, 3, 4, 0] (hf.elim fun k hf => w_M_doesFit_l3 C hw hR r hM k _ _ hf) rfl
theorem c_M_doesFit {l : Launch} {G : tG} {ad : Nat → Nat} {A : Nat → Prop} {S : tS} {K : Int32 → tS → Prop} {a1 : Int32} {a2 : Int32} {a3 : Int32} (hM : gN S 0 ≠ 0) (hf : M_doesFit a1 a2 a3 S K) : Met l yX6_doesFit (ws_ yX6_doesFit cX6_doesFit 6 (some .boolean)) (tRm 6 143) (va_Pc [.ref (ad 0), .int a1, .int a2, .int a3] (tPre G ad A S)) (va_Qi (fun r u => r &&& 1 = r ∧ K r u) (tB G ad A (gN S)) A) 0 0 A :=
  tj_met_z [(0, .ref (ad 0)), (1, .int a1), (2, .int a2), (3, .int a3)] pn_X6 rfl (Nat.le_of_ble_eq_true rfl) (fun p e R s m args below meth c Q C hw r => w_M_doesFit_b0 C hw rfl r hM hf)
theorem w_M_laysFits_b51 {Γ : tX} {N0 : Nat → Nat} {K : tS → Prop} (C : TC Γ cX6_laysFits RX6 7 168) (hw : tWf N0) (hR : xnL Γ = 4) (r : TRv Γ N0 cX6_laysFits K) {a1 : Int32} {a2 : Int32} (hM : N0 0 ≠ 0) {κ7 : Int32 → tS → Prop} (hκ7 : ∀ (a3 : Int32) (S : tS), κ7 a3 S → TJ Γ N0 0 0 7 [(0, .ref (xad Γ 0)), (1, .int a1), (2, .int a2), (3, .int a3)] [] S) {a3 : Int32} {s1 : Int32} {s2 : Int32} {S : tS} (hf : M_laysFits_b51 a1 a2 K κ7 a3 s1 s2 S) : TJ Γ N0 0 0 51 [(0, .ref (xad Γ 0)), (1, .int a1), (2, .int a2), (3, .int a3)] [.int s2, .int s1, .ref (xad Γ 0)] S := by
  unfold M_laysFits_b51 at hf
  refine tj_iadd C dX6_laysFits_51 ?_
  refine pf_X6_389 C hM dX6_laysFits_52 ?_
  refine tj_topS (fun S5 eS => ?_)
  replace hf := hf S5 eS
  obtain ⟨x6, ex⟩ : ∃ y : Int32, y = a3 + nI 1 := ⟨_, rfl⟩
  refine tj_iinc C (by rw [hR]; decide) 3 [(3, .int x6), (0, .ref (xad Γ 0)), (1, .int a1), (2, .int a2)] rfl (by rw [ex]; exact ki_1 _) rfl dX6_laysFits_55 ?_
  replace hf := hf x6 ex
  refine tj_goto C 7 (by decide) dX6_laysFits_58 ?_
  exact tj_sub [1, 2, 3, 0] (hκ7 _ _ hf) rfl
theorem w_M_laysFits_l7 {Γ : tX} {N0 : Nat → Nat} {K : tS → Prop} (C : TC Γ cX6_laysFits RX6 7 168) (hw : tWf N0) (hR : xnL Γ = 4) (r : TRv Γ N0 cX6_laysFits K) {a1 : Int32} {a2 : Int32} (hM : N0 0 ≠ 0) : ∀ (n : Nat) (a3 : Int32) (S : tS), M_laysFits_l7 a1 a2 K n a3 S → TJ Γ N0 0 0 7 [(0, .ref (xad Γ 0)), (1, .int a1), (2, .int a2), (3, .int a3)] [] S := by
  intro n
  induction n with
  | zero => intro a3 S hf; exact hf.elim
  | succ n ih =>
    intro a3 S hf
    unfold M_laysFits_l7 at hf
    refine tj_iload_n C 3 rfl rfl dX6_laysFits_7 ?_
    refine tj_iconst C kc_1 dX6_laysFits_8 ?_
    refine tj_aload_n C 0 rfl rfl dX6_laysFits_9 ?_
    refine gf_X6_7 C hM dX6_laysFits_10 ?_
    refine tj_iconst C kc_3 dX6_laysFits_13 ?_
    refine tj_iald C 48 3548 rfl (ln_48 hw hM) 3 kn_3 (vp_in_nI (by decide) (by decide)) dX6_laysFits_14 ?_
    refine tj_ishl C dX6_laysFits_15 ?_
    refine tj_icmp_ge C 61 (by decide) dX6_laysFits_16 (fun hc => ?_) (fun hc => ?_)
    · replace hf := hf.1 hc
      exact r _ _ _ dX6_laysFits_61 hf
    · replace hf := hf.2 hc
      refine tj_aload_n C 0 rfl rfl dX6_laysFits_19 ?_
      refine gf_X6_47 C hM dX6_laysFits_20 ?_
      refine tj_iload_n C 3 rfl rfl dX6_laysFits_23 ?_
      refine tj_aload_n C 0 rfl rfl dX6_laysFits_24 ?_
      refine tj_iload_n C 3 rfl rfl dX6_laysFits_25 ?_
      refine tj_iload_n C 1 rfl rfl dX6_laysFits_26 ?_
      refine tj_iload_n C 2 rfl rfl dX6_laysFits_27 ?_
      refine tj_callVz C (k := 0) [.int a3, .int a1, .int a2] [.int a3, .ref (xad Γ 308)] (fun hN => c_M_doesFit (by rw [hN]; exact hM) hf) lk_X6_392 ty_X6_doesFit rfl (Nat.le_of_ble_eq_true rfl) (Nat.le_of_ble_eq_true rfl) (Nat.le_of_ble_eq_true rfl) hM rfl (by decide) rfl rfl dX6_laysFits_28 (fun r3 S2 hf => ?_)
      have hz_r3 := hf.1
      replace hf := hf.2
      refine tj_zast C 308 64 rfl (ln_308 hw hM) _ rfl hf.1 dX6_laysFits_31 ?_
      replace hf := hf.2
      refine tj_topS (fun S4 eS => ?_)
      replace hf := hf S4 eS
      refine tj_aload_n C 0 rfl rfl dX6_laysFits_32 ?_
      refine tj_dup C rfl dX6_laysFits_33 ?_
      refine gf_X6_389 C hM dX6_laysFits_34 ?_
      refine tj_aload_n C 0 rfl rfl dX6_laysFits_37 ?_
      refine gf_X6_47 C hM dX6_laysFits_38 ?_
      refine tj_iload_n C 3 rfl rfl dX6_laysFits_41 ?_
      refine tj_zald C 308 64 rfl (ln_308 hw hM) _ rfl hf.1 dX6_laysFits_42 ?_
      replace hf := hf.2
      refine tj_if_eq C 50 (by decide) dX6_laysFits_43 (fun hc => ?_) (fun hc => ?_)
      · replace hf := hf.1 hc
        refine tj_iconst C kc_0 dX6_laysFits_50 ?_
        exact w_M_laysFits_b51 C hw hR r hM ih hf
      · replace hf := hf.2 hc
        refine tj_iconst C kc_1 dX6_laysFits_46 ?_
        refine tj_goto C 51 (by decide) dX6_laysFits_47 ?_
        exact w_M_laysFits_b51 C hw hR r hM ih hf
theorem w_M_laysFits_b0 {Γ : tX} {N0 : Nat → Nat} {K : tS → Prop} (C : TC Γ cX6_laysFits RX6 7 168) (hw : tWf N0) (hR : xnL Γ = 4) (r : TRv Γ N0 cX6_laysFits K) {a1 : Int32} {a2 : Int32} (hM : N0 0 ≠ 0) {S : tS} (hf : M_laysFits a1 a2 S K) : TJ Γ N0 0 0 0 [(0, .ref (xad Γ 0)), (1, .int a1), (2, .int a2)] [] S := by
  unfold M_laysFits at hf
  refine tj_aload_n C 0 rfl rfl dX6_laysFits_0 ?_
  refine tj_iconst C kc_0 dX6_laysFits_1 ?_
  refine pf_X6_389 C hM dX6_laysFits_2 ?_
  refine tj_topS (fun S1 eS => ?_)
  replace hf := hf S1 eS
  refine tj_iconst C kc_0 dX6_laysFits_5 ?_
  refine tj_istore_n C (by rw [hR]; decide) [(3, .int (nI 0)), (0, .ref (xad Γ 0)), (1, .int a1), (2, .int a2)] rfl rfl dX6_laysFits_6 ?_
  exact tj_sub [1, 2, 3, 0] (hf.elim fun k hf => w_M_laysFits_l7 C hw hR r hM k _ _ hf) rfl
theorem c_M_laysFits {l : Launch} {G : tG} {ad : Nat → Nat} {A : Nat → Prop} {S : tS} {K : tS → Prop} {a1 : Int32} {a2 : Int32} (hM : gN S 0 ≠ 0) (hf : M_laysFits a1 a2 S K) : Met l yX6_laysFits (ws_ yX6_laysFits cX6_laysFits 4 (none)) (tRm 7 168) (va_Pc [.ref (ad 0), .int a1, .int a2] (tPre G ad A S)) (va_Qv K (tB G ad A (gN S)) A) 0 0 A :=
  tj_met_v [(0, .ref (ad 0)), (1, .int a1), (2, .int a2)] pn_X6 rfl (Nat.le_of_ble_eq_true rfl) (fun p e R s m args below meth c Q C hw r => w_M_laysFits_b0 C hw rfl r hM hf)
theorem w_M_mostAlike_b88 {Γ : tX} {N0 : Nat → Nat} {K : Int32 → tS → Prop} (C : TC Γ cX6_mostAlike RX6 6 143) (hw : tWf N0) (hR : xnL Γ = 6) (r : TRi Γ N0 cX6_mostAlike K) {a1 : Int32} {a2 : Int32} (hM : N0 0 ≠ 0) {κ29 : Int32 → Int32 → tS → Prop} (hκ29 : ∀ (a3 : Int32) (a4 : Int32) (S : tS), κ29 a3 a4 S → TJ Γ N0 0 0 29 [(0, .ref (xad Γ 0)), (1, .int a1), (2, .int a2), (3, .int a3), (4, .int a4)] [] S) {a3 : Int32} {a4 : Int32} {S : tS} (hf : M_mostAlike_b88 a1 a2 K κ29 a3 a4 S) : TJ Γ N0 0 0 88 [(0, .ref (xad Γ 0)), (1, .int a1), (2, .int a2), (3, .int a3), (4, .int a4)] [] S := by
  unfold M_mostAlike_b88 at hf
  obtain ⟨x7, ex⟩ : ∃ y : Int32, y = a4 + nI 1 := ⟨_, rfl⟩
  refine tj_iinc C (by rw [hR]; decide) 4 [(4, .int x7), (0, .ref (xad Γ 0)), (1, .int a1), (2, .int a2), (3, .int a3)] rfl (by rw [ex]; exact ki_1 _) rfl dX6_mostAlike_88 ?_
  replace hf := hf x7 ex
  refine tj_goto C 29 (by decide) dX6_mostAlike_91 ?_
  exact tj_sub [1, 2, 3, 4, 0] (hκ29 _ _ _ hf) rfl
theorem w_M_mostAlike_l29 {Γ : tX} {N0 : Nat → Nat} {K : Int32 → tS → Prop} (C : TC Γ cX6_mostAlike RX6 6 143) (hw : tWf N0) (hR : xnL Γ = 6) (r : TRi Γ N0 cX6_mostAlike K) {a1 : Int32} {a2 : Int32} (hM : N0 0 ≠ 0) : ∀ (n : Nat) (a3 : Int32) (a4 : Int32) (S : tS), M_mostAlike_l29 a1 a2 K n a3 a4 S → TJ Γ N0 0 0 29 [(0, .ref (xad Γ 0)), (1, .int a1), (2, .int a2), (3, .int a3), (4, .int a4)] [] S := by
  intro n
  induction n with
  | zero => intro a3 a4 S hf; exact hf.elim
  | succ n ih =>
    intro a3 a4 S hf
    unfold M_mostAlike_l29 at hf
    refine tj_iload C 4 rfl dX6_mostAlike_29 ?_
    refine tj_iconst C kc_1 dX6_mostAlike_31 ?_
    refine tj_aload_n C 0 rfl rfl dX6_mostAlike_32 ?_
    refine gf_X6_7 C hM dX6_mostAlike_33 ?_
    refine tj_iconst C kc_3 dX6_mostAlike_36 ?_
    refine tj_iald C 48 3548 rfl (ln_48 hw hM) 3 kn_3 (vp_in_nI (by decide) (by decide)) dX6_mostAlike_37 ?_
    refine tj_ishl C dX6_mostAlike_38 ?_
    refine tj_icmp_ge C 94 (by decide) dX6_mostAlike_39 (fun hc => ?_) (fun hc => ?_)
    · replace hf := hf.1 hc
      refine tj_iload_n C 3 rfl rfl dX6_mostAlike_94 ?_
      exact r _ _ _ _ dX6_mostAlike_95 hf
    · replace hf := hf.2 hc
      refine tj_aload_n C 0 rfl rfl dX6_mostAlike_42 ?_
      refine gf_X6_47 C hM dX6_mostAlike_43 ?_
      refine tj_iload C 4 rfl dX6_mostAlike_46 ?_
      refine tj_zald C 308 64 rfl (ln_308 hw hM) _ rfl hf.1 dX6_mostAlike_48 ?_
      replace hf := hf.2
      refine tj_if_ne C 55 (by decide) dX6_mostAlike_49 (fun hc => ?_) (fun hc => ?_)
      · replace hf := hf.2 hc
        refine tj_aload_n C 0 rfl rfl dX6_mostAlike_55 ?_
        refine tj_iload C 4 rfl dX6_mostAlike_56 ?_
        refine tj_iload_n C 1 rfl rfl dX6_mostAlike_58 ?_
        refine tj_iload_n C 2 rfl rfl dX6_mostAlike_59 ?_
        refine tj_callVi C (k := 0) [.int a4, .int a1, .int a2] [] (fun hN => c_M_wouldShow (by rw [hN]; exact hM) hf) lk_X6_385 ty_X6_wouldShow rfl (Nat.le_of_ble_eq_true rfl) (Nat.le_of_ble_eq_true rfl) (Nat.le_of_ble_eq_true rfl) hM rfl (by decide) rfl rfl dX6_mostAlike_60 (fun r4 S3 hf => ?_)
        refine tj_istore C (by rw [hR]; decide) [(5, .int r4), (0, .ref (xad Γ 0)), (1, .int a1), (2, .int a2), (3, .int a3), (4, .int a4)] rfl dX6_mostAlike_63 ?_
        refine tj_aload_n C 1 rfl rfl dX6_mostAlike_65 ?_
        refine gf_X6_51 C hM dX6_mostAlike_66 ?_
        refine tj_iload C 0 rfl dX6_mostAlike_69 ?_
        refine tj_dup2 C rfl rfl dX6_mostAlike_71 ?_
        refine tj_iald C 336 7 rfl (ln_336 hw hM) _ rfl hf.1 dX6_mostAlike_72 ?_
        replace hf := hf.2
        refine tj_iconst C kc_1 dX6_mostAlike_73 ?_
        refine tj_iadd C dX6_mostAlike_74 ?_
        refine tj_iast C 336 7 rfl (ln_336 hw hM) _ rfl hf.1 dX6_mostAlike_75 ?_
        replace hf := hf.2
        refine tj_topS (fun S5 eS => ?_)
        replace hf := hf S5 eS
        refine tj_iload_n C 4 rfl rfl dX6_mostAlike_76 ?_
        refine tj_aload_n C 1 rfl rfl dX6_mostAlike_77 ?_
        refine gf_X6_51 C hM dX6_mostAlike_78 ?_
        refine tj_iload C 0 rfl dX6_mostAlike_81 ?_
        refine tj_iald C 336 7 rfl (ln_336 hw hM) _ rfl hf.1 dX6_mostAlike_83 ?_
        replace hf := hf.2
        refine tj_mmax C q2225 (Nat.le_of_ble_eq_true rfl) (Nat.le_of_ble_eq_true rfl) (Nat.le_of_ble_eq_true rfl) dX6_mostAlike_84 ?_
        refine tj_topi (fun x6 ex => ?_)
        replace hf := hf x6 ex
        refine tj_istore_n C (by rw [hR]; decide) [(3, .int x6), (5, .int r4), (0, .ref (xad Γ 0)), (1, .int a1), (2, .int a2), (4, .int a4)] rfl rfl dX6_mostAlike_87 ?_
        exact tj_sub [2, 3, 4, 0, 5] (w_M_mostAlike_b88 C hw hR r hM ih hf) rfl
      · replace hf := hf.1 hc
        refine tj_goto C 88 (by decide) dX6_mostAlike_52 ?_
        exact w_M_mostAlike_b88 C hw hR r hM ih hf
theorem w_M_mostAlike_l5 {Γ : tX} {N0 : Nat → Nat} {K : Int32 → tS → Prop} (C : TC Γ cX6_mostAlike RX6 6 143) (hw : tWf N0) (hR : xnL Γ = 6) (r : TRi Γ N0 cX6_mostAlike K) {a1 : Int32} {a2 : Int32} (hM : N0 0 ≠ 0) : ∀ (n : Nat) (a3 : Int32) (a4 : Int32) (S : tS), M_mostAlike_l5 a1 a2 K n a3 a4 S → TJ Γ N0 0 0 5 [(0, .ref (xad Γ 0)), (1, .int a1), (2, .int a2), (3, .int a3), (4, .int a4)] [] S := by
  intro n
  induction n with
  | zero => intro a3 a4 S hf; exact hf.elim
  | succ n ih =>
    intro a3 a4 S hf
    unfold M_mostAlike_l5 at hf
    refine tj_iload C 4 rfl dX6_mostAlike_5 ?_
    refine tj_bipush C kb_7 dX6_mostAlike_7 ?_
    refine tj_icmp_ge C 26 (by decide) dX6_mostAlike_9 (fun hc => ?_) (fun hc => ?_)
    · replace hf := hf.1 hc
      refine tj_iconst C kc_0 dX6_mostAlike_26 ?_
      refine tj_istore C (by rw [hR]; decide) [(4, .int (nI 0)), (0, .ref (xad Γ 0)), (1, .int a1), (2, .int a2), (3, .int a3)] rfl dX6_mostAlike_27 ?_
      exact tj_sub [1, 2, 3, 4, 0] (hf.elim fun k hf => w_M_mostAlike_l29 C hw hR r hM k _ _ _ hf) rfl
    · replace hf := hf.2 hc
      refine tj_aload_n C 0 rfl rfl dX6_mostAlike_12 ?_
      refine gf_X6_51 C hM dX6_mostAlike_13 ?_
      refine tj_iload C 4 rfl dX6_mostAlike_16 ?_
      refine tj_iconst C kc_0 dX6_mostAlike_18 ?_
      refine tj_iast C 336 7 rfl (ln_336 hw hM) _ rfl hf.1 dX6_mostAlike_19 ?_
      replace hf := hf.2
      refine tj_topS (fun S1 eS => ?_)
      replace hf := hf S1 eS
      obtain ⟨x2, ex⟩ : ∃ y : Int32, y = a4 + nI 1 := ⟨_, rfl⟩
      refine tj_iinc C (by rw [hR]; decide) 4 [(4, .int x2), (0, .ref (xad Γ 0)), (1, .int a1), (2, .int a2), (3, .int a3)] rfl (by rw [ex]; exact ki_1 _) rfl dX6_mostAlike_20 ?_
      replace hf := hf x2 ex
      refine tj_goto C 5 (by decide) dX6_mostAlike_23 ?_
      exact tj_sub [1, 2, 3, 4, 0] (ih _ _ _ hf) rfl
theorem w_M_mostAlike_b0 {Γ : tX} {N0 : Nat → Nat} {K : Int32 → tS → Prop} (C : TC Γ cX6_mostAlike RX6 6 143) (hw : tWf N0) (hR : xnL Γ = 6) (r : TRi Γ N0 cX6_mostAlike K) {a1 : Int32} {a2 : Int32} (hM : N0 0 ≠ 0) {S : tS} (hf : M_mostAlike a1 a2 S K) : TJ Γ N0 0 0 0 [(0, .ref (xad Γ 0)), (1, .int a1), (2, .int a2)] [] S := by
  unfold M_mostAlike at hf
  refine tj_iconst C kc_0 dX6_mostAlike_0 ?_
  refine tj_istore_n C (by rw [hR]; decide) [(3, .int (nI 0)), (0, .ref (xad Γ 0)), (1, .int a1), (2, .int a2)] rfl rfl dX6_mostAlike_1 ?_
  refine tj_iconst C kc_0 dX6_mostAlike_2 ?_
  refine tj_istore C (by rw [hR]; decide) [(4, .int (nI 0)), (3, .int (nI 0)), (0, .ref (xad Γ 0)), (1, .int a1), (2, .int a2)] rfl dX6_mostAlike_3 ?_
  exact tj_sub [2, 3, 4, 1, 0] (hf.elim fun k hf => w_M_mostAlike_l5 C hw hR r hM k _ _ _ hf) rfl
theorem c_M_mostAlike {l : Launch} {G : tG} {ad : Nat → Nat} {A : Nat → Prop} {S : tS} {K : Int32 → tS → Prop} {a1 : Int32} {a2 : Int32} (hM : gN S 0 ≠ 0) (hf : M_mostAlike a1 a2 S K) : Met l yX6_mostAlike (ws_ yX6_mostAlike cX6_mostAlike 6 (some .int)) (tRm 6 143) (va_Pc [.ref (ad 0), .int a1, .int a2] (tPre G ad A S)) (va_Qi K (tB G ad A (gN S)) A) 0 0 A :=
  tj_met_i [(0, .ref (ad 0)), (1, .int a1), (2, .int a2)] pn_X6 rfl (Nat.le_of_ble_eq_true rfl) (fun p e R s m args below meth c Q C hw r => w_M_mostAlike_b0 C hw rfl r hM hf)
theorem w_M_ask_b137 {Γ : tX} {N0 : Nat → Nat} {K : Int32 → tS → Prop} (C : TC Γ cX6_ask RX6 8 191) (hw : tWf N0) (hR : xnL Γ = 9) (r : TRi Γ N0 cX6_ask K) {a1 : Int32} {a2 : Int32} {a3 : Int32} (hM : N0 0 ≠ 0) {s1 : Int32} {S : tS} (hf : M_ask_b137 a1 a2 a3 K s1 S) : TJ Γ N0 0 0 137 [] [.int s1, .ref (xad Γ 0)] S := by
  unfold M_ask_b137 at hf
  refine tj_callVi C (k := 0) [.int s1] [] (fun hN => c_M_gives (by rw [hN]; exact hM) hf) lk_X6_95 ty_X6_gives rfl (Nat.le_of_ble_eq_true rfl) (Nat.le_of_ble_eq_true rfl) (Nat.le_of_ble_eq_true rfl) hM rfl (by decide) rfl rfl dX6_ask_137 (fun r11 S10 hf => ?_)
  exact r _ _ _ _ dX6_ask_140 hf
theorem w_M_ask_b113 {Γ : tX} {N0 : Nat → Nat} {K : Int32 → tS → Prop} (C : TC Γ cX6_ask RX6 8 191) (hw : tWf N0) (hR : xnL Γ = 9) (r : TRi Γ N0 cX6_ask K) {a1 : Int32} {a2 : Int32} {a3 : Int32} (hM : N0 0 ≠ 0) {κ65 : Int32 → Int32 → Int32 → tS → Prop} (hκ65 : ∀ (a5 : Int32) (a6 : Int32) (a7 : Int32) (S : tS), κ65 a5 a6 a7 S → TJ Γ N0 0 0 65 [(0, .ref (xad Γ 0)), (3, .int a3), (5, .int a5), (6, .int a6), (7, .int a7)] [] S) {a5 : Int32} {a6 : Int32} {a7 : Int32} {S : tS} (hf : M_ask_b113 a1 a2 a3 K κ65 a5 a6 a7 S) : TJ Γ N0 0 0 113 [(0, .ref (xad Γ 0)), (3, .int a3), (5, .int a5), (6, .int a6), (7, .int a7)] [] S := by
  unfold M_ask_b113 at hf
  obtain ⟨x12, ex⟩ : ∃ y : Int32, y = a7 + nI 1 := ⟨_, rfl⟩
  refine tj_iinc C (by rw [hR]; decide) 4 [(7, .int x12), (0, .ref (xad Γ 0)), (3, .int a3), (5, .int a5), (6, .int a6)] rfl (by rw [ex]; exact ki_1 _) rfl dX6_ask_113 ?_
  replace hf := hf x12 ex
  refine tj_goto C 65 (by decide) dX6_ask_116 ?_
  exact tj_sub [1, 2, 3, 4, 0] (hκ65 _ _ _ _ hf) rfl
theorem w_M_ask_l65 {Γ : tX} {N0 : Nat → Nat} {K : Int32 → tS → Prop} (C : TC Γ cX6_ask RX6 8 191) (hw : tWf N0) (hR : xnL Γ = 9) (r : TRi Γ N0 cX6_ask K) {a1 : Int32} {a2 : Int32} {a3 : Int32} (hM : N0 0 ≠ 0) : ∀ (n : Nat) (a5 : Int32) (a6 : Int32) (a7 : Int32) (S : tS), M_ask_l65 a1 a2 a3 K n a5 a6 a7 S → TJ Γ N0 0 0 65 [(0, .ref (xad Γ 0)), (3, .int a3), (5, .int a5), (6, .int a6), (7, .int a7)] [] S := by
  intro n
  induction n with
  | zero => intro a5 a6 a7 S hf; exact hf.elim
  | succ n ih =>
    intro a5 a6 a7 S hf
    unfold M_ask_l65 at hf
    refine tj_iload C 4 rfl dX6_ask_65 ?_
    refine tj_bipush C kb_10 dX6_ask_67 ?_
    refine tj_aload_n C 0 rfl rfl dX6_ask_69 ?_
    refine gf_X6_7 C hM dX6_ask_70 ?_
    refine tj_iconst C kc_3 dX6_ask_73 ?_
    refine tj_iald C 48 3548 rfl (ln_48 hw hM) 3 kn_3 (vp_in_nI (by decide) (by decide)) dX6_ask_74 ?_
    refine tj_imul C dX6_ask_75 ?_
    refine tj_icmp_ge C 119 (by decide) dX6_ask_76 (fun hc => ?_) (fun hc => ?_)
    · replace hf := hf.1 hc
      refine tj_aload_n C 0 rfl rfl dX6_ask_119 ?_
      refine tj_iload_n C 1 rfl rfl dX6_ask_120 ?_
      refine tj_if_ne C 132 (by decide) dX6_ask_121 (fun hc => ?_) (fun hc => ?_)
      · replace hf := hf.2 hc
        refine tj_iload C 3 rfl dX6_ask_132 ?_
        refine tj_bipush C kb_10 dX6_ask_134 ?_
        refine tj_irem C hf.1 dX6_ask_136 ?_
        replace hf := hf.2
        exact tj_sub [] (w_M_ask_b137 C hw hR r hM hf) rfl
      · replace hf := hf.1 hc
        refine tj_iload C 3 rfl dX6_ask_124 ?_
        refine tj_bipush C kb_10 dX6_ask_126 ?_
        refine tj_idiv C hf.1 dX6_ask_128 ?_
        replace hf := hf.2
        refine tj_goto C 137 (by decide) dX6_ask_129 ?_
        exact tj_sub [] (w_M_ask_b137 C hw hR r hM hf) rfl
    · replace hf := hf.2 hc
      refine tj_aload_n C 0 rfl rfl dX6_ask_79 ?_
      refine tj_iload C 4 rfl dX6_ask_80 ?_
      refine tj_bipush C kb_10 dX6_ask_82 ?_
      refine tj_idiv C hf.1 dX6_ask_84 ?_
      replace hf := hf.2
      refine tj_iload C 4 rfl dX6_ask_85 ?_
      refine tj_bipush C kb_10 dX6_ask_87 ?_
      refine tj_irem C hf.1 dX6_ask_89 ?_
      replace hf := hf.2
      refine tj_callVi C (k := 0) [.int (a7 / (nI 10)), .int (a7 - a7 / (nI 10) * (nI 10))] [] (fun hN => c_M_mostAlike (by rw [hN]; exact hM) hf) lk_X6_413 ty_X6_mostAlike rfl (Nat.le_of_ble_eq_true rfl) (Nat.le_of_ble_eq_true rfl) (Nat.le_of_ble_eq_true rfl) hM rfl (by decide) rfl rfl dX6_ask_90 (fun r9 S8 hf => ?_)
      refine tj_istore C (by rw [hR]; decide) [(8, .int r9), (0, .ref (xad Γ 0)), (3, .int a3), (5, .int a5), (6, .int a6), (7, .int a7)] rfl dX6_ask_93 ?_
      refine tj_iload C 0 rfl dX6_ask_95 ?_
      refine tj_iload C 3 rfl dX6_ask_97 ?_
      refine tj_icmp_lt C 105 (by decide) dX6_ask_99 (fun hc => ?_) (fun hc => ?_)
      · replace hf := hf.1 hc
        refine tj_iload C 0 rfl dX6_ask_105 ?_
        refine tj_istore C (by rw [hR]; decide) [(5, .int r9), (8, .int r9), (0, .ref (xad Γ 0)), (3, .int a3), (6, .int a6), (7, .int a7)] rfl dX6_ask_107 ?_
        refine tj_iload C 5 rfl dX6_ask_109 ?_
        refine tj_istore C (by rw [hR]; decide) [(6, .int a7), (5, .int r9), (8, .int r9), (0, .ref (xad Γ 0)), (3, .int a3), (7, .int a7)] rfl dX6_ask_111 ?_
        exact tj_sub [3, 4, 1, 0, 5] (w_M_ask_b113 C hw hR r hM ih hf) rfl
      · replace hf := hf.2 hc
        refine tj_goto C 113 (by decide) dX6_ask_102 ?_
        exact tj_sub [1, 2, 3, 4, 5] (w_M_ask_b113 C hw hR r hM ih hf) rfl
theorem w_M_ask_b19 {Γ : tX} {N0 : Nat → Nat} {K : Int32 → tS → Prop} (C : TC Γ cX6_ask RX6 8 191) (hw : tWf N0) (hR : xnL Γ = 9) (r : TRi Γ N0 cX6_ask K) {a1 : Int32} {a2 : Int32} {a3 : Int32} (hM : N0 0 ≠ 0) {s0 : Int32} {S : tS} (hf : M_ask_b19 a1 a2 a3 K s0 S) : TJ Γ N0 0 0 19 [(0, .ref (xad Γ 0)), (1, .int a1), (2, .int a2), (3, .int a3)] [.int s0] S := by
  unfold M_ask_b19 at hf
  refine tj_istore C (by rw [hR]; decide) [(4, .int s0), (0, .ref (xad Γ 0)), (1, .int a1), (2, .int a2), (3, .int a3)] rfl dX6_ask_19 ?_
  refine tj_iload C 0 rfl dX6_ask_21 ?_
  refine tj_if_le C 33 (by decide) dX6_ask_23 (fun hc => ?_) (fun hc => ?_)
  · replace hf := hf.1 hc
    refine tj_aload_n C 1 rfl rfl dX6_ask_33 ?_
    refine tj_iload_n C 2 rfl rfl dX6_ask_34 ?_
    refine tj_iload_n C 3 rfl rfl dX6_ask_35 ?_
    refine tj_callVv C (k := 0) [.int a1, .int a2] [] (fun hN => c_M_laysFits (by rw [hN]; exact hM) hf) lk_X6_398 ty_X6_laysFits rfl (Nat.le_of_ble_eq_true rfl) (Nat.le_of_ble_eq_true rfl) (Nat.le_of_ble_eq_true rfl) hM rfl (by decide) rfl rfl dX6_ask_36 (fun S3 hf => ?_)
    refine tj_aload_n C 1 rfl rfl dX6_ask_39 ?_
    refine gf_X6_389 C hM dX6_ask_40 ?_
    refine tj_iconst C kc_2 dX6_ask_43 ?_
    refine tj_icmp_ge C 54 (by decide) dX6_ask_44 (fun hc => ?_) (fun hc => ?_)
    · replace hf := hf.1 hc
      refine tj_ldcw C kl_X6_412 dX6_ask_54 ?_
      refine tj_istore C (by rw [hR]; decide) [(5, .int (nI 1000000)), (4, .int s0), (0, .ref (xad Γ 0)), (1, .int a1), (2, .int a2), (3, .int a3)] rfl dX6_ask_57 ?_
      refine tj_iconst C kc_0 dX6_ask_59 ?_
      refine tj_istore C (by rw [hR]; decide) [(6, .int (nI 0)), (5, .int (nI 1000000)), (4, .int s0), (0, .ref (xad Γ 0)), (1, .int a1), (2, .int a2), (3, .int a3)] rfl dX6_ask_60 ?_
      refine tj_iconst C kc_0 dX6_ask_62 ?_
      refine tj_istore C (by rw [hR]; decide) [(7, .int (nI 0)), (6, .int (nI 0)), (5, .int (nI 1000000)), (4, .int s0), (0, .ref (xad Γ 0)), (1, .int a1), (2, .int a2), (3, .int a3)] rfl dX6_ask_63 ?_
      exact tj_sub [4, 7, 2, 1, 0] (hf.elim fun k hf => w_M_ask_l65 C hw hR r hM k _ _ _ _ hf) rfl
    · replace hf := hf.2 hc
      refine tj_aload_n C 1 rfl rfl dX6_ask_47 ?_
      refine tj_bipush C kb_6 dX6_ask_48 ?_
      refine tj_callVi C (k := 0) [.int (nI 6)] [] (fun hN => c_M_refuse (by rw [hN]; exact hM) hf) lk_X6_91 ty_X6_refuse rfl (Nat.le_of_ble_eq_true rfl) (Nat.le_of_ble_eq_true rfl) (Nat.le_of_ble_eq_true rfl) hM rfl (by decide) rfl rfl dX6_ask_50 (fun r5 S4 hf => ?_)
      exact r _ _ _ _ dX6_ask_53 hf
  · replace hf := hf.2 hc
    refine tj_aload_n C 1 rfl rfl dX6_ask_26 ?_
    refine tj_iload C 0 rfl dX6_ask_27 ?_
    refine tj_callVi C (k := 0) [.int s0] [] (fun hN => c_M_refuse (by rw [hN]; exact hM) hf) lk_X6_91 ty_X6_refuse rfl (Nat.le_of_ble_eq_true rfl) (Nat.le_of_ble_eq_true rfl) (Nat.le_of_ble_eq_true rfl) hM rfl (by decide) rfl rfl dX6_ask_29 (fun r7 S6 hf => ?_)
    exact r _ _ _ _ dX6_ask_32 hf
theorem w_M_ask_b9 {Γ : tX} {N0 : Nat → Nat} {K : Int32 → tS → Prop} (C : TC Γ cX6_ask RX6 8 191) (hw : tWf N0) (hR : xnL Γ = 9) (r : TRi Γ N0 cX6_ask K) {a1 : Int32} {a2 : Int32} {a3 : Int32} (hM : N0 0 ≠ 0) {S : tS} (hf : M_ask_b9 a1 a2 a3 K  S) : TJ Γ N0 0 0 9 [(0, .ref (xad Γ 0)), (1, .int a1), (2, .int a2), (3, .int a3)] [] S := by
  unfold M_ask_b9 at hf
  refine tj_iconst C kc_1 dX6_ask_9 ?_
  refine tj_goto C 19 (by decide) dX6_ask_10 ?_
  exact w_M_ask_b19 C hw hR r hM hf
theorem w_M_ask_b0 {Γ : tX} {N0 : Nat → Nat} {K : Int32 → tS → Prop} (C : TC Γ cX6_ask RX6 8 191) (hw : tWf N0) (hR : xnL Γ = 9) (r : TRi Γ N0 cX6_ask K) {a1 : Int32} {a2 : Int32} {a3 : Int32} (hM : N0 0 ≠ 0) {S : tS} (hf : M_ask a1 a2 a3 S K) : TJ Γ N0 0 0 0 [(0, .ref (xad Γ 0)), (1, .int a1), (2, .int a2), (3, .int a3)] [] S := by
  unfold M_ask at hf
  refine tj_iload_n C 3 rfl rfl dX6_ask_0 ?_
  refine tj_if_lt C 9 (by decide) dX6_ask_1 (fun hc => ?_) (fun hc => ?_)
  · replace hf := hf.1 hc
    exact w_M_ask_b9 C hw hR r hM hf
  · replace hf := hf.2 hc
    refine tj_iload_n C 3 rfl rfl dX6_ask_4 ?_
    refine tj_iconst C kc_1 dX6_ask_5 ?_
    refine tj_icmp_le C 13 (by decide) dX6_ask_6 (fun hc => ?_) (fun hc => ?_)
    · replace hf := hf.1 hc
      refine tj_aload_n C 0 rfl rfl dX6_ask_13 ?_
      refine tj_iload_n C 1 rfl rfl dX6_ask_14 ?_
      refine tj_iload_n C 2 rfl rfl dX6_ask_15 ?_
      refine tj_callVi C (k := 0) [.int a1, .int a2] [] (fun hN => c_M_wrongSeen (by rw [hN]; exact hM) hf) lk_X6_395 ty_X6_wrongSeen rfl (Nat.le_of_ble_eq_true rfl) (Nat.le_of_ble_eq_true rfl) (Nat.le_of_ble_eq_true rfl) hM rfl (by decide) rfl rfl dX6_ask_16 (fun r2 S1 hf => ?_)
      exact w_M_ask_b19 C hw hR r hM hf
    · replace hf := hf.2 hc
      exact w_M_ask_b9 C hw hR r hM hf
theorem c_M_ask {l : Launch} {G : tG} {ad : Nat → Nat} {A : Nat → Prop} {S : tS} {K : Int32 → tS → Prop} {a1 : Int32} {a2 : Int32} {a3 : Int32} (hM : gN S 0 ≠ 0) (hf : M_ask a1 a2 a3 S K) : Met l yX6_ask (ws_ yX6_ask cX6_ask 9 (some .int)) (tRm 8 191) (va_Pc [.ref (ad 0), .int a1, .int a2, .int a3] (tPre G ad A S)) (va_Qi K (tB G ad A (gN S)) A) 0 0 A :=
  tj_met_i [(0, .ref (ad 0)), (1, .int a1), (2, .int a2), (3, .int a3)] pn_X6 rfl (Nat.le_of_ble_eq_true rfl) (fun p e R s m args below meth c Q C hw r => w_M_ask_b0 C hw rfl r hM hf)
theorem w_M_bearing_b68 {Γ : tX} {N0 : Nat → Nat} {K : Int32 → tS → Prop} (C : TC Γ cX6_bearing RX6 3 69) (hw : tWf N0) (hR : xnL Γ = 4) (r : TRi Γ N0 cX6_bearing K) {a1 : Int32} (hM : N0 0 ≠ 0) {κ19 : Int32 → Int32 → tS → Prop} (hκ19 : ∀ (a2 : Int32) (a3 : Int32) (S : tS), κ19 a2 a3 S → TJ Γ N0 0 0 19 [(0, .ref (xad Γ 0)), (1, .int a1), (2, .int a2), (3, .int a3)] [] S) {a2 : Int32} {a3 : Int32} {S : tS} (hf : M_bearing_b68 a1 K κ19 a2 a3 S) : TJ Γ N0 0 0 68 [(0, .ref (xad Γ 0)), (1, .int a1), (2, .int a2), (3, .int a3)] [] S := by
  unfold M_bearing_b68 at hf
  obtain ⟨x16, ex⟩ : ∃ y : Int32, y = a3 + nI 1 := ⟨_, rfl⟩
  refine tj_iinc C (by rw [hR]; decide) 3 [(3, .int x16), (0, .ref (xad Γ 0)), (1, .int a1), (2, .int a2)] rfl (by rw [ex]; exact ki_1 _) rfl dX6_bearing_68 ?_
  replace hf := hf x16 ex
  refine tj_goto C 19 (by decide) dX6_bearing_71 ?_
  exact tj_sub [1, 2, 3, 0] (hκ19 _ _ _ hf) rfl
theorem w_M_bearing_l19 {Γ : tX} {N0 : Nat → Nat} {K : Int32 → tS → Prop} (C : TC Γ cX6_bearing RX6 3 69) (hw : tWf N0) (hR : xnL Γ = 4) (r : TRi Γ N0 cX6_bearing K) {a1 : Int32} (hM : N0 0 ≠ 0) : ∀ (n : Nat) (a2 : Int32) (a3 : Int32) (S : tS), M_bearing_l19 a1 K n a2 a3 S → TJ Γ N0 0 0 19 [(0, .ref (xad Γ 0)), (1, .int a1), (2, .int a2), (3, .int a3)] [] S := by
  intro n
  induction n with
  | zero => intro a2 a3 S hf; exact hf.elim
  | succ n ih =>
    intro a2 a3 S hf
    unfold M_bearing_l19 at hf
    refine tj_iload_n C 3 rfl rfl dX6_bearing_19 ?_
    refine tj_aload_n C 0 rfl rfl dX6_bearing_20 ?_
    refine gf_X6_7 C hM dX6_bearing_21 ?_
    refine tj_iconst C kc_2 dX6_bearing_24 ?_
    refine tj_iald C 48 3548 rfl (ln_48 hw hM) 2 kn_2 (vp_in_nI (by decide) (by decide)) dX6_bearing_25 ?_
    refine tj_icmp_ge C 74 (by decide) dX6_bearing_26 (fun hc => ?_) (fun hc => ?_)
    · replace hf := hf.1 hc
      refine tj_aload_n C 0 rfl rfl dX6_bearing_74 ?_
      refine tj_iload_n C 2 rfl rfl dX6_bearing_75 ?_
      refine tj_callVi C (k := 0) [.int a2] [] (fun hN => c_M_gives (by rw [hN]; exact hM) hf) lk_X6_95 ty_X6_gives rfl (Nat.le_of_ble_eq_true rfl) (Nat.le_of_ble_eq_true rfl) (Nat.le_of_ble_eq_true rfl) hM rfl (by decide) rfl rfl dX6_bearing_76 (fun r6 S5 hf => ?_)
      exact r _ _ _ _ dX6_bearing_79 hf
    · replace hf := hf.2 hc
      refine tj_aload_n C 0 rfl rfl dX6_bearing_29 ?_
      refine tj_iload_n C 3 rfl rfl dX6_bearing_30 ?_
      refine tj_aload_n C 0 rfl rfl dX6_bearing_31 ?_
      refine tj_iload_n C 1 rfl rfl dX6_bearing_32 ?_
      refine tj_iconst C kc_3 dX6_bearing_33 ?_
      refine tj_callVi C (k := 0) [.int a1, .int (nI 3)] [.int a3, .ref (xad Γ 0)] (fun hN => c_M_personOf (by rw [hN]; exact hM) hf) lk_X6_281 ty_X6_personOf rfl (Nat.le_of_ble_eq_true rfl) (Nat.le_of_ble_eq_true rfl) (Nat.le_of_ble_eq_true rfl) hM rfl (by decide) rfl rfl dX6_bearing_34 (fun r8 S7 hf => ?_)
      refine tj_aload_n C 0 rfl rfl dX6_bearing_37 ?_
      refine tj_iload_n C 1 rfl rfl dX6_bearing_38 ?_
      refine tj_iconst C kc_0 dX6_bearing_39 ?_
      refine tj_callVi C (k := 0) [.int a1, .int (nI 0)] [.int r8, .int a3, .ref (xad Γ 0)] (fun hN => c_M_personOf (by rw [hN]; exact hM) hf) lk_X6_281 ty_X6_personOf rfl (Nat.le_of_ble_eq_true rfl) (Nat.le_of_ble_eq_true rfl) (Nat.le_of_ble_eq_true rfl) hM rfl (by decide) rfl rfl dX6_bearing_40 (fun r10 S9 hf => ?_)
      refine tj_aload_n C 0 rfl rfl dX6_bearing_43 ?_
      refine gf_X6_7 C hM dX6_bearing_44 ?_
      refine tj_bipush C kb_6 dX6_bearing_47 ?_
      refine tj_iald C 48 3548 rfl (ln_48 hw hM) 6 kn_6 (vp_in_nI (by decide) (by decide)) dX6_bearing_49 ?_
      refine tj_aload_n C 0 rfl rfl dX6_bearing_50 ?_
      refine tj_iload_n C 1 rfl rfl dX6_bearing_51 ?_
      refine tj_iconst C kc_1 dX6_bearing_52 ?_
      refine tj_callVi C (k := 0) [.int a1, .int (nI 1)] [.int (gI S9 48 6), .int r10, .int r8, .int a3, .ref (xad Γ 0)] (fun hN => c_M_personOf (by rw [hN]; exact hM) hf) lk_X6_281 ty_X6_personOf rfl (Nat.le_of_ble_eq_true rfl) (Nat.le_of_ble_eq_true rfl) (Nat.le_of_ble_eq_true rfl) hM rfl (by decide) rfl rfl dX6_bearing_53 (fun r12 S11 hf => ?_)
      refine tj_callVz C (k := 0) [.int a3, .int r8, .int r10, .int (gI S9 48 6), .int r12] [] (fun hN => c_M_doesBear (by rw [hN]; exact hM) hf) lk_X6_321 ty_X6_doesBear rfl (Nat.le_of_ble_eq_true rfl) (Nat.le_of_ble_eq_true rfl) (Nat.le_of_ble_eq_true rfl) hM rfl (by decide) rfl rfl dX6_bearing_56 (fun r14 S13 hf => ?_)
      have hz_r14 := hf.1
      replace hf := hf.2
      refine tj_if_eq C 68 (by decide) dX6_bearing_59 (fun hc => ?_) (fun hc => ?_)
      · replace hf := hf.1 hc
        exact w_M_bearing_b68 C hw hR r hM ih hf
      · replace hf := hf.2 hc
        refine tj_iload_n C 2 rfl rfl dX6_bearing_62 ?_
        refine tj_iconst C kc_1 dX6_bearing_63 ?_
        refine tj_iload_n C 3 rfl rfl dX6_bearing_64 ?_
        refine tj_ishl C dX6_bearing_65 ?_
        refine tj_ior C dX6_bearing_66 ?_
        refine tj_topi (fun x15 ex => ?_)
        replace hf := hf x15 ex
        refine tj_istore_n C (by rw [hR]; decide) [(2, .int x15), (0, .ref (xad Γ 0)), (1, .int a1), (3, .int a3)] rfl rfl dX6_bearing_67 ?_
        exact tj_sub [1, 2, 0, 3] (w_M_bearing_b68 C hw hR r hM ih hf) rfl
theorem w_M_bearing_b0 {Γ : tX} {N0 : Nat → Nat} {K : Int32 → tS → Prop} (C : TC Γ cX6_bearing RX6 3 69) (hw : tWf N0) (hR : xnL Γ = 4) (r : TRi Γ N0 cX6_bearing K) {a1 : Int32} (hM : N0 0 ≠ 0) {S : tS} (hf : M_bearing a1 S K) : TJ Γ N0 0 0 0 [(0, .ref (xad Γ 0)), (1, .int a1)] [] S := by
  unfold M_bearing at hf
  refine tj_aload_n C 0 rfl rfl dX6_bearing_0 ?_
  refine tj_iload_n C 1 rfl rfl dX6_bearing_1 ?_
  refine tj_i2l C dX6_bearing_2 ?_
  refine tj_callVz C (k := 0) [.long (a1.toInt64)] [] (fun hN => c_M_isPerson (by rw [hN]; exact hM) hf) lk_X6_305 ty_X6_isPerson rfl (Nat.le_of_ble_eq_true rfl) (Nat.le_of_ble_eq_true rfl) (Nat.le_of_ble_eq_true rfl) hM rfl (by decide) rfl rfl dX6_bearing_3 (fun r2 S1 hf => ?_)
  have hz_r2 := hf.1
  replace hf := hf.2
  refine tj_if_ne C 15 (by decide) dX6_bearing_6 (fun hc => ?_) (fun hc => ?_)
  · replace hf := hf.2 hc
    refine tj_iconst C kc_0 dX6_bearing_15 ?_
    refine tj_istore_n C (by rw [hR]; decide) [(2, .int (nI 0)), (0, .ref (xad Γ 0)), (1, .int a1)] rfl rfl dX6_bearing_16 ?_
    refine tj_iconst C kc_0 dX6_bearing_17 ?_
    refine tj_istore_n C (by rw [hR]; decide) [(3, .int (nI 0)), (2, .int (nI 0)), (0, .ref (xad Γ 0)), (1, .int a1)] rfl rfl dX6_bearing_18 ?_
    exact tj_sub [2, 3, 1, 0] (hf.elim fun k hf => w_M_bearing_l19 C hw hR r hM k _ _ _ hf) rfl
  · replace hf := hf.1 hc
    refine tj_aload_n C 0 rfl rfl dX6_bearing_9 ?_
    refine tj_iconst C kc_1 dX6_bearing_10 ?_
    refine tj_callVi C (k := 0) [.int (nI 1)] [] (fun hN => c_M_refuse (by rw [hN]; exact hM) hf) lk_X6_91 ty_X6_refuse rfl (Nat.le_of_ble_eq_true rfl) (Nat.le_of_ble_eq_true rfl) (Nat.le_of_ble_eq_true rfl) hM rfl (by decide) rfl rfl dX6_bearing_11 (fun r4 S3 hf => ?_)
    exact r _ _ _ _ dX6_bearing_14 hf
theorem c_M_bearing {l : Launch} {G : tG} {ad : Nat → Nat} {A : Nat → Prop} {S : tS} {K : Int32 → tS → Prop} {a1 : Int32} (hM : gN S 0 ≠ 0) (hf : M_bearing a1 S K) : Met l yX6_bearing (ws_ yX6_bearing cX6_bearing 4 (some .int)) (tRm 3 69) (va_Pc [.ref (ad 0), .int a1] (tPre G ad A S)) (va_Qi K (tB G ad A (gN S)) A) 0 0 A :=
  tj_met_i [(0, .ref (ad 0)), (1, .int a1)] pn_X6 rfl (Nat.le_of_ble_eq_true rfl) (fun p e R s m args below meth c Q C hw r => w_M_bearing_b0 C hw rfl r hM hf)
theorem w_M_ruleFor_b0 {Γ : tX} {N0 : Nat → Nat} {K : Int32 → tS → Prop} (C : TC Γ cX6_ruleFor RX6 4 94) (hw : tWf N0) (hR : xnL Γ = 3) (r : TRi Γ N0 cX6_ruleFor K) {a1 : Int32} {a2 : Int32} (hM : N0 0 ≠ 0) {S : tS} (hf : M_ruleFor a1 a2 S K) : TJ Γ N0 0 0 0 [(0, .ref (xad Γ 0)), (1, .int a1), (2, .int a2)] [] S := by
  unfold M_ruleFor at hf
  refine tj_aload_n C 0 rfl rfl dX6_ruleFor_0 ?_
  refine tj_aload_n C 0 rfl rfl dX6_ruleFor_1 ?_
  refine tj_iload_n C 1 rfl rfl dX6_ruleFor_2 ?_
  refine tj_iconst C kc_3 dX6_ruleFor_3 ?_
  refine tj_callVi C (k := 0) [.int a1, .int (nI 3)] [.ref (xad Γ 0)] (fun hN => c_M_personOf (by rw [hN]; exact hM) hf) lk_X6_281 ty_X6_personOf rfl (Nat.le_of_ble_eq_true rfl) (Nat.le_of_ble_eq_true rfl) (Nat.le_of_ble_eq_true rfl) hM rfl (by decide) rfl rfl dX6_ruleFor_4 (fun r2 S1 hf => ?_)
  refine tj_aload_n C 0 rfl rfl dX6_ruleFor_7 ?_
  refine tj_iload_n C 1 rfl rfl dX6_ruleFor_8 ?_
  refine tj_iconst C kc_0 dX6_ruleFor_9 ?_
  refine tj_callVi C (k := 0) [.int a1, .int (nI 0)] [.int r2, .ref (xad Γ 0)] (fun hN => c_M_personOf (by rw [hN]; exact hM) hf) lk_X6_281 ty_X6_personOf rfl (Nat.le_of_ble_eq_true rfl) (Nat.le_of_ble_eq_true rfl) (Nat.le_of_ble_eq_true rfl) hM rfl (by decide) rfl rfl dX6_ruleFor_10 (fun r4 S3 hf => ?_)
  refine tj_iload_n C 2 rfl rfl dX6_ruleFor_13 ?_
  refine tj_aload_n C 0 rfl rfl dX6_ruleFor_14 ?_
  refine tj_iload_n C 1 rfl rfl dX6_ruleFor_15 ?_
  refine tj_iconst C kc_1 dX6_ruleFor_16 ?_
  refine tj_callVi C (k := 0) [.int a1, .int (nI 1)] [.int a2, .int r4, .int r2, .ref (xad Γ 0)] (fun hN => c_M_personOf (by rw [hN]; exact hM) hf) lk_X6_281 ty_X6_personOf rfl (Nat.le_of_ble_eq_true rfl) (Nat.le_of_ble_eq_true rfl) (Nat.le_of_ble_eq_true rfl) hM rfl (by decide) rfl rfl dX6_ruleFor_17 (fun r6 S5 hf => ?_)
  refine tj_callVi C (k := 0) [.int r2, .int r4, .int a2, .int r6] [] (fun hN => c_M_firstOf (by rw [hN]; exact hM) hf) lk_X6_325 ty_X6_firstOf rfl (Nat.le_of_ble_eq_true rfl) (Nat.le_of_ble_eq_true rfl) (Nat.le_of_ble_eq_true rfl) hM rfl (by decide) rfl rfl dX6_ruleFor_20 (fun r8 S7 hf => ?_)
  exact r _ _ _ _ dX6_ruleFor_23 hf
theorem c_M_ruleFor {l : Launch} {G : tG} {ad : Nat → Nat} {A : Nat → Prop} {S : tS} {K : Int32 → tS → Prop} {a1 : Int32} {a2 : Int32} (hM : gN S 0 ≠ 0) (hf : M_ruleFor a1 a2 S K) : Met l yX6_ruleFor (ws_ yX6_ruleFor cX6_ruleFor 3 (some .int)) (tRm 4 94) (va_Pc [.ref (ad 0), .int a1, .int a2] (tPre G ad A S)) (va_Qi K (tB G ad A (gN S)) A) 0 0 A :=
  tj_met_i [(0, .ref (ad 0)), (1, .int a1), (2, .int a2)] pn_X6 rfl (Nat.le_of_ble_eq_true rfl) (fun p e R s m args below meth c Q C hw r => w_M_ruleFor_b0 C hw rfl r hM hf)
theorem w_M_orNone_b0 {Γ : tX} {N0 : Nat → Nat} {K : Int32 → tS → Prop} (C : TC Γ cX6_orNone RX6 1 21) (hw : tWf N0) (hR : xnL Γ = 2) (r : TRi Γ N0 cX6_orNone K) {a1 : Int32} (hM : N0 0 ≠ 0) {S : tS} (hf : M_orNone a1 S K) : TJ Γ N0 0 0 0 [(0, .ref (xad Γ 0)), (1, .int a1)] [] S := by
  unfold M_orNone at hf
  refine tj_iload_n C 1 rfl rfl dX6_orNone_0 ?_
  refine tj_iconst C kc_m1 dX6_orNone_1 ?_
  refine tj_icmp_ne C 14 (by decide) dX6_orNone_2 (fun hc => ?_) (fun hc => ?_)
  · replace hf := hf.2 hc
    refine tj_aload_n C 0 rfl rfl dX6_orNone_14 ?_
    refine tj_iload_n C 1 rfl rfl dX6_orNone_15 ?_
    refine tj_callVi C (k := 0) [.int a1] [] (fun hN => c_M_gives (by rw [hN]; exact hM) hf) lk_X6_95 ty_X6_gives rfl (Nat.le_of_ble_eq_true rfl) (Nat.le_of_ble_eq_true rfl) (Nat.le_of_ble_eq_true rfl) hM rfl (by decide) rfl rfl dX6_orNone_16 (fun r2 S1 hf => ?_)
    exact r _ _ _ _ dX6_orNone_19 hf
  · replace hf := hf.1 hc
    refine tj_aload_n C 0 rfl rfl dX6_orNone_5 ?_
    refine tj_bipush C kb_6 dX6_orNone_6 ?_
    refine tj_callVi C (k := 0) [.int (nI 6)] [] (fun hN => c_M_refuse (by rw [hN]; exact hM) hf) lk_X6_91 ty_X6_refuse rfl (Nat.le_of_ble_eq_true rfl) (Nat.le_of_ble_eq_true rfl) (Nat.le_of_ble_eq_true rfl) hM rfl (by decide) rfl rfl dX6_orNone_8 (fun r4 S3 hf => ?_)
    refine tj_goto C 19 (by decide) dX6_orNone_11 ?_
    exact r _ _ _ _ dX6_orNone_19 hf
theorem c_M_orNone {l : Launch} {G : tG} {ad : Nat → Nat} {A : Nat → Prop} {S : tS} {K : Int32 → tS → Prop} {a1 : Int32} (hM : gN S 0 ≠ 0) (hf : M_orNone a1 S K) : Met l yX6_orNone (ws_ yX6_orNone cX6_orNone 2 (some .int)) (tRm 1 21) (va_Pc [.ref (ad 0), .int a1] (tPre G ad A S)) (va_Qi K (tB G ad A (gN S)) A) 0 0 A :=
  tj_met_i [(0, .ref (ad 0)), (1, .int a1)] pn_X6 rfl (Nat.le_of_ble_eq_true rfl) (fun p e R s m args below meth c Q C hw r => w_M_orNone_b0 C hw rfl r hM hf)
theorem w_M_bears_b0 {Γ : tX} {N0 : Nat → Nat} {K : Int32 → tS → Prop} (C : TC Γ cX6_bears RX6 5 116) (hw : tWf N0) (hR : xnL Γ = 2) (r : TRi Γ N0 cX6_bears K) {a1 : Int32} (hM : N0 0 ≠ 0) {S : tS} (hf : M_bears a1 S K) : TJ Γ N0 0 0 0 [(0, .ref (xad Γ 0)), (1, .int a1)] [] S := by
  unfold M_bears at hf
  refine tj_aload_n C 0 rfl rfl dX6_bears_0 ?_
  refine tj_iload_n C 1 rfl rfl dX6_bears_1 ?_
  refine tj_i2l C dX6_bears_2 ?_
  refine tj_callVz C (k := 0) [.long (a1.toInt64)] [] (fun hN => c_M_isPerson (by rw [hN]; exact hM) hf) lk_X6_305 ty_X6_isPerson rfl (Nat.le_of_ble_eq_true rfl) (Nat.le_of_ble_eq_true rfl) (Nat.le_of_ble_eq_true rfl) hM rfl (by decide) rfl rfl dX6_bears_3 (fun r2 S1 hf => ?_)
  have hz_r2 := hf.1
  replace hf := hf.2
  refine tj_if_eq C 28 (by decide) dX6_bears_6 (fun hc => ?_) (fun hc => ?_)
  · replace hf := hf.1 hc
    refine tj_aload_n C 0 rfl rfl dX6_bears_28 ?_
    refine tj_iconst C kc_1 dX6_bears_29 ?_
    refine tj_callVi C (k := 0) [.int (nI 1)] [] (fun hN => c_M_refuse (by rw [hN]; exact hM) hf) lk_X6_91 ty_X6_refuse rfl (Nat.le_of_ble_eq_true rfl) (Nat.le_of_ble_eq_true rfl) (Nat.le_of_ble_eq_true rfl) hM rfl (by decide) rfl rfl dX6_bears_30 (fun r4 S3 hf => ?_)
    exact r _ _ _ _ dX6_bears_33 hf
  · replace hf := hf.2 hc
    refine tj_aload_n C 0 rfl rfl dX6_bears_9 ?_
    refine tj_aload_n C 0 rfl rfl dX6_bears_10 ?_
    refine tj_iload_n C 1 rfl rfl dX6_bears_11 ?_
    refine tj_aload_n C 0 rfl rfl dX6_bears_12 ?_
    refine gf_X6_7 C hM dX6_bears_13 ?_
    refine tj_bipush C kb_6 dX6_bears_16 ?_
    refine tj_iald C 48 3548 rfl (ln_48 hw hM) 6 kn_6 (vp_in_nI (by decide) (by decide)) dX6_bears_18 ?_
    refine tj_callVi C (k := 0) [.int a1, .int (gI S1 48 6)] [.ref (xad Γ 0)] (fun hN => c_M_ruleFor (by rw [hN]; exact hM) hf) lk_X6_329 ty_X6_ruleFor rfl (Nat.le_of_ble_eq_true rfl) (Nat.le_of_ble_eq_true rfl) (Nat.le_of_ble_eq_true rfl) hM rfl (by decide) rfl rfl dX6_bears_19 (fun r6 S5 hf => ?_)
    refine tj_callVi C (k := 0) [.int r6] [] (fun hN => c_M_orNone (by rw [hN]; exact hM) hf) lk_X6_302 ty_X6_orNone rfl (Nat.le_of_ble_eq_true rfl) (Nat.le_of_ble_eq_true rfl) (Nat.le_of_ble_eq_true rfl) hM rfl (by decide) rfl rfl dX6_bears_22 (fun r8 S7 hf => ?_)
    refine tj_goto C 33 (by decide) dX6_bears_25 ?_
    exact r _ _ _ _ dX6_bears_33 hf
theorem c_M_bears {l : Launch} {G : tG} {ad : Nat → Nat} {A : Nat → Prop} {S : tS} {K : Int32 → tS → Prop} {a1 : Int32} (hM : gN S 0 ≠ 0) (hf : M_bears a1 S K) : Met l yX6_bears (ws_ yX6_bears cX6_bears 2 (some .int)) (tRm 5 116) (va_Pc [.ref (ad 0), .int a1] (tPre G ad A S)) (va_Qi K (tB G ad A (gN S)) A) 0 0 A :=
  tj_met_i [(0, .ref (ad 0)), (1, .int a1)] pn_X6 rfl (Nat.le_of_ble_eq_true rfl) (fun p e R s m args below meth c Q C hw r => w_M_bears_b0 C hw rfl r hM hf)
theorem w_M_begins_l26 {Γ : tX} {N0 : Nat → Nat} {K : Int32 → tS → Prop} (C : TC Γ cX6_begins RX6 2 61) (hw : tWf N0) (hR : xnL Γ = 4) (r : TRz Γ N0 cX6_begins K) {a1 : Int32} {a2 : Int32} (hM : N0 0 ≠ 0) : ∀ (n : Nat) (a3 : Int32) (S : tS), M_begins_l26 a1 a2 K n a3 S → TJ Γ N0 0 0 26 [(0, .ref (xad Γ 0)), (1, .int a1), (3, .int a3)] [] S := by
  intro n
  induction n with
  | zero => intro a3 S hf; exact hf.elim
  | succ n ih =>
    intro a3 S hf
    unfold M_begins_l26 at hf
    refine tj_iload_n C 2 rfl rfl dX6_begins_26 ?_
    refine tj_iload_n C 1 rfl rfl dX6_begins_27 ?_
    refine tj_icmp_ge C 49 (by decide) dX6_begins_28 (fun hc => ?_) (fun hc => ?_)
    · replace hf := hf.1 hc
      refine tj_aload_n C 0 rfl rfl dX6_begins_49 ?_
      refine tj_iconst C kc_0 dX6_begins_50 ?_
      refine pf_X6_115 C hM dX6_begins_51 ?_
      refine tj_topS (fun S2 eS => ?_)
      replace hf := hf S2 eS
      refine tj_aload_n C 0 rfl rfl dX6_begins_54 ?_
      refine tj_iconst C kc_0 dX6_begins_55 ?_
      refine pf_X6_161 C hM dX6_begins_56 ?_
      refine tj_topS (fun S3 eS => ?_)
      replace hf := hf S3 eS
      refine tj_aload_n C 0 rfl rfl dX6_begins_59 ?_
      refine tj_iconst C kc_m1 dX6_begins_60 ?_
      refine pf_X6_41 C hM dX6_begins_61 ?_
      refine tj_topS (fun S4 eS => ?_)
      replace hf := hf S4 eS
      refine tj_aload_n C 0 rfl rfl dX6_begins_64 ?_
      refine tj_iconst C kc_0 dX6_begins_65 ?_
      refine pf_X6_124 C hM dX6_begins_66 ?_
      refine tj_topS (fun S5 eS => ?_)
      replace hf := hf S5 eS
      refine tj_aload_n C 0 rfl rfl dX6_begins_69 ?_
      refine tj_iconst C kc_0 dX6_begins_70 ?_
      refine pf_X6_164 C hM dX6_begins_71 ?_
      refine tj_topS (fun S6 eS => ?_)
      replace hf := hf S6 eS
      refine tj_aload_n C 0 rfl rfl dX6_begins_74 ?_
      refine tj_callVv C (k := 0) [] [] (fun hN => c_M_ahead (by rw [hN]; exact hM) hf) lk_X6_167 ty_X6_ahead rfl (Nat.le_of_ble_eq_true rfl) (Nat.le_of_ble_eq_true rfl) (Nat.le_of_ble_eq_true rfl) hM rfl (by decide) rfl rfl dX6_begins_75 (fun S7 hf => ?_)
      refine tj_iconst C kc_1 dX6_begins_78 ?_
      exact r _ _ _ _ dX6_begins_79 zb1 hf
    · replace hf := hf.2 hc
      refine tj_aload_n C 0 rfl rfl dX6_begins_31 ?_
      refine gf_X6_34 C hM dX6_begins_32 ?_
      refine tj_iload_n C 2 rfl rfl dX6_begins_35 ?_
      refine tj_aload_n C 0 rfl rfl dX6_begins_36 ?_
      refine gf_X6_30 C hM dX6_begins_37 ?_
      refine tj_iload_n C 2 rfl rfl dX6_begins_40 ?_
      refine tj_bald C 210 900 rfl (ln_210 hw hM) _ rfl hf.1 dX6_begins_41 ?_
      replace hf := hf.2
      refine tj_bast C 242 900 rfl (ln_242 hw hM) _ rfl hf.1 dX6_begins_42 ?_
      replace hf := hf.2
      refine tj_topS (fun S8 eS => ?_)
      replace hf := hf S8 eS
      obtain ⟨x9, ex⟩ : ∃ y : Int32, y = a3 + nI 1 := ⟨_, rfl⟩
      refine tj_iinc C (by rw [hR]; decide) 2 [(3, .int x9), (0, .ref (xad Γ 0)), (1, .int a1)] rfl (by rw [ex]; exact ki_1 _) rfl dX6_begins_43 ?_
      replace hf := hf x9 ex
      refine tj_goto C 26 (by decide) dX6_begins_46 ?_
      exact tj_sub [1, 2, 0] (ih _ _ hf) rfl
theorem w_M_begins_b0 {Γ : tX} {N0 : Nat → Nat} {K : Int32 → tS → Prop} (C : TC Γ cX6_begins RX6 2 61) (hw : tWf N0) (hR : xnL Γ = 4) (r : TRz Γ N0 cX6_begins K) {a1 : Int32} {a2 : Int32} (hM : N0 0 ≠ 0) {S : tS} (hf : M_begins a1 a2 S K) : TJ Γ N0 0 0 0 [(0, .ref (xad Γ 0)), (1, .int a1), (2, .int a2)] [] S := by
  unfold M_begins at hf
  refine tj_iload_n C 1 rfl rfl dX6_begins_0 ?_
  refine tj_if_lt C 17 (by decide) dX6_begins_1 (fun hc => ?_) (fun hc => ?_)
  · replace hf := hf.1 hc
    refine tj_iconst C kc_0 dX6_begins_17 ?_
    exact r _ _ _ _ dX6_begins_18 zb0 hf
  · replace hf := hf.2 hc
    refine tj_iload_n C 1 rfl rfl dX6_begins_4 ?_
    refine tj_aload_n C 0 rfl rfl dX6_begins_5 ?_
    refine gf_X6_115 C hM dX6_begins_6 ?_
    refine tj_icmp_gt C 17 (by decide) dX6_begins_9 (fun hc => ?_) (fun hc => ?_)
    · replace hf := hf.1 hc
      refine tj_iconst C kc_0 dX6_begins_17 ?_
      exact r _ _ _ _ dX6_begins_18 zb0 hf
    · replace hf := hf.2 hc
      refine tj_iload_n C 1 rfl rfl dX6_begins_12 ?_
      refine tj_iload_n C 2 rfl rfl dX6_begins_13 ?_
      refine tj_icmp_le C 19 (by decide) dX6_begins_14 (fun hc => ?_) (fun hc => ?_)
      · replace hf := hf.1 hc
        refine tj_aload_n C 0 rfl rfl dX6_begins_19 ?_
        refine tj_iload_n C 1 rfl rfl dX6_begins_20 ?_
        refine pf_X6_121 C hM dX6_begins_21 ?_
        refine tj_topS (fun S1 eS => ?_)
        replace hf := hf S1 eS
        refine tj_iconst C kc_0 dX6_begins_24 ?_
        refine tj_istore_n C (by rw [hR]; decide) [(3, .int (nI 0)), (0, .ref (xad Γ 0)), (1, .int a1), (2, .int a2)] rfl rfl dX6_begins_25 ?_
        exact tj_sub [1, 2, 0] (hf.elim fun k hf => w_M_begins_l26 C hw hR r hM k _ _ hf) rfl
      · replace hf := hf.2 hc
        refine tj_iconst C kc_0 dX6_begins_17 ?_
        exact r _ _ _ _ dX6_begins_18 zb0 hf
theorem c_M_begins {l : Launch} {G : tG} {ad : Nat → Nat} {A : Nat → Prop} {S : tS} {K : Int32 → tS → Prop} {a1 : Int32} {a2 : Int32} (hM : gN S 0 ≠ 0) (hf : M_begins a1 a2 S K) : Met l yX6_begins (ws_ yX6_begins cX6_begins 4 (some .boolean)) (tRm 2 61) (va_Pc [.ref (ad 0), .int a1, .int a2] (tPre G ad A S)) (va_Qi (fun r u => r &&& 1 = r ∧ K r u) (tB G ad A (gN S)) A) 0 0 A :=
  tj_met_z [(0, .ref (ad 0)), (1, .int a1), (2, .int a2)] pn_X6 rfl (Nat.le_of_ble_eq_true rfl) (fun p e R s m args below meth c Q C hw r => w_M_begins_b0 C hw rfl r hM hf)
theorem w_M_behindEnds_b114 {Γ : tX} {N0 : Nat → Nat} {K : Int32 → tS → Prop} (C : TC Γ cX6_behindEnds RX6 0 0) (hw : tWf N0) (hR : xnL Γ = 5) (r : TRi Γ N0 cX6_behindEnds K) {a1 : Int32} (hM : N0 0 ≠ 0) {κ2 : Int32 → tS → Prop} (hκ2 : ∀ (a2 : Int32) (S : tS), κ2 a2 S → TJ Γ N0 0 0 2 [(0, .ref (xad Γ 0)), (2, .int a2)] [] S) {s0 : Int32} {S : tS} (hf : M_behindEnds_b114 a1 K κ2 s0 S) : TJ Γ N0 0 0 114 [(0, .ref (xad Γ 0))] [.int s0] S := by
  unfold M_behindEnds_b114 at hf
  refine tj_istore_n C (by rw [hR]; decide) [(2, .int s0), (0, .ref (xad Γ 0))] rfl rfl dX6_behindEnds_114 ?_
  refine tj_goto C 2 (by decide) dX6_behindEnds_115 ?_
  exact tj_sub [1, 0] (hκ2 _ _ hf) rfl
theorem w_M_behindEnds_b98 {Γ : tX} {N0 : Nat → Nat} {K : Int32 → tS → Prop} (C : TC Γ cX6_behindEnds RX6 0 0) (hw : tWf N0) (hR : xnL Γ = 5) (r : TRi Γ N0 cX6_behindEnds K) {a1 : Int32} (hM : N0 0 ≠ 0) {κ2 : Int32 → tS → Prop} (hκ2 : ∀ (a2 : Int32) (S : tS), κ2 a2 S → TJ Γ N0 0 0 2 [(0, .ref (xad Γ 0)), (2, .int a2)] [] S) {a2 : Int32} {a3 : Int32} {a4 : Int32} {s1 : Int32} {s2 : Int32} {s3 : Int32} {S : tS} (hf : M_behindEnds_b98 a1 K κ2 a2 a3 a4 s1 s2 s3 S) : TJ Γ N0 0 0 98 [(0, .ref (xad Γ 0)), (2, .int a2), (3, .int a3), (4, .int a4)] [.int s3, .int s2, .int s1, .ref (xad Γ 560)] S := by
  unfold M_behindEnds_b98 at hf
  refine tj_isub C dX6_behindEnds_98 ?_
  refine tj_iast C 560 80 rfl (ln_560 hw hM) _ rfl hf.1 dX6_behindEnds_99 ?_
  replace hf := hf.2
  refine tj_topS (fun S2 eS => ?_)
  replace hf := hf S2 eS
  refine tj_iload C 3 rfl dX6_behindEnds_100 ?_
  refine tj_if_eq C 111 (by decide) dX6_behindEnds_102 (fun hc => ?_) (fun hc => ?_)
  · replace hf := hf.1 hc
    refine tj_iload_n C 1 rfl rfl dX6_behindEnds_111 ?_
    refine tj_iconst C kc_1 dX6_behindEnds_112 ?_
    refine tj_iadd C dX6_behindEnds_113 ?_
    exact tj_sub [0] (w_M_behindEnds_b114 C hw hR r hM hκ2 hf) rfl
  · replace hf := hf.2 hc
    refine tj_iload_n C 2 rfl rfl dX6_behindEnds_105 ?_
    refine tj_iconst C kc_1 dX6_behindEnds_106 ?_
    refine tj_iadd C dX6_behindEnds_107 ?_
    refine tj_goto C 114 (by decide) dX6_behindEnds_108 ?_
    exact tj_sub [0] (w_M_behindEnds_b114 C hw hR r hM hκ2 hf) rfl
theorem w_M_behindEnds_b79 {Γ : tX} {N0 : Nat → Nat} {K : Int32 → tS → Prop} (C : TC Γ cX6_behindEnds RX6 0 0) (hw : tWf N0) (hR : xnL Γ = 5) (r : TRi Γ N0 cX6_behindEnds K) {a1 : Int32} (hM : N0 0 ≠ 0) {κ2 : Int32 → tS → Prop} (hκ2 : ∀ (a2 : Int32) (S : tS), κ2 a2 S → TJ Γ N0 0 0 2 [(0, .ref (xad Γ 0)), (2, .int a2)] [] S) {a2 : Int32} {a3 : Int32} {s0 : Int32} {S : tS} (hf : M_behindEnds_b79 a1 K κ2 a2 a3 s0 S) : TJ Γ N0 0 0 79 [(0, .ref (xad Γ 0)), (2, .int a2), (3, .int a3)] [.int s0] S := by
  unfold M_behindEnds_b79 at hf
  refine tj_istore C (by rw [hR]; decide) [(4, .int s0), (0, .ref (xad Γ 0)), (2, .int a2), (3, .int a3)] rfl dX6_behindEnds_79 ?_
  refine tj_aload_n C 1 rfl rfl dX6_behindEnds_81 ?_
  refine gf_X6_72 C hM dX6_behindEnds_82 ?_
  refine tj_iload_n C 3 rfl rfl dX6_behindEnds_85 ?_
  refine tj_dup2 C rfl rfl dX6_behindEnds_86 ?_
  refine tj_iald C 560 80 rfl (ln_560 hw hM) _ rfl hf.1 dX6_behindEnds_87 ?_
  replace hf := hf.2
  refine tj_iload C 0 rfl dX6_behindEnds_88 ?_
  refine tj_if_eq C 97 (by decide) dX6_behindEnds_90 (fun hc => ?_) (fun hc => ?_)
  · replace hf := hf.1 hc
    refine tj_iconst C kc_0 dX6_behindEnds_97 ?_
    exact tj_sub [1, 2, 3, 0] (w_M_behindEnds_b98 C hw hR r hM hκ2 hf) rfl
  · replace hf := hf.2 hc
    refine tj_iconst C kc_1 dX6_behindEnds_93 ?_
    refine tj_goto C 98 (by decide) dX6_behindEnds_94 ?_
    exact tj_sub [1, 2, 3, 0] (w_M_behindEnds_b98 C hw hR r hM hκ2 hf) rfl
theorem w_M_behindEnds_b78 {Γ : tX} {N0 : Nat → Nat} {K : Int32 → tS → Prop} (C : TC Γ cX6_behindEnds RX6 0 0) (hw : tWf N0) (hR : xnL Γ = 5) (r : TRi Γ N0 cX6_behindEnds K) {a1 : Int32} (hM : N0 0 ≠ 0) {κ2 : Int32 → tS → Prop} (hκ2 : ∀ (a2 : Int32) (S : tS), κ2 a2 S → TJ Γ N0 0 0 2 [(0, .ref (xad Γ 0)), (2, .int a2)] [] S) {a2 : Int32} {a3 : Int32} {S : tS} (hf : M_behindEnds_b78 a1 K κ2 a2 a3 S) : TJ Γ N0 0 0 78 [(0, .ref (xad Γ 0)), (2, .int a2), (3, .int a3)] [] S := by
  unfold M_behindEnds_b78 at hf
  refine tj_iconst C kc_0 dX6_behindEnds_78 ?_
  exact w_M_behindEnds_b79 C hw hR r hM hκ2 hf
theorem w_M_behindEnds_l2 {Γ : tX} {N0 : Nat → Nat} {K : Int32 → tS → Prop} (C : TC Γ cX6_behindEnds RX6 0 0) (hw : tWf N0) (hR : xnL Γ = 5) (r : TRi Γ N0 cX6_behindEnds K) {a1 : Int32} (hM : N0 0 ≠ 0) : ∀ (n : Nat) (a2 : Int32) (S : tS), M_behindEnds_l2 a1 K n a2 S → TJ Γ N0 0 0 2 [(0, .ref (xad Γ 0)), (2, .int a2)] [] S := by
  intro n
  induction n with
  | zero => intro a2 S hf; exact hf.elim
  | succ n ih =>
    intro a2 S hf
    unfold M_behindEnds_l2 at hf
    refine tj_iload_n C 1 rfl rfl dX6_behindEnds_2 ?_
    refine tj_aload_n C 0 rfl rfl dX6_behindEnds_3 ?_
    refine gf_X6_7 C hM dX6_behindEnds_4 ?_
    refine tj_bipush C kb_8 dX6_behindEnds_7 ?_
    refine tj_iald C 48 3548 rfl (ln_48 hw hM) 8 kn_8 (vp_in_nI (by decide) (by decide)) dX6_behindEnds_9 ?_
    refine tj_icmp_ge C 118 (by decide) dX6_behindEnds_10 (fun hc => ?_) (fun hc => ?_)
    · replace hf := hf.1 hc
      refine tj_iload_n C 1 rfl rfl dX6_behindEnds_118 ?_
      exact r _ _ _ _ dX6_behindEnds_119 hf
    · replace hf := hf.2 hc
      refine tj_aload_n C 0 rfl rfl dX6_behindEnds_13 ?_
      refine gf_X6_7 C hM dX6_behindEnds_14 ?_
      refine tj_sipush C ks_134 dX6_behindEnds_17 ?_
      refine tj_bipush C kb_6 dX6_behindEnds_20 ?_
      refine tj_iload_n C 1 rfl rfl dX6_behindEnds_22 ?_
      refine tj_imul C dX6_behindEnds_23 ?_
      refine tj_iadd C dX6_behindEnds_24 ?_
      refine tj_iald C 48 3548 rfl (ln_48 hw hM) _ rfl hf.1 dX6_behindEnds_25 ?_
      replace hf := hf.2
      refine tj_bipush C kb_24 dX6_behindEnds_26 ?_
      refine tj_icmp_ne C 118 (by decide) dX6_behindEnds_28 (fun hc => ?_) (fun hc => ?_)
      · replace hf := hf.2 hc
        refine tj_iload_n C 1 rfl rfl dX6_behindEnds_118 ?_
        exact r _ _ _ _ dX6_behindEnds_119 hf
      · replace hf := hf.1 hc
        refine tj_aload_n C 0 rfl rfl dX6_behindEnds_31 ?_
        refine gf_X6_7 C hM dX6_behindEnds_32 ?_
        refine tj_sipush C ks_134 dX6_behindEnds_35 ?_
        refine tj_bipush C kb_6 dX6_behindEnds_38 ?_
        refine tj_iload_n C 1 rfl rfl dX6_behindEnds_40 ?_
        refine tj_imul C dX6_behindEnds_41 ?_
        refine tj_iadd C dX6_behindEnds_42 ?_
        refine tj_iconst C kc_4 dX6_behindEnds_43 ?_
        refine tj_iadd C dX6_behindEnds_44 ?_
        refine tj_iald C 48 3548 rfl (ln_48 hw hM) _ rfl hf.1 dX6_behindEnds_45 ?_
        replace hf := hf.2
        refine tj_topi (fun x1 ex => ?_)
        replace hf := hf x1 ex
        refine tj_istore_n C (by rw [hR]; decide) [(3, .int x1), (0, .ref (xad Γ 0)), (2, .int a2)] rfl rfl dX6_behindEnds_46 ?_
        refine tj_aload_n C 1 rfl rfl dX6_behindEnds_47 ?_
        refine gf_X6_7 C hM dX6_behindEnds_48 ?_
        refine tj_sipush C ks_134 dX6_behindEnds_51 ?_
        refine tj_bipush C kb_6 dX6_behindEnds_54 ?_
        refine tj_iload_n C 0 rfl rfl dX6_behindEnds_56 ?_
        refine tj_imul C dX6_behindEnds_57 ?_
        refine tj_iadd C dX6_behindEnds_58 ?_
        refine tj_iald C 48 3548 rfl (ln_48 hw hM) _ rfl hf.1 dX6_behindEnds_59 ?_
        replace hf := hf.2
        refine tj_bipush C kb_23 dX6_behindEnds_60 ?_
        refine tj_icmp_ne C 78 (by decide) dX6_behindEnds_62 (fun hc => ?_) (fun hc => ?_)
        · replace hf := hf.2 hc
          exact tj_sub [1, 2, 0] (w_M_behindEnds_b78 C hw hR r hM ih hf) rfl
        · replace hf := hf.1 hc
          refine tj_aload_n C 1 rfl rfl dX6_behindEnds_65 ?_
          refine gf_X6_72 C hM dX6_behindEnds_66 ?_
          refine tj_iload_n C 0 rfl rfl dX6_behindEnds_69 ?_
          refine tj_iald C 560 80 rfl (ln_560 hw hM) _ rfl hf.1 dX6_behindEnds_70 ?_
          replace hf := hf.2
          refine tj_if_le C 78 (by decide) dX6_behindEnds_71 (fun hc => ?_) (fun hc => ?_)
          · replace hf := hf.1 hc
            exact tj_sub [1, 2, 0] (w_M_behindEnds_b78 C hw hR r hM ih hf) rfl
          · replace hf := hf.2 hc
            refine tj_iconst C kc_1 dX6_behindEnds_74 ?_
            refine tj_goto C 79 (by decide) dX6_behindEnds_75 ?_
            exact tj_sub [1, 2, 0] (w_M_behindEnds_b79 C hw hR r hM ih hf) rfl
theorem w_M_behindEnds_b0 {Γ : tX} {N0 : Nat → Nat} {K : Int32 → tS → Prop} (C : TC Γ cX6_behindEnds RX6 0 0) (hw : tWf N0) (hR : xnL Γ = 5) (r : TRi Γ N0 cX6_behindEnds K) {a1 : Int32} (hM : N0 0 ≠ 0) {S : tS} (hf : M_behindEnds a1 S K) : TJ Γ N0 0 0 0 [(0, .ref (xad Γ 0)), (1, .int a1)] [] S := by
  unfold M_behindEnds at hf
  refine tj_iload_n C 1 rfl rfl dX6_behindEnds_0 ?_
  refine tj_istore_n C (by rw [hR]; decide) [(2, .int a1), (0, .ref (xad Γ 0)), (1, .int a1)] rfl rfl dX6_behindEnds_1 ?_
  exact tj_sub [1, 0] (hf.elim fun k hf => w_M_behindEnds_l2 C hw hR r hM k _ _ hf) rfl
theorem c_M_behindEnds {l : Launch} {G : tG} {ad : Nat → Nat} {A : Nat → Prop} {S : tS} {K : Int32 → tS → Prop} {a1 : Int32} (hM : gN S 0 ≠ 0) (hf : M_behindEnds a1 S K) : Met l yX6_behindEnds (ws_ yX6_behindEnds cX6_behindEnds 5 (some .int)) (tRm 0 0) (va_Pc [.ref (ad 0), .int a1] (tPre G ad A S)) (va_Qi K (tB G ad A (gN S)) A) 0 0 A :=
  tj_met_i [(0, .ref (ad 0)), (1, .int a1)] pn_X6 rfl (Nat.le_of_ble_eq_true rfl) (fun p e R s m args below meth c Q C hw r => w_M_behindEnds_b0 C hw rfl r hM hf)
theorem w_M_peopleThat_b67 {Γ : tX} {N0 : Nat → Nat} {K : Int32 → tS → Prop} (C : TC Γ cX6_peopleThat RX6 2 42) (hw : tWf N0) (hR : xnL Γ = 5) (r : TRi Γ N0 cX6_peopleThat K) {a1 : Int32} (hM : N0 0 ≠ 0) {κ4 : Int32 → Int32 → tS → Prop} (hκ4 : ∀ (a2 : Int32) (a3 : Int32) (S : tS), κ4 a2 a3 S → TJ Γ N0 0 0 4 [(0, .ref (xad Γ 0)), (1, .int a1), (2, .int a2), (3, .int a3)] [] S) {a3 : Int32} {s0 : Int32} {s1 : Int32} {S : tS} (hf : M_peopleThat_b67 a1 K κ4 a3 s0 s1 S) : TJ Γ N0 0 0 67 [(0, .ref (xad Γ 0)), (1, .int a1), (3, .int a3)] [.int s1, .int s0] S := by
  unfold M_peopleThat_b67 at hf
  refine tj_ior C dX6_peopleThat_67 ?_
  refine tj_topi (fun x5 ex => ?_)
  replace hf := hf x5 ex
  refine tj_istore_n C (by rw [hR]; decide) [(2, .int x5), (0, .ref (xad Γ 0)), (1, .int a1), (3, .int a3)] rfl rfl dX6_peopleThat_68 ?_
  obtain ⟨x6, ex⟩ : ∃ y : Int32, y = a3 + nI 1 := ⟨_, rfl⟩
  refine tj_iinc C (by rw [hR]; decide) 3 [(3, .int x6), (2, .int x5), (0, .ref (xad Γ 0)), (1, .int a1)] rfl (by rw [ex]; exact ki_1 _) rfl dX6_peopleThat_69 ?_
  replace hf := hf x6 ex
  refine tj_goto C 4 (by decide) dX6_peopleThat_72 ?_
  exact tj_sub [2, 3, 1, 0] (hκ4 _ _ _ hf) rfl
theorem w_M_peopleThat_b52 {Γ : tX} {N0 : Nat → Nat} {K : Int32 → tS → Prop} (C : TC Γ cX6_peopleThat RX6 2 42) (hw : tWf N0) (hR : xnL Γ = 5) (r : TRi Γ N0 cX6_peopleThat K) {a1 : Int32} (hM : N0 0 ≠ 0) {κ4 : Int32 → Int32 → tS → Prop} (hκ4 : ∀ (a2 : Int32) (a3 : Int32) (S : tS), κ4 a2 a3 S → TJ Γ N0 0 0 4 [(0, .ref (xad Γ 0)), (1, .int a1), (2, .int a2), (3, .int a3)] [] S) {a2 : Int32} {a3 : Int32} {s0 : Int32} {S : tS} (hf : M_peopleThat_b52 a1 K κ4 a2 a3 s0 S) : TJ Γ N0 0 0 52 [(0, .ref (xad Γ 0)), (1, .int a1), (2, .int a2), (3, .int a3)] [.int s0] S := by
  unfold M_peopleThat_b52 at hf
  refine tj_istore C (by rw [hR]; decide) [(4, .int s0), (0, .ref (xad Γ 0)), (1, .int a1), (2, .int a2), (3, .int a3)] rfl dX6_peopleThat_52 ?_
  refine tj_iload_n C 3 rfl rfl dX6_peopleThat_54 ?_
  refine tj_iload C 0 rfl dX6_peopleThat_55 ?_
  refine tj_if_eq C 66 (by decide) dX6_peopleThat_57 (fun hc => ?_) (fun hc => ?_)
  · replace hf := hf.1 hc
    refine tj_iconst C kc_0 dX6_peopleThat_66 ?_
    exact tj_sub [1, 2, 4] (w_M_peopleThat_b67 C hw hR r hM hκ4 hf) rfl
  · replace hf := hf.2 hc
    refine tj_iconst C kc_1 dX6_peopleThat_60 ?_
    refine tj_iload_n C 4 rfl rfl dX6_peopleThat_61 ?_
    refine tj_ishl C dX6_peopleThat_62 ?_
    refine tj_goto C 67 (by decide) dX6_peopleThat_63 ?_
    exact tj_sub [1, 2, 4] (w_M_peopleThat_b67 C hw hR r hM hκ4 hf) rfl
theorem w_M_peopleThat_l4 {Γ : tX} {N0 : Nat → Nat} {K : Int32 → tS → Prop} (C : TC Γ cX6_peopleThat RX6 2 42) (hw : tWf N0) (hR : xnL Γ = 5) (r : TRi Γ N0 cX6_peopleThat K) {a1 : Int32} (hM : N0 0 ≠ 0) : ∀ (n : Nat) (a2 : Int32) (a3 : Int32) (S : tS), M_peopleThat_l4 a1 K n a2 a3 S → TJ Γ N0 0 0 4 [(0, .ref (xad Γ 0)), (1, .int a1), (2, .int a2), (3, .int a3)] [] S := by
  intro n
  induction n with
  | zero => intro a2 a3 S hf; exact hf.elim
  | succ n ih =>
    intro a2 a3 S hf
    unfold M_peopleThat_l4 at hf
    refine tj_iload_n C 3 rfl rfl dX6_peopleThat_4 ?_
    refine tj_aload_n C 0 rfl rfl dX6_peopleThat_5 ?_
    refine gf_X6_7 C hM dX6_peopleThat_6 ?_
    refine tj_iconst C kc_3 dX6_peopleThat_9 ?_
    refine tj_iald C 48 3548 rfl (ln_48 hw hM) 3 kn_3 (vp_in_nI (by decide) (by decide)) dX6_peopleThat_10 ?_
    refine tj_icmp_ge C 75 (by decide) dX6_peopleThat_11 (fun hc => ?_) (fun hc => ?_)
    · replace hf := hf.1 hc
      refine tj_iload_n C 2 rfl rfl dX6_peopleThat_75 ?_
      exact r _ _ _ _ dX6_peopleThat_76 hf
    · replace hf := hf.2 hc
      refine tj_iload_n C 1 rfl rfl dX6_peopleThat_14 ?_
      refine tj_iconst C kc_3 dX6_peopleThat_15 ?_
      refine tj_icmp_ne C 37 (by decide) dX6_peopleThat_16 (fun hc => ?_) (fun hc => ?_)
      · replace hf := hf.2 hc
        refine tj_aload_n C 0 rfl rfl dX6_peopleThat_37 ?_
        refine tj_iload_n C 3 rfl rfl dX6_peopleThat_38 ?_
        refine tj_iconst C kc_2 dX6_peopleThat_39 ?_
        refine tj_callVi C (k := 0) [.int a3, .int (nI 2)] [] (fun hN => c_M_personOf (by rw [hN]; exact hM) hf) lk_X6_281 ty_X6_personOf rfl (Nat.le_of_ble_eq_true rfl) (Nat.le_of_ble_eq_true rfl) (Nat.le_of_ble_eq_true rfl) hM rfl (by decide) rfl rfl dX6_peopleThat_40 (fun r2 S1 hf => ?_)
        refine tj_iload_n C 1 rfl rfl dX6_peopleThat_43 ?_
        refine tj_icmp_ne C 51 (by decide) dX6_peopleThat_44 (fun hc => ?_) (fun hc => ?_)
        · replace hf := hf.2 hc
          refine tj_iconst C kc_0 dX6_peopleThat_51 ?_
          exact w_M_peopleThat_b52 C hw hR r hM ih hf
        · replace hf := hf.1 hc
          refine tj_iconst C kc_1 dX6_peopleThat_47 ?_
          refine tj_goto C 52 (by decide) dX6_peopleThat_48 ?_
          exact w_M_peopleThat_b52 C hw hR r hM ih hf
      · replace hf := hf.1 hc
        refine tj_aload_n C 0 rfl rfl dX6_peopleThat_19 ?_
        refine tj_iload_n C 3 rfl rfl dX6_peopleThat_20 ?_
        refine tj_iconst C kc_3 dX6_peopleThat_21 ?_
        refine tj_callVi C (k := 0) [.int a3, .int (nI 3)] [] (fun hN => c_M_personOf (by rw [hN]; exact hM) hf) lk_X6_281 ty_X6_personOf rfl (Nat.le_of_ble_eq_true rfl) (Nat.le_of_ble_eq_true rfl) (Nat.le_of_ble_eq_true rfl) hM rfl (by decide) rfl rfl dX6_peopleThat_22 (fun r4 S3 hf => ?_)
        refine tj_iconst C kc_1 dX6_peopleThat_25 ?_
        refine tj_icmp_ne C 33 (by decide) dX6_peopleThat_26 (fun hc => ?_) (fun hc => ?_)
        · replace hf := hf.2 hc
          refine tj_iconst C kc_0 dX6_peopleThat_33 ?_
          refine tj_goto C 52 (by decide) dX6_peopleThat_34 ?_
          exact w_M_peopleThat_b52 C hw hR r hM ih hf
        · replace hf := hf.1 hc
          refine tj_iconst C kc_1 dX6_peopleThat_29 ?_
          refine tj_goto C 52 (by decide) dX6_peopleThat_30 ?_
          exact w_M_peopleThat_b52 C hw hR r hM ih hf
theorem w_M_peopleThat_b0 {Γ : tX} {N0 : Nat → Nat} {K : Int32 → tS → Prop} (C : TC Γ cX6_peopleThat RX6 2 42) (hw : tWf N0) (hR : xnL Γ = 5) (r : TRi Γ N0 cX6_peopleThat K) {a1 : Int32} (hM : N0 0 ≠ 0) {S : tS} (hf : M_peopleThat a1 S K) : TJ Γ N0 0 0 0 [(0, .ref (xad Γ 0)), (1, .int a1)] [] S := by
  unfold M_peopleThat at hf
  refine tj_iconst C kc_0 dX6_peopleThat_0 ?_
  refine tj_istore_n C (by rw [hR]; decide) [(2, .int (nI 0)), (0, .ref (xad Γ 0)), (1, .int a1)] rfl rfl dX6_peopleThat_1 ?_
  refine tj_iconst C kc_0 dX6_peopleThat_2 ?_
  refine tj_istore_n C (by rw [hR]; decide) [(3, .int (nI 0)), (2, .int (nI 0)), (0, .ref (xad Γ 0)), (1, .int a1)] rfl rfl dX6_peopleThat_3 ?_
  exact tj_sub [2, 3, 1, 0] (hf.elim fun k hf => w_M_peopleThat_l4 C hw hR r hM k _ _ _ hf) rfl
theorem c_M_peopleThat {l : Launch} {G : tG} {ad : Nat → Nat} {A : Nat → Prop} {S : tS} {K : Int32 → tS → Prop} {a1 : Int32} (hM : gN S 0 ≠ 0) (hf : M_peopleThat a1 S K) : Met l yX6_peopleThat (ws_ yX6_peopleThat cX6_peopleThat 5 (some .int)) (tRm 2 42) (va_Pc [.ref (ad 0), .int a1] (tPre G ad A S)) (va_Qi K (tB G ad A (gN S)) A) 0 0 A :=
  tj_met_i [(0, .ref (ad 0)), (1, .int a1)] pn_X6 rfl (Nat.le_of_ble_eq_true rfl) (fun p e R s m args below meth c Q C hw r => w_M_peopleThat_b0 C hw rfl r hM hf)
theorem w_M_bits_l4 {Γ : tX} {N0 : Nat → Nat} {K : Int32 → tS → Prop} (C : TC Γ cX6_bits RX6 0 0) (hw : tWf N0) (hR : xnL Γ = 3) (r : TRi Γ N0 cX6_bits K) {a0 : Int32} : ∀ (n : Nat) (a1 : Int32) (a2 : Int32) (S : tS), M_bits_l4 a0 K n a1 a2 S → TJ Γ N0 0 0 4 [(1, .int a1), (2, .int a2)] [] S := by
  intro n
  induction n with
  | zero => intro a1 a2 S hf; exact hf.elim
  | succ n ih =>
    intro a1 a2 S hf
    unfold M_bits_l4 at hf
    refine tj_iload_n C 1 rfl rfl dX6_bits_4 ?_
    refine tj_if_eq C 20 (by decide) dX6_bits_5 (fun hc => ?_) (fun hc => ?_)
    · replace hf := hf.1 hc
      refine tj_iload_n C 0 rfl rfl dX6_bits_20 ?_
      exact r _ _ _ _ dX6_bits_21 hf
    · replace hf := hf.2 hc
      obtain ⟨x1, ex⟩ : ∃ y : Int32, y = a1 + nI 1 := ⟨_, rfl⟩
      refine tj_iinc C (by rw [hR]; decide) 0 [(1, .int x1), (2, .int a2)] rfl (by rw [ex]; exact ki_1 _) rfl dX6_bits_8 ?_
      replace hf := hf x1 ex
      refine tj_iload_n C 1 rfl rfl dX6_bits_11 ?_
      refine tj_iload_n C 1 rfl rfl dX6_bits_12 ?_
      refine tj_iconst C kc_1 dX6_bits_13 ?_
      refine tj_isub C dX6_bits_14 ?_
      refine tj_iand C dX6_bits_15 ?_
      refine tj_topi (fun x2 ex => ?_)
      replace hf := hf x2 ex
      refine tj_istore_n C (by rw [hR]; decide) [(2, .int x2), (1, .int x1)] rfl rfl dX6_bits_16 ?_
      refine tj_goto C 4 (by decide) dX6_bits_17 ?_
      exact tj_sub [1, 0] (ih _ _ _ hf) rfl
theorem w_M_bits_b0 {Γ : tX} {N0 : Nat → Nat} {K : Int32 → tS → Prop} (C : TC Γ cX6_bits RX6 0 0) (hw : tWf N0) (hR : xnL Γ = 3) (r : TRi Γ N0 cX6_bits K) {a0 : Int32} {S : tS} (hf : M_bits a0 S K) : TJ Γ N0 0 0 0 [(0, .int a0)] [] S := by
  unfold M_bits at hf
  refine tj_iconst C kc_0 dX6_bits_0 ?_
  refine tj_istore_n C (by rw [hR]; decide) [(1, .int (nI 0)), (0, .int a0)] rfl rfl dX6_bits_1 ?_
  refine tj_iload_n C 1 rfl rfl dX6_bits_2 ?_
  refine tj_istore_n C (by rw [hR]; decide) [(2, .int a0), (1, .int (nI 0)), (0, .int a0)] rfl rfl dX6_bits_3 ?_
  exact tj_sub [1, 0] (hf.elim fun k hf => w_M_bits_l4 C hw hR r k _ _ _ hf) rfl
theorem c_M_bits {l : Launch} {G : tG} {ad : Nat → Nat} {A : Nat → Prop} {S : tS} {K : Int32 → tS → Prop} {a0 : Int32} (hf : M_bits a0 S K) : Met l yX6_bits (ws_ yX6_bits cX6_bits 3 (some .int)) (tRm 0 0) (va_Pc [.int a0] (tPre G ad A S)) (va_Qi K (tB G ad A (gN S)) A) 0 0 A :=
  tj_met_i [(0, .int a0)] pn_X6 rfl (Nat.le_of_ble_eq_true rfl) (fun p e R s m args below meth c Q C hw r => w_M_bits_b0 C hw rfl r hf)
theorem w_M_cueFor_b0 {Γ : tX} {N0 : Nat → Nat} {K : Int32 → tS → Prop} (C : TC Γ cX6_cueFor RX6 5 116) (hw : tWf N0) (hR : xnL Γ = 4) (r : TRi Γ N0 cX6_cueFor K) {a1 : Int32} {a2 : Int32} (hM : N0 0 ≠ 0) {S : tS} (hf : M_cueFor a1 a2 S K) : TJ Γ N0 0 0 0 [(0, .ref (xad Γ 0)), (1, .int a1), (2, .int a2)] [] S := by
  unfold M_cueFor at hf
  refine tj_aload_n C 0 rfl rfl dX6_cueFor_0 ?_
  refine tj_iload_n C 1 rfl rfl dX6_cueFor_1 ?_
  refine tj_iload_n C 2 rfl rfl dX6_cueFor_2 ?_
  refine tj_callVi C (k := 0) [.int a1, .int a2] [] (fun hN => c_M_ruleFor (by rw [hN]; exact hM) hf) lk_X6_329 ty_X6_ruleFor rfl (Nat.le_of_ble_eq_true rfl) (Nat.le_of_ble_eq_true rfl) (Nat.le_of_ble_eq_true rfl) hM rfl (by decide) rfl rfl dX6_cueFor_3 (fun r2 S1 hf => ?_)
  refine tj_istore_n C (by rw [hR]; decide) [(3, .int r2), (0, .ref (xad Γ 0)), (1, .int a1), (2, .int a2)] rfl rfl dX6_cueFor_6 ?_
  refine tj_iload_n C 0 rfl rfl dX6_cueFor_7 ?_
  refine tj_iconst C kc_m1 dX6_cueFor_8 ?_
  refine tj_icmp_ne C 16 (by decide) dX6_cueFor_9 (fun hc => ?_) (fun hc => ?_)
  · replace hf := hf.2 hc
    refine tj_aload_n C 1 rfl rfl dX6_cueFor_16 ?_
    refine tj_iload_n C 0 rfl rfl dX6_cueFor_17 ?_
    refine tj_iconst C kc_0 dX6_cueFor_18 ?_
    refine tj_callVi C (k := 0) [.int r2, .int (nI 0)] [] (fun hN => c_M_ruleOf (by rw [hN]; exact hM) hf) lk_X6_299 ty_X6_ruleOf rfl (Nat.le_of_ble_eq_true rfl) (Nat.le_of_ble_eq_true rfl) (Nat.le_of_ble_eq_true rfl) hM rfl (by decide) rfl rfl dX6_cueFor_19 (fun r4 S3 hf => ?_)
    exact r _ _ _ _ dX6_cueFor_22 hf
  · replace hf := hf.1 hc
    refine tj_iconst C kc_m1 dX6_cueFor_12 ?_
    refine tj_goto C 22 (by decide) dX6_cueFor_13 ?_
    exact r _ _ _ _ dX6_cueFor_22 hf
theorem c_M_cueFor {l : Launch} {G : tG} {ad : Nat → Nat} {A : Nat → Prop} {S : tS} {K : Int32 → tS → Prop} {a1 : Int32} {a2 : Int32} (hM : gN S 0 ≠ 0) (hf : M_cueFor a1 a2 S K) : Met l yX6_cueFor (ws_ yX6_cueFor cX6_cueFor 4 (some .int)) (tRm 5 116) (va_Pc [.ref (ad 0), .int a1, .int a2] (tPre G ad A S)) (va_Qi K (tB G ad A (gN S)) A) 0 0 A :=
  tj_met_i [(0, .ref (ad 0)), (1, .int a1), (2, .int a2)] pn_X6 rfl (Nat.le_of_ble_eq_true rfl) (fun p e R s m args below meth c Q C hw r => w_M_cueFor_b0 C hw rfl r hM hf)
theorem w_M_senseFor_b0 {Γ : tX} {N0 : Nat → Nat} {K : Int32 → tS → Prop} (C : TC Γ cX6_senseFor RX6 6 139) (hw : tWf N0) (hR : xnL Γ = 4) (r : TRi Γ N0 cX6_senseFor K) {a1 : Int32} {a2 : Int32} (hM : N0 0 ≠ 0) {S : tS} (hf : M_senseFor a1 a2 S K) : TJ Γ N0 0 0 0 [(0, .ref (xad Γ 0)), (1, .int a1), (2, .int a2)] [] S := by
  unfold M_senseFor at hf
  refine tj_aload_n C 0 rfl rfl dX6_senseFor_0 ?_
  refine tj_iload_n C 1 rfl rfl dX6_senseFor_1 ?_
  refine tj_iload_n C 2 rfl rfl dX6_senseFor_2 ?_
  refine tj_callVi C (k := 0) [.int a1, .int a2] [] (fun hN => c_M_cueFor (by rw [hN]; exact hM) hf) lk_X6_332 ty_X6_cueFor rfl (Nat.le_of_ble_eq_true rfl) (Nat.le_of_ble_eq_true rfl) (Nat.le_of_ble_eq_true rfl) hM rfl (by decide) rfl rfl dX6_senseFor_3 (fun r2 S1 hf => ?_)
  refine tj_istore_n C (by rw [hR]; decide) [(3, .int r2), (0, .ref (xad Γ 0)), (1, .int a1), (2, .int a2)] rfl rfl dX6_senseFor_6 ?_
  refine tj_iload_n C 0 rfl rfl dX6_senseFor_7 ?_
  refine tj_iconst C kc_m1 dX6_senseFor_8 ?_
  refine tj_icmp_ne C 16 (by decide) dX6_senseFor_9 (fun hc => ?_) (fun hc => ?_)
  · replace hf := hf.2 hc
    refine tj_aload_n C 1 rfl rfl dX6_senseFor_16 ?_
    refine gf_X6_7 C hM dX6_senseFor_17 ?_
    refine tj_bipush C kb_10 dX6_senseFor_20 ?_
    refine tj_iload_n C 0 rfl rfl dX6_senseFor_22 ?_
    refine tj_iadd C dX6_senseFor_23 ?_
    refine tj_iald C 48 3548 rfl (ln_48 hw hM) _ rfl hf.1 dX6_senseFor_24 ?_
    replace hf := hf.2
    exact r _ _ _ _ dX6_senseFor_25 hf
  · replace hf := hf.1 hc
    refine tj_iconst C kc_0 dX6_senseFor_12 ?_
    refine tj_goto C 25 (by decide) dX6_senseFor_13 ?_
    exact r _ _ _ _ dX6_senseFor_25 hf
theorem c_M_senseFor {l : Launch} {G : tG} {ad : Nat → Nat} {A : Nat → Prop} {S : tS} {K : Int32 → tS → Prop} {a1 : Int32} {a2 : Int32} (hM : gN S 0 ≠ 0) (hf : M_senseFor a1 a2 S K) : Met l yX6_senseFor (ws_ yX6_senseFor cX6_senseFor 4 (some .int)) (tRm 6 139) (va_Pc [.ref (ad 0), .int a1, .int a2] (tPre G ad A S)) (va_Qi K (tB G ad A (gN S)) A) 0 0 A :=
  tj_met_i [(0, .ref (ad 0)), (1, .int a1), (2, .int a2)] pn_X6 rfl (Nat.le_of_ble_eq_true rfl) (fun p e R s m args below meth c Q C hw r => w_M_senseFor_b0 C hw rfl r hM hf)
theorem w_M_laysOrders_b128 {Γ : tX} {N0 : Nat → Nat} {K : Int32 → tS → Prop} (C : TC Γ cX6_laysOrders RX6 7 162) (hw : tWf N0) (hR : xnL Γ = 5) (r : TRi Γ N0 cX6_laysOrders K) (hM : N0 0 ≠ 0) {κ8 : Int32 → Int32 → tS → Prop} (hκ8 : ∀ (a1 : Int32) (a2 : Int32) (S : tS), κ8 a1 a2 S → TJ Γ N0 0 0 8 [(0, .ref (xad Γ 0)), (1, .int a1), (2, .int a2)] [] S) {a1 : Int32} {a2 : Int32} {S : tS} (hf : M_laysOrders_b128 K κ8 a1 a2 S) : TJ Γ N0 0 0 128 [(0, .ref (xad Γ 0)), (1, .int a1), (2, .int a2)] [] S := by
  unfold M_laysOrders_b128 at hf
  obtain ⟨x11, ex⟩ : ∃ y : Int32, y = a2 + (-1) := ⟨_, rfl⟩
  refine tj_iinc C (by rw [hR]; decide) 2 [(2, .int x11), (0, .ref (xad Γ 0)), (1, .int a1)] rfl (by rw [ex]; exact ki_m1 _) rfl dX6_laysOrders_128 ?_
  replace hf := hf x11 ex
  refine tj_goto C 8 (by decide) dX6_laysOrders_131 ?_
  exact tj_sub [1, 2, 0] (hκ8 _ _ _ hf) rfl
theorem w_M_laysOrders_b122 {Γ : tX} {N0 : Nat → Nat} {K : Int32 → tS → Prop} (C : TC Γ cX6_laysOrders RX6 7 162) (hw : tWf N0) (hR : xnL Γ = 5) (r : TRi Γ N0 cX6_laysOrders K) (hM : N0 0 ≠ 0) {κ8 : Int32 → Int32 → tS → Prop} (hκ8 : ∀ (a1 : Int32) (a2 : Int32) (S : tS), κ8 a1 a2 S → TJ Γ N0 0 0 8 [(0, .ref (xad Γ 0)), (1, .int a1), (2, .int a2)] [] S) {κ51 : Int32 → Int32 → Int32 → Int32 → tS → Prop} (hκ51 : ∀ (a1 : Int32) (a2 : Int32) (a3 : Int32) (a4 : Int32) (S : tS), κ51 a1 a2 a3 a4 S → TJ Γ N0 0 0 51 [(0, .ref (xad Γ 0)), (1, .int a1), (2, .int a2), (3, .int a3), (4, .int a4)] [] S) {a1 : Int32} {a2 : Int32} {a3 : Int32} {a4 : Int32} {S : tS} (hf : M_laysOrders_b122 K κ8 κ51 a1 a2 a3 a4 S) : TJ Γ N0 0 0 122 [(0, .ref (xad Γ 0)), (1, .int a1), (2, .int a2), (3, .int a3), (4, .int a4)] [] S := by
  unfold M_laysOrders_b122 at hf
  obtain ⟨x13, ex⟩ : ∃ y : Int32, y = a4 + nI 1 := ⟨_, rfl⟩
  refine tj_iinc C (by rw [hR]; decide) 4 [(4, .int x13), (0, .ref (xad Γ 0)), (1, .int a1), (2, .int a2), (3, .int a3)] rfl (by rw [ex]; exact ki_1 _) rfl dX6_laysOrders_122 ?_
  replace hf := hf x13 ex
  refine tj_goto C 51 (by decide) dX6_laysOrders_125 ?_
  exact tj_sub [1, 2, 3, 4, 0] (hκ51 _ _ _ _ _ hf) rfl
theorem w_M_laysOrders_b117 {Γ : tX} {N0 : Nat → Nat} {K : Int32 → tS → Prop} (C : TC Γ cX6_laysOrders RX6 7 162) (hw : tWf N0) (hR : xnL Γ = 5) (r : TRi Γ N0 cX6_laysOrders K) (hM : N0 0 ≠ 0) {κ8 : Int32 → Int32 → tS → Prop} (hκ8 : ∀ (a1 : Int32) (a2 : Int32) (S : tS), κ8 a1 a2 S → TJ Γ N0 0 0 8 [(0, .ref (xad Γ 0)), (1, .int a1), (2, .int a2)] [] S) {κ51 : Int32 → Int32 → Int32 → Int32 → tS → Prop} (hκ51 : ∀ (a1 : Int32) (a2 : Int32) (a3 : Int32) (a4 : Int32) (S : tS), κ51 a1 a2 a3 a4 S → TJ Γ N0 0 0 51 [(0, .ref (xad Γ 0)), (1, .int a1), (2, .int a2), (3, .int a3), (4, .int a4)] [] S) {a1 : Int32} {a2 : Int32} {a3 : Int32} {a4 : Int32} {s1 : Int32} {s2 : Int32} {s3 : Int32} {s4 : Int32} {S : tS} (hf : M_laysOrders_b117 K κ8 κ51 a1 a2 a3 a4 s1 s2 s3 s4 S) : TJ Γ N0 0 0 117 [(0, .ref (xad Γ 0)), (1, .int a1), (2, .int a2), (3, .int a3), (4, .int a4)] [.int s4, .int s3, .int s2, .int s1, .ref (xad Γ 432)] S := by
  unfold M_laysOrders_b117 at hf
  refine tj_iadd C dX6_laysOrders_117 ?_
  refine tj_mmax C q2225 (Nat.le_of_ble_eq_true rfl) (Nat.le_of_ble_eq_true rfl) (Nat.le_of_ble_eq_true rfl) dX6_laysOrders_118 ?_
  refine tj_iast C 432 64 rfl (ln_432 hw hM) _ rfl hf.1 dX6_laysOrders_121 ?_
  replace hf := hf.2
  refine tj_topS (fun S12 eS => ?_)
  replace hf := hf S12 eS
  exact w_M_laysOrders_b122 C hw hR r hM hκ8 hκ51 hf
theorem w_M_laysOrders_l51 {Γ : tX} {N0 : Nat → Nat} {K : Int32 → tS → Prop} (C : TC Γ cX6_laysOrders RX6 7 162) (hw : tWf N0) (hR : xnL Γ = 5) (r : TRi Γ N0 cX6_laysOrders K) (hM : N0 0 ≠ 0) {κ8 : Int32 → Int32 → tS → Prop} (hκ8 : ∀ (a1 : Int32) (a2 : Int32) (S : tS), κ8 a1 a2 S → TJ Γ N0 0 0 8 [(0, .ref (xad Γ 0)), (1, .int a1), (2, .int a2)] [] S) : ∀ (n : Nat) (a1 : Int32) (a2 : Int32) (a3 : Int32) (a4 : Int32) (S : tS), M_laysOrders_l51 K κ8 n a1 a2 a3 a4 S → TJ Γ N0 0 0 51 [(0, .ref (xad Γ 0)), (1, .int a1), (2, .int a2), (3, .int a3), (4, .int a4)] [] S := by
  intro n
  induction n with
  | zero => intro a1 a2 a3 a4 S hf; exact hf.elim
  | succ n ih =>
    intro a1 a2 a3 a4 S hf
    unfold M_laysOrders_l51 at hf
    refine tj_iload C 4 rfl dX6_laysOrders_51 ?_
    refine tj_aload_n C 0 rfl rfl dX6_laysOrders_53 ?_
    refine gf_X6_7 C hM dX6_laysOrders_54 ?_
    refine tj_iconst C kc_3 dX6_laysOrders_57 ?_
    refine tj_iald C 48 3548 rfl (ln_48 hw hM) 3 kn_3 (vp_in_nI (by decide) (by decide)) dX6_laysOrders_58 ?_
    refine tj_icmp_ge C 128 (by decide) dX6_laysOrders_59 (fun hc => ?_) (fun hc => ?_)
    · replace hf := hf.1 hc
      exact tj_sub [0, 1, 2] (w_M_laysOrders_b128 C hw hR r hM hκ8 hf) rfl
    · replace hf := hf.2 hc
      refine tj_aload_n C 0 rfl rfl dX6_laysOrders_62 ?_
      refine tj_iload_n C 1 rfl rfl dX6_laysOrders_63 ?_
      refine tj_iload_n C 2 rfl rfl dX6_laysOrders_64 ?_
      refine tj_iconst C kc_m1 dX6_laysOrders_65 ?_
      refine tj_ixor C dX6_laysOrders_66 ?_
      refine tj_iand C dX6_laysOrders_67 ?_
      refine tj_iload C 4 rfl dX6_laysOrders_68 ?_
      refine tj_callVz C (k := 0) [.int (a1 &&& (a2 ^^^ (-1))), .int a4] [] (fun hN => c_M_isIn (by rw [hN]; exact hM) hf) lk_X6_315 ty_X6_isIn rfl (Nat.le_of_ble_eq_true rfl) (Nat.le_of_ble_eq_true rfl) (Nat.le_of_ble_eq_true rfl) hM rfl (by decide) rfl rfl dX6_laysOrders_70 (fun r8 S7 hf => ?_)
      have hz_r8 := hf.1
      replace hf := hf.2
      refine tj_if_ne C 79 (by decide) dX6_laysOrders_73 (fun hc => ?_) (fun hc => ?_)
      · replace hf := hf.2 hc
        refine tj_aload_n C 0 rfl rfl dX6_laysOrders_79 ?_
        refine gf_X6_60 C hM dX6_laysOrders_80 ?_
        refine tj_iload_n C 2 rfl rfl dX6_laysOrders_83 ?_
        refine tj_aload_n C 0 rfl rfl dX6_laysOrders_84 ?_
        refine gf_X6_60 C hM dX6_laysOrders_85 ?_
        refine tj_iload_n C 2 rfl rfl dX6_laysOrders_88 ?_
        refine tj_iald C 432 64 rfl (ln_432 hw hM) _ rfl hf.1 dX6_laysOrders_89 ?_
        replace hf := hf.2
        refine tj_aload_n C 0 rfl rfl dX6_laysOrders_90 ?_
        refine gf_X6_60 C hM dX6_laysOrders_91 ?_
        refine tj_iload_n C 2 rfl rfl dX6_laysOrders_94 ?_
        refine tj_iconst C kc_1 dX6_laysOrders_95 ?_
        refine tj_iload C 4 rfl dX6_laysOrders_96 ?_
        refine tj_ishl C dX6_laysOrders_98 ?_
        refine tj_ior C dX6_laysOrders_99 ?_
        refine tj_iald C 432 64 rfl (ln_432 hw hM) _ rfl hf.1 dX6_laysOrders_100 ?_
        replace hf := hf.2
        refine tj_aload_n C 0 rfl rfl dX6_laysOrders_101 ?_
        refine tj_iload C 4 rfl dX6_laysOrders_102 ?_
        refine tj_iload_n C 3 rfl rfl dX6_laysOrders_104 ?_
        refine tj_callVi C (k := 0) [.int a4, .int a3] [.int (gI S7 432 ((a2 ||| ((nI 1) <<< (a4 &&& 31))).toNatClampNeg)), .int (gI S7 432 (a2.toNatClampNeg)), .int a2, .ref (xad Γ 432)] (fun hN => c_M_senseFor (by rw [hN]; exact hM) hf) lk_X6_443 ty_X6_senseFor rfl (Nat.le_of_ble_eq_true rfl) (Nat.le_of_ble_eq_true rfl) (Nat.le_of_ble_eq_true rfl) hM rfl (by decide) rfl rfl dX6_laysOrders_105 (fun r10 S9 hf => ?_)
        refine tj_iconst C kc_2 dX6_laysOrders_108 ?_
        refine tj_icmp_ne C 116 (by decide) dX6_laysOrders_109 (fun hc => ?_) (fun hc => ?_)
        · replace hf := hf.2 hc
          refine tj_iconst C kc_0 dX6_laysOrders_116 ?_
          exact w_M_laysOrders_b117 C hw hR r hM hκ8 ih hf
        · replace hf := hf.1 hc
          refine tj_iconst C kc_1 dX6_laysOrders_112 ?_
          refine tj_goto C 117 (by decide) dX6_laysOrders_113 ?_
          exact w_M_laysOrders_b117 C hw hR r hM hκ8 ih hf
      · replace hf := hf.1 hc
        refine tj_goto C 122 (by decide) dX6_laysOrders_76 ?_
        exact w_M_laysOrders_b122 C hw hR r hM hκ8 ih hf
theorem w_M_laysOrders_l8 {Γ : tX} {N0 : Nat → Nat} {K : Int32 → tS → Prop} (C : TC Γ cX6_laysOrders RX6 7 162) (hw : tWf N0) (hR : xnL Γ = 5) (r : TRi Γ N0 cX6_laysOrders K) (hM : N0 0 ≠ 0) : ∀ (n : Nat) (a1 : Int32) (a2 : Int32) (S : tS), M_laysOrders_l8 K n a1 a2 S → TJ Γ N0 0 0 8 [(0, .ref (xad Γ 0)), (1, .int a1), (2, .int a2)] [] S := by
  intro n
  induction n with
  | zero => intro a1 a2 S hf; exact hf.elim
  | succ n ih =>
    intro a1 a2 S hf
    unfold M_laysOrders_l8 at hf
    refine tj_iload_n C 2 rfl rfl dX6_laysOrders_8 ?_
    refine tj_if_lt C 134 (by decide) dX6_laysOrders_9 (fun hc => ?_) (fun hc => ?_)
    · replace hf := hf.1 hc
      refine tj_iload_n C 1 rfl rfl dX6_laysOrders_134 ?_
      exact r _ _ _ _ dX6_laysOrders_135 hf
    · replace hf := hf.2 hc
      refine tj_iload_n C 2 rfl rfl dX6_laysOrders_12 ?_
      refine tj_iload_n C 1 rfl rfl dX6_laysOrders_13 ?_
      refine tj_iconst C kc_m1 dX6_laysOrders_14 ?_
      refine tj_ixor C dX6_laysOrders_15 ?_
      refine tj_iand C dX6_laysOrders_16 ?_
      refine tj_if_eq C 23 (by decide) dX6_laysOrders_17 (fun hc => ?_) (fun hc => ?_)
      · replace hf := hf.1 hc
        refine tj_aload_n C 0 rfl rfl dX6_laysOrders_23 ?_
        refine gf_X6_60 C hM dX6_laysOrders_24 ?_
        refine tj_iload_n C 2 rfl rfl dX6_laysOrders_27 ?_
        refine tj_iconst C kc_0 dX6_laysOrders_28 ?_
        refine tj_iast C 432 64 rfl (ln_432 hw hM) _ rfl hf.1 dX6_laysOrders_29 ?_
        replace hf := hf.2
        refine tj_topS (fun S3 eS => ?_)
        replace hf := hf S3 eS
        refine tj_bipush C kb_9 dX6_laysOrders_30 ?_
        refine tj_aload_n C 0 rfl rfl dX6_laysOrders_32 ?_
        refine gf_X6_7 C hM dX6_laysOrders_33 ?_
        refine tj_bipush C kb_6 dX6_laysOrders_36 ?_
        refine tj_iald C 48 3548 rfl (ln_48 hw hM) 6 kn_6 (vp_in_nI (by decide) (by decide)) dX6_laysOrders_38 ?_
        refine tj_iload_n C 2 rfl rfl dX6_laysOrders_39 ?_
        refine tj_callSi C [.int a2] [.int (gI S3 48 6), .int (nI 9)] (fun hN => c_M_bits hf) lk_X6_344 ty_X6_bits rfl (Nat.le_of_ble_eq_true rfl) (Nat.le_of_ble_eq_true rfl) (Nat.le_of_ble_eq_true rfl) rfl dX6_laysOrders_40 (fun r5 S4 hf => ?_)
        refine tj_iadd C dX6_laysOrders_43 ?_
        refine tj_mmin C q1827 (Nat.le_of_ble_eq_true rfl) (Nat.le_of_ble_eq_true rfl) (Nat.le_of_ble_eq_true rfl) dX6_laysOrders_44 ?_
        refine tj_topi (fun x6 ex => ?_)
        replace hf := hf x6 ex
        refine tj_istore_n C (by rw [hR]; decide) [(3, .int x6), (0, .ref (xad Γ 0)), (1, .int a1), (2, .int a2)] rfl rfl dX6_laysOrders_47 ?_
        refine tj_iconst C kc_0 dX6_laysOrders_48 ?_
        refine tj_istore C (by rw [hR]; decide) [(4, .int (nI 0)), (3, .int x6), (0, .ref (xad Γ 0)), (1, .int a1), (2, .int a2)] rfl dX6_laysOrders_49 ?_
        exact tj_sub [2, 3, 4, 1, 0] (hf.elim fun k hf => w_M_laysOrders_l51 C hw hR r hM ih k _ _ _ _ _ hf) rfl
      · replace hf := hf.2 hc
        refine tj_goto C 128 (by decide) dX6_laysOrders_20 ?_
        exact w_M_laysOrders_b128 C hw hR r hM ih hf
theorem w_M_laysOrders_b0 {Γ : tX} {N0 : Nat → Nat} {K : Int32 → tS → Prop} (C : TC Γ cX6_laysOrders RX6 7 162) (hw : tWf N0) (hR : xnL Γ = 5) (r : TRi Γ N0 cX6_laysOrders K) (hM : N0 0 ≠ 0) {S : tS} (hf : M_laysOrders S K) : TJ Γ N0 0 0 0 [(0, .ref (xad Γ 0))] [] S := by
  unfold M_laysOrders at hf
  refine tj_aload_n C 0 rfl rfl dX6_laysOrders_0 ?_
  refine tj_iconst C kc_0 dX6_laysOrders_1 ?_
  refine tj_callVi C (k := 0) [.int (nI 0)] [] (fun hN => c_M_peopleThat (by rw [hN]; exact hM) hf) lk_X6_290 ty_X6_peopleThat rfl (Nat.le_of_ble_eq_true rfl) (Nat.le_of_ble_eq_true rfl) (Nat.le_of_ble_eq_true rfl) hM rfl (by decide) rfl rfl dX6_laysOrders_2 (fun r2 S1 hf => ?_)
  refine tj_istore_n C (by rw [hR]; decide) [(1, .int r2), (0, .ref (xad Γ 0))] rfl rfl dX6_laysOrders_5 ?_
  refine tj_iload_n C 0 rfl rfl dX6_laysOrders_6 ?_
  refine tj_istore_n C (by rw [hR]; decide) [(2, .int r2), (1, .int r2), (0, .ref (xad Γ 0))] rfl rfl dX6_laysOrders_7 ?_
  exact tj_sub [2, 1, 0] (hf.elim fun k hf => w_M_laysOrders_l8 C hw hR r hM k _ _ _ hf) rfl
theorem c_M_laysOrders {l : Launch} {G : tG} {ad : Nat → Nat} {A : Nat → Prop} {S : tS} {K : Int32 → tS → Prop} (hM : gN S 0 ≠ 0) (hf : M_laysOrders S K) : Met l yX6_laysOrders (ws_ yX6_laysOrders cX6_laysOrders 5 (some .int)) (tRm 7 162) (va_Pc [.ref (ad 0)] (tPre G ad A S)) (va_Qi K (tB G ad A (gN S)) A) 0 0 A :=
  tj_met_i [(0, .ref (ad 0))] pn_X6 rfl (Nat.le_of_ble_eq_true rfl) (fun p e R s m args below meth c Q C hw r => w_M_laysOrders_b0 C hw rfl r hM hf)
theorem w_M_best_b0 {Γ : tX} {N0 : Nat → Nat} {K : Int32 → tS → Prop} (C : TC Γ cX6_best RX6 8 186) (hw : tWf N0) (hR : xnL Γ = 1) (r : TRi Γ N0 cX6_best K) (hM : N0 0 ≠ 0) {S : tS} (hf : M_best S K) : TJ Γ N0 0 0 0 [(0, .ref (xad Γ 0))] [] S := by
  unfold M_best at hf
  refine tj_aload_n C 0 rfl rfl dX6_best_0 ?_
  refine tj_callVi C (k := 0) [] [] (fun hN => c_M_laysOrders (by rw [hN]; exact hM) hf) lk_X6_455 ty_X6_laysOrders rfl (Nat.le_of_ble_eq_true rfl) (Nat.le_of_ble_eq_true rfl) (Nat.le_of_ble_eq_true rfl) hM rfl (by decide) rfl rfl dX6_best_1 (fun r2 S1 hf => ?_)
  refine tj_pop C rfl dX6_best_4 ?_
  refine tj_aload_n C 0 rfl rfl dX6_best_5 ?_
  refine tj_aload_n C 0 rfl rfl dX6_best_6 ?_
  refine gf_X6_60 C hM dX6_best_7 ?_
  refine tj_iconst C kc_0 dX6_best_10 ?_
  refine tj_iald C 432 64 rfl (ln_432 hw hM) 0 kn_0 (vp_in_nI (by decide) (by decide)) dX6_best_11 ?_
  refine tj_callVi C (k := 0) [.int (gI S1 432 0)] [] (fun hN => c_M_gives (by rw [hN]; exact hM) hf) lk_X6_95 ty_X6_gives rfl (Nat.le_of_ble_eq_true rfl) (Nat.le_of_ble_eq_true rfl) (Nat.le_of_ble_eq_true rfl) hM rfl (by decide) rfl rfl dX6_best_12 (fun r4 S3 hf => ?_)
  exact r _ _ _ _ dX6_best_15 hf
theorem c_M_best {l : Launch} {G : tG} {ad : Nat → Nat} {A : Nat → Prop} {S : tS} {K : Int32 → tS → Prop} (hM : gN S 0 ≠ 0) (hf : M_best S K) : Met l yX6_best (ws_ yX6_best cX6_best 1 (some .int)) (tRm 8 186) (va_Pc [.ref (ad 0)] (tPre G ad A S)) (va_Qi K (tB G ad A (gN S)) A) 0 0 A :=
  tj_met_i [(0, .ref (ad 0))] pn_X6 rfl (Nat.le_of_ble_eq_true rfl) (fun p e R s m args below meth c Q C hw r => w_M_best_b0 C hw rfl r hM hf)
theorem w_M_bestAt_b118 {Γ : tX} {N0 : Nat → Nat} {K : Int32 → tS → Prop} (C : TC Γ cX6_bestAt RX6 8 186) (hw : tWf N0) (hR : xnL Γ = 7) (r : TRi Γ N0 cX6_bestAt K) {a1 : Int32} (hM : N0 0 ≠ 0) {κ38 : Int32 → Int32 → Int32 → Int32 → tS → Prop} (hκ38 : ∀ (a2 : Int32) (a3 : Int32) (a4 : Int32) (a5 : Int32) (S : tS), κ38 a2 a3 a4 a5 S → TJ Γ N0 0 0 38 [(0, .ref (xad Γ 0)), (1, .int a1), (2, .int a2), (3, .int a3), (4, .int a4), (5, .int a5)] [] S) {κ66 : Int32 → Int32 → Int32 → Int32 → Int32 → tS → Prop} (hκ66 : ∀ (a2 : Int32) (a3 : Int32) (a4 : Int32) (a5 : Int32) (a6 : Int32) (S : tS), κ66 a2 a3 a4 a5 a6 S → TJ Γ N0 0 0 66 [(0, .ref (xad Γ 0)), (1, .int a1), (2, .int a2), (3, .int a3), (4, .int a4), (5, .int a5), (6, .int a6)] [] S) {a2 : Int32} {a3 : Int32} {a4 : Int32} {a5 : Int32} {a6 : Int32} {S : tS} (hf : M_bestAt_b118 a1 K κ38 κ66 a2 a3 a4 a5 a6 S) : TJ Γ N0 0 0 118 [(0, .ref (xad Γ 0)), (1, .int a1), (2, .int a2), (3, .int a3), (4, .int a4), (5, .int a5), (6, .int a6)] [] S := by
  unfold M_bestAt_b118 at hf
  obtain ⟨x18, ex⟩ : ∃ y : Int32, y = a4 + nI 1 := ⟨_, rfl⟩
  refine tj_iinc C (by rw [hR]; decide) 4 [(4, .int x18), (0, .ref (xad Γ 0)), (1, .int a1), (2, .int a2), (3, .int a3), (5, .int a5), (6, .int a6)] rfl (by rw [ex]; exact ki_1 _) rfl dX6_bestAt_118 ?_
  replace hf := hf x18 ex
  refine tj_goto C 66 (by decide) dX6_bestAt_121 ?_
  exact tj_sub [1, 2, 3, 4, 0, 5, 6] (hκ66 _ _ _ _ _ _ hf) rfl
theorem w_M_bestAt_b108 {Γ : tX} {N0 : Nat → Nat} {K : Int32 → tS → Prop} (C : TC Γ cX6_bestAt RX6 8 186) (hw : tWf N0) (hR : xnL Γ = 7) (r : TRi Γ N0 cX6_bestAt K) {a1 : Int32} (hM : N0 0 ≠ 0) {κ38 : Int32 → Int32 → Int32 → Int32 → tS → Prop} (hκ38 : ∀ (a2 : Int32) (a3 : Int32) (a4 : Int32) (a5 : Int32) (S : tS), κ38 a2 a3 a4 a5 S → TJ Γ N0 0 0 38 [(0, .ref (xad Γ 0)), (1, .int a1), (2, .int a2), (3, .int a3), (4, .int a4), (5, .int a5)] [] S) {κ66 : Int32 → Int32 → Int32 → Int32 → Int32 → tS → Prop} (hκ66 : ∀ (a2 : Int32) (a3 : Int32) (a4 : Int32) (a5 : Int32) (a6 : Int32) (S : tS), κ66 a2 a3 a4 a5 a6 S → TJ Γ N0 0 0 66 [(0, .ref (xad Γ 0)), (1, .int a1), (2, .int a2), (3, .int a3), (4, .int a4), (5, .int a5), (6, .int a6)] [] S) {a2 : Int32} {a3 : Int32} {a4 : Int32} {a5 : Int32} {a6 : Int32} {s0 : Int32} {s1 : Int32} {S : tS} (hf : M_bestAt_b108 a1 K κ38 κ66 a2 a3 a4 a5 a6 s0 s1 S) : TJ Γ N0 0 0 108 [(0, .ref (xad Γ 0)), (1, .int a1), (2, .int a2), (3, .int a3), (4, .int a4), (5, .int a5), (6, .int a6)] [.int s1, .int s0] S := by
  unfold M_bestAt_b108 at hf
  refine tj_iadd C dX6_bestAt_108 ?_
  refine tj_aload_n C 0 rfl rfl dX6_bestAt_109 ?_
  refine gf_X6_60 C hM dX6_bestAt_110 ?_
  refine tj_iload_n C 3 rfl rfl dX6_bestAt_113 ?_
  refine tj_iald C 432 64 rfl (ln_432 hw hM) _ rfl hf.1 dX6_bestAt_114 ?_
  replace hf := hf.2
  refine tj_icmp_eq C 124 (by decide) dX6_bestAt_115 (fun hc => ?_) (fun hc => ?_)
  · replace hf := hf.1 hc
    refine tj_iload_n C 3 rfl rfl dX6_bestAt_124 ?_
    refine tj_iconst C kc_1 dX6_bestAt_125 ?_
    refine tj_iload C 4 rfl dX6_bestAt_126 ?_
    refine tj_ishl C dX6_bestAt_128 ?_
    refine tj_ior C dX6_bestAt_129 ?_
    refine tj_topi (fun x19 ex => ?_)
    replace hf := hf x19 ex
    refine tj_istore_n C (by rw [hR]; decide) [(3, .int x19), (0, .ref (xad Γ 0)), (1, .int a1), (2, .int a2), (4, .int a4), (5, .int a5), (6, .int a6)] rfl rfl dX6_bestAt_130 ?_
    obtain ⟨x20, ex⟩ : ∃ y : Int32, y = a5 + nI 1 := ⟨_, rfl⟩
    refine tj_iinc C (by rw [hR]; decide) 5 [(5, .int x20), (3, .int x19), (0, .ref (xad Γ 0)), (1, .int a1), (2, .int a2), (4, .int a4), (6, .int a6)] rfl (by rw [ex]; exact ki_1 _) rfl dX6_bestAt_131 ?_
    replace hf := hf x20 ex
    refine tj_goto C 38 (by decide) dX6_bestAt_134 ?_
    exact tj_sub [2, 3, 4, 1, 5, 0] (hκ38 _ _ _ _ _ hf) rfl
  · replace hf := hf.2 hc
    exact w_M_bestAt_b118 C hw hR r hM hκ38 hκ66 hf
theorem w_M_bestAt_l66 {Γ : tX} {N0 : Nat → Nat} {K : Int32 → tS → Prop} (C : TC Γ cX6_bestAt RX6 8 186) (hw : tWf N0) (hR : xnL Γ = 7) (r : TRi Γ N0 cX6_bestAt K) {a1 : Int32} (hM : N0 0 ≠ 0) {κ38 : Int32 → Int32 → Int32 → Int32 → tS → Prop} (hκ38 : ∀ (a2 : Int32) (a3 : Int32) (a4 : Int32) (a5 : Int32) (S : tS), κ38 a2 a3 a4 a5 S → TJ Γ N0 0 0 38 [(0, .ref (xad Γ 0)), (1, .int a1), (2, .int a2), (3, .int a3), (4, .int a4), (5, .int a5)] [] S) : ∀ (n : Nat) (a2 : Int32) (a3 : Int32) (a4 : Int32) (a5 : Int32) (a6 : Int32) (S : tS), M_bestAt_l66 a1 K κ38 n a2 a3 a4 a5 a6 S → TJ Γ N0 0 0 66 [(0, .ref (xad Γ 0)), (1, .int a1), (2, .int a2), (3, .int a3), (4, .int a4), (5, .int a5), (6, .int a6)] [] S := by
  intro n
  induction n with
  | zero => intro a2 a3 a4 a5 a6 S hf; exact hf.elim
  | succ n ih =>
    intro a2 a3 a4 a5 a6 S hf
    unfold M_bestAt_l66 at hf
    refine tj_aload_n C 0 rfl rfl dX6_bestAt_66 ?_
    refine tj_iload_n C 2 rfl rfl dX6_bestAt_67 ?_
    refine tj_iload_n C 3 rfl rfl dX6_bestAt_68 ?_
    refine tj_iconst C kc_m1 dX6_bestAt_69 ?_
    refine tj_ixor C dX6_bestAt_70 ?_
    refine tj_iand C dX6_bestAt_71 ?_
    refine tj_iload C 4 rfl dX6_bestAt_72 ?_
    refine tj_callVz C (k := 0) [.int (a2 &&& (a3 ^^^ (-1))), .int a4] [] (fun hN => c_M_isIn (by rw [hN]; exact hM) hf) lk_X6_315 ty_X6_isIn rfl (Nat.le_of_ble_eq_true rfl) (Nat.le_of_ble_eq_true rfl) (Nat.le_of_ble_eq_true rfl) hM rfl (by decide) rfl rfl dX6_bestAt_74 (fun r15 S14 hf => ?_)
    have hz_r15 := hf.1
    replace hf := hf.2
    refine tj_if_eq C 118 (by decide) dX6_bestAt_77 (fun hc => ?_) (fun hc => ?_)
    · replace hf := hf.1 hc
      exact w_M_bestAt_b118 C hw hR r hM hκ38 ih hf
    · replace hf := hf.2 hc
      refine tj_aload_n C 0 rfl rfl dX6_bestAt_80 ?_
      refine gf_X6_60 C hM dX6_bestAt_81 ?_
      refine tj_iload_n C 3 rfl rfl dX6_bestAt_84 ?_
      refine tj_iconst C kc_1 dX6_bestAt_85 ?_
      refine tj_iload C 4 rfl dX6_bestAt_86 ?_
      refine tj_ishl C dX6_bestAt_88 ?_
      refine tj_ior C dX6_bestAt_89 ?_
      refine tj_iald C 432 64 rfl (ln_432 hw hM) _ rfl hf.1 dX6_bestAt_90 ?_
      replace hf := hf.2
      refine tj_aload_n C 0 rfl rfl dX6_bestAt_91 ?_
      refine tj_iload C 4 rfl dX6_bestAt_92 ?_
      refine tj_iload C 6 rfl dX6_bestAt_94 ?_
      refine tj_callVi C (k := 0) [.int a4, .int a6] [.int (gI S14 432 ((a3 ||| ((nI 1) <<< (a4 &&& 31))).toNatClampNeg))] (fun hN => c_M_senseFor (by rw [hN]; exact hM) hf) lk_X6_443 ty_X6_senseFor rfl (Nat.le_of_ble_eq_true rfl) (Nat.le_of_ble_eq_true rfl) (Nat.le_of_ble_eq_true rfl) hM rfl (by decide) rfl rfl dX6_bestAt_96 (fun r17 S16 hf => ?_)
      refine tj_iconst C kc_2 dX6_bestAt_99 ?_
      refine tj_icmp_ne C 107 (by decide) dX6_bestAt_100 (fun hc => ?_) (fun hc => ?_)
      · replace hf := hf.2 hc
        refine tj_iconst C kc_0 dX6_bestAt_107 ?_
        exact w_M_bestAt_b108 C hw hR r hM hκ38 ih hf
      · replace hf := hf.1 hc
        refine tj_iconst C kc_1 dX6_bestAt_103 ?_
        refine tj_goto C 108 (by decide) dX6_bestAt_104 ?_
        exact w_M_bestAt_b108 C hw hR r hM hκ38 ih hf
theorem w_M_bestAt_l38 {Γ : tX} {N0 : Nat → Nat} {K : Int32 → tS → Prop} (C : TC Γ cX6_bestAt RX6 8 186) (hw : tWf N0) (hR : xnL Γ = 7) (r : TRi Γ N0 cX6_bestAt K) {a1 : Int32} (hM : N0 0 ≠ 0) : ∀ (n : Nat) (a2 : Int32) (a3 : Int32) (a4 : Int32) (a5 : Int32) (S : tS), M_bestAt_l38 a1 K n a2 a3 a4 a5 S → TJ Γ N0 0 0 38 [(0, .ref (xad Γ 0)), (1, .int a1), (2, .int a2), (3, .int a3), (4, .int a4), (5, .int a5)] [] S := by
  intro n
  induction n with
  | zero => intro a2 a3 a4 a5 S hf; exact hf.elim
  | succ n ih =>
    intro a2 a3 a4 a5 S hf
    unfold M_bestAt_l38 at hf
    refine tj_iload C 5 rfl dX6_bestAt_38 ?_
    refine tj_iload_n C 1 rfl rfl dX6_bestAt_40 ?_
    refine tj_icmp_gt C 137 (by decide) dX6_bestAt_41 (fun hc => ?_) (fun hc => ?_)
    · replace hf := hf.1 hc
      refine tj_aload_n C 0 rfl rfl dX6_bestAt_137 ?_
      refine tj_iload C 4 rfl dX6_bestAt_138 ?_
      refine tj_callVi C (k := 0) [.int a4] [] (fun hN => c_M_gives (by rw [hN]; exact hM) hf) lk_X6_95 ty_X6_gives rfl (Nat.le_of_ble_eq_true rfl) (Nat.le_of_ble_eq_true rfl) (Nat.le_of_ble_eq_true rfl) hM rfl (by decide) rfl rfl dX6_bestAt_140 (fun r10 S9 hf => ?_)
      exact r _ _ _ _ dX6_bestAt_143 hf
    · replace hf := hf.2 hc
      refine tj_bipush C kb_9 dX6_bestAt_44 ?_
      refine tj_aload_n C 0 rfl rfl dX6_bestAt_46 ?_
      refine gf_X6_7 C hM dX6_bestAt_47 ?_
      refine tj_bipush C kb_6 dX6_bestAt_50 ?_
      refine tj_iald C 48 3548 rfl (ln_48 hw hM) 6 kn_6 (vp_in_nI (by decide) (by decide)) dX6_bestAt_52 ?_
      refine tj_iload_n C 3 rfl rfl dX6_bestAt_53 ?_
      refine tj_callSi C [.int a3] [.int (gI S 48 6), .int (nI 9)] (fun hN => c_M_bits hf) lk_X6_344 ty_X6_bits rfl (Nat.le_of_ble_eq_true rfl) (Nat.le_of_ble_eq_true rfl) (Nat.le_of_ble_eq_true rfl) rfl dX6_bestAt_54 (fun r12 S11 hf => ?_)
      refine tj_iadd C dX6_bestAt_57 ?_
      refine tj_mmin C q1827 (Nat.le_of_ble_eq_true rfl) (Nat.le_of_ble_eq_true rfl) (Nat.le_of_ble_eq_true rfl) dX6_bestAt_58 ?_
      refine tj_topi (fun x13 ex => ?_)
      replace hf := hf x13 ex
      refine tj_istore C (by rw [hR]; decide) [(6, .int x13), (0, .ref (xad Γ 0)), (1, .int a1), (2, .int a2), (3, .int a3), (4, .int a4), (5, .int a5)] rfl dX6_bestAt_61 ?_
      refine tj_iconst C kc_0 dX6_bestAt_63 ?_
      refine tj_istore C (by rw [hR]; decide) [(4, .int (nI 0)), (6, .int x13), (0, .ref (xad Γ 0)), (1, .int a1), (2, .int a2), (3, .int a3), (5, .int a5)] rfl dX6_bestAt_64 ?_
      exact tj_sub [2, 3, 4, 5, 0, 6, 1] (hf.elim fun k hf => w_M_bestAt_l66 C hw hR r hM ih k _ _ _ _ _ _ hf) rfl
theorem w_M_bestAt_b0 {Γ : tX} {N0 : Nat → Nat} {K : Int32 → tS → Prop} (C : TC Γ cX6_bestAt RX6 8 186) (hw : tWf N0) (hR : xnL Γ = 7) (r : TRi Γ N0 cX6_bestAt K) {a1 : Int32} (hM : N0 0 ≠ 0) {S : tS} (hf : M_bestAt a1 S K) : TJ Γ N0 0 0 0 [(0, .ref (xad Γ 0)), (1, .int a1)] [] S := by
  unfold M_bestAt at hf
  refine tj_iload_n C 1 rfl rfl dX6_bestAt_0 ?_
  refine tj_if_ge C 10 (by decide) dX6_bestAt_1 (fun hc => ?_) (fun hc => ?_)
  · replace hf := hf.1 hc
    refine tj_aload_n C 0 rfl rfl dX6_bestAt_10 ?_
    refine tj_callVi C (k := 0) [] [] (fun hN => c_M_laysOrders (by rw [hN]; exact hM) hf) lk_X6_455 ty_X6_laysOrders rfl (Nat.le_of_ble_eq_true rfl) (Nat.le_of_ble_eq_true rfl) (Nat.le_of_ble_eq_true rfl) hM rfl (by decide) rfl rfl dX6_bestAt_11 (fun r2 S1 hf => ?_)
    refine tj_istore_n C (by rw [hR]; decide) [(2, .int r2), (0, .ref (xad Γ 0)), (1, .int a1)] rfl rfl dX6_bestAt_14 ?_
    refine tj_iload_n C 2 rfl rfl dX6_bestAt_15 ?_
    refine tj_iload_n C 0 rfl rfl dX6_bestAt_16 ?_
    refine tj_callSi C [.int r2] [.int a1] (fun hN => c_M_bits hf) lk_X6_344 ty_X6_bits rfl (Nat.le_of_ble_eq_true rfl) (Nat.le_of_ble_eq_true rfl) (Nat.le_of_ble_eq_true rfl) rfl dX6_bestAt_17 (fun r4 S3 hf => ?_)
    refine tj_icmp_lt C 30 (by decide) dX6_bestAt_20 (fun hc => ?_) (fun hc => ?_)
    · replace hf := hf.1 hc
      refine tj_iconst C kc_0 dX6_bestAt_30 ?_
      refine tj_istore_n C (by rw [hR]; decide) [(3, .int (nI 0)), (2, .int r2), (0, .ref (xad Γ 0)), (1, .int a1)] rfl rfl dX6_bestAt_31 ?_
      refine tj_iconst C kc_m1 dX6_bestAt_32 ?_
      refine tj_istore C (by rw [hR]; decide) [(4, .int (-1)), (3, .int (nI 0)), (2, .int r2), (0, .ref (xad Γ 0)), (1, .int a1)] rfl dX6_bestAt_33 ?_
      refine tj_iconst C kc_0 dX6_bestAt_35 ?_
      refine tj_istore C (by rw [hR]; decide) [(5, .int (nI 0)), (4, .int (-1)), (3, .int (nI 0)), (2, .int r2), (0, .ref (xad Γ 0)), (1, .int a1)] rfl dX6_bestAt_36 ?_
      exact tj_sub [4, 5, 3, 2, 1, 0] (hf.elim fun k hf => w_M_bestAt_l38 C hw hR r hM k _ _ _ _ _ hf) rfl
    · replace hf := hf.2 hc
      refine tj_aload_n C 1 rfl rfl dX6_bestAt_23 ?_
      refine tj_bipush C kb_6 dX6_bestAt_24 ?_
      refine tj_callVi C (k := 0) [.int (nI 6)] [] (fun hN => c_M_refuse (by rw [hN]; exact hM) hf) lk_X6_91 ty_X6_refuse rfl (Nat.le_of_ble_eq_true rfl) (Nat.le_of_ble_eq_true rfl) (Nat.le_of_ble_eq_true rfl) hM rfl (by decide) rfl rfl dX6_bestAt_26 (fun r6 S5 hf => ?_)
      exact r _ _ _ _ dX6_bestAt_29 hf
  · replace hf := hf.2 hc
    refine tj_aload_n C 0 rfl rfl dX6_bestAt_4 ?_
    refine tj_iconst C kc_1 dX6_bestAt_5 ?_
    refine tj_callVi C (k := 0) [.int (nI 1)] [] (fun hN => c_M_refuse (by rw [hN]; exact hM) hf) lk_X6_91 ty_X6_refuse rfl (Nat.le_of_ble_eq_true rfl) (Nat.le_of_ble_eq_true rfl) (Nat.le_of_ble_eq_true rfl) hM rfl (by decide) rfl rfl dX6_bestAt_6 (fun r8 S7 hf => ?_)
    exact r _ _ _ _ dX6_bestAt_9 hf
theorem c_M_bestAt {l : Launch} {G : tG} {ad : Nat → Nat} {A : Nat → Prop} {S : tS} {K : Int32 → tS → Prop} {a1 : Int32} (hM : gN S 0 ≠ 0) (hf : M_bestAt a1 S K) : Met l yX6_bestAt (ws_ yX6_bestAt cX6_bestAt 7 (some .int)) (tRm 8 186) (va_Pc [.ref (ad 0), .int a1] (tPre G ad A S)) (va_Qi K (tB G ad A (gN S)) A) 0 0 A :=
  tj_met_i [(0, .ref (ad 0)), (1, .int a1)] pn_X6 rfl (Nat.le_of_ble_eq_true rfl) (fun p e R s m args below meth c Q C hw r => w_M_bestAt_b0 C hw rfl r hM hf)
theorem w_M_is_b0 {Γ : tX} {N0 : Nat → Nat} {K : Int32 → tS → Prop} (C : TC Γ cX6_is RX6 0 0) (hw : tWf N0) (hR : xnL Γ = 2) (r : TRz Γ N0 cX6_is K) {a1 : Int32} (hM : N0 0 ≠ 0) {S : tS} (hf : M_is a1 S K) : TJ Γ N0 0 0 0 [(0, .ref (xad Γ 0)), (1, .int a1)] [] S := by
  unfold M_is at hf
  refine tj_aload_n C 0 rfl rfl dX6_is_0 ?_
  refine tj_iload_n C 1 rfl rfl dX6_is_1 ?_
  refine pf_X6_85 C hM dX6_is_2 ?_
  refine tj_topS (fun S1 eS => ?_)
  replace hf := hf S1 eS
  refine tj_iload_n C 1 rfl rfl dX6_is_5 ?_
  refine tj_if_ne C 13 (by decide) dX6_is_6 (fun hc => ?_) (fun hc => ?_)
  · replace hf := hf.2 hc
    refine tj_iconst C kc_0 dX6_is_13 ?_
    exact r _ _ _ _ dX6_is_14 zb0 hf
  · replace hf := hf.1 hc
    refine tj_iconst C kc_1 dX6_is_9 ?_
    refine tj_goto C 14 (by decide) dX6_is_10 ?_
    exact r _ _ _ _ dX6_is_14 zb1 hf
theorem c_M_is {l : Launch} {G : tG} {ad : Nat → Nat} {A : Nat → Prop} {S : tS} {K : Int32 → tS → Prop} {a1 : Int32} (hM : gN S 0 ≠ 0) (hf : M_is a1 S K) : Met l yX6_is (ws_ yX6_is cX6_is 2 (some .boolean)) (tRm 0 0) (va_Pc [.ref (ad 0), .int a1] (tPre G ad A S)) (va_Qi (fun r u => r &&& 1 = r ∧ K r u) (tB G ad A (gN S)) A) 0 0 A :=
  tj_met_z [(0, .ref (ad 0)), (1, .int a1)] pn_X6 rfl (Nat.le_of_ble_eq_true rfl) (fun p e R s m args below meth c Q C hw r => w_M_is_b0 C hw rfl r hM hf)
theorem w_M_blame_b24 {Γ : tX} {N0 : Nat → Nat} {K : Int32 → tS → Prop} (C : TC Γ cX6_blame RX6 2 42) (hw : tWf N0) (hR : xnL Γ = 4) (r : TRz Γ N0 cX6_blame K) {a1 : Int32} {a2 : Int32} (hM : N0 0 ≠ 0) {s0 : Int32} {S : tS} (hf : M_blame_b24 a1 a2 K s0 S) : TJ Γ N0 0 0 24 [(0, .ref (xad Γ 0)), (1, .int a1)] [.int s0] S := by
  unfold M_blame_b24 at hf
  refine tj_istore_n C (by rw [hR]; decide) [(3, .int s0), (0, .ref (xad Γ 0)), (1, .int a1)] rfl rfl dX6_blame_24 ?_
  refine tj_aload_n C 1 rfl rfl dX6_blame_25 ?_
  refine tj_iload_n C 2 rfl rfl dX6_blame_26 ?_
  refine tj_iconst C kc_3 dX6_blame_27 ?_
  refine tj_callVi C (k := 0) [.int a1, .int (nI 3)] [] (fun hN => c_M_personOf (by rw [hN]; exact hM) hf) lk_X6_281 ty_X6_personOf rfl (Nat.le_of_ble_eq_true rfl) (Nat.le_of_ble_eq_true rfl) (Nat.le_of_ble_eq_true rfl) hM rfl (by decide) rfl rfl dX6_blame_28 (fun r6 S5 hf => ?_)
  refine tj_iload_n C 0 rfl rfl dX6_blame_31 ?_
  refine tj_icmp_ne C 42 (by decide) dX6_blame_32 (fun hc => ?_) (fun hc => ?_)
  · replace hf := hf.2 hc
    refine tj_aload_n C 1 rfl rfl dX6_blame_42 ?_
    refine gf_X6_7 C hM dX6_blame_43 ?_
    refine tj_iload_n C 2 rfl rfl dX6_blame_46 ?_
    refine tj_callSi C [.int a1] [.ref (xad Γ 48)] (fun hN => c_M_personRow hf) lk_X6_224 ty_X6_personRow rfl (Nat.le_of_ble_eq_true rfl) (Nat.le_of_ble_eq_true rfl) (Nat.le_of_ble_eq_true rfl) rfl dX6_blame_47 (fun r8 S7 hf => ?_)
    refine tj_iconst C kc_3 dX6_blame_50 ?_
    refine tj_iadd C dX6_blame_51 ?_
    refine tj_iload_n C 0 rfl rfl dX6_blame_52 ?_
    refine tj_iast C 48 3548 rfl (ln_48 hw hM) _ rfl hf.1 dX6_blame_53 ?_
    replace hf := hf.2
    refine tj_topS (fun S9 eS => ?_)
    replace hf := hf S9 eS
    refine tj_aload_n C 1 rfl rfl dX6_blame_54 ?_
    refine tj_iconst C kc_0 dX6_blame_55 ?_
    refine tj_callVz C (k := 0) [.int (nI 0)] [] (fun hN => c_M_is (by rw [hN]; exact hM) hf) lk_X6_98 ty_X6_is rfl (Nat.le_of_ble_eq_true rfl) (Nat.le_of_ble_eq_true rfl) (Nat.le_of_ble_eq_true rfl) hM rfl (by decide) rfl rfl dX6_blame_56 (fun r11 S10 hf => ?_)
    have hz_r11 := hf.1
    replace hf := hf.2
    exact r _ _ _ _ dX6_blame_59 hz_r11 hf
  · replace hf := hf.1 hc
    refine tj_aload_n C 1 rfl rfl dX6_blame_35 ?_
    refine tj_bipush C kb_7 dX6_blame_36 ?_
    refine tj_callVz C (k := 0) [.int (nI 7)] [] (fun hN => c_M_is (by rw [hN]; exact hM) hf) lk_X6_98 ty_X6_is rfl (Nat.le_of_ble_eq_true rfl) (Nat.le_of_ble_eq_true rfl) (Nat.le_of_ble_eq_true rfl) hM rfl (by decide) rfl rfl dX6_blame_38 (fun r13 S12 hf => ?_)
    have hz_r13 := hf.1
    replace hf := hf.2
    exact r _ _ _ _ dX6_blame_41 hz_r13 hf
theorem w_M_blame_b0 {Γ : tX} {N0 : Nat → Nat} {K : Int32 → tS → Prop} (C : TC Γ cX6_blame RX6 2 42) (hw : tWf N0) (hR : xnL Γ = 4) (r : TRz Γ N0 cX6_blame K) {a1 : Int32} {a2 : Int32} (hM : N0 0 ≠ 0) {S : tS} (hf : M_blame a1 a2 S K) : TJ Γ N0 0 0 0 [(0, .ref (xad Γ 0)), (1, .int a1), (2, .int a2)] [] S := by
  unfold M_blame at hf
  refine tj_aload_n C 0 rfl rfl dX6_blame_0 ?_
  refine tj_iload_n C 1 rfl rfl dX6_blame_1 ?_
  refine tj_i2l C dX6_blame_2 ?_
  refine tj_callVz C (k := 0) [.long (a1.toInt64)] [] (fun hN => c_M_isPerson (by rw [hN]; exact hM) hf) lk_X6_305 ty_X6_isPerson rfl (Nat.le_of_ble_eq_true rfl) (Nat.le_of_ble_eq_true rfl) (Nat.le_of_ble_eq_true rfl) hM rfl (by decide) rfl rfl dX6_blame_3 (fun r2 S1 hf => ?_)
  have hz_r2 := hf.1
  replace hf := hf.2
  refine tj_if_ne C 15 (by decide) dX6_blame_6 (fun hc => ?_) (fun hc => ?_)
  · replace hf := hf.2 hc
    refine tj_iload_n C 2 rfl rfl dX6_blame_15 ?_
    refine tj_if_eq C 23 (by decide) dX6_blame_16 (fun hc => ?_) (fun hc => ?_)
    · replace hf := hf.1 hc
      refine tj_iconst C kc_0 dX6_blame_23 ?_
      exact tj_sub [0, 1] (w_M_blame_b24 C hw hR r hM hf) rfl
    · replace hf := hf.2 hc
      refine tj_iconst C kc_1 dX6_blame_19 ?_
      refine tj_goto C 24 (by decide) dX6_blame_20 ?_
      exact tj_sub [0, 1] (w_M_blame_b24 C hw hR r hM hf) rfl
  · replace hf := hf.1 hc
    refine tj_aload_n C 0 rfl rfl dX6_blame_9 ?_
    refine tj_iconst C kc_1 dX6_blame_10 ?_
    refine tj_callVz C (k := 0) [.int (nI 1)] [] (fun hN => c_M_is (by rw [hN]; exact hM) hf) lk_X6_98 ty_X6_is rfl (Nat.le_of_ble_eq_true rfl) (Nat.le_of_ble_eq_true rfl) (Nat.le_of_ble_eq_true rfl) hM rfl (by decide) rfl rfl dX6_blame_11 (fun r4 S3 hf => ?_)
    have hz_r4 := hf.1
    replace hf := hf.2
    exact r _ _ _ _ dX6_blame_14 hz_r4 hf
theorem c_M_blame {l : Launch} {G : tG} {ad : Nat → Nat} {A : Nat → Prop} {S : tS} {K : Int32 → tS → Prop} {a1 : Int32} {a2 : Int32} (hM : gN S 0 ≠ 0) (hf : M_blame a1 a2 S K) : Met l yX6_blame (ws_ yX6_blame cX6_blame 4 (some .boolean)) (tRm 2 42) (va_Pc [.ref (ad 0), .int a1, .int a2] (tPre G ad A S)) (va_Qi (fun r u => r &&& 1 = r ∧ K r u) (tB G ad A (gN S)) A) 0 0 A :=
  tj_met_z [(0, .ref (ad 0)), (1, .int a1), (2, .int a2)] pn_X6 rfl (Nat.le_of_ble_eq_true rfl) (fun p e R s m args below meth c Q C hw r => w_M_blame_b0 C hw rfl r hM hf)
theorem w_M_bottom_b0 {Γ : tX} {N0 : Nat → Nat} {K : Int64 → tS → Prop} (C : TC Γ cX6_bottom RX6 0 0) (hw : tWf N0) (hR : xnL Γ = 1) (r : TRl Γ N0 cX6_bottom K) (hM : N0 0 ≠ 0) {S : tS} (hf : M_bottom S K) : TJ Γ N0 0 0 0 [(0, .ref (xad Γ 0))] [] S := by
  unfold M_bottom at hf
  refine tj_aload_n C 0 rfl rfl dX6_bottom_0 ?_
  refine gf_X6_17 C hM dX6_bottom_1 ?_
  exact r _ _ _ _ dX6_bottom_4 hf
theorem c_M_bottom {l : Launch} {G : tG} {ad : Nat → Nat} {A : Nat → Prop} {S : tS} {K : Int64 → tS → Prop} (hM : gN S 0 ≠ 0) (hf : M_bottom S K) : Met l yX6_bottom (ws_ yX6_bottom cX6_bottom 1 (some .long)) (tRm 0 0) (va_Pc [.ref (ad 0)] (tPre G ad A S)) (va_Ql K (tB G ad A (gN S)) A) 0 0 A :=
  tj_met_l [(0, .ref (ad 0))] pn_X6 rfl (Nat.le_of_ble_eq_true rfl) (fun p e R s m args below meth c Q C hw r => w_M_bottom_b0 C hw rfl r hM hf)
theorem w_M_clashing_b50 {Γ : tX} {N0 : Nat → Nat} {K : Int32 → tS → Prop} (C : TC Γ cX6_clashing RX6 7 162) (hw : tWf N0) (hR : xnL Γ = 3) (r : TRi Γ N0 cX6_clashing K) (hM : N0 0 ≠ 0) {κ4 : Int32 → Int32 → tS → Prop} (hκ4 : ∀ (a1 : Int32) (a2 : Int32) (S : tS), κ4 a1 a2 S → TJ Γ N0 0 0 4 [(0, .ref (xad Γ 0)), (1, .int a1), (2, .int a2)] [] S) {a2 : Int32} {s0 : Int32} {s1 : Int32} {S : tS} (hf : M_clashing_b50 K κ4 a2 s0 s1 S) : TJ Γ N0 0 0 50 [(0, .ref (xad Γ 0)), (2, .int a2)] [.int s1, .int s0] S := by
  unfold M_clashing_b50 at hf
  refine tj_ior C dX6_clashing_50 ?_
  refine tj_topi (fun x7 ex => ?_)
  replace hf := hf x7 ex
  refine tj_istore_n C (by rw [hR]; decide) [(1, .int x7), (0, .ref (xad Γ 0)), (2, .int a2)] rfl rfl dX6_clashing_51 ?_
  obtain ⟨x8, ex⟩ : ∃ y : Int32, y = a2 + nI 1 := ⟨_, rfl⟩
  refine tj_iinc C (by rw [hR]; decide) 2 [(2, .int x8), (1, .int x7), (0, .ref (xad Γ 0))] rfl (by rw [ex]; exact ki_1 _) rfl dX6_clashing_52 ?_
  replace hf := hf x8 ex
  refine tj_goto C 4 (by decide) dX6_clashing_55 ?_
  exact tj_sub [2, 1, 0] (hκ4 _ _ _ hf) rfl
theorem w_M_clashing_l4 {Γ : tX} {N0 : Nat → Nat} {K : Int32 → tS → Prop} (C : TC Γ cX6_clashing RX6 7 162) (hw : tWf N0) (hR : xnL Γ = 3) (r : TRi Γ N0 cX6_clashing K) (hM : N0 0 ≠ 0) : ∀ (n : Nat) (a1 : Int32) (a2 : Int32) (S : tS), M_clashing_l4 K n a1 a2 S → TJ Γ N0 0 0 4 [(0, .ref (xad Γ 0)), (1, .int a1), (2, .int a2)] [] S := by
  intro n
  induction n with
  | zero => intro a1 a2 S hf; exact hf.elim
  | succ n ih =>
    intro a1 a2 S hf
    unfold M_clashing_l4 at hf
    refine tj_iload_n C 2 rfl rfl dX6_clashing_4 ?_
    refine tj_aload_n C 0 rfl rfl dX6_clashing_5 ?_
    refine gf_X6_7 C hM dX6_clashing_6 ?_
    refine tj_iconst C kc_5 dX6_clashing_9 ?_
    refine tj_iald C 48 3548 rfl (ln_48 hw hM) 5 kn_5 (vp_in_nI (by decide) (by decide)) dX6_clashing_10 ?_
    refine tj_icmp_ge C 58 (by decide) dX6_clashing_11 (fun hc => ?_) (fun hc => ?_)
    · replace hf := hf.1 hc
      refine tj_iload_n C 1 rfl rfl dX6_clashing_58 ?_
      exact r _ _ _ _ dX6_clashing_59 hf
    · replace hf := hf.2 hc
      refine tj_iload_n C 1 rfl rfl dX6_clashing_14 ?_
      refine tj_aload_n C 0 rfl rfl dX6_clashing_15 ?_
      refine tj_aload_n C 0 rfl rfl dX6_clashing_16 ?_
      refine tj_iload_n C 2 rfl rfl dX6_clashing_17 ?_
      refine tj_iconst C kc_0 dX6_clashing_18 ?_
      refine tj_callVi C (k := 0) [.int a2, .int (nI 0)] [.ref (xad Γ 0), .int a1] (fun hN => c_M_wordOf (by rw [hN]; exact hM) hf) lk_X6_440 ty_X6_wordOf rfl (Nat.le_of_ble_eq_true rfl) (Nat.le_of_ble_eq_true rfl) (Nat.le_of_ble_eq_true rfl) hM rfl (by decide) rfl rfl dX6_clashing_19 (fun r2 S1 hf => ?_)
      refine tj_aload_n C 0 rfl rfl dX6_clashing_22 ?_
      refine gf_X6_7 C hM dX6_clashing_23 ?_
      refine tj_bipush C kb_6 dX6_clashing_26 ?_
      refine tj_iald C 48 3548 rfl (ln_48 hw hM) 6 kn_6 (vp_in_nI (by decide) (by decide)) dX6_clashing_28 ?_
      refine tj_callVi C (k := 0) [.int r2, .int (gI S1 48 6)] [.int a1] (fun hN => c_M_senseFor (by rw [hN]; exact hM) hf) lk_X6_443 ty_X6_senseFor rfl (Nat.le_of_ble_eq_true rfl) (Nat.le_of_ble_eq_true rfl) (Nat.le_of_ble_eq_true rfl) hM rfl (by decide) rfl rfl dX6_clashing_29 (fun r4 S3 hf => ?_)
      refine tj_iconst C kc_3 dX6_clashing_32 ?_
      refine tj_aload_n C 0 rfl rfl dX6_clashing_33 ?_
      refine tj_iload_n C 2 rfl rfl dX6_clashing_34 ?_
      refine tj_iconst C kc_1 dX6_clashing_35 ?_
      refine tj_callVi C (k := 0) [.int a2, .int (nI 1)] [.int (nI 3), .int r4, .int a1] (fun hN => c_M_wordOf (by rw [hN]; exact hM) hf) lk_X6_440 ty_X6_wordOf rfl (Nat.le_of_ble_eq_true rfl) (Nat.le_of_ble_eq_true rfl) (Nat.le_of_ble_eq_true rfl) hM rfl (by decide) rfl rfl dX6_clashing_36 (fun r6 S5 hf => ?_)
      refine tj_isub C dX6_clashing_39 ?_
      refine tj_icmp_ne C 49 (by decide) dX6_clashing_40 (fun hc => ?_) (fun hc => ?_)
      · replace hf := hf.2 hc
        refine tj_iconst C kc_0 dX6_clashing_49 ?_
        exact tj_sub [0, 2] (w_M_clashing_b50 C hw hR r hM ih hf) rfl
      · replace hf := hf.1 hc
        refine tj_iconst C kc_1 dX6_clashing_43 ?_
        refine tj_iload_n C 2 rfl rfl dX6_clashing_44 ?_
        refine tj_ishl C dX6_clashing_45 ?_
        refine tj_goto C 50 (by decide) dX6_clashing_46 ?_
        exact tj_sub [0, 2] (w_M_clashing_b50 C hw hR r hM ih hf) rfl
theorem w_M_clashing_b0 {Γ : tX} {N0 : Nat → Nat} {K : Int32 → tS → Prop} (C : TC Γ cX6_clashing RX6 7 162) (hw : tWf N0) (hR : xnL Γ = 3) (r : TRi Γ N0 cX6_clashing K) (hM : N0 0 ≠ 0) {S : tS} (hf : M_clashing S K) : TJ Γ N0 0 0 0 [(0, .ref (xad Γ 0))] [] S := by
  unfold M_clashing at hf
  refine tj_iconst C kc_0 dX6_clashing_0 ?_
  refine tj_istore_n C (by rw [hR]; decide) [(1, .int (nI 0)), (0, .ref (xad Γ 0))] rfl rfl dX6_clashing_1 ?_
  refine tj_iconst C kc_0 dX6_clashing_2 ?_
  refine tj_istore_n C (by rw [hR]; decide) [(2, .int (nI 0)), (1, .int (nI 0)), (0, .ref (xad Γ 0))] rfl rfl dX6_clashing_3 ?_
  exact tj_sub [2, 1, 0] (hf.elim fun k hf => w_M_clashing_l4 C hw hR r hM k _ _ _ hf) rfl
theorem c_M_clashing {l : Launch} {G : tG} {ad : Nat → Nat} {A : Nat → Prop} {S : tS} {K : Int32 → tS → Prop} (hM : gN S 0 ≠ 0) (hf : M_clashing S K) : Met l yX6_clashing (ws_ yX6_clashing cX6_clashing 3 (some .int)) (tRm 7 162) (va_Pc [.ref (ad 0)] (tPre G ad A S)) (va_Qi K (tB G ad A (gN S)) A) 0 0 A :=
  tj_met_i [(0, .ref (ad 0))] pn_X6 rfl (Nat.le_of_ble_eq_true rfl) (fun p e R s m args below meth c Q C hw r => w_M_clashing_b0 C hw rfl r hM hf)
theorem w_M_clash_b0 {Γ : tX} {N0 : Nat → Nat} {K : Int32 → tS → Prop} (C : TC Γ cX6_clash RX6 8 184) (hw : tWf N0) (hR : xnL Γ = 1) (r : TRi Γ N0 cX6_clash K) (hM : N0 0 ≠ 0) {S : tS} (hf : M_clash S K) : TJ Γ N0 0 0 0 [(0, .ref (xad Γ 0))] [] S := by
  unfold M_clash at hf
  refine tj_aload_n C 0 rfl rfl dX6_clash_0 ?_
  refine tj_aload_n C 0 rfl rfl dX6_clash_1 ?_
  refine tj_callVi C (k := 0) [] [.ref (xad Γ 0)] (fun hN => c_M_clashing (by rw [hN]; exact hM) hf) lk_X6_446 ty_X6_clashing rfl (Nat.le_of_ble_eq_true rfl) (Nat.le_of_ble_eq_true rfl) (Nat.le_of_ble_eq_true rfl) hM rfl (by decide) rfl rfl dX6_clash_2 (fun r2 S1 hf => ?_)
  refine tj_callVi C (k := 0) [.int r2] [] (fun hN => c_M_gives (by rw [hN]; exact hM) hf) lk_X6_95 ty_X6_gives rfl (Nat.le_of_ble_eq_true rfl) (Nat.le_of_ble_eq_true rfl) (Nat.le_of_ble_eq_true rfl) hM rfl (by decide) rfl rfl dX6_clash_5 (fun r4 S3 hf => ?_)
  exact r _ _ _ _ dX6_clash_8 hf
theorem c_M_clash {l : Launch} {G : tG} {ad : Nat → Nat} {A : Nat → Prop} {S : tS} {K : Int32 → tS → Prop} (hM : gN S 0 ≠ 0) (hf : M_clash S K) : Met l yX6_clash (ws_ yX6_clash cX6_clash 1 (some .int)) (tRm 8 184) (va_Pc [.ref (ad 0)] (tPre G ad A S)) (va_Qi K (tB G ad A (gN S)) A) 0 0 A :=
  tj_met_i [(0, .ref (ad 0))] pn_X6 rfl (Nat.le_of_ble_eq_true rfl) (fun p e R s m args below meth c Q C hw r => w_M_clash_b0 C hw rfl r hM hf)
theorem w_M_copies_l41 {Γ : tX} {N0 : Nat → Nat} {K : tS → Prop} (C : TC Γ cX6_copies RX6 0 0) (hw : tWf N0) (hR : xnL Γ = 4) (r : TRv Γ N0 cX6_copies K) {a1 : Int32} {a2 : Int32} (hM : N0 0 ≠ 0) : ∀ (n : Nat) (a3 : Int32) (S : tS), M_copies_l41 a1 a2 K n a3 S → TJ Γ N0 0 0 41 [(0, .ref (xad Γ 0)), (1, .int a1), (2, .int a2), (3, .int a3)] [] S := by
  intro n
  induction n with
  | zero => intro a3 S hf; exact hf.elim
  | succ n ih =>
    intro a3 S hf
    unfold M_copies_l41 at hf
    refine tj_iload_n C 3 rfl rfl dX6_copies_41 ?_
    refine tj_bipush C kb_23 dX6_copies_42 ?_
    refine tj_icmp_ge C 75 (by decide) dX6_copies_44 (fun hc => ?_) (fun hc => ?_)
    · replace hf := hf.1 hc
      exact r _ _ _ dX6_copies_75 hf
    · replace hf := hf.2 hc
      refine tj_aload_n C 0 rfl rfl dX6_copies_47 ?_
      refine gf_X6_13 C hM dX6_copies_48 ?_
      refine tj_bipush C kb_23 dX6_copies_51 ?_
      refine tj_iload_n C 2 rfl rfl dX6_copies_53 ?_
      refine tj_imul C dX6_copies_54 ?_
      refine tj_iload_n C 3 rfl rfl dX6_copies_55 ?_
      refine tj_iadd C dX6_copies_56 ?_
      refine tj_aload_n C 0 rfl rfl dX6_copies_57 ?_
      refine gf_X6_13 C hM dX6_copies_58 ?_
      refine tj_bipush C kb_23 dX6_copies_61 ?_
      refine tj_iload_n C 1 rfl rfl dX6_copies_63 ?_
      refine tj_imul C dX6_copies_64 ?_
      refine tj_iload_n C 3 rfl rfl dX6_copies_65 ?_
      refine tj_iadd C dX6_copies_66 ?_
      refine tj_lald C 81 138 rfl (ln_81 hw hM) _ rfl hf.1 dX6_copies_67 ?_
      replace hf := hf.2
      refine tj_last C 81 138 rfl (ln_81 hw hM) _ rfl hf.1 dX6_copies_68 ?_
      replace hf := hf.2
      refine tj_topS (fun S3 eS => ?_)
      replace hf := hf S3 eS
      obtain ⟨x4, ex⟩ : ∃ y : Int32, y = a3 + nI 1 := ⟨_, rfl⟩
      refine tj_iinc C (by rw [hR]; decide) 3 [(3, .int x4), (0, .ref (xad Γ 0)), (1, .int a1), (2, .int a2)] rfl (by rw [ex]; exact ki_1 _) rfl dX6_copies_69 ?_
      replace hf := hf x4 ex
      refine tj_goto C 41 (by decide) dX6_copies_72 ?_
      exact tj_sub [1, 2, 3, 0] (ih _ _ hf) rfl
theorem w_M_copies_l2 {Γ : tX} {N0 : Nat → Nat} {K : tS → Prop} (C : TC Γ cX6_copies RX6 0 0) (hw : tWf N0) (hR : xnL Γ = 4) (r : TRv Γ N0 cX6_copies K) {a1 : Int32} {a2 : Int32} (hM : N0 0 ≠ 0) : ∀ (n : Nat) (a3 : Int32) (S : tS), M_copies_l2 a1 a2 K n a3 S → TJ Γ N0 0 0 2 [(0, .ref (xad Γ 0)), (1, .int a1), (2, .int a2), (3, .int a3)] [] S := by
  intro n
  induction n with
  | zero => intro a3 S hf; exact hf.elim
  | succ n ih =>
    intro a3 S hf
    unfold M_copies_l2 at hf
    refine tj_iload_n C 3 rfl rfl dX6_copies_2 ?_
    refine tj_sipush C ks_502 dX6_copies_3 ?_
    refine tj_icmp_ge C 39 (by decide) dX6_copies_6 (fun hc => ?_) (fun hc => ?_)
    · replace hf := hf.1 hc
      refine tj_iconst C kc_0 dX6_copies_39 ?_
      refine tj_istore_n C (by rw [hR]; decide) [(3, .int (nI 0)), (0, .ref (xad Γ 0)), (1, .int a1), (2, .int a2)] rfl rfl dX6_copies_40 ?_
      exact tj_sub [1, 2, 3, 0] (hf.elim fun k hf => w_M_copies_l41 C hw hR r hM k _ _ hf) rfl
    · replace hf := hf.2 hc
      refine tj_aload_n C 0 rfl rfl dX6_copies_9 ?_
      refine gf_X6_7 C hM dX6_copies_10 ?_
      refine tj_sipush C ks_502 dX6_copies_13 ?_
      refine tj_iload_n C 2 rfl rfl dX6_copies_16 ?_
      refine tj_imul C dX6_copies_17 ?_
      refine tj_iload_n C 3 rfl rfl dX6_copies_18 ?_
      refine tj_iadd C dX6_copies_19 ?_
      refine tj_aload_n C 0 rfl rfl dX6_copies_20 ?_
      refine gf_X6_7 C hM dX6_copies_21 ?_
      refine tj_sipush C ks_502 dX6_copies_24 ?_
      refine tj_iload_n C 1 rfl rfl dX6_copies_27 ?_
      refine tj_imul C dX6_copies_28 ?_
      refine tj_iload_n C 3 rfl rfl dX6_copies_29 ?_
      refine tj_iadd C dX6_copies_30 ?_
      refine tj_iald C 48 3548 rfl (ln_48 hw hM) _ rfl hf.1 dX6_copies_31 ?_
      replace hf := hf.2
      refine tj_iast C 48 3548 rfl (ln_48 hw hM) _ rfl hf.1 dX6_copies_32 ?_
      replace hf := hf.2
      refine tj_topS (fun S1 eS => ?_)
      replace hf := hf S1 eS
      obtain ⟨x2, ex⟩ : ∃ y : Int32, y = a3 + nI 1 := ⟨_, rfl⟩
      refine tj_iinc C (by rw [hR]; decide) 3 [(3, .int x2), (0, .ref (xad Γ 0)), (1, .int a1), (2, .int a2)] rfl (by rw [ex]; exact ki_1 _) rfl dX6_copies_33 ?_
      replace hf := hf x2 ex
      refine tj_goto C 2 (by decide) dX6_copies_36 ?_
      exact tj_sub [1, 2, 3, 0] (ih _ _ hf) rfl
theorem w_M_copies_b0 {Γ : tX} {N0 : Nat → Nat} {K : tS → Prop} (C : TC Γ cX6_copies RX6 0 0) (hw : tWf N0) (hR : xnL Γ = 4) (r : TRv Γ N0 cX6_copies K) {a1 : Int32} {a2 : Int32} (hM : N0 0 ≠ 0) {S : tS} (hf : M_copies a1 a2 S K) : TJ Γ N0 0 0 0 [(0, .ref (xad Γ 0)), (1, .int a1), (2, .int a2)] [] S := by
  unfold M_copies at hf
  refine tj_iconst C kc_0 dX6_copies_0 ?_
  refine tj_istore_n C (by rw [hR]; decide) [(3, .int (nI 0)), (0, .ref (xad Γ 0)), (1, .int a1), (2, .int a2)] rfl rfl dX6_copies_1 ?_
  exact tj_sub [1, 2, 3, 0] (hf.elim fun k hf => w_M_copies_l2 C hw hR r hM k _ _ hf) rfl
theorem c_M_copies {l : Launch} {G : tG} {ad : Nat → Nat} {A : Nat → Prop} {S : tS} {K : tS → Prop} {a1 : Int32} {a2 : Int32} (hM : gN S 0 ≠ 0) (hf : M_copies a1 a2 S K) : Met l yX6_copies (ws_ yX6_copies cX6_copies 4 (none)) (tRm 0 0) (va_Pc [.ref (ad 0), .int a1, .int a2] (tPre G ad A S)) (va_Qv K (tB G ad A (gN S)) A) 0 0 A :=
  tj_met_v [(0, .ref (ad 0)), (1, .int a1), (2, .int a2)] pn_X6 rfl (Nat.le_of_ble_eq_true rfl) (fun p e R s m args below meth c Q C hw r => w_M_copies_b0 C hw rfl r hM hf)
