set_option maxRecDepth 100000
theorem w_In_bitCount_b0 {Γ : tX} {N0 : Nat → Nat} {K : Int32 → tS → Prop} (C : TC Γ cJ11_bitCount RJ11 0 0) (hw : tWf N0) (hR : xnL Γ = 1) (r : TRi Γ N0 cJ11_bitCount K) {a0 : Int32} {S : tS} (hf : In_bitCount a0 S K) : TJ Γ N0 0 0 0 [(0, .int a0)] [] S := by
  unfold In_bitCount at hf
  refine tj_iload_n C 0 rfl rfl dJ11_bitCount_0 ?_
  refine tj_iload_n C 0 rfl rfl dJ11_bitCount_1 ?_
  refine tj_iconst C kc_1 dJ11_bitCount_2 ?_
  refine tj_iushr C dJ11_bitCount_3 ?_
  refine tj_ldcw C kl_J11_265 dJ11_bitCount_4 ?_
  refine tj_iand C dJ11_bitCount_7 ?_
  refine tj_isub C dJ11_bitCount_8 ?_
  refine tj_topi (fun x1 ex => ?_)
  replace hf := hf x1 ex
  refine tj_istore_n C (by rw [hR]; decide) [(0, .int x1)] rfl rfl dJ11_bitCount_9 ?_
  refine tj_iload_n C 0 rfl rfl dJ11_bitCount_10 ?_
  refine tj_ldcw C kl_J11_266 dJ11_bitCount_11 ?_
  refine tj_iand C dJ11_bitCount_14 ?_
  refine tj_iload_n C 0 rfl rfl dJ11_bitCount_15 ?_
  refine tj_iconst C kc_2 dJ11_bitCount_16 ?_
  refine tj_iushr C dJ11_bitCount_17 ?_
  refine tj_ldcw C kl_J11_266 dJ11_bitCount_18 ?_
  refine tj_iand C dJ11_bitCount_21 ?_
  refine tj_iadd C dJ11_bitCount_22 ?_
  refine tj_topi (fun x2 ex => ?_)
  replace hf := hf x2 ex
  refine tj_istore_n C (by rw [hR]; decide) [(0, .int x2)] rfl rfl dJ11_bitCount_23 ?_
  refine tj_iload_n C 0 rfl rfl dJ11_bitCount_24 ?_
  refine tj_iload_n C 0 rfl rfl dJ11_bitCount_25 ?_
  refine tj_iconst C kc_4 dJ11_bitCount_26 ?_
  refine tj_iushr C dJ11_bitCount_27 ?_
  refine tj_iadd C dJ11_bitCount_28 ?_
  refine tj_ldcw C kl_J11_267 dJ11_bitCount_29 ?_
  refine tj_iand C dJ11_bitCount_32 ?_
  refine tj_topi (fun x3 ex => ?_)
  replace hf := hf x3 ex
  refine tj_istore_n C (by rw [hR]; decide) [(0, .int x3)] rfl rfl dJ11_bitCount_33 ?_
  refine tj_iload_n C 0 rfl rfl dJ11_bitCount_34 ?_
  refine tj_iload_n C 0 rfl rfl dJ11_bitCount_35 ?_
  refine tj_bipush C kb_8 dJ11_bitCount_36 ?_
  refine tj_iushr C dJ11_bitCount_38 ?_
  refine tj_iadd C dJ11_bitCount_39 ?_
  refine tj_topi (fun x4 ex => ?_)
  replace hf := hf x4 ex
  refine tj_istore_n C (by rw [hR]; decide) [(0, .int x4)] rfl rfl dJ11_bitCount_40 ?_
  refine tj_iload_n C 0 rfl rfl dJ11_bitCount_41 ?_
  refine tj_iload_n C 0 rfl rfl dJ11_bitCount_42 ?_
  refine tj_bipush C kb_16 dJ11_bitCount_43 ?_
  refine tj_iushr C dJ11_bitCount_45 ?_
  refine tj_iadd C dJ11_bitCount_46 ?_
  refine tj_topi (fun x5 ex => ?_)
  replace hf := hf x5 ex
  refine tj_istore_n C (by rw [hR]; decide) [(0, .int x5)] rfl rfl dJ11_bitCount_47 ?_
  refine tj_iload_n C 0 rfl rfl dJ11_bitCount_48 ?_
  refine tj_bipush C kb_63 dJ11_bitCount_49 ?_
  refine tj_iand C dJ11_bitCount_51 ?_
  exact r _ _ _ _ dJ11_bitCount_52 hf
theorem c_In_bitCount {l : Launch} {G : tG} {ad : Nat → Nat} {A : Nat → Prop} {S : tS} {K : Int32 → tS → Prop} {a0 : Int32} (hf : In_bitCount a0 S K) : Met l yJ11_bitCount (ws_ yJ11_bitCount cJ11_bitCount 1 (some .int)) (tRm 0 0) (va_Pc [.int a0] (tPre G ad A S)) (va_Qi K (tB G ad A (gN S)) A) 0 0 A :=
  tj_met_i [(0, .int a0)] pn_J11 rfl (Nat.le_of_ble_eq_true rfl) (fun p e R s m args below meth c Q C hw r => w_In_bitCount_b0 C hw rfl r hf)
theorem w_Lg_signum_b0 {Γ : tX} {N0 : Nat → Nat} {K : Int32 → tS → Prop} (C : TC Γ cJ12_signum RJ12 0 0) (hw : tWf N0) (hR : xnL Γ = 2) (r : TRi Γ N0 cJ12_signum K) {a0 : Int64} {S : tS} (hf : Lg_signum a0 S K) : TJ Γ N0 0 0 0 [(0, .long a0)] [] S := by
  unfold Lg_signum at hf
  refine tj_lload_n C 0 rfl rfl dJ12_signum_0 ?_
  refine tj_bipush C kb_63 dJ12_signum_1 ?_
  refine tj_lshr C dJ12_signum_3 ?_
  refine tj_lload_n C 0 rfl rfl dJ12_signum_4 ?_
  refine tj_lneg C dJ12_signum_5 ?_
  refine tj_bipush C kb_63 dJ12_signum_6 ?_
  refine tj_lushr C dJ12_signum_8 ?_
  refine tj_lor C dJ12_signum_9 ?_
  refine tj_l2i C dJ12_signum_10 ?_
  exact r _ _ _ _ dJ12_signum_11 hf
theorem c_Lg_signum {l : Launch} {G : tG} {ad : Nat → Nat} {A : Nat → Prop} {S : tS} {K : Int32 → tS → Prop} {a0 : Int64} (hf : Lg_signum a0 S K) : Met l yJ12_signum (ws_ yJ12_signum cJ12_signum 2 (some .int)) (tRm 0 0) (va_Pc [.long a0] (tPre G ad A S)) (va_Qi K (tB G ad A (gN S)) A) 0 0 A :=
  tj_met_i [(0, .long a0)] pn_J12 rfl (Nat.le_of_ble_eq_true rfl) (fun p e R s m args below meth c Q C hw r => w_Lg_signum_b0 C hw rfl r hf)
theorem w_Ar_fill_l5 {Γ : tX} {N0 : Nat → Nat} {K : tS → Prop} (C : TC Γ cJ13_fill RJ13 0 0) (hw : tWf N0) (hR : xnL Γ = 4) (r : TRv Γ N0 cJ13_fill K) {a0 : Nat} {a1 : Int32} (h_a0 : N0 a0 ≠ 0 ∧ a0 % 32 = 16) : ∀ (n : Nat) (a2 : Int32) (a3 : Int32) (S : tS), Ar_fill_l5 a0 a1 K n a2 a3 S → TJ Γ N0 0 0 5 [(0, .ref (xad Γ a0)), (1, .int a1), (2, .int a2), (3, .int a3)] [] S := by
  intro n
  induction n with
  | zero => intro a2 a3 S hf; exact hf.elim
  | succ n ih =>
    intro a2 a3 S hf
    unfold Ar_fill_l5 at hf
    refine tj_iload_n C 2 rfl rfl dJ13_fill_5 ?_
    refine tj_iload_n C 3 rfl rfl dJ13_fill_6 ?_
    refine tj_icmp_ge C 20 (by decide) dJ13_fill_7 (fun hc => ?_) (fun hc => ?_)
    · replace hf := hf.1 hc
      exact r _ _ _ dJ13_fill_20 hf
    · replace hf := hf.2 hc
      refine tj_aload_n C 0 rfl rfl dJ13_fill_10 ?_
      refine tj_iload_n C 2 rfl rfl dJ13_fill_11 ?_
      refine tj_iload_n C 1 rfl rfl dJ13_fill_12 ?_
      refine tj_iastd C a0 h_a0.2 h_a0.1 _ rfl hf.1 dJ13_fill_13 ?_
      replace hf := hf.2
      refine tj_topS (fun S2 eS => ?_)
      replace hf := hf S2 eS
      obtain ⟨x3, ex⟩ : ∃ y : Int32, y = a2 + nI 1 := ⟨_, rfl⟩
      refine tj_iinc C (by rw [hR]; decide) 2 [(2, .int x3), (0, .ref (xad Γ a0)), (1, .int a1), (3, .int a3)] rfl (by rw [ex]; exact ki_1 _) rfl dJ13_fill_14 ?_
      replace hf := hf x3 ex
      refine tj_goto C 5 (by decide) dJ13_fill_17 ?_
      exact tj_sub [1, 2, 0, 3] (ih _ _ _ hf) rfl
theorem w_Ar_fill_b0 {Γ : tX} {N0 : Nat → Nat} {K : tS → Prop} (C : TC Γ cJ13_fill RJ13 0 0) (hw : tWf N0) (hR : xnL Γ = 4) (r : TRv Γ N0 cJ13_fill K) {a0 : Nat} {a1 : Int32} (h_a0 : N0 a0 ≠ 0 ∧ a0 % 32 = 16) {S : tS} (hf : Ar_fill a0 a1 S K) : TJ Γ N0 0 0 0 [(0, .ref (xad Γ a0)), (1, .int a1)] [] S := by
  unfold Ar_fill at hf
  refine tj_iconst C kc_0 dJ13_fill_0 ?_
  refine tj_istore_n C (by rw [hR]; decide) [(2, .int (nI 0)), (0, .ref (xad Γ a0)), (1, .int a1)] rfl rfl dJ13_fill_1 ?_
  refine tj_aload_n C 1 rfl rfl dJ13_fill_2 ?_
  refine tj_alend C 16 a0 (by decide) (by decide) h_a0.2 h_a0.1 dJ13_fill_3 ?_
  refine tj_topi (fun x1 ex => ?_)
  replace hf := hf x1 ex
  refine tj_istore_n C (by rw [hR]; decide) [(3, .int x1), (2, .int (nI 0)), (0, .ref (xad Γ a0)), (1, .int a1)] rfl rfl dJ13_fill_4 ?_
  exact tj_sub [2, 3, 1, 0] (hf.elim fun k hf => w_Ar_fill_l5 C hw hR r h_a0 k _ _ _ hf) rfl
theorem c_Ar_fill {l : Launch} {G : tG} {ad : Nat → Nat} {A : Nat → Prop} {S : tS} {K : tS → Prop} {a0 : Nat} {a1 : Int32} (h_a0 : gN S a0 ≠ 0 ∧ a0 % 32 = 16) (hf : Ar_fill a0 a1 S K) : Met l yJ13_fill (ws_ yJ13_fill cJ13_fill 4 (none)) (tRm 0 0) (va_Pc [.ref (ad a0), .int a1] (tPre G ad A S)) (va_Qv K (tB G ad A (gN S)) A) 0 0 A :=
  tj_met_v [(0, .ref (ad a0)), (1, .int a1)] pn_J13 rfl (Nat.le_of_ble_eq_true rfl) (fun p e R s m args below meth c Q C hw r => w_Ar_fill_b0 C hw rfl r h_a0 hf)
theorem w_M_isFull_b0 {Γ : tX} {N0 : Nat → Nat} {K : Int32 → tS → Prop} (C : TC Γ cX6_isFull RX6 0 0) (hw : tWf N0) (hR : xnL Γ = 3) (r : TRz Γ N0 cX6_isFull K) {a1 : Int32} {a2 : Int32} (hM : N0 0 ≠ 0) {S : tS} (hf : M_isFull a1 a2 S K) : TJ Γ N0 0 0 0 [(0, .ref (xad Γ 0)), (1, .int a1), (2, .int a2)] [] S := by
  unfold M_isFull at hf
  refine tj_aload_n C 0 rfl rfl dX6_isFull_0 ?_
  refine gf_X6_7 C hM dX6_isFull_1 ?_
  refine tj_sipush C ks_2008 dX6_isFull_4 ?_
  refine tj_iload_n C 1 rfl rfl dX6_isFull_7 ?_
  refine tj_iadd C dX6_isFull_8 ?_
  refine tj_iald C 48 3548 rfl (ln_48 hw hM) _ rfl hf.1 dX6_isFull_9 ?_
  replace hf := hf.2
  refine tj_iload_n C 2 rfl rfl dX6_isFull_10 ?_
  refine tj_icmp_ne C 18 (by decide) dX6_isFull_11 (fun hc => ?_) (fun hc => ?_)
  · replace hf := hf.2 hc
    refine tj_iconst C kc_0 dX6_isFull_18 ?_
    exact r _ _ _ _ dX6_isFull_19 zb0 hf
  · replace hf := hf.1 hc
    refine tj_iconst C kc_1 dX6_isFull_14 ?_
    refine tj_goto C 19 (by decide) dX6_isFull_15 ?_
    exact r _ _ _ _ dX6_isFull_19 zb1 hf
theorem c_M_isFull {l : Launch} {G : tG} {ad : Nat → Nat} {A : Nat → Prop} {S : tS} {K : Int32 → tS → Prop} {a1 : Int32} {a2 : Int32} (hM : gN S 0 ≠ 0) (hf : M_isFull a1 a2 S K) : Met l yX6_isFull (ws_ yX6_isFull cX6_isFull 3 (some .boolean)) (tRm 0 0) (va_Pc [.ref (ad 0), .int a1, .int a2] (tPre G ad A S)) (va_Qi (fun r u => r &&& 1 = r ∧ K r u) (tB G ad A (gN S)) A) 0 0 A :=
  tj_met_z [(0, .ref (ad 0)), (1, .int a1), (2, .int a2)] pn_X6 rfl (Nat.le_of_ble_eq_true rfl) (fun p e R s m args below meth c Q C hw r => w_M_isFull_b0 C hw rfl r hM hf)
theorem w_M_fails_b21 {Γ : tX} {N0 : Nat → Nat} {K : Int32 → tS → Prop} (C : TC Γ cX6_fails RX6 0 0) (hw : tWf N0) (hR : xnL Γ = 2) (r : TRz Γ N0 cX6_fails K) {a1 : Int32} (hM : N0 0 ≠ 0) {s1 : Int32} {S : tS} (hf : M_fails_b21 a1 K s1 S) : TJ Γ N0 0 0 21 [(0, .ref (xad Γ 0))] [.int s1, .ref (xad Γ 0)] S := by
  unfold M_fails_b21 at hf
  refine pf_X6_161 C hM dX6_fails_21 ?_
  refine tj_topS (fun S1 eS => ?_)
  replace hf := hf S1 eS
  refine tj_aload_n C 0 rfl rfl dX6_fails_24 ?_
  refine tj_aload_n C 0 rfl rfl dX6_fails_25 ?_
  refine gf_X6_130 C hM dX6_fails_26 ?_
  refine pf_X6_41 C hM dX6_fails_29 ?_
  refine tj_topS (fun S2 eS => ?_)
  replace hf := hf S2 eS
  refine tj_iconst C kc_0 dX6_fails_32 ?_
  exact r _ _ _ _ dX6_fails_33 zb0 hf
theorem w_M_fails_b0 {Γ : tX} {N0 : Nat → Nat} {K : Int32 → tS → Prop} (C : TC Γ cX6_fails RX6 0 0) (hw : tWf N0) (hR : xnL Γ = 2) (r : TRz Γ N0 cX6_fails K) {a1 : Int32} (hM : N0 0 ≠ 0) {S : tS} (hf : M_fails a1 S K) : TJ Γ N0 0 0 0 [(0, .ref (xad Γ 0)), (1, .int a1)] [] S := by
  unfold M_fails at hf
  refine tj_aload_n C 0 rfl rfl dX6_fails_0 ?_
  refine gf_X6_161 C hM dX6_fails_1 ?_
  refine tj_if_ne C 32 (by decide) dX6_fails_4 (fun hc => ?_) (fun hc => ?_)
  · replace hf := hf.2 hc
    refine tj_iconst C kc_0 dX6_fails_32 ?_
    exact r _ _ _ _ dX6_fails_33 zb0 hf
  · replace hf := hf.1 hc
    refine tj_aload_n C 0 rfl rfl dX6_fails_7 ?_
    refine tj_aload_n C 0 rfl rfl dX6_fails_8 ?_
    refine gf_X6_136 C hM dX6_fails_9 ?_
    refine tj_iconst C kc_1 dX6_fails_12 ?_
    refine tj_icmp_ne C 20 (by decide) dX6_fails_13 (fun hc => ?_) (fun hc => ?_)
    · replace hf := hf.2 hc
      refine tj_iload_n C 1 rfl rfl dX6_fails_20 ?_
      exact tj_sub [0] (w_M_fails_b21 C hw hR r hM hf) rfl
    · replace hf := hf.1 hc
      refine tj_iconst C kc_1 dX6_fails_16 ?_
      refine tj_goto C 21 (by decide) dX6_fails_17 ?_
      exact tj_sub [0] (w_M_fails_b21 C hw hR r hM hf) rfl
theorem c_M_fails {l : Launch} {G : tG} {ad : Nat → Nat} {A : Nat → Prop} {S : tS} {K : Int32 → tS → Prop} {a1 : Int32} (hM : gN S 0 ≠ 0) (hf : M_fails a1 S K) : Met l yX6_fails (ws_ yX6_fails cX6_fails 2 (some .boolean)) (tRm 0 0) (va_Pc [.ref (ad 0), .int a1] (tPre G ad A S)) (va_Qi (fun r u => r &&& 1 = r ∧ K r u) (tB G ad A (gN S)) A) 0 0 A :=
  tj_met_z [(0, .ref (ad 0)), (1, .int a1)] pn_X6 rfl (Nat.le_of_ble_eq_true rfl) (fun p e R s m args below meth c Q C hw r => w_M_fails_b0 C hw rfl r hM hf)
theorem w_M_byteAt_b0 {Γ : tX} {N0 : Nat → Nat} {K : Int32 → tS → Prop} (C : TC Γ cX6_byteAt RX6 0 0) (hw : tWf N0) (hR : xnL Γ = 2) (r : TRi Γ N0 cX6_byteAt K) {a1 : Int32} (hM : N0 0 ≠ 0) {S : tS} (hf : M_byteAt a1 S K) : TJ Γ N0 0 0 0 [(0, .ref (xad Γ 0)), (1, .int a1)] [] S := by
  unfold M_byteAt at hf
  refine tj_iload_n C 1 rfl rfl dX6_byteAt_0 ?_
  refine tj_aload_n C 0 rfl rfl dX6_byteAt_1 ?_
  refine gf_X6_121 C hM dX6_byteAt_2 ?_
  refine tj_icmp_ge C 21 (by decide) dX6_byteAt_5 (fun hc => ?_) (fun hc => ?_)
  · replace hf := hf.1 hc
    refine tj_iconst C kc_m1 dX6_byteAt_21 ?_
    exact r _ _ _ _ dX6_byteAt_22 hf
  · replace hf := hf.2 hc
    refine tj_aload_n C 0 rfl rfl dX6_byteAt_8 ?_
    refine gf_X6_34 C hM dX6_byteAt_9 ?_
    refine tj_iload_n C 1 rfl rfl dX6_byteAt_12 ?_
    refine tj_bald C 242 900 rfl (ln_242 hw hM) _ rfl hf.1 dX6_byteAt_13 ?_
    replace hf := hf.2
    refine tj_sipush C ks_255 dX6_byteAt_14 ?_
    refine tj_iand C dX6_byteAt_17 ?_
    refine tj_goto C 22 (by decide) dX6_byteAt_18 ?_
    exact r _ _ _ _ dX6_byteAt_22 hf
theorem c_M_byteAt {l : Launch} {G : tG} {ad : Nat → Nat} {A : Nat → Prop} {S : tS} {K : Int32 → tS → Prop} {a1 : Int32} (hM : gN S 0 ≠ 0) (hf : M_byteAt a1 S K) : Met l yX6_byteAt (ws_ yX6_byteAt cX6_byteAt 2 (some .int)) (tRm 0 0) (va_Pc [.ref (ad 0), .int a1] (tPre G ad A S)) (va_Qi K (tB G ad A (gN S)) A) 0 0 A :=
  tj_met_i [(0, .ref (ad 0)), (1, .int a1)] pn_X6 rfl (Nat.le_of_ble_eq_true rfl) (fun p e R s m args below meth c Q C hw r => w_M_byteAt_b0 C hw rfl r hM hf)
theorem w_M_isSmall_b0 {Γ : tX} {N0 : Nat → Nat} {K : Int32 → tS → Prop} (C : TC Γ cX6_isSmall RX6 0 0) (hw : tWf N0) (hR : xnL Γ = 1) (r : TRz Γ N0 cX6_isSmall K) {a0 : Int32} {S : tS} (hf : M_isSmall a0 S K) : TJ Γ N0 0 0 0 [(0, .int a0)] [] S := by
  unfold M_isSmall at hf
  refine tj_iload_n C 0 rfl rfl dX6_isSmall_0 ?_
  refine tj_bipush C kb_97 dX6_isSmall_1 ?_
  refine tj_icmp_lt C 16 (by decide) dX6_isSmall_3 (fun hc => ?_) (fun hc => ?_)
  · replace hf := hf.1 hc
    refine tj_iconst C kc_0 dX6_isSmall_16 ?_
    exact r _ _ _ _ dX6_isSmall_17 zb0 hf
  · replace hf := hf.2 hc
    refine tj_iload_n C 0 rfl rfl dX6_isSmall_6 ?_
    refine tj_bipush C kb_122 dX6_isSmall_7 ?_
    refine tj_icmp_gt C 16 (by decide) dX6_isSmall_9 (fun hc => ?_) (fun hc => ?_)
    · replace hf := hf.1 hc
      refine tj_iconst C kc_0 dX6_isSmall_16 ?_
      exact r _ _ _ _ dX6_isSmall_17 zb0 hf
    · replace hf := hf.2 hc
      refine tj_iconst C kc_1 dX6_isSmall_12 ?_
      refine tj_goto C 17 (by decide) dX6_isSmall_13 ?_
      exact r _ _ _ _ dX6_isSmall_17 zb1 hf
theorem c_M_isSmall {l : Launch} {G : tG} {ad : Nat → Nat} {A : Nat → Prop} {S : tS} {K : Int32 → tS → Prop} {a0 : Int32} (hf : M_isSmall a0 S K) : Met l yX6_isSmall (ws_ yX6_isSmall cX6_isSmall 1 (some .boolean)) (tRm 0 0) (va_Pc [.int a0] (tPre G ad A S)) (va_Qi (fun r u => r &&& 1 = r ∧ K r u) (tB G ad A (gN S)) A) 0 0 A :=
  tj_met_z [(0, .int a0)] pn_X6 rfl (Nat.le_of_ble_eq_true rfl) (fun p e R s m args below meth c Q C hw r => w_M_isSmall_b0 C hw rfl r hf)
theorem w_M_isDigit_b0 {Γ : tX} {N0 : Nat → Nat} {K : Int32 → tS → Prop} (C : TC Γ cX6_isDigit RX6 0 0) (hw : tWf N0) (hR : xnL Γ = 1) (r : TRz Γ N0 cX6_isDigit K) {a0 : Int32} {S : tS} (hf : M_isDigit a0 S K) : TJ Γ N0 0 0 0 [(0, .int a0)] [] S := by
  unfold M_isDigit at hf
  refine tj_iload_n C 0 rfl rfl dX6_isDigit_0 ?_
  refine tj_bipush C kb_48 dX6_isDigit_1 ?_
  refine tj_icmp_lt C 16 (by decide) dX6_isDigit_3 (fun hc => ?_) (fun hc => ?_)
  · replace hf := hf.1 hc
    refine tj_iconst C kc_0 dX6_isDigit_16 ?_
    exact r _ _ _ _ dX6_isDigit_17 zb0 hf
  · replace hf := hf.2 hc
    refine tj_iload_n C 0 rfl rfl dX6_isDigit_6 ?_
    refine tj_bipush C kb_57 dX6_isDigit_7 ?_
    refine tj_icmp_gt C 16 (by decide) dX6_isDigit_9 (fun hc => ?_) (fun hc => ?_)
    · replace hf := hf.1 hc
      refine tj_iconst C kc_0 dX6_isDigit_16 ?_
      exact r _ _ _ _ dX6_isDigit_17 zb0 hf
    · replace hf := hf.2 hc
      refine tj_iconst C kc_1 dX6_isDigit_12 ?_
      refine tj_goto C 17 (by decide) dX6_isDigit_13 ?_
      exact r _ _ _ _ dX6_isDigit_17 zb1 hf
theorem c_M_isDigit {l : Launch} {G : tG} {ad : Nat → Nat} {A : Nat → Prop} {S : tS} {K : Int32 → tS → Prop} {a0 : Int32} (hf : M_isDigit a0 S K) : Met l yX6_isDigit (ws_ yX6_isDigit cX6_isDigit 1 (some .boolean)) (tRm 0 0) (va_Pc [.int a0] (tPre G ad A S)) (va_Qi (fun r u => r &&& 1 = r ∧ K r u) (tB G ad A (gN S)) A) 0 0 A :=
  tj_met_z [(0, .int a0)] pn_X6 rfl (Nat.le_of_ble_eq_true rfl) (fun p e R s m args below meth c Q C hw r => w_M_isDigit_b0 C hw rfl r hf)
theorem w_M_ahead_b248 {Γ : tX} {N0 : Nat → Nat} {K : tS → Prop} (C : TC Γ cX6_ahead RX6 1 40) (hw : tWf N0) (hR : xnL Γ = 2) (r : TRv Γ N0 cX6_ahead K) (hM : N0 0 ≠ 0) {s1 : Int32} {S : tS} (hf : M_ahead_b248 K s1 S) : TJ Γ N0 0 0 248 [] [.int s1, .ref (xad Γ 0)] S := by
  unfold M_ahead_b248 at hf
  refine pf_X6_136 C hM dX6_ahead_248 ?_
  refine tj_topS (fun S17 eS => ?_)
  replace hf := hf S17 eS
  exact r _ _ _ dX6_ahead_251 hf
theorem w_M_ahead_b243 {Γ : tX} {N0 : Nat → Nat} {K : tS → Prop} (C : TC Γ cX6_ahead RX6 1 40) (hw : tWf N0) (hR : xnL Γ = 2) (r : TRv Γ N0 cX6_ahead K) (hM : N0 0 ≠ 0) {S : tS} (hf : M_ahead_b243 K  S) : TJ Γ N0 0 0 243 [] [.ref (xad Γ 0)] S := by
  unfold M_ahead_b243 at hf
  refine tj_iconst C kc_4 dX6_ahead_243 ?_
  refine tj_goto C 248 (by decide) dX6_ahead_244 ?_
  exact w_M_ahead_b248 C hw hR r hM hf
theorem w_M_ahead_b202 {Γ : tX} {N0 : Nat → Nat} {K : tS → Prop} (C : TC Γ cX6_ahead RX6 1 40) (hw : tWf N0) (hR : xnL Γ = 2) (r : TRv Γ N0 cX6_ahead K) (hM : N0 0 ≠ 0) {s1 : Int32} {S : tS} (hf : M_ahead_b202 K s1 S) : TJ Γ N0 0 0 202 [] [.int s1, .ref (xad Γ 0)] S := by
  unfold M_ahead_b202 at hf
  refine pf_X6_136 C hM dX6_ahead_202 ?_
  refine tj_topS (fun S32 eS => ?_)
  replace hf := hf S32 eS
  refine tj_goto C 251 (by decide) dX6_ahead_205 ?_
  exact r _ _ _ dX6_ahead_251 hf
theorem w_M_ahead_l128 {Γ : tX} {N0 : Nat → Nat} {K : tS → Prop} (C : TC Γ cX6_ahead RX6 1 40) (hw : tWf N0) (hR : xnL Γ = 2) (r : TRv Γ N0 cX6_ahead K) (hM : N0 0 ≠ 0) : ∀ (n : Nat)  (S : tS), M_ahead_l128 K n  S → TJ Γ N0 0 0 128 [(0, .ref (xad Γ 0))] [] S := by
  intro n
  induction n with
  | zero => intro  S hf; exact hf.elim
  | succ n ih =>
    intro  S hf
    unfold M_ahead_l128 at hf
    refine tj_aload_n C 0 rfl rfl dX6_ahead_128 ?_
    refine tj_aload_n C 0 rfl rfl dX6_ahead_129 ?_
    refine gf_X6_124 C hM dX6_ahead_130 ?_
    refine tj_callVi C (k := 0) [.int (gI S 0 14)] [] (fun hN => c_M_byteAt (by rw [hN]; exact hM) hf) lk_X6_127 ty_X6_byteAt rfl (Nat.le_of_ble_eq_true rfl) (Nat.le_of_ble_eq_true rfl) (Nat.le_of_ble_eq_true rfl) hM rfl (by decide) rfl rfl dX6_ahead_133 (fun r19 S18 hf => ?_)
    refine tj_callSz C [.int r19] [] (fun hN => c_M_isDigit hf) lk_X6_142 ty_X6_isDigit rfl (Nat.le_of_ble_eq_true rfl) (Nat.le_of_ble_eq_true rfl) (Nat.le_of_ble_eq_true rfl) rfl dX6_ahead_136 (fun r21 S20 hf => ?_)
    have hz_r21 := hf.1
    replace hf := hf.2
    refine tj_if_eq C 183 (by decide) dX6_ahead_139 (fun hc => ?_) (fun hc => ?_)
    · replace hf := hf.1 hc
      refine tj_aload_n C 0 rfl rfl dX6_ahead_183 ?_
      refine tj_aload_n C 0 rfl rfl dX6_ahead_184 ?_
      refine gf_X6_124 C hM dX6_ahead_185 ?_
      refine tj_aload_n C 0 rfl rfl dX6_ahead_188 ?_
      refine gf_X6_130 C hM dX6_ahead_189 ?_
      refine tj_isub C dX6_ahead_192 ?_
      refine tj_iconst C kc_4 dX6_ahead_193 ?_
      refine tj_icmp_le C 201 (by decide) dX6_ahead_194 (fun hc => ?_) (fun hc => ?_)
      · replace hf := hf.1 hc
        refine tj_iconst C kc_3 dX6_ahead_201 ?_
        exact tj_sub [] (w_M_ahead_b202 C hw hR r hM hf) rfl
      · replace hf := hf.2 hc
        refine tj_iconst C kc_1 dX6_ahead_197 ?_
        refine tj_goto C 202 (by decide) dX6_ahead_198 ?_
        exact tj_sub [] (w_M_ahead_b202 C hw hR r hM hf) rfl
    · replace hf := hf.2 hc
      refine tj_aload_n C 0 rfl rfl dX6_ahead_142 ?_
      refine tj_ldc C kl_X6_145 dX6_ahead_143 ?_
      refine tj_bipush C kb_10 dX6_ahead_145 ?_
      refine tj_aload_n C 0 rfl rfl dX6_ahead_147 ?_
      refine gf_X6_133 C hM dX6_ahead_148 ?_
      refine tj_imul C dX6_ahead_151 ?_
      refine tj_aload_n C 0 rfl rfl dX6_ahead_152 ?_
      refine tj_aload_n C 0 rfl rfl dX6_ahead_153 ?_
      refine gf_X6_124 C hM dX6_ahead_154 ?_
      refine tj_callVi C (k := 0) [.int (gI S20 0 14)] [.int ((nI 10) * (gI S20 0 15)), .int (nI 100000), .ref (xad Γ 0)] (fun hN => c_M_byteAt (by rw [hN]; exact hM) hf) lk_X6_127 ty_X6_byteAt rfl (Nat.le_of_ble_eq_true rfl) (Nat.le_of_ble_eq_true rfl) (Nat.le_of_ble_eq_true rfl) hM rfl (by decide) rfl rfl dX6_ahead_157 (fun r23 S22 hf => ?_)
      refine tj_iadd C dX6_ahead_160 ?_
      refine tj_bipush C kb_48 dX6_ahead_161 ?_
      refine tj_isub C dX6_ahead_163 ?_
      refine tj_mmin C q1827 (Nat.le_of_ble_eq_true rfl) (Nat.le_of_ble_eq_true rfl) (Nat.le_of_ble_eq_true rfl) dX6_ahead_164 ?_
      refine pf_X6_133 C hM dX6_ahead_167 ?_
      refine tj_topS (fun S24 eS => ?_)
      replace hf := hf S24 eS
      refine tj_aload_n C 0 rfl rfl dX6_ahead_170 ?_
      refine tj_dup C rfl dX6_ahead_171 ?_
      refine gf_X6_124 C hM dX6_ahead_172 ?_
      refine tj_iconst C kc_1 dX6_ahead_175 ?_
      refine tj_iadd C dX6_ahead_176 ?_
      refine pf_X6_124 C hM dX6_ahead_177 ?_
      refine tj_topS (fun S25 eS => ?_)
      replace hf := hf S25 eS
      refine tj_goto C 128 (by decide) dX6_ahead_180 ?_
      exact ih _ hf
theorem w_M_ahead_l81 {Γ : tX} {N0 : Nat → Nat} {K : tS → Prop} (C : TC Γ cX6_ahead RX6 1 40) (hw : tWf N0) (hR : xnL Γ = 2) (r : TRv Γ N0 cX6_ahead K) (hM : N0 0 ≠ 0) : ∀ (n : Nat)  (S : tS), M_ahead_l81 K n  S → TJ Γ N0 0 0 81 [(0, .ref (xad Γ 0))] [] S := by
  intro n
  induction n with
  | zero => intro  S hf; exact hf.elim
  | succ n ih =>
    intro  S hf
    unfold M_ahead_l81 at hf
    refine tj_aload_n C 0 rfl rfl dX6_ahead_81 ?_
    refine tj_aload_n C 0 rfl rfl dX6_ahead_82 ?_
    refine gf_X6_124 C hM dX6_ahead_83 ?_
    refine tj_callVi C (k := 0) [.int (gI S 0 14)] [] (fun hN => c_M_byteAt (by rw [hN]; exact hM) hf) lk_X6_127 ty_X6_byteAt rfl (Nat.le_of_ble_eq_true rfl) (Nat.le_of_ble_eq_true rfl) (Nat.le_of_ble_eq_true rfl) hM rfl (by decide) rfl rfl dX6_ahead_86 (fun r27 S26 hf => ?_)
    refine tj_callSz C [.int r27] [] (fun hN => c_M_isSmall hf) lk_X6_139 ty_X6_isSmall rfl (Nat.le_of_ble_eq_true rfl) (Nat.le_of_ble_eq_true rfl) (Nat.le_of_ble_eq_true rfl) rfl dX6_ahead_89 (fun r29 S28 hf => ?_)
    have hz_r29 := hf.1
    replace hf := hf.2
    refine tj_if_eq C 108 (by decide) dX6_ahead_92 (fun hc => ?_) (fun hc => ?_)
    · replace hf := hf.1 hc
      refine tj_aload_n C 0 rfl rfl dX6_ahead_108 ?_
      refine tj_iconst C kc_2 dX6_ahead_109 ?_
      refine pf_X6_136 C hM dX6_ahead_110 ?_
      refine tj_topS (fun S30 eS => ?_)
      replace hf := hf S30 eS
      refine tj_goto C 251 (by decide) dX6_ahead_113 ?_
      exact r _ _ _ dX6_ahead_251 hf
    · replace hf := hf.2 hc
      refine tj_aload_n C 0 rfl rfl dX6_ahead_95 ?_
      refine tj_dup C rfl dX6_ahead_96 ?_
      refine gf_X6_124 C hM dX6_ahead_97 ?_
      refine tj_iconst C kc_1 dX6_ahead_100 ?_
      refine tj_iadd C dX6_ahead_101 ?_
      refine pf_X6_124 C hM dX6_ahead_102 ?_
      refine tj_topS (fun S31 eS => ?_)
      replace hf := hf S31 eS
      refine tj_goto C 81 (by decide) dX6_ahead_105 ?_
      exact ih _ hf
theorem w_M_ahead_b26 {Γ : tX} {N0 : Nat → Nat} {K : tS → Prop} (C : TC Γ cX6_ahead RX6 1 40) (hw : tWf N0) (hR : xnL Γ = 2) (r : TRv Γ N0 cX6_ahead K) (hM : N0 0 ≠ 0) {κ0 : tS → Prop} (hκ0 : ∀  (S : tS), κ0  S → TJ Γ N0 0 0 0 [(0, .ref (xad Γ 0))] [] S) {S : tS} (hf : M_ahead_b26 K κ0  S) : TJ Γ N0 0 0 26 [(0, .ref (xad Γ 0))] [] S := by
  unfold M_ahead_b26 at hf
  refine tj_aload_n C 0 rfl rfl dX6_ahead_26 ?_
  refine tj_dup C rfl dX6_ahead_27 ?_
  refine gf_X6_124 C hM dX6_ahead_28 ?_
  refine tj_iconst C kc_1 dX6_ahead_31 ?_
  refine tj_iadd C dX6_ahead_32 ?_
  refine pf_X6_124 C hM dX6_ahead_33 ?_
  refine tj_topS (fun S16 eS => ?_)
  replace hf := hf S16 eS
  refine tj_goto C 0 (by decide) dX6_ahead_36 ?_
  exact hκ0 _ hf
theorem w_M_ahead_l0 {Γ : tX} {N0 : Nat → Nat} {K : tS → Prop} (C : TC Γ cX6_ahead RX6 1 40) (hw : tWf N0) (hR : xnL Γ = 2) (r : TRv Γ N0 cX6_ahead K) (hM : N0 0 ≠ 0) : ∀ (n : Nat)  (S : tS), M_ahead_l0 K n  S → TJ Γ N0 0 0 0 [(0, .ref (xad Γ 0))] [] S := by
  intro n
  induction n with
  | zero => intro  S hf; exact hf.elim
  | succ n ih =>
    intro  S hf
    unfold M_ahead_l0 at hf
    refine tj_aload_n C 0 rfl rfl dX6_ahead_0 ?_
    refine tj_aload_n C 0 rfl rfl dX6_ahead_1 ?_
    refine gf_X6_124 C hM dX6_ahead_2 ?_
    refine tj_callVi C (k := 0) [.int (gI S 0 14)] [] (fun hN => c_M_byteAt (by rw [hN]; exact hM) hf) lk_X6_127 ty_X6_byteAt rfl (Nat.le_of_ble_eq_true rfl) (Nat.le_of_ble_eq_true rfl) (Nat.le_of_ble_eq_true rfl) hM rfl (by decide) rfl rfl dX6_ahead_5 (fun r2 S1 hf => ?_)
    refine tj_bipush C kb_32 dX6_ahead_8 ?_
    refine tj_icmp_eq C 26 (by decide) dX6_ahead_10 (fun hc => ?_) (fun hc => ?_)
    · replace hf := hf.1 hc
      exact w_M_ahead_b26 C hw hR r hM ih hf
    · replace hf := hf.2 hc
      refine tj_aload_n C 0 rfl rfl dX6_ahead_13 ?_
      refine tj_aload_n C 0 rfl rfl dX6_ahead_14 ?_
      refine gf_X6_124 C hM dX6_ahead_15 ?_
      refine tj_callVi C (k := 0) [.int (gI S1 0 14)] [] (fun hN => c_M_byteAt (by rw [hN]; exact hM) hf) lk_X6_127 ty_X6_byteAt rfl (Nat.le_of_ble_eq_true rfl) (Nat.le_of_ble_eq_true rfl) (Nat.le_of_ble_eq_true rfl) hM rfl (by decide) rfl rfl dX6_ahead_18 (fun r4 S3 hf => ?_)
      refine tj_bipush C kb_10 dX6_ahead_21 ?_
      refine tj_icmp_ne C 39 (by decide) dX6_ahead_23 (fun hc => ?_) (fun hc => ?_)
      · replace hf := hf.2 hc
        refine tj_aload_n C 0 rfl rfl dX6_ahead_39 ?_
        refine tj_aload_n C 0 rfl rfl dX6_ahead_40 ?_
        refine gf_X6_124 C hM dX6_ahead_41 ?_
        refine pf_X6_130 C hM dX6_ahead_44 ?_
        refine tj_topS (fun S5 eS => ?_)
        replace hf := hf S5 eS
        refine tj_aload_n C 0 rfl rfl dX6_ahead_47 ?_
        refine tj_aload_n C 0 rfl rfl dX6_ahead_48 ?_
        refine gf_X6_124 C hM dX6_ahead_49 ?_
        refine tj_callVi C (k := 0) [.int (gI S5 0 14)] [] (fun hN => c_M_byteAt (by rw [hN]; exact hM) hf) lk_X6_127 ty_X6_byteAt rfl (Nat.le_of_ble_eq_true rfl) (Nat.le_of_ble_eq_true rfl) (Nat.le_of_ble_eq_true rfl) hM rfl (by decide) rfl rfl dX6_ahead_52 (fun r7 S6 hf => ?_)
        refine tj_istore_n C (by rw [hR]; decide) [(1, .int r7), (0, .ref (xad Γ 0))] rfl rfl dX6_ahead_55 ?_
        refine tj_aload_n C 1 rfl rfl dX6_ahead_56 ?_
        refine tj_iload_n C 0 rfl rfl dX6_ahead_57 ?_
        refine pf_X6_133 C hM dX6_ahead_58 ?_
        refine tj_topS (fun S8 eS => ?_)
        replace hf := hf S8 eS
        refine tj_iload_n C 0 rfl rfl dX6_ahead_61 ?_
        refine tj_iconst C kc_m1 dX6_ahead_62 ?_
        refine tj_icmp_ne C 74 (by decide) dX6_ahead_63 (fun hc => ?_) (fun hc => ?_)
        · replace hf := hf.2 hc
          refine tj_iload_n C 0 rfl rfl dX6_ahead_74 ?_
          refine tj_callSz C [.int r7] [] (fun hN => c_M_isSmall hf) lk_X6_139 ty_X6_isSmall rfl (Nat.le_of_ble_eq_true rfl) (Nat.le_of_ble_eq_true rfl) (Nat.le_of_ble_eq_true rfl) rfl dX6_ahead_75 (fun r10 S9 hf => ?_)
          have hz_r10 := hf.1
          replace hf := hf.2
          refine tj_if_eq C 116 (by decide) dX6_ahead_78 (fun hc => ?_) (fun hc => ?_)
          · replace hf := hf.1 hc
            refine tj_iload_n C 0 rfl rfl dX6_ahead_116 ?_
            refine tj_callSz C [.int r7] [] (fun hN => c_M_isDigit hf) lk_X6_142 ty_X6_isDigit rfl (Nat.le_of_ble_eq_true rfl) (Nat.le_of_ble_eq_true rfl) (Nat.le_of_ble_eq_true rfl) rfl dX6_ahead_117 (fun r12 S11 hf => ?_)
            have hz_r12 := hf.1
            replace hf := hf.2
            refine tj_if_eq C 208 (by decide) dX6_ahead_120 (fun hc => ?_) (fun hc => ?_)
            · replace hf := hf.1 hc
              refine tj_aload_n C 1 rfl rfl dX6_ahead_208 ?_
              refine tj_dup C rfl dX6_ahead_209 ?_
              refine gf_X6_124 C hM dX6_ahead_210 ?_
              refine tj_iconst C kc_1 dX6_ahead_213 ?_
              refine tj_iadd C dX6_ahead_214 ?_
              refine pf_X6_124 C hM dX6_ahead_215 ?_
              refine tj_topS (fun S13 eS => ?_)
              replace hf := hf S13 eS
              refine tj_aload_n C 1 rfl rfl dX6_ahead_218 ?_
              refine tj_iload_n C 0 rfl rfl dX6_ahead_219 ?_
              refine tj_bipush C kb_59 dX6_ahead_220 ?_
              refine tj_icmp_eq C 243 (by decide) dX6_ahead_222 (fun hc => ?_) (fun hc => ?_)
              · replace hf := hf.1 hc
                exact tj_sub [] (w_M_ahead_b243 C hw hR r hM hf) rfl
              · replace hf := hf.2 hc
                refine tj_iload_n C 0 rfl rfl dX6_ahead_225 ?_
                refine tj_bipush C kb_60 dX6_ahead_226 ?_
                refine tj_icmp_eq C 243 (by decide) dX6_ahead_228 (fun hc => ?_) (fun hc => ?_)
                · replace hf := hf.1 hc
                  exact tj_sub [] (w_M_ahead_b243 C hw hR r hM hf) rfl
                · replace hf := hf.2 hc
                  refine tj_iload_n C 0 rfl rfl dX6_ahead_231 ?_
                  refine tj_bipush C kb_62 dX6_ahead_232 ?_
                  refine tj_icmp_eq C 243 (by decide) dX6_ahead_234 (fun hc => ?_) (fun hc => ?_)
                  · replace hf := hf.1 hc
                    exact tj_sub [] (w_M_ahead_b243 C hw hR r hM hf) rfl
                  · replace hf := hf.2 hc
                    refine tj_iload_n C 0 rfl rfl dX6_ahead_237 ?_
                    refine tj_bipush C kb_61 dX6_ahead_238 ?_
                    refine tj_icmp_ne C 247 (by decide) dX6_ahead_240 (fun hc => ?_) (fun hc => ?_)
                    · replace hf := hf.2 hc
                      refine tj_iconst C kc_1 dX6_ahead_247 ?_
                      exact tj_sub [] (w_M_ahead_b248 C hw hR r hM hf) rfl
                    · replace hf := hf.1 hc
                      exact tj_sub [] (w_M_ahead_b243 C hw hR r hM hf) rfl
            · replace hf := hf.2 hc
              refine tj_aload_n C 1 rfl rfl dX6_ahead_123 ?_
              refine tj_iconst C kc_0 dX6_ahead_124 ?_
              refine pf_X6_133 C hM dX6_ahead_125 ?_
              refine tj_topS (fun S14 eS => ?_)
              replace hf := hf S14 eS
              exact tj_sub [1] (hf.elim fun k hf => w_M_ahead_l128 C hw hR r hM k _ hf) rfl
          · replace hf := hf.2 hc
            exact tj_sub [1] (hf.elim fun k hf => w_M_ahead_l81 C hw hR r hM k _ hf) rfl
        · replace hf := hf.1 hc
          refine tj_aload_n C 1 rfl rfl dX6_ahead_66 ?_
          refine tj_iconst C kc_0 dX6_ahead_67 ?_
          refine pf_X6_136 C hM dX6_ahead_68 ?_
          refine tj_topS (fun S15 eS => ?_)
          replace hf := hf S15 eS
          refine tj_goto C 251 (by decide) dX6_ahead_71 ?_
          exact r _ _ _ dX6_ahead_251 hf
      · replace hf := hf.1 hc
        exact w_M_ahead_b26 C hw hR r hM ih hf
theorem w_M_ahead_b0 {Γ : tX} {N0 : Nat → Nat} {K : tS → Prop} (C : TC Γ cX6_ahead RX6 1 40) (hw : tWf N0) (hR : xnL Γ = 2) (r : TRv Γ N0 cX6_ahead K) (hM : N0 0 ≠ 0) {S : tS} (hf : M_ahead S K) : TJ Γ N0 0 0 0 [(0, .ref (xad Γ 0))] [] S := by
  unfold M_ahead at hf
  exact hf.elim fun k hf => w_M_ahead_l0 C hw hR r hM k _ hf
theorem c_M_ahead {l : Launch} {G : tG} {ad : Nat → Nat} {A : Nat → Prop} {S : tS} {K : tS → Prop} (hM : gN S 0 ≠ 0) (hf : M_ahead S K) : Met l yX6_ahead (ws_ yX6_ahead cX6_ahead 2 (none)) (tRm 1 40) (va_Pc [.ref (ad 0)] (tPre G ad A S)) (va_Qv K (tB G ad A (gN S)) A) 0 0 A :=
  tj_met_v [(0, .ref (ad 0))] pn_X6 rfl (Nat.le_of_ble_eq_true rfl) (fun p e R s m args below meth c Q C hw r => w_M_ahead_b0 C hw rfl r hM hf)
theorem w_M_inWords_b115 {Γ : tX} {N0 : Nat → Nat} {K : Int32 → tS → Prop} (C : TC Γ cX6_inWords RX6 4 85) (hw : tWf N0) (hR : xnL Γ = 7) (r : TRi Γ N0 cX6_inWords K) {a1 : Nat} (hM : N0 0 ≠ 0) (h_a1 : a1 < nST) {κ14 : Int32 → Int32 → tS → Prop} (hκ14 : ∀ (a2 : Int32) (a3 : Int32) (S : tS), κ14 a2 a3 S → TJ Γ N0 0 0 14 [(0, .ref (xad Γ 0)), (1, .ref (xK Γ a1)), (2, .int a2), (3, .int a3)] [] S) {a2 : Int32} {a4 : Int32} {a5 : Int32} {S : tS} (hf : M_inWords_b115 a1 K κ14 a2 a4 a5 S) : TJ Γ N0 0 0 115 [(0, .ref (xad Γ 0)), (1, .ref (xK Γ a1)), (2, .int a2), (4, .int a4), (5, .int a5)] [] S := by
  unfold M_inWords_b115 at hf
  refine tj_iload C 4 rfl dX6_inWords_115 ?_
  refine tj_if_eq C 122 (by decide) dX6_inWords_117 (fun hc => ?_) (fun hc => ?_)
  · replace hf := hf.1 hc
    obtain ⟨x4, ex⟩ : ∃ y : Int32, y = a2 + nI 1 := ⟨_, rfl⟩
    refine tj_iinc C (by rw [hR]; decide) 2 [(2, .int x4), (0, .ref (xad Γ 0)), (1, .ref (xK Γ a1)), (4, .int a4), (5, .int a5)] rfl (by rw [ex]; exact ki_1 _) rfl dX6_inWords_122 ?_
    replace hf := hf x4 ex
    refine tj_iload C 3 rfl dX6_inWords_125 ?_
    refine tj_iconst C kc_1 dX6_inWords_127 ?_
    refine tj_iadd C dX6_inWords_128 ?_
    refine tj_topi (fun x5 ex => ?_)
    replace hf := hf x5 ex
    refine tj_istore_n C (by rw [hR]; decide) [(3, .int x5), (2, .int x4), (0, .ref (xad Γ 0)), (1, .ref (xK Γ a1)), (4, .int a4), (5, .int a5)] rfl rfl dX6_inWords_129 ?_
    refine tj_goto C 14 (by decide) dX6_inWords_130 ?_
    exact tj_sub [2, 3, 1, 0] (hκ14 _ _ _ hf) rfl
  · replace hf := hf.2 hc
    refine tj_iload_n C 2 rfl rfl dX6_inWords_120 ?_
    exact r _ _ _ _ dX6_inWords_121 hf
theorem w_M_inWords_b107 {Γ : tX} {N0 : Nat → Nat} {K : Int32 → tS → Prop} (C : TC Γ cX6_inWords RX6 4 85) (hw : tWf N0) (hR : xnL Γ = 7) (r : TRi Γ N0 cX6_inWords K) {a1 : Nat} (hM : N0 0 ≠ 0) (h_a1 : a1 < nST) {κ14 : Int32 → Int32 → tS → Prop} (hκ14 : ∀ (a2 : Int32) (a3 : Int32) (S : tS), κ14 a2 a3 S → TJ Γ N0 0 0 14 [(0, .ref (xad Γ 0)), (1, .ref (xK Γ a1)), (2, .int a2), (3, .int a3)] [] S) {κ68 : Int32 → Int32 → Int32 → Int32 → Int32 → tS → Prop} (hκ68 : ∀ (a2 : Int32) (a3 : Int32) (a4 : Int32) (a5 : Int32) (a6 : Int32) (S : tS), κ68 a2 a3 a4 a5 a6 S → TJ Γ N0 0 0 68 [(0, .ref (xad Γ 0)), (1, .ref (xK Γ a1)), (2, .int a2), (3, .int a3), (4, .int a4), (5, .int a5), (6, .int a6)] [] S) {a2 : Int32} {a3 : Int32} {a4 : Int32} {a6 : Int32} {s0 : Int32} {S : tS} (hf : M_inWords_b107 a1 K κ14 κ68 a2 a3 a4 a6 s0 S) : TJ Γ N0 0 0 107 [(0, .ref (xad Γ 0)), (1, .ref (xK Γ a1)), (2, .int a2), (3, .int a3), (4, .int a4), (6, .int a6)] [.int s0] S := by
  unfold M_inWords_b107 at hf
  refine tj_istore C (by rw [hR]; decide) [(5, .int s0), (0, .ref (xad Γ 0)), (1, .ref (xK Γ a1)), (2, .int a2), (3, .int a3), (4, .int a4), (6, .int a6)] rfl dX6_inWords_107 ?_
  obtain ⟨x6, ex⟩ : ∃ y : Int32, y = a6 + nI 1 := ⟨_, rfl⟩
  refine tj_iinc C (by rw [hR]; decide) 6 [(6, .int x6), (5, .int s0), (0, .ref (xad Γ 0)), (1, .ref (xK Γ a1)), (2, .int a2), (3, .int a3), (4, .int a4)] rfl (by rw [ex]; exact ki_1 _) rfl dX6_inWords_109 ?_
  replace hf := hf x6 ex
  refine tj_goto C 68 (by decide) dX6_inWords_112 ?_
  exact tj_sub [2, 3, 4, 5, 6, 1, 0] (hκ68 _ _ _ _ _ _ hf) rfl
theorem w_M_inWords_l68 {Γ : tX} {N0 : Nat → Nat} {K : Int32 → tS → Prop} (C : TC Γ cX6_inWords RX6 4 85) (hw : tWf N0) (hR : xnL Γ = 7) (r : TRi Γ N0 cX6_inWords K) {a1 : Nat} (hM : N0 0 ≠ 0) (h_a1 : a1 < nST) {κ14 : Int32 → Int32 → tS → Prop} (hκ14 : ∀ (a2 : Int32) (a3 : Int32) (S : tS), κ14 a2 a3 S → TJ Γ N0 0 0 14 [(0, .ref (xad Γ 0)), (1, .ref (xK Γ a1)), (2, .int a2), (3, .int a3)] [] S) : ∀ (n : Nat) (a2 : Int32) (a3 : Int32) (a4 : Int32) (a5 : Int32) (a6 : Int32) (S : tS), M_inWords_l68 a1 K κ14 n a2 a3 a4 a5 a6 S → TJ Γ N0 0 0 68 [(0, .ref (xad Γ 0)), (1, .ref (xK Γ a1)), (2, .int a2), (3, .int a3), (4, .int a4), (5, .int a5), (6, .int a6)] [] S := by
  intro n
  induction n with
  | zero => intro a2 a3 a4 a5 a6 S hf; exact hf.elim
  | succ n ih =>
    intro a2 a3 a4 a5 a6 S hf
    unfold M_inWords_l68 at hf
    refine tj_iload C 6 rfl dX6_inWords_68 ?_
    refine tj_iload C 4 rfl dX6_inWords_70 ?_
    refine tj_icmp_ge C 115 (by decide) dX6_inWords_72 (fun hc => ?_) (fun hc => ?_)
    · replace hf := hf.1 hc
      exact tj_sub [0, 1, 2, 4, 5] (w_M_inWords_b115 C hw hR r hM h_a1 hκ14 hf) rfl
    · replace hf := hf.2 hc
      refine tj_iload C 5 rfl dX6_inWords_75 ?_
      refine tj_if_eq C 115 (by decide) dX6_inWords_77 (fun hc => ?_) (fun hc => ?_)
      · replace hf := hf.1 hc
        exact tj_sub [0, 1, 2, 4, 5] (w_M_inWords_b115 C hw hR r hM h_a1 hκ14 hf) rfl
      · replace hf := hf.2 hc
        refine tj_aload_n C 1 rfl rfl dX6_inWords_80 ?_
        refine tj_iload C 6 rfl dX6_inWords_81 ?_
        refine tj_scharAt C a1 h_a1 hf.1 q1842 (Nat.le_of_ble_eq_true rfl) (Nat.le_of_ble_eq_true rfl) (Nat.le_of_ble_eq_true rfl) dX6_inWords_83 ?_
        replace hf := hf.2
        refine tj_aload_n C 0 rfl rfl dX6_inWords_86 ?_
        refine tj_aload_n C 0 rfl rfl dX6_inWords_87 ?_
        refine gf_X6_130 C hM dX6_inWords_88 ?_
        refine tj_iload C 6 rfl dX6_inWords_91 ?_
        refine tj_iadd C dX6_inWords_93 ?_
        refine tj_iload_n C 3 rfl rfl dX6_inWords_94 ?_
        refine tj_isub C dX6_inWords_95 ?_
        refine tj_callVi C (k := 0) [.int (((gI S 0 13) + a6) - a3)] [.int (chT a1 a6.toNatClampNeg)] (fun hN => c_M_byteAt (by rw [hN]; exact hM) hf) lk_X6_127 ty_X6_byteAt rfl (Nat.le_of_ble_eq_true rfl) (Nat.le_of_ble_eq_true rfl) (Nat.le_of_ble_eq_true rfl) hM rfl (by decide) rfl rfl dX6_inWords_96 (fun r3 S2 hf => ?_)
        refine tj_icmp_ne C 106 (by decide) dX6_inWords_99 (fun hc => ?_) (fun hc => ?_)
        · replace hf := hf.2 hc
          refine tj_iconst C kc_0 dX6_inWords_106 ?_
          exact tj_sub [0, 1, 2, 3, 4, 6] (w_M_inWords_b107 C hw hR r hM h_a1 hκ14 ih hf) rfl
        · replace hf := hf.1 hc
          refine tj_iconst C kc_1 dX6_inWords_102 ?_
          refine tj_goto C 107 (by decide) dX6_inWords_103 ?_
          exact tj_sub [0, 1, 2, 3, 4, 6] (w_M_inWords_b107 C hw hR r hM h_a1 hκ14 ih hf) rfl
theorem w_M_inWords_b63 {Γ : tX} {N0 : Nat → Nat} {K : Int32 → tS → Prop} (C : TC Γ cX6_inWords RX6 4 85) (hw : tWf N0) (hR : xnL Γ = 7) (r : TRi Γ N0 cX6_inWords K) {a1 : Nat} (hM : N0 0 ≠ 0) (h_a1 : a1 < nST) {κ14 : Int32 → Int32 → tS → Prop} (hκ14 : ∀ (a2 : Int32) (a3 : Int32) (S : tS), κ14 a2 a3 S → TJ Γ N0 0 0 14 [(0, .ref (xad Γ 0)), (1, .ref (xK Γ a1)), (2, .int a2), (3, .int a3)] [] S) {a2 : Int32} {a3 : Int32} {a4 : Int32} {s0 : Int32} {S : tS} (hf : M_inWords_b63 a1 K κ14 a2 a3 a4 s0 S) : TJ Γ N0 0 0 63 [(0, .ref (xad Γ 0)), (1, .ref (xK Γ a1)), (2, .int a2), (3, .int a3), (4, .int a4)] [.int s0] S := by
  unfold M_inWords_b63 at hf
  refine tj_istore C (by rw [hR]; decide) [(5, .int s0), (0, .ref (xad Γ 0)), (1, .ref (xK Γ a1)), (2, .int a2), (3, .int a3), (4, .int a4)] rfl dX6_inWords_63 ?_
  refine tj_iload_n C 4 rfl rfl dX6_inWords_65 ?_
  refine tj_istore C (by rw [hR]; decide) [(6, .int a3), (5, .int s0), (0, .ref (xad Γ 0)), (1, .ref (xK Γ a1)), (2, .int a2), (3, .int a3), (4, .int a4)] rfl dX6_inWords_66 ?_
  exact tj_sub [2, 3, 4, 5, 6, 1, 0] (hf.elim fun k hf => w_M_inWords_l68 C hw hR r hM h_a1 hκ14 k _ _ _ _ _ _ hf) rfl
theorem w_M_inWords_l25 {Γ : tX} {N0 : Nat → Nat} {K : Int32 → tS → Prop} (C : TC Γ cX6_inWords RX6 4 85) (hw : tWf N0) (hR : xnL Γ = 7) (r : TRi Γ N0 cX6_inWords K) {a1 : Nat} (hM : N0 0 ≠ 0) (h_a1 : a1 < nST) {κ14 : Int32 → Int32 → tS → Prop} (hκ14 : ∀ (a2 : Int32) (a3 : Int32) (S : tS), κ14 a2 a3 S → TJ Γ N0 0 0 14 [(0, .ref (xad Γ 0)), (1, .ref (xK Γ a1)), (2, .int a2), (3, .int a3)] [] S) : ∀ (n : Nat) (a2 : Int32) (a3 : Int32) (a4 : Int32) (S : tS), M_inWords_l25 a1 K κ14 n a2 a3 a4 S → TJ Γ N0 0 0 25 [(0, .ref (xad Γ 0)), (1, .ref (xK Γ a1)), (2, .int a2), (3, .int a3), (4, .int a4)] [] S := by
  intro n
  induction n with
  | zero => intro a2 a3 a4 S hf; exact hf.elim
  | succ n ih =>
    intro a2 a3 a4 S hf
    unfold M_inWords_l25 at hf
    refine tj_aload_n C 1 rfl rfl dX6_inWords_25 ?_
    refine tj_iload C 4 rfl dX6_inWords_26 ?_
    refine tj_scharAt C a1 h_a1 hf.1 q1842 (Nat.le_of_ble_eq_true rfl) (Nat.le_of_ble_eq_true rfl) (Nat.le_of_ble_eq_true rfl) dX6_inWords_28 ?_
    replace hf := hf.2
    refine tj_bipush C kb_32 dX6_inWords_31 ?_
    refine tj_icmp_eq C 42 (by decide) dX6_inWords_33 (fun hc => ?_) (fun hc => ?_)
    · replace hf := hf.1 hc
      refine tj_iload C 4 rfl dX6_inWords_42 ?_
      refine tj_iload_n C 3 rfl rfl dX6_inWords_44 ?_
      refine tj_isub C dX6_inWords_45 ?_
      refine tj_aload_n C 0 rfl rfl dX6_inWords_46 ?_
      refine gf_X6_124 C hM dX6_inWords_47 ?_
      refine tj_aload_n C 0 rfl rfl dX6_inWords_50 ?_
      refine gf_X6_130 C hM dX6_inWords_51 ?_
      refine tj_isub C dX6_inWords_54 ?_
      refine tj_icmp_ne C 62 (by decide) dX6_inWords_55 (fun hc => ?_) (fun hc => ?_)
      · replace hf := hf.2 hc
        refine tj_iconst C kc_0 dX6_inWords_62 ?_
        exact w_M_inWords_b63 C hw hR r hM h_a1 hκ14 hf
      · replace hf := hf.1 hc
        refine tj_iconst C kc_1 dX6_inWords_58 ?_
        refine tj_goto C 63 (by decide) dX6_inWords_59 ?_
        exact w_M_inWords_b63 C hw hR r hM h_a1 hκ14 hf
    · replace hf := hf.2 hc
      obtain ⟨x1, ex⟩ : ∃ y : Int32, y = a4 + nI 1 := ⟨_, rfl⟩
      refine tj_iinc C (by rw [hR]; decide) 4 [(4, .int x1), (0, .ref (xad Γ 0)), (1, .ref (xK Γ a1)), (2, .int a2), (3, .int a3)] rfl (by rw [ex]; exact ki_1 _) rfl dX6_inWords_36 ?_
      replace hf := hf x1 ex
      refine tj_goto C 25 (by decide) dX6_inWords_39 ?_
      exact tj_sub [1, 2, 3, 4, 0] (ih _ _ _ _ hf) rfl
theorem w_M_inWords_l14 {Γ : tX} {N0 : Nat → Nat} {K : Int32 → tS → Prop} (C : TC Γ cX6_inWords RX6 4 85) (hw : tWf N0) (hR : xnL Γ = 7) (r : TRi Γ N0 cX6_inWords K) {a1 : Nat} (hM : N0 0 ≠ 0) (h_a1 : a1 < nST) : ∀ (n : Nat) (a2 : Int32) (a3 : Int32) (S : tS), M_inWords_l14 a1 K n a2 a3 S → TJ Γ N0 0 0 14 [(0, .ref (xad Γ 0)), (1, .ref (xK Γ a1)), (2, .int a2), (3, .int a3)] [] S := by
  intro n
  induction n with
  | zero => intro a2 a3 S hf; exact hf.elim
  | succ n ih =>
    intro a2 a3 S hf
    unfold M_inWords_l14 at hf
    refine tj_iload_n C 3 rfl rfl dX6_inWords_14 ?_
    refine tj_aload_n C 1 rfl rfl dX6_inWords_15 ?_
    refine tj_slength C a1 h_a1 q1841 (Nat.le_of_ble_eq_true rfl) (Nat.le_of_ble_eq_true rfl) (Nat.le_of_ble_eq_true rfl) dX6_inWords_16 ?_
    refine tj_icmp_ge C 133 (by decide) dX6_inWords_19 (fun hc => ?_) (fun hc => ?_)
    · replace hf := hf.1 hc
      refine tj_iconst C kc_m1 dX6_inWords_133 ?_
      exact r _ _ _ _ dX6_inWords_134 hf
    · replace hf := hf.2 hc
      refine tj_iload_n C 3 rfl rfl dX6_inWords_22 ?_
      refine tj_istore C (by rw [hR]; decide) [(4, .int a3), (0, .ref (xad Γ 0)), (1, .ref (xK Γ a1)), (2, .int a2), (3, .int a3)] rfl dX6_inWords_23 ?_
      exact tj_sub [1, 2, 3, 4, 0] (hf.elim fun k hf => w_M_inWords_l25 C hw hR r hM h_a1 ih k _ _ _ _ hf) rfl
theorem w_M_inWords_b0 {Γ : tX} {N0 : Nat → Nat} {K : Int32 → tS → Prop} (C : TC Γ cX6_inWords RX6 4 85) (hw : tWf N0) (hR : xnL Γ = 7) (r : TRi Γ N0 cX6_inWords K) {a1 : Nat} (hM : N0 0 ≠ 0) (h_a1 : a1 < nST) {S : tS} (hf : M_inWords a1 S K) : TJ Γ N0 0 0 0 [(0, .ref (xad Γ 0)), (1, .ref (xK Γ a1))] [] S := by
  unfold M_inWords at hf
  refine tj_aload_n C 0 rfl rfl dX6_inWords_0 ?_
  refine gf_X6_136 C hM dX6_inWords_1 ?_
  refine tj_iconst C kc_2 dX6_inWords_4 ?_
  refine tj_icmp_eq C 10 (by decide) dX6_inWords_5 (fun hc => ?_) (fun hc => ?_)
  · replace hf := hf.1 hc
    refine tj_iconst C kc_0 dX6_inWords_10 ?_
    refine tj_istore_n C (by rw [hR]; decide) [(2, .int (nI 0)), (0, .ref (xad Γ 0)), (1, .ref (xK Γ a1))] rfl rfl dX6_inWords_11 ?_
    refine tj_iconst C kc_1 dX6_inWords_12 ?_
    refine tj_istore_n C (by rw [hR]; decide) [(3, .int (nI 1)), (2, .int (nI 0)), (0, .ref (xad Γ 0)), (1, .ref (xK Γ a1))] rfl rfl dX6_inWords_13 ?_
    exact tj_sub [2, 3, 1, 0] (hf.elim fun k hf => w_M_inWords_l14 C hw hR r hM h_a1 k _ _ _ hf) rfl
  · replace hf := hf.2 hc
    refine tj_iconst C kc_m1 dX6_inWords_8 ?_
    exact r _ _ _ _ dX6_inWords_9 hf
theorem c_M_inWords {l : Launch} {G : tG} {ad : Nat → Nat} {A : Nat → Prop} {S : tS} {K : Int32 → tS → Prop} {a1 : Nat} (hM : gN S 0 ≠ 0) (h_a1 : a1 < nST) (hf : M_inWords a1 S K) : Met l yX6_inWords (ws_ yX6_inWords cX6_inWords 7 (some .int)) (tRm 4 85) (va_Pc [.ref (ad 0), .ref (G.2.2.1 a1)] (tPre G ad A S)) (va_Qi K (tB G ad A (gN S)) A) 0 0 A :=
  tj_met_i [(0, .ref (ad 0)), (1, .ref (G.2.2.1 a1))] pn_X6 rfl (Nat.le_of_ble_eq_true rfl) (fun p e R s m args below meth c Q C hw r => w_M_inWords_b0 C hw rfl r hM h_a1 hf)
theorem w_M_isName_b0 {Γ : tX} {N0 : Nat → Nat} {K : Int32 → tS → Prop} (C : TC Γ cX6_isName RX6 5 111) (hw : tWf N0) (hR : xnL Γ = 2) (r : TRz Γ N0 cX6_isName K) {a1 : Nat} (hM : N0 0 ≠ 0) (h_a1 : a1 < nST) {S : tS} (hf : M_isName a1 S K) : TJ Γ N0 0 0 0 [(0, .ref (xad Γ 0)), (1, .ref (xK Γ a1))] [] S := by
  unfold M_isName at hf
  refine tj_aload_n C 0 rfl rfl dX6_isName_0 ?_
  refine gf_X6_136 C hM dX6_isName_1 ?_
  refine tj_iconst C kc_2 dX6_isName_4 ?_
  refine tj_icmp_ne C 35 (by decide) dX6_isName_5 (fun hc => ?_) (fun hc => ?_)
  · replace hf := hf.2 hc
    refine tj_iconst C kc_0 dX6_isName_35 ?_
    exact r _ _ _ _ dX6_isName_36 zb0 hf
  · replace hf := hf.1 hc
    refine tj_aload_n C 0 rfl rfl dX6_isName_8 ?_
    refine gf_X6_124 C hM dX6_isName_9 ?_
    refine tj_aload_n C 0 rfl rfl dX6_isName_12 ?_
    refine gf_X6_130 C hM dX6_isName_13 ?_
    refine tj_isub C dX6_isName_16 ?_
    refine tj_bipush C kb_8 dX6_isName_17 ?_
    refine tj_icmp_gt C 35 (by decide) dX6_isName_19 (fun hc => ?_) (fun hc => ?_)
    · replace hf := hf.1 hc
      refine tj_iconst C kc_0 dX6_isName_35 ?_
      exact r _ _ _ _ dX6_isName_36 zb0 hf
    · replace hf := hf.2 hc
      refine tj_aload_n C 0 rfl rfl dX6_isName_22 ?_
      refine tj_aload_n C 1 rfl rfl dX6_isName_23 ?_
      refine tj_callVi C (k := 0) [.ref (xK Γ a1)] [] (fun hN => c_M_inWords (by rw [hN]; exact hM) h_a1 hf) lk_X6_176 ty_X6_inWords rfl (Nat.le_of_ble_eq_true rfl) (Nat.le_of_ble_eq_true rfl) (Nat.le_of_ble_eq_true rfl) hM rfl (by decide) rfl rfl dX6_isName_24 (fun r2 S1 hf => ?_)
      refine tj_iconst C kc_m1 dX6_isName_27 ?_
      refine tj_icmp_ne C 35 (by decide) dX6_isName_28 (fun hc => ?_) (fun hc => ?_)
      · replace hf := hf.2 hc
        refine tj_iconst C kc_0 dX6_isName_35 ?_
        exact r _ _ _ _ dX6_isName_36 zb0 hf
      · replace hf := hf.1 hc
        refine tj_iconst C kc_1 dX6_isName_31 ?_
        refine tj_goto C 36 (by decide) dX6_isName_32 ?_
        exact r _ _ _ _ dX6_isName_36 zb1 hf
theorem c_M_isName {l : Launch} {G : tG} {ad : Nat → Nat} {A : Nat → Prop} {S : tS} {K : Int32 → tS → Prop} {a1 : Nat} (hM : gN S 0 ≠ 0) (h_a1 : a1 < nST) (hf : M_isName a1 S K) : Met l yX6_isName (ws_ yX6_isName cX6_isName 2 (some .boolean)) (tRm 5 111) (va_Pc [.ref (ad 0), .ref (G.2.2.1 a1)] (tPre G ad A S)) (va_Qi (fun r u => r &&& 1 = r ∧ K r u) (tB G ad A (gN S)) A) 0 0 A :=
  tj_met_z [(0, .ref (ad 0)), (1, .ref (G.2.2.1 a1))] pn_X6 rfl (Nat.le_of_ble_eq_true rfl) (fun p e R s m args below meth c Q C hw r => w_M_isName_b0 C hw rfl r hM h_a1 hf)
theorem w_M_nameHere_l7 {Γ : tX} {N0 : Nat → Nat} {K : Int64 → tS → Prop} (C : TC Γ cX6_nameHere RX6 1 21) (hw : tWf N0) (hR : xnL Γ = 4) (r : TRl Γ N0 cX6_nameHere K) (hM : N0 0 ≠ 0) : ∀ (n : Nat) (a1 : Int64) (a3 : Int32) (S : tS), M_nameHere_l7 K n a1 a3 S → TJ Γ N0 0 0 7 [(0, .ref (xad Γ 0)), (1, .long a1), (3, .int a3)] [] S := by
  intro n
  induction n with
  | zero => intro a1 a3 S hf; exact hf.elim
  | succ n ih =>
    intro a1 a3 S hf
    unfold M_nameHere_l7 at hf
    refine tj_iload_n C 2 rfl rfl dX6_nameHere_7 ?_
    refine tj_aload_n C 0 rfl rfl dX6_nameHere_8 ?_
    refine gf_X6_124 C hM dX6_nameHere_9 ?_
    refine tj_icmp_ge C 33 (by decide) dX6_nameHere_12 (fun hc => ?_) (fun hc => ?_)
    · replace hf := hf.1 hc
      refine tj_lload_n C 1 rfl rfl dX6_nameHere_33 ?_
      exact r _ _ _ _ dX6_nameHere_34 hf
    · replace hf := hf.2 hc
      refine tj_lload_n C 1 rfl rfl dX6_nameHere_15 ?_
      refine tj_bipush C kb_8 dX6_nameHere_16 ?_
      refine tj_lshl C dX6_nameHere_18 ?_
      refine tj_aload_n C 0 rfl rfl dX6_nameHere_19 ?_
      refine tj_iload_n C 2 rfl rfl dX6_nameHere_20 ?_
      refine tj_callVi C (k := 0) [.int a3] [.long (a1 <<< ((nI 8).toInt64 &&& 63))] (fun hN => c_M_byteAt (by rw [hN]; exact hM) hf) lk_X6_127 ty_X6_byteAt rfl (Nat.le_of_ble_eq_true rfl) (Nat.le_of_ble_eq_true rfl) (Nat.le_of_ble_eq_true rfl) hM rfl (by decide) rfl rfl dX6_nameHere_21 (fun r4 S3 hf => ?_)
      refine tj_i2l C dX6_nameHere_24 ?_
      refine tj_lor C dX6_nameHere_25 ?_
      refine tj_topl (fun x5 ex => ?_)
      replace hf := hf x5 ex
      refine tj_lstore_n C (by rw [hR]; decide) [(1, .long x5), (0, .ref (xad Γ 0)), (3, .int a3)] rfl rfl dX6_nameHere_26 ?_
      obtain ⟨x6, ex⟩ : ∃ y : Int32, y = a3 + nI 1 := ⟨_, rfl⟩
      refine tj_iinc C (by rw [hR]; decide) 2 [(3, .int x6), (1, .long x5), (0, .ref (xad Γ 0))] rfl (by rw [ex]; exact ki_1 _) rfl dX6_nameHere_27 ?_
      replace hf := hf x6 ex
      refine tj_goto C 7 (by decide) dX6_nameHere_30 ?_
      exact tj_sub [2, 1, 0] (ih _ _ _ hf) rfl
theorem w_M_nameHere_b0 {Γ : tX} {N0 : Nat → Nat} {K : Int64 → tS → Prop} (C : TC Γ cX6_nameHere RX6 1 21) (hw : tWf N0) (hR : xnL Γ = 4) (r : TRl Γ N0 cX6_nameHere K) (hM : N0 0 ≠ 0) {S : tS} (hf : M_nameHere S K) : TJ Γ N0 0 0 0 [(0, .ref (xad Γ 0))] [] S := by
  unfold M_nameHere at hf
  refine tj_lconst C (v := lN 0) rfl dX6_nameHere_0 ?_
  refine tj_topl (fun x1 ex => ?_)
  replace hf := hf x1 ex
  refine tj_lstore_n C (by rw [hR]; decide) [(1, .long x1), (0, .ref (xad Γ 0))] rfl rfl dX6_nameHere_1 ?_
  refine tj_aload_n C 1 rfl rfl dX6_nameHere_2 ?_
  refine gf_X6_130 C hM dX6_nameHere_3 ?_
  refine tj_topi (fun x2 ex => ?_)
  replace hf := hf x2 ex
  refine tj_istore_n C (by rw [hR]; decide) [(3, .int x2), (1, .long x1), (0, .ref (xad Γ 0))] rfl rfl dX6_nameHere_6 ?_
  exact tj_sub [2, 1, 0] (hf.elim fun k hf => w_M_nameHere_l7 C hw hR r hM k _ _ _ hf) rfl
theorem c_M_nameHere {l : Launch} {G : tG} {ad : Nat → Nat} {A : Nat → Prop} {S : tS} {K : Int64 → tS → Prop} (hM : gN S 0 ≠ 0) (hf : M_nameHere S K) : Met l yX6_nameHere (ws_ yX6_nameHere cX6_nameHere 4 (some .long)) (tRm 1 21) (va_Pc [.ref (ad 0)] (tPre G ad A S)) (va_Ql K (tB G ad A (gN S)) A) 0 0 A :=
  tj_met_l [(0, .ref (ad 0))] pn_X6 rfl (Nat.le_of_ble_eq_true rfl) (fun p e R s m args below meth c Q C hw r => w_M_nameHere_b0 C hw rfl r hM hf)
theorem w_M_findHere_l2 {Γ : tX} {N0 : Nat → Nat} {K : Int32 → tS → Prop} (C : TC Γ cX6_findHere RX6 2 44) (hw : tWf N0) (hR : xnL Γ = 4) (r : TRi Γ N0 cX6_findHere K) {a1 : Int32} {a2 : Int32} (hM : N0 0 ≠ 0) : ∀ (n : Nat) (a3 : Int32) (S : tS), M_findHere_l2 a1 a2 K n a3 S → TJ Γ N0 0 0 2 [(0, .ref (xad Γ 0)), (1, .int a1), (2, .int a2), (3, .int a3)] [] S := by
  intro n
  induction n with
  | zero => intro a3 S hf; exact hf.elim
  | succ n ih =>
    intro a3 S hf
    unfold M_findHere_l2 at hf
    refine tj_iload_n C 3 rfl rfl dX6_findHere_2 ?_
    refine tj_iload_n C 2 rfl rfl dX6_findHere_3 ?_
    refine tj_icmp_ge C 31 (by decide) dX6_findHere_4 (fun hc => ?_) (fun hc => ?_)
    · replace hf := hf.1 hc
      refine tj_iconst C kc_m1 dX6_findHere_31 ?_
      exact r _ _ _ _ dX6_findHere_32 hf
    · replace hf := hf.2 hc
      refine tj_aload_n C 0 rfl rfl dX6_findHere_7 ?_
      refine gf_X6_13 C hM dX6_findHere_8 ?_
      refine tj_iload_n C 1 rfl rfl dX6_findHere_11 ?_
      refine tj_iload_n C 3 rfl rfl dX6_findHere_12 ?_
      refine tj_iadd C dX6_findHere_13 ?_
      refine tj_lald C 81 138 rfl (ln_81 hw hM) _ rfl hf.1 dX6_findHere_14 ?_
      replace hf := hf.2
      refine tj_aload_n C 0 rfl rfl dX6_findHere_15 ?_
      refine tj_callVl C (k := 0) [] [.long (gL S 81 ((a1 + a3).toNatClampNeg))] (fun hN => c_M_nameHere (by rw [hN]; exact hM) hf) lk_X6_180 ty_X6_nameHere rfl (Nat.le_of_ble_eq_true rfl) (Nat.le_of_ble_eq_true rfl) (Nat.le_of_ble_eq_true rfl) hM rfl (by decide) rfl rfl dX6_findHere_16 (fun r2 S1 hf => ?_)
      refine tj_lcmp C dX6_findHere_19 ?_
      refine tj_if_ne C 25 (by decide) dX6_findHere_20 (fun hc => ?_) (fun hc => ?_)
      · replace hf := hf.2 hc
        obtain ⟨x3, ex⟩ : ∃ y : Int32, y = a3 + nI 1 := ⟨_, rfl⟩
        refine tj_iinc C (by rw [hR]; decide) 3 [(3, .int x3), (0, .ref (xad Γ 0)), (1, .int a1), (2, .int a2)] rfl (by rw [ex]; exact ki_1 _) rfl dX6_findHere_25 ?_
        replace hf := hf x3 ex
        refine tj_goto C 2 (by decide) dX6_findHere_28 ?_
        exact tj_sub [1, 2, 3, 0] (ih _ _ hf) rfl
      · replace hf := hf.1 hc
        refine tj_iload_n C 3 rfl rfl dX6_findHere_23 ?_
        exact r _ _ _ _ dX6_findHere_24 hf
theorem w_M_findHere_b0 {Γ : tX} {N0 : Nat → Nat} {K : Int32 → tS → Prop} (C : TC Γ cX6_findHere RX6 2 44) (hw : tWf N0) (hR : xnL Γ = 4) (r : TRi Γ N0 cX6_findHere K) {a1 : Int32} {a2 : Int32} (hM : N0 0 ≠ 0) {S : tS} (hf : M_findHere a1 a2 S K) : TJ Γ N0 0 0 0 [(0, .ref (xad Γ 0)), (1, .int a1), (2, .int a2)] [] S := by
  unfold M_findHere at hf
  refine tj_iconst C kc_0 dX6_findHere_0 ?_
  refine tj_istore_n C (by rw [hR]; decide) [(3, .int (nI 0)), (0, .ref (xad Γ 0)), (1, .int a1), (2, .int a2)] rfl rfl dX6_findHere_1 ?_
  exact tj_sub [1, 2, 3, 0] (hf.elim fun k hf => w_M_findHere_l2 C hw hR r hM k _ _ hf) rfl
theorem c_M_findHere {l : Launch} {G : tG} {ad : Nat → Nat} {A : Nat → Prop} {S : tS} {K : Int32 → tS → Prop} {a1 : Int32} {a2 : Int32} (hM : gN S 0 ≠ 0) (hf : M_findHere a1 a2 S K) : Met l yX6_findHere (ws_ yX6_findHere cX6_findHere 4 (some .int)) (tRm 2 44) (va_Pc [.ref (ad 0), .int a1, .int a2] (tPre G ad A S)) (va_Qi K (tB G ad A (gN S)) A) 0 0 A :=
  tj_met_i [(0, .ref (ad 0)), (1, .int a1), (2, .int a2)] pn_X6 rfl (Nat.le_of_ble_eq_true rfl) (fun p e R s m args below meth c Q C hw r => w_M_findHere_b0 C hw rfl r hM hf)
theorem w_M_isTaken_b74 {Γ : tX} {N0 : Nat → Nat} {K : Int32 → tS → Prop} (C : TC Γ cX6_isTaken RX6 3 67) (hw : tWf N0) (hR : xnL Γ = 1) (r : TRz Γ N0 cX6_isTaken K) (hM : N0 0 ≠ 0) {S : tS} (hf : M_isTaken_b74 K  S) : TJ Γ N0 0 0 74 [] [] S := by
  unfold M_isTaken_b74 at hf
  refine tj_iconst C kc_1 dX6_isTaken_74 ?_
  refine tj_goto C 79 (by decide) dX6_isTaken_75 ?_
  exact r _ _ _ _ dX6_isTaken_79 zb1 hf
theorem w_M_isTaken_b0 {Γ : tX} {N0 : Nat → Nat} {K : Int32 → tS → Prop} (C : TC Γ cX6_isTaken RX6 3 67) (hw : tWf N0) (hR : xnL Γ = 1) (r : TRz Γ N0 cX6_isTaken K) (hM : N0 0 ≠ 0) {S : tS} (hf : M_isTaken S K) : TJ Γ N0 0 0 0 [(0, .ref (xad Γ 0))] [] S := by
  unfold M_isTaken at hf
  refine tj_aload_n C 0 rfl rfl dX6_isTaken_0 ?_
  refine tj_bipush C kb_92 dX6_isTaken_1 ?_
  refine tj_aload_n C 0 rfl rfl dX6_isTaken_3 ?_
  refine gf_X6_7 C hM dX6_isTaken_4 ?_
  refine tj_sipush C ks_2008 dX6_isTaken_7 ?_
  refine tj_iald C 48 3548 rfl (ln_48 hw hM) 2008 kn_2008 (vp_in_nI (by decide) (by decide)) dX6_isTaken_10 ?_
  refine tj_callVi C (k := 0) [.int (nI 92), .int (gI S 48 2008)] [] (fun hN => c_M_findHere (by rw [hN]; exact hM) hf) lk_X6_186 ty_X6_findHere rfl (Nat.le_of_ble_eq_true rfl) (Nat.le_of_ble_eq_true rfl) (Nat.le_of_ble_eq_true rfl) hM rfl (by decide) rfl rfl dX6_isTaken_11 (fun r2 S1 hf => ?_)
  refine tj_iconst C kc_m1 dX6_isTaken_14 ?_
  refine tj_icmp_ne C 36 (by decide) dX6_isTaken_15 (fun hc => ?_) (fun hc => ?_)
  · replace hf := hf.2 hc
    refine tj_iconst C kc_1 dX6_isTaken_36 ?_
    exact r _ _ _ _ dX6_isTaken_37 zb1 hf
  · replace hf := hf.1 hc
    refine tj_aload_n C 0 rfl rfl dX6_isTaken_18 ?_
    refine tj_bipush C kb_97 dX6_isTaken_19 ?_
    refine tj_aload_n C 0 rfl rfl dX6_isTaken_21 ?_
    refine gf_X6_7 C hM dX6_isTaken_22 ?_
    refine tj_sipush C ks_2009 dX6_isTaken_25 ?_
    refine tj_iald C 48 3548 rfl (ln_48 hw hM) 2009 kn_2009 (vp_in_nI (by decide) (by decide)) dX6_isTaken_28 ?_
    refine tj_callVi C (k := 0) [.int (nI 97), .int (gI S1 48 2009)] [] (fun hN => c_M_findHere (by rw [hN]; exact hM) hf) lk_X6_186 ty_X6_findHere rfl (Nat.le_of_ble_eq_true rfl) (Nat.le_of_ble_eq_true rfl) (Nat.le_of_ble_eq_true rfl) hM rfl (by decide) rfl rfl dX6_isTaken_29 (fun r4 S3 hf => ?_)
    refine tj_iconst C kc_m1 dX6_isTaken_32 ?_
    refine tj_icmp_eq C 38 (by decide) dX6_isTaken_33 (fun hc => ?_) (fun hc => ?_)
    · replace hf := hf.1 hc
      refine tj_aload_n C 0 rfl rfl dX6_isTaken_38 ?_
      refine tj_bipush C kb_103 dX6_isTaken_39 ?_
      refine tj_aload_n C 0 rfl rfl dX6_isTaken_41 ?_
      refine gf_X6_7 C hM dX6_isTaken_42 ?_
      refine tj_sipush C ks_2011 dX6_isTaken_45 ?_
      refine tj_iald C 48 3548 rfl (ln_48 hw hM) 2011 kn_2011 (vp_in_nI (by decide) (by decide)) dX6_isTaken_48 ?_
      refine tj_callVi C (k := 0) [.int (nI 103), .int (gI S3 48 2011)] [] (fun hN => c_M_findHere (by rw [hN]; exact hM) hf) lk_X6_186 ty_X6_findHere rfl (Nat.le_of_ble_eq_true rfl) (Nat.le_of_ble_eq_true rfl) (Nat.le_of_ble_eq_true rfl) hM rfl (by decide) rfl rfl dX6_isTaken_49 (fun r6 S5 hf => ?_)
      refine tj_iconst C kc_m1 dX6_isTaken_52 ?_
      refine tj_icmp_ne C 74 (by decide) dX6_isTaken_53 (fun hc => ?_) (fun hc => ?_)
      · replace hf := hf.2 hc
        exact tj_sub [] (w_M_isTaken_b74 C hw hR r hM hf) rfl
      · replace hf := hf.1 hc
        refine tj_aload_n C 0 rfl rfl dX6_isTaken_56 ?_
        refine tj_bipush C kb_109 dX6_isTaken_57 ?_
        refine tj_aload_n C 0 rfl rfl dX6_isTaken_59 ?_
        refine gf_X6_7 C hM dX6_isTaken_60 ?_
        refine tj_sipush C ks_2012 dX6_isTaken_63 ?_
        refine tj_iald C 48 3548 rfl (ln_48 hw hM) 2012 kn_2012 (vp_in_nI (by decide) (by decide)) dX6_isTaken_66 ?_
        refine tj_callVi C (k := 0) [.int (nI 109), .int (gI S5 48 2012)] [] (fun hN => c_M_findHere (by rw [hN]; exact hM) hf) lk_X6_186 ty_X6_findHere rfl (Nat.le_of_ble_eq_true rfl) (Nat.le_of_ble_eq_true rfl) (Nat.le_of_ble_eq_true rfl) hM rfl (by decide) rfl rfl dX6_isTaken_67 (fun r8 S7 hf => ?_)
        refine tj_iconst C kc_m1 dX6_isTaken_70 ?_
        refine tj_icmp_eq C 78 (by decide) dX6_isTaken_71 (fun hc => ?_) (fun hc => ?_)
        · replace hf := hf.1 hc
          refine tj_iconst C kc_0 dX6_isTaken_78 ?_
          exact r _ _ _ _ dX6_isTaken_79 zb0 hf
        · replace hf := hf.2 hc
          exact tj_sub [] (w_M_isTaken_b74 C hw hR r hM hf) rfl
    · replace hf := hf.2 hc
      refine tj_iconst C kc_1 dX6_isTaken_36 ?_
      exact r _ _ _ _ dX6_isTaken_37 zb1 hf
theorem c_M_isTaken {l : Launch} {G : tG} {ad : Nat → Nat} {A : Nat → Prop} {S : tS} {K : Int32 → tS → Prop} (hM : gN S 0 ≠ 0) (hf : M_isTaken S K) : Met l yX6_isTaken (ws_ yX6_isTaken cX6_isTaken 1 (some .boolean)) (tRm 3 67) (va_Pc [.ref (ad 0)] (tPre G ad A S)) (va_Qi (fun r u => r &&& 1 = r ∧ K r u) (tB G ad A (gN S)) A) 0 0 A :=
  tj_met_z [(0, .ref (ad 0))] pn_X6 rfl (Nat.le_of_ble_eq_true rfl) (fun p e R s m args below meth c Q C hw r => w_M_isTaken_b0 C hw rfl r hM hf)
theorem w_M_newOne_b0 {Γ : tX} {N0 : Nat → Nat} {K : Int32 → tS → Prop} (C : TC Γ cX6_newOne RX6 6 132) (hw : tWf N0) (hR : xnL Γ = 4) (r : TRz Γ N0 cX6_newOne K) {a1 : Int32} {a2 : Int32} {a3 : Int32} (hM : N0 0 ≠ 0) {S : tS} (hf : M_newOne a1 a2 a3 S K) : TJ Γ N0 0 0 0 [(0, .ref (xad Γ 0)), (1, .int a1), (2, .int a2), (3, .int a3)] [] S := by
  unfold M_newOne at hf
  refine tj_aload_n C 0 rfl rfl dX6_newOne_0 ?_
  refine tj_iload_n C 1 rfl rfl dX6_newOne_1 ?_
  refine tj_iload_n C 2 rfl rfl dX6_newOne_2 ?_
  refine tj_callVz C (k := 0) [.int a1, .int a2] [] (fun hN => c_M_isFull (by rw [hN]; exact hM) hf) lk_X6_189 ty_X6_isFull rfl (Nat.le_of_ble_eq_true rfl) (Nat.le_of_ble_eq_true rfl) (Nat.le_of_ble_eq_true rfl) hM rfl (by decide) rfl rfl dX6_newOne_3 (fun r2 S1 hf => ?_)
  have hz_r2 := hf.1
  replace hf := hf.2
  refine tj_if_eq C 16 (by decide) dX6_newOne_6 (fun hc => ?_) (fun hc => ?_)
  · replace hf := hf.1 hc
    refine tj_aload_n C 0 rfl rfl dX6_newOne_16 ?_
    refine tj_callVv C (k := 0) [] [] (fun hN => c_M_ahead (by rw [hN]; exact hM) hf) lk_X6_167 ty_X6_ahead rfl (Nat.le_of_ble_eq_true rfl) (Nat.le_of_ble_eq_true rfl) (Nat.le_of_ble_eq_true rfl) hM rfl (by decide) rfl rfl dX6_newOne_17 (fun S3 hf => ?_)
    refine tj_aload_n C 0 rfl rfl dX6_newOne_20 ?_
    refine tj_ldcS C 0 rfl dX6_newOne_21 ?_
    refine tj_callVz C (k := 0) [.ref (xK Γ 0)] [] (fun hN => c_M_isName (by rw [hN]; exact hM) (by decide) hf) lk_X6_193 ty_X6_isName rfl (Nat.le_of_ble_eq_true rfl) (Nat.le_of_ble_eq_true rfl) (Nat.le_of_ble_eq_true rfl) hM rfl (by decide) rfl rfl dX6_newOne_23 (fun r5 S4 hf => ?_)
    have hz_r5 := hf.1
    replace hf := hf.2
    refine tj_if_ne C 35 (by decide) dX6_newOne_26 (fun hc => ?_) (fun hc => ?_)
    · replace hf := hf.2 hc
      refine tj_aload_n C 0 rfl rfl dX6_newOne_35 ?_
      refine tj_callVz C (k := 0) [] [] (fun hN => c_M_isTaken (by rw [hN]; exact hM) hf) lk_X6_197 ty_X6_isTaken rfl (Nat.le_of_ble_eq_true rfl) (Nat.le_of_ble_eq_true rfl) (Nat.le_of_ble_eq_true rfl) hM rfl (by decide) rfl rfl dX6_newOne_36 (fun r7 S6 hf => ?_)
      have hz_r7 := hf.1
      replace hf := hf.2
      refine tj_if_eq C 48 (by decide) dX6_newOne_39 (fun hc => ?_) (fun hc => ?_)
      · replace hf := hf.1 hc
        refine tj_aload_n C 0 rfl rfl dX6_newOne_48 ?_
        refine gf_X6_13 C hM dX6_newOne_49 ?_
        refine tj_bipush C kb_92 dX6_newOne_52 ?_
        refine tj_iload_n C 3 rfl rfl dX6_newOne_54 ?_
        refine tj_iadd C dX6_newOne_55 ?_
        refine tj_aload_n C 0 rfl rfl dX6_newOne_56 ?_
        refine gf_X6_7 C hM dX6_newOne_57 ?_
        refine tj_sipush C ks_2008 dX6_newOne_60 ?_
        refine tj_iload_n C 1 rfl rfl dX6_newOne_63 ?_
        refine tj_iadd C dX6_newOne_64 ?_
        refine tj_iald C 48 3548 rfl (ln_48 hw hM) _ rfl hf.1 dX6_newOne_65 ?_
        replace hf := hf.2
        refine tj_iadd C dX6_newOne_66 ?_
        refine tj_aload_n C 0 rfl rfl dX6_newOne_67 ?_
        refine tj_callVl C (k := 0) [] [.int (((nI 92) + a3) + (gI S6 48 (((nI 2008) + a1).toNatClampNeg))), .ref (xad Γ 81)] (fun hN => c_M_nameHere (by rw [hN]; exact hM) hf) lk_X6_180 ty_X6_nameHere rfl (Nat.le_of_ble_eq_true rfl) (Nat.le_of_ble_eq_true rfl) (Nat.le_of_ble_eq_true rfl) hM rfl (by decide) rfl rfl dX6_newOne_68 (fun r9 S8 hf => ?_)
        refine tj_last C 81 138 rfl (ln_81 hw hM) _ rfl hf.1 dX6_newOne_71 ?_
        replace hf := hf.2
        refine tj_topS (fun S10 eS => ?_)
        replace hf := hf S10 eS
        refine tj_aload_n C 0 rfl rfl dX6_newOne_72 ?_
        refine tj_callVv C (k := 0) [] [] (fun hN => c_M_ahead (by rw [hN]; exact hM) hf) lk_X6_167 ty_X6_ahead rfl (Nat.le_of_ble_eq_true rfl) (Nat.le_of_ble_eq_true rfl) (Nat.le_of_ble_eq_true rfl) hM rfl (by decide) rfl rfl dX6_newOne_73 (fun S11 hf => ?_)
        refine tj_iconst C kc_1 dX6_newOne_76 ?_
        exact r _ _ _ _ dX6_newOne_77 zb1 hf
      · replace hf := hf.2 hc
        refine tj_aload_n C 0 rfl rfl dX6_newOne_42 ?_
        refine tj_iconst C kc_3 dX6_newOne_43 ?_
        refine tj_callVz C (k := 0) [.int (nI 3)] [] (fun hN => c_M_fails (by rw [hN]; exact hM) hf) lk_X6_173 ty_X6_fails rfl (Nat.le_of_ble_eq_true rfl) (Nat.le_of_ble_eq_true rfl) (Nat.le_of_ble_eq_true rfl) hM rfl (by decide) rfl rfl dX6_newOne_44 (fun r13 S12 hf => ?_)
        have hz_r13 := hf.1
        replace hf := hf.2
        exact r _ _ _ _ dX6_newOne_47 hz_r13 hf
    · replace hf := hf.1 hc
      refine tj_aload_n C 0 rfl rfl dX6_newOne_29 ?_
      refine tj_iconst C kc_2 dX6_newOne_30 ?_
      refine tj_callVz C (k := 0) [.int (nI 2)] [] (fun hN => c_M_fails (by rw [hN]; exact hM) hf) lk_X6_173 ty_X6_fails rfl (Nat.le_of_ble_eq_true rfl) (Nat.le_of_ble_eq_true rfl) (Nat.le_of_ble_eq_true rfl) hM rfl (by decide) rfl rfl dX6_newOne_31 (fun r15 S14 hf => ?_)
      have hz_r15 := hf.1
      replace hf := hf.2
      exact r _ _ _ _ dX6_newOne_34 hz_r15 hf
  · replace hf := hf.2 hc
    refine tj_aload_n C 0 rfl rfl dX6_newOne_9 ?_
    refine tj_bipush C kb_6 dX6_newOne_10 ?_
    refine tj_callVz C (k := 0) [.int (nI 6)] [] (fun hN => c_M_fails (by rw [hN]; exact hM) hf) lk_X6_173 ty_X6_fails rfl (Nat.le_of_ble_eq_true rfl) (Nat.le_of_ble_eq_true rfl) (Nat.le_of_ble_eq_true rfl) hM rfl (by decide) rfl rfl dX6_newOne_12 (fun r17 S16 hf => ?_)
    have hz_r17 := hf.1
    replace hf := hf.2
    exact r _ _ _ _ dX6_newOne_15 hz_r17 hf
theorem c_M_newOne {l : Launch} {G : tG} {ad : Nat → Nat} {A : Nat → Prop} {S : tS} {K : Int32 → tS → Prop} {a1 : Int32} {a2 : Int32} {a3 : Int32} (hM : gN S 0 ≠ 0) (hf : M_newOne a1 a2 a3 S K) : Met l yX6_newOne (ws_ yX6_newOne cX6_newOne 4 (some .boolean)) (tRm 6 132) (va_Pc [.ref (ad 0), .int a1, .int a2, .int a3] (tPre G ad A S)) (va_Qi (fun r u => r &&& 1 = r ∧ K r u) (tB G ad A (gN S)) A) 0 0 A :=
  tj_met_z [(0, .ref (ad 0)), (1, .int a1), (2, .int a2), (3, .int a3)] pn_X6 rfl (Nat.le_of_ble_eq_true rfl) (fun p e R s m args below meth c Q C hw r => w_M_newOne_b0 C hw rfl r hM hf)
theorem w_M_wantWord_b0 {Γ : tX} {N0 : Nat → Nat} {K : Int32 → tS → Prop} (C : TC Γ cX6_wantWord RX6 5 111) (hw : tWf N0) (hR : xnL Γ = 3) (r : TRz Γ N0 cX6_wantWord K) {a1 : Nat} {a2 : Int32} (hM : N0 0 ≠ 0) (h_a1 : a1 < nST) {S : tS} (hf : M_wantWord a1 a2 S K) : TJ Γ N0 0 0 0 [(0, .ref (xad Γ 0)), (1, .ref (xK Γ a1)), (2, .int a2)] [] S := by
  unfold M_wantWord at hf
  refine tj_aload_n C 0 rfl rfl dX6_wantWord_0 ?_
  refine tj_aload_n C 1 rfl rfl dX6_wantWord_1 ?_
  refine tj_callVi C (k := 0) [.ref (xK Γ a1)] [] (fun hN => c_M_inWords (by rw [hN]; exact hM) h_a1 hf) lk_X6_176 ty_X6_inWords rfl (Nat.le_of_ble_eq_true rfl) (Nat.le_of_ble_eq_true rfl) (Nat.le_of_ble_eq_true rfl) hM rfl (by decide) rfl rfl dX6_wantWord_2 (fun r2 S1 hf => ?_)
  refine tj_iload_n C 2 rfl rfl dX6_wantWord_5 ?_
  refine tj_icmp_eq C 15 (by decide) dX6_wantWord_6 (fun hc => ?_) (fun hc => ?_)
  · replace hf := hf.1 hc
    refine tj_aload_n C 0 rfl rfl dX6_wantWord_15 ?_
    refine tj_callVv C (k := 0) [] [] (fun hN => c_M_ahead (by rw [hN]; exact hM) hf) lk_X6_167 ty_X6_ahead rfl (Nat.le_of_ble_eq_true rfl) (Nat.le_of_ble_eq_true rfl) (Nat.le_of_ble_eq_true rfl) hM rfl (by decide) rfl rfl dX6_wantWord_16 (fun S3 hf => ?_)
    refine tj_iconst C kc_1 dX6_wantWord_19 ?_
    exact r _ _ _ _ dX6_wantWord_20 zb1 hf
  · replace hf := hf.2 hc
    refine tj_aload_n C 0 rfl rfl dX6_wantWord_9 ?_
    refine tj_iconst C kc_2 dX6_wantWord_10 ?_
    refine tj_callVz C (k := 0) [.int (nI 2)] [] (fun hN => c_M_fails (by rw [hN]; exact hM) hf) lk_X6_173 ty_X6_fails rfl (Nat.le_of_ble_eq_true rfl) (Nat.le_of_ble_eq_true rfl) (Nat.le_of_ble_eq_true rfl) hM rfl (by decide) rfl rfl dX6_wantWord_11 (fun r5 S4 hf => ?_)
    have hz_r5 := hf.1
    replace hf := hf.2
    exact r _ _ _ _ dX6_wantWord_14 hz_r5 hf
theorem c_M_wantWord {l : Launch} {G : tG} {ad : Nat → Nat} {A : Nat → Prop} {S : tS} {K : Int32 → tS → Prop} {a1 : Nat} {a2 : Int32} (hM : gN S 0 ≠ 0) (h_a1 : a1 < nST) (hf : M_wantWord a1 a2 S K) : Met l yX6_wantWord (ws_ yX6_wantWord cX6_wantWord 3 (some .boolean)) (tRm 5 111) (va_Pc [.ref (ad 0), .ref (G.2.2.1 a1), .int a2] (tPre G ad A S)) (va_Qi (fun r u => r &&& 1 = r ∧ K r u) (tB G ad A (gN S)) A) 0 0 A :=
  tj_met_z [(0, .ref (ad 0)), (1, .ref (G.2.2.1 a1)), (2, .int a2)] pn_X6 rfl (Nat.le_of_ble_eq_true rfl) (fun p e R s m args below meth c Q C hw r => w_M_wantWord_b0 C hw rfl r hM h_a1 hf)
theorem w_M_aCue_b43 {Γ : tX} {N0 : Nat → Nat} {K : Int32 → tS → Prop} (C : TC Γ cX6_aCue RX6 7 155) (hw : tWf N0) (hR : xnL Γ = 2) (r : TRz Γ N0 cX6_aCue K) (hM : N0 0 ≠ 0) {S : tS} (hf : M_aCue_b43 K  S) : TJ Γ N0 0 0 43 [(0, .ref (xad Γ 0))] [] S := by
  unfold M_aCue_b43 at hf
  refine tj_aload_n C 0 rfl rfl dX6_aCue_43 ?_
  refine tj_iconst C kc_2 dX6_aCue_44 ?_
  refine tj_callVz C (k := 0) [.int (nI 2)] [] (fun hN => c_M_fails (by rw [hN]; exact hM) hf) lk_X6_173 ty_X6_fails rfl (Nat.le_of_ble_eq_true rfl) (Nat.le_of_ble_eq_true rfl) (Nat.le_of_ble_eq_true rfl) hM rfl (by decide) rfl rfl dX6_aCue_45 (fun r11 S10 hf => ?_)
  have hz_r11 := hf.1
  replace hf := hf.2
  exact r _ _ _ _ dX6_aCue_48 hz_r11 hf
theorem w_M_aCue_b0 {Γ : tX} {N0 : Nat → Nat} {K : Int32 → tS → Prop} (C : TC Γ cX6_aCue RX6 7 155) (hw : tWf N0) (hR : xnL Γ = 2) (r : TRz Γ N0 cX6_aCue K) (hM : N0 0 ≠ 0) {S : tS} (hf : M_aCue S K) : TJ Γ N0 0 0 0 [(0, .ref (xad Γ 0))] [] S := by
  unfold M_aCue at hf
  refine tj_aload_n C 0 rfl rfl dX6_aCue_0 ?_
  refine tj_iconst C kc_1 dX6_aCue_1 ?_
  refine tj_bipush C kb_6 dX6_aCue_2 ?_
  refine tj_iconst C kc_5 dX6_aCue_4 ?_
  refine tj_callVz C (k := 0) [.int (nI 1), .int (nI 6), .int (nI 5)] [] (fun hN => c_M_newOne (by rw [hN]; exact hM) hf) lk_X6_201 ty_X6_newOne rfl (Nat.le_of_ble_eq_true rfl) (Nat.le_of_ble_eq_true rfl) (Nat.le_of_ble_eq_true rfl) hM rfl (by decide) rfl rfl dX6_aCue_5 (fun r2 S1 hf => ?_)
  have hz_r2 := hf.1
  replace hf := hf.2
  refine tj_if_eq C 22 (by decide) dX6_aCue_8 (fun hc => ?_) (fun hc => ?_)
  · replace hf := hf.1 hc
    refine tj_iconst C kc_0 dX6_aCue_22 ?_
    exact r _ _ _ _ dX6_aCue_23 zb0 hf
  · replace hf := hf.2 hc
    refine tj_aload_n C 0 rfl rfl dX6_aCue_11 ?_
    refine tj_ldcS C 0 rfl dX6_aCue_12 ?_
    refine tj_bipush C kb_6 dX6_aCue_14 ?_
    refine tj_callVz C (k := 0) [.ref (xK Γ 0), .int (nI 6)] [] (fun hN => c_M_wantWord (by rw [hN]; exact hM) (by decide) hf) lk_X6_205 ty_X6_wantWord rfl (Nat.le_of_ble_eq_true rfl) (Nat.le_of_ble_eq_true rfl) (Nat.le_of_ble_eq_true rfl) hM rfl (by decide) rfl rfl dX6_aCue_16 (fun r4 S3 hf => ?_)
    have hz_r4 := hf.1
    replace hf := hf.2
    refine tj_if_ne C 24 (by decide) dX6_aCue_19 (fun hc => ?_) (fun hc => ?_)
    · replace hf := hf.2 hc
      refine tj_aload_n C 0 rfl rfl dX6_aCue_24 ?_
      refine tj_ldcS C 0 rfl dX6_aCue_25 ?_
      refine tj_callVi C (k := 0) [.ref (xK Γ 0)] [] (fun hN => c_M_inWords (by rw [hN]; exact hM) (by decide) hf) lk_X6_176 ty_X6_inWords rfl (Nat.le_of_ble_eq_true rfl) (Nat.le_of_ble_eq_true rfl) (Nat.le_of_ble_eq_true rfl) hM rfl (by decide) rfl rfl dX6_aCue_27 (fun r6 S5 hf => ?_)
      refine tj_istore_n C (by rw [hR]; decide) [(1, .int r6), (0, .ref (xad Γ 0))] rfl rfl dX6_aCue_30 ?_
      refine tj_iload_n C 0 rfl rfl dX6_aCue_31 ?_
      refine tj_bipush C kb_7 dX6_aCue_32 ?_
      refine tj_icmp_lt C 43 (by decide) dX6_aCue_34 (fun hc => ?_) (fun hc => ?_)
      · replace hf := hf.1 hc
        exact tj_sub [1] (w_M_aCue_b43 C hw hR r hM hf) rfl
      · replace hf := hf.2 hc
        refine tj_iload_n C 0 rfl rfl dX6_aCue_37 ?_
        refine tj_bipush C kb_9 dX6_aCue_38 ?_
        refine tj_icmp_le C 49 (by decide) dX6_aCue_40 (fun hc => ?_) (fun hc => ?_)
        · replace hf := hf.1 hc
          refine tj_aload_n C 1 rfl rfl dX6_aCue_49 ?_
          refine gf_X6_7 C hM dX6_aCue_50 ?_
          refine tj_sipush C ks_2018 dX6_aCue_53 ?_
          refine tj_aload_n C 1 rfl rfl dX6_aCue_56 ?_
          refine gf_X6_7 C hM dX6_aCue_57 ?_
          refine tj_sipush C ks_2009 dX6_aCue_60 ?_
          refine tj_iald C 48 3548 rfl (ln_48 hw hM) 2009 kn_2009 (vp_in_nI (by decide) (by decide)) dX6_aCue_63 ?_
          refine tj_iadd C dX6_aCue_64 ?_
          refine tj_iload_n C 0 rfl rfl dX6_aCue_65 ?_
          refine tj_bipush C kb_7 dX6_aCue_66 ?_
          refine tj_isub C dX6_aCue_68 ?_
          refine tj_iast C 48 3548 rfl (ln_48 hw hM) _ rfl hf.1 dX6_aCue_69 ?_
          replace hf := hf.2
          refine tj_topS (fun S7 eS => ?_)
          replace hf := hf S7 eS
          refine tj_aload_n C 1 rfl rfl dX6_aCue_70 ?_
          refine tj_callVv C (k := 0) [] [] (fun hN => c_M_ahead (by rw [hN]; exact hM) hf) lk_X6_167 ty_X6_ahead rfl (Nat.le_of_ble_eq_true rfl) (Nat.le_of_ble_eq_true rfl) (Nat.le_of_ble_eq_true rfl) hM rfl (by decide) rfl rfl dX6_aCue_71 (fun S8 hf => ?_)
          refine tj_aload_n C 1 rfl rfl dX6_aCue_74 ?_
          refine gf_X6_7 C hM dX6_aCue_75 ?_
          refine tj_sipush C ks_2009 dX6_aCue_78 ?_
          refine tj_dup2 C rfl rfl dX6_aCue_81 ?_
          refine tj_iald C 48 3548 rfl (ln_48 hw hM) 2009 kn_2009 (vp_in_nI (by decide) (by decide)) dX6_aCue_82 ?_
          refine tj_iconst C kc_1 dX6_aCue_83 ?_
          refine tj_iadd C dX6_aCue_84 ?_
          refine tj_iast C 48 3548 rfl (ln_48 hw hM) 2009 kn_2009 (vp_in_nI (by decide) (by decide)) dX6_aCue_85 ?_
          refine tj_topS (fun S9 eS => ?_)
          replace hf := hf S9 eS
          refine tj_iconst C kc_1 dX6_aCue_86 ?_
          exact r _ _ _ _ dX6_aCue_87 zb1 hf
        · replace hf := hf.2 hc
          exact tj_sub [1] (w_M_aCue_b43 C hw hR r hM hf) rfl
    · replace hf := hf.1 hc
      refine tj_iconst C kc_0 dX6_aCue_22 ?_
      exact r _ _ _ _ dX6_aCue_23 zb0 hf
theorem c_M_aCue {l : Launch} {G : tG} {ad : Nat → Nat} {A : Nat → Prop} {S : tS} {K : Int32 → tS → Prop} (hM : gN S 0 ≠ 0) (hf : M_aCue S K) : Met l yX6_aCue (ws_ yX6_aCue cX6_aCue 2 (some .boolean)) (tRm 7 155) (va_Pc [.ref (ad 0)] (tPre G ad A S)) (va_Qi (fun r u => r &&& 1 = r ∧ K r u) (tB G ad A (gN S)) A) 0 0 A :=
  tj_met_z [(0, .ref (ad 0))] pn_X6 rfl (Nat.le_of_ble_eq_true rfl) (fun p e R s m args below meth c Q C hw r => w_M_aCue_b0 C hw rfl r hM hf)
theorem w_M_personRow_b0 {Γ : tX} {N0 : Nat → Nat} {K : Int32 → tS → Prop} (C : TC Γ cX6_personRow RX6 0 0) (hw : tWf N0) (hR : xnL Γ = 1) (r : TRi Γ N0 cX6_personRow K) {a0 : Int32} {S : tS} (hf : M_personRow a0 S K) : TJ Γ N0 0 0 0 [(0, .int a0)] [] S := by
  unfold M_personRow at hf
  refine tj_bipush C kb_72 dX6_personRow_0 ?_
  refine tj_iconst C kc_5 dX6_personRow_2 ?_
  refine tj_iload_n C 0 rfl rfl dX6_personRow_3 ?_
  refine tj_imul C dX6_personRow_4 ?_
  refine tj_iadd C dX6_personRow_5 ?_
  exact r _ _ _ _ dX6_personRow_6 hf
theorem c_M_personRow {l : Launch} {G : tG} {ad : Nat → Nat} {A : Nat → Prop} {S : tS} {K : Int32 → tS → Prop} {a0 : Int32} (hf : M_personRow a0 S K) : Met l yX6_personRow (ws_ yX6_personRow cX6_personRow 1 (some .int)) (tRm 0 0) (va_Pc [.int a0] (tPre G ad A S)) (va_Qi K (tB G ad A (gN S)) A) 0 0 A :=
  tj_met_i [(0, .int a0)] pn_X6 rfl (Nat.le_of_ble_eq_true rfl) (fun p e R s m args below meth c Q C hw r => w_M_personRow_b0 C hw rfl r hf)
theorem w_M_isThere_b0 {Γ : tX} {N0 : Nat → Nat} {K : Int32 → tS → Prop} (C : TC Γ cX6_isThere RX6 5 111) (hw : tWf N0) (hR : xnL Γ = 2) (r : TRz Γ N0 cX6_isThere K) {a1 : Int32} (hM : N0 0 ≠ 0) {S : tS} (hf : M_isThere a1 S K) : TJ Γ N0 0 0 0 [(0, .ref (xad Γ 0)), (1, .int a1)] [] S := by
  unfold M_isThere at hf
  refine tj_aload_n C 0 rfl rfl dX6_isThere_0 ?_
  refine tj_ldcS C 0 rfl dX6_isThere_1 ?_
  refine tj_callVi C (k := 0) [.ref (xK Γ 0)] [] (fun hN => c_M_inWords (by rw [hN]; exact hM) (by decide) hf) lk_X6_176 ty_X6_inWords rfl (Nat.le_of_ble_eq_true rfl) (Nat.le_of_ble_eq_true rfl) (Nat.le_of_ble_eq_true rfl) hM rfl (by decide) rfl rfl dX6_isThere_3 (fun r2 S1 hf => ?_)
  refine tj_iload_n C 1 rfl rfl dX6_isThere_6 ?_
  refine tj_icmp_eq C 12 (by decide) dX6_isThere_7 (fun hc => ?_) (fun hc => ?_)
  · replace hf := hf.1 hc
    refine tj_aload_n C 0 rfl rfl dX6_isThere_12 ?_
    refine tj_callVv C (k := 0) [] [] (fun hN => c_M_ahead (by rw [hN]; exact hM) hf) lk_X6_167 ty_X6_ahead rfl (Nat.le_of_ble_eq_true rfl) (Nat.le_of_ble_eq_true rfl) (Nat.le_of_ble_eq_true rfl) hM rfl (by decide) rfl rfl dX6_isThere_13 (fun S3 hf => ?_)
    refine tj_iconst C kc_1 dX6_isThere_16 ?_
    exact r _ _ _ _ dX6_isThere_17 zb1 hf
  · replace hf := hf.2 hc
    refine tj_iconst C kc_0 dX6_isThere_10 ?_
    exact r _ _ _ _ dX6_isThere_11 zb0 hf
theorem c_M_isThere {l : Launch} {G : tG} {ad : Nat → Nat} {A : Nat → Prop} {S : tS} {K : Int32 → tS → Prop} {a1 : Int32} (hM : gN S 0 ≠ 0) (hf : M_isThere a1 S K) : Met l yX6_isThere (ws_ yX6_isThere cX6_isThere 2 (some .boolean)) (tRm 5 111) (va_Pc [.ref (ad 0), .int a1] (tPre G ad A S)) (va_Qi (fun r u => r &&& 1 = r ∧ K r u) (tB G ad A (gN S)) A) 0 0 A :=
  tj_met_z [(0, .ref (ad 0)), (1, .int a1)] pn_X6 rfl (Nat.le_of_ble_eq_true rfl) (fun p e R s m args below meth c Q C hw r => w_M_isThere_b0 C hw rfl r hM hf)
theorem w_M_number_b30 {Γ : tX} {N0 : Nat → Nat} {K : Int32 → tS → Prop} (C : TC Γ cX6_number RX6 2 61) (hw : tWf N0) (hR : xnL Γ = 4) (r : TRz Γ N0 cX6_number K) {a1 : Int32} {a2 : Int32} {a3 : Int32} (hM : N0 0 ≠ 0) {S : tS} (hf : M_number_b30 a1 a2 a3 K  S) : TJ Γ N0 0 0 30 [(0, .ref (xad Γ 0))] [] S := by
  unfold M_number_b30 at hf
  refine tj_aload_n C 0 rfl rfl dX6_number_30 ?_
  refine tj_iconst C kc_4 dX6_number_31 ?_
  refine tj_callVz C (k := 0) [.int (nI 4)] [] (fun hN => c_M_fails (by rw [hN]; exact hM) hf) lk_X6_173 ty_X6_fails rfl (Nat.le_of_ble_eq_true rfl) (Nat.le_of_ble_eq_true rfl) (Nat.le_of_ble_eq_true rfl) hM rfl (by decide) rfl rfl dX6_number_32 (fun r6 S5 hf => ?_)
  have hz_r6 := hf.1
  replace hf := hf.2
  exact r _ _ _ _ dX6_number_35 hz_r6 hf
theorem w_M_number_b0 {Γ : tX} {N0 : Nat → Nat} {K : Int32 → tS → Prop} (C : TC Γ cX6_number RX6 2 61) (hw : tWf N0) (hR : xnL Γ = 4) (r : TRz Γ N0 cX6_number K) {a1 : Int32} {a2 : Int32} {a3 : Int32} (hM : N0 0 ≠ 0) {S : tS} (hf : M_number a1 a2 a3 S K) : TJ Γ N0 0 0 0 [(0, .ref (xad Γ 0)), (1, .int a1), (2, .int a2), (3, .int a3)] [] S := by
  unfold M_number at hf
  refine tj_aload_n C 0 rfl rfl dX6_number_0 ?_
  refine gf_X6_136 C hM dX6_number_1 ?_
  refine tj_iconst C kc_3 dX6_number_4 ?_
  refine tj_icmp_eq C 14 (by decide) dX6_number_5 (fun hc => ?_) (fun hc => ?_)
  · replace hf := hf.1 hc
    refine tj_aload_n C 0 rfl rfl dX6_number_14 ?_
    refine gf_X6_133 C hM dX6_number_15 ?_
    refine tj_iload_n C 2 rfl rfl dX6_number_18 ?_
    refine tj_icmp_lt C 30 (by decide) dX6_number_19 (fun hc => ?_) (fun hc => ?_)
    · replace hf := hf.1 hc
      exact tj_sub [0] (w_M_number_b30 C hw hR r hM hf) rfl
    · replace hf := hf.2 hc
      refine tj_aload_n C 0 rfl rfl dX6_number_22 ?_
      refine gf_X6_133 C hM dX6_number_23 ?_
      refine tj_iload_n C 3 rfl rfl dX6_number_26 ?_
      refine tj_icmp_le C 36 (by decide) dX6_number_27 (fun hc => ?_) (fun hc => ?_)
      · replace hf := hf.1 hc
        refine tj_aload_n C 0 rfl rfl dX6_number_36 ?_
        refine gf_X6_7 C hM dX6_number_37 ?_
        refine tj_iload_n C 1 rfl rfl dX6_number_40 ?_
        refine tj_aload_n C 0 rfl rfl dX6_number_41 ?_
        refine gf_X6_133 C hM dX6_number_42 ?_
        refine tj_iast C 48 3548 rfl (ln_48 hw hM) _ rfl hf.1 dX6_number_45 ?_
        replace hf := hf.2
        refine tj_topS (fun S1 eS => ?_)
        replace hf := hf S1 eS
        refine tj_aload_n C 0 rfl rfl dX6_number_46 ?_
        refine tj_callVv C (k := 0) [] [] (fun hN => c_M_ahead (by rw [hN]; exact hM) hf) lk_X6_167 ty_X6_ahead rfl (Nat.le_of_ble_eq_true rfl) (Nat.le_of_ble_eq_true rfl) (Nat.le_of_ble_eq_true rfl) hM rfl (by decide) rfl rfl dX6_number_47 (fun S2 hf => ?_)
        refine tj_iconst C kc_1 dX6_number_50 ?_
        exact r _ _ _ _ dX6_number_51 zb1 hf
      · replace hf := hf.2 hc
        exact tj_sub [0] (w_M_number_b30 C hw hR r hM hf) rfl
  · replace hf := hf.2 hc
    refine tj_aload_n C 0 rfl rfl dX6_number_8 ?_
    refine tj_iconst C kc_2 dX6_number_9 ?_
    refine tj_callVz C (k := 0) [.int (nI 2)] [] (fun hN => c_M_fails (by rw [hN]; exact hM) hf) lk_X6_173 ty_X6_fails rfl (Nat.le_of_ble_eq_true rfl) (Nat.le_of_ble_eq_true rfl) (Nat.le_of_ble_eq_true rfl) hM rfl (by decide) rfl rfl dX6_number_10 (fun r4 S3 hf => ?_)
    have hz_r4 := hf.1
    replace hf := hf.2
    exact r _ _ _ _ dX6_number_13 hz_r4 hf
theorem c_M_number {l : Launch} {G : tG} {ad : Nat → Nat} {A : Nat → Prop} {S : tS} {K : Int32 → tS → Prop} {a1 : Int32} {a2 : Int32} {a3 : Int32} (hM : gN S 0 ≠ 0) (hf : M_number a1 a2 a3 S K) : Met l yX6_number (ws_ yX6_number cX6_number 4 (some .boolean)) (tRm 2 61) (va_Pc [.ref (ad 0), .int a1, .int a2, .int a3] (tPre G ad A S)) (va_Qi (fun r u => r &&& 1 = r ∧ K r u) (tB G ad A (gN S)) A) 0 0 A :=
  tj_met_z [(0, .ref (ad 0)), (1, .int a1), (2, .int a2), (3, .int a3)] pn_X6 rfl (Nat.le_of_ble_eq_true rfl) (fun p e R s m args below meth c Q C hw r => w_M_number_b0 C hw rfl r hM hf)
theorem w_M_smellsTo_l2 {Γ : tX} {N0 : Nat → Nat} {K : Int32 → tS → Prop} (C : TC Γ cX6_smellsTo RX6 6 132) (hw : tWf N0) (hR : xnL Γ = 4) (r : TRz Γ N0 cX6_smellsTo K) {a1 : Int32} (hM : N0 0 ≠ 0) : ∀ (n : Nat) (a2 : Int32) (S : tS), M_smellsTo_l2 a1 K n a2 S → TJ Γ N0 0 0 2 [(0, .ref (xad Γ 0)), (1, .int a1), (2, .int a2)] [] S := by
  intro n
  induction n with
  | zero => intro a2 S hf; exact hf.elim
  | succ n ih =>
    intro a2 S hf
    unfold M_smellsTo_l2 at hf
    refine tj_aload_n C 0 rfl rfl dX6_smellsTo_2 ?_
    refine tj_ldcS C 0 rfl dX6_smellsTo_3 ?_
    refine tj_callVz C (k := 0) [.ref (xK Γ 0)] [] (fun hN => c_M_isName (by rw [hN]; exact hM) (by decide) hf) lk_X6_193 ty_X6_isName rfl (Nat.le_of_ble_eq_true rfl) (Nat.le_of_ble_eq_true rfl) (Nat.le_of_ble_eq_true rfl) hM rfl (by decide) rfl rfl dX6_smellsTo_5 (fun r2 S1 hf => ?_)
    have hz_r2 := hf.1
    replace hf := hf.2
    refine tj_if_eq C 65 (by decide) dX6_smellsTo_8 (fun hc => ?_) (fun hc => ?_)
    · replace hf := hf.1 hc
      refine tj_aload_n C 0 rfl rfl dX6_smellsTo_65 ?_
      refine gf_X6_7 C hM dX6_smellsTo_66 ?_
      refine tj_iload_n C 1 rfl rfl dX6_smellsTo_69 ?_
      refine tj_iload_n C 2 rfl rfl dX6_smellsTo_70 ?_
      refine tj_iast C 48 3548 rfl (ln_48 hw hM) _ rfl hf.1 dX6_smellsTo_71 ?_
      replace hf := hf.2
      refine tj_topS (fun S3 eS => ?_)
      replace hf := hf S3 eS
      refine tj_iconst C kc_1 dX6_smellsTo_72 ?_
      exact r _ _ _ _ dX6_smellsTo_73 zb1 hf
    · replace hf := hf.2 hc
      refine tj_aload_n C 0 rfl rfl dX6_smellsTo_11 ?_
      refine tj_bipush C kb_92 dX6_smellsTo_12 ?_
      refine tj_aload_n C 0 rfl rfl dX6_smellsTo_14 ?_
      refine gf_X6_7 C hM dX6_smellsTo_15 ?_
      refine tj_sipush C ks_2008 dX6_smellsTo_18 ?_
      refine tj_iald C 48 3548 rfl (ln_48 hw hM) 2008 kn_2008 (vp_in_nI (by decide) (by decide)) dX6_smellsTo_21 ?_
      refine tj_callVi C (k := 0) [.int (nI 92), .int (gI S1 48 2008)] [] (fun hN => c_M_findHere (by rw [hN]; exact hM) hf) lk_X6_186 ty_X6_findHere rfl (Nat.le_of_ble_eq_true rfl) (Nat.le_of_ble_eq_true rfl) (Nat.le_of_ble_eq_true rfl) hM rfl (by decide) rfl rfl dX6_smellsTo_22 (fun r5 S4 hf => ?_)
      refine tj_istore_n C (by rw [hR]; decide) [(3, .int r5), (0, .ref (xad Γ 0)), (1, .int a1), (2, .int a2)] rfl rfl dX6_smellsTo_25 ?_
      refine tj_iload_n C 0 rfl rfl dX6_smellsTo_26 ?_
      refine tj_iconst C kc_m1 dX6_smellsTo_27 ?_
      refine tj_icmp_ne C 37 (by decide) dX6_smellsTo_28 (fun hc => ?_) (fun hc => ?_)
      · replace hf := hf.2 hc
        refine tj_iload_n C 3 rfl rfl dX6_smellsTo_37 ?_
        refine tj_iload_n C 0 rfl rfl dX6_smellsTo_38 ?_
        refine tj_ishr C dX6_smellsTo_39 ?_
        refine tj_iconst C kc_1 dX6_smellsTo_40 ?_
        refine tj_iand C dX6_smellsTo_41 ?_
        refine tj_iconst C kc_1 dX6_smellsTo_42 ?_
        refine tj_icmp_ne C 52 (by decide) dX6_smellsTo_43 (fun hc => ?_) (fun hc => ?_)
        · replace hf := hf.2 hc
          refine tj_iload_n C 3 rfl rfl dX6_smellsTo_52 ?_
          refine tj_iconst C kc_1 dX6_smellsTo_53 ?_
          refine tj_iload_n C 0 rfl rfl dX6_smellsTo_54 ?_
          refine tj_ishl C dX6_smellsTo_55 ?_
          refine tj_ior C dX6_smellsTo_56 ?_
          refine tj_topi (fun x6 ex => ?_)
          replace hf := hf x6 ex
          refine tj_istore_n C (by rw [hR]; decide) [(2, .int x6), (3, .int r5), (0, .ref (xad Γ 0)), (1, .int a1)] rfl rfl dX6_smellsTo_57 ?_
          refine tj_aload_n C 2 rfl rfl dX6_smellsTo_58 ?_
          refine tj_callVv C (k := 0) [] [] (fun hN => c_M_ahead (by rw [hN]; exact hM) hf) lk_X6_167 ty_X6_ahead rfl (Nat.le_of_ble_eq_true rfl) (Nat.le_of_ble_eq_true rfl) (Nat.le_of_ble_eq_true rfl) hM rfl (by decide) rfl rfl dX6_smellsTo_59 (fun S7 hf => ?_)
          refine tj_goto C 2 (by decide) dX6_smellsTo_62 ?_
          exact tj_sub [2, 3, 0] (ih _ _ hf) rfl
        · replace hf := hf.1 hc
          refine tj_aload_n C 1 rfl rfl dX6_smellsTo_46 ?_
          refine tj_iconst C kc_5 dX6_smellsTo_47 ?_
          refine tj_callVz C (k := 0) [.int (nI 5)] [] (fun hN => c_M_fails (by rw [hN]; exact hM) hf) lk_X6_173 ty_X6_fails rfl (Nat.le_of_ble_eq_true rfl) (Nat.le_of_ble_eq_true rfl) (Nat.le_of_ble_eq_true rfl) hM rfl (by decide) rfl rfl dX6_smellsTo_48 (fun r9 S8 hf => ?_)
          have hz_r9 := hf.1
          replace hf := hf.2
          exact r _ _ _ _ dX6_smellsTo_51 hz_r9 hf
      · replace hf := hf.1 hc
        refine tj_aload_n C 1 rfl rfl dX6_smellsTo_31 ?_
        refine tj_iconst C kc_3 dX6_smellsTo_32 ?_
        refine tj_callVz C (k := 0) [.int (nI 3)] [] (fun hN => c_M_fails (by rw [hN]; exact hM) hf) lk_X6_173 ty_X6_fails rfl (Nat.le_of_ble_eq_true rfl) (Nat.le_of_ble_eq_true rfl) (Nat.le_of_ble_eq_true rfl) hM rfl (by decide) rfl rfl dX6_smellsTo_33 (fun r11 S10 hf => ?_)
        have hz_r11 := hf.1
        replace hf := hf.2
        exact r _ _ _ _ dX6_smellsTo_36 hz_r11 hf
theorem w_M_smellsTo_b0 {Γ : tX} {N0 : Nat → Nat} {K : Int32 → tS → Prop} (C : TC Γ cX6_smellsTo RX6 6 132) (hw : tWf N0) (hR : xnL Γ = 4) (r : TRz Γ N0 cX6_smellsTo K) {a1 : Int32} (hM : N0 0 ≠ 0) {S : tS} (hf : M_smellsTo a1 S K) : TJ Γ N0 0 0 0 [(0, .ref (xad Γ 0)), (1, .int a1)] [] S := by
  unfold M_smellsTo at hf
  refine tj_iconst C kc_0 dX6_smellsTo_0 ?_
  refine tj_istore_n C (by rw [hR]; decide) [(2, .int (nI 0)), (0, .ref (xad Γ 0)), (1, .int a1)] rfl rfl dX6_smellsTo_1 ?_
  exact tj_sub [1, 2, 0] (hf.elim fun k hf => w_M_smellsTo_l2 C hw hR r hM k _ _ hf) rfl
theorem c_M_smellsTo {l : Launch} {G : tG} {ad : Nat → Nat} {A : Nat → Prop} {S : tS} {K : Int32 → tS → Prop} {a1 : Int32} (hM : gN S 0 ≠ 0) (hf : M_smellsTo a1 S K) : Met l yX6_smellsTo (ws_ yX6_smellsTo cX6_smellsTo 4 (some .boolean)) (tRm 6 132) (va_Pc [.ref (ad 0), .int a1] (tPre G ad A S)) (va_Qi (fun r u => r &&& 1 = r ∧ K r u) (tB G ad A (gN S)) A) 0 0 A :=
  tj_met_z [(0, .ref (ad 0)), (1, .int a1)] pn_X6 rfl (Nat.le_of_ble_eq_true rfl) (fun p e R s m args below meth c Q C hw r => w_M_smellsTo_b0 C hw rfl r hM hf)
theorem w_M_aPerson_b95 {Γ : tX} {N0 : Nat → Nat} {K : Int32 → tS → Prop} (C : TC Γ cX6_aPerson RX6 7 155) (hw : tWf N0) (hR : xnL Γ = 2) (r : TRz Γ N0 cX6_aPerson K) (hM : N0 0 ≠ 0) {S : tS} (hf : M_aPerson_b95 K  S) : TJ Γ N0 0 0 95 [(0, .ref (xad Γ 0))] [] S := by
  unfold M_aPerson_b95 at hf
  refine tj_aload_n C 0 rfl rfl dX6_aPerson_95 ?_
  refine gf_X6_7 C hM dX6_aPerson_96 ?_
  refine tj_sipush C ks_2011 dX6_aPerson_99 ?_
  refine tj_dup2 C rfl rfl dX6_aPerson_102 ?_
  refine tj_iald C 48 3548 rfl (ln_48 hw hM) 2011 kn_2011 (vp_in_nI (by decide) (by decide)) dX6_aPerson_103 ?_
  refine tj_iconst C kc_1 dX6_aPerson_104 ?_
  refine tj_iadd C dX6_aPerson_105 ?_
  refine tj_iast C 48 3548 rfl (ln_48 hw hM) 2011 kn_2011 (vp_in_nI (by decide) (by decide)) dX6_aPerson_106 ?_
  refine tj_topS (fun S17 eS => ?_)
  replace hf := hf S17 eS
  refine tj_iconst C kc_1 dX6_aPerson_107 ?_
  exact r _ _ _ _ dX6_aPerson_108 zb1 hf
theorem w_M_aPerson_b74 {Γ : tX} {N0 : Nat → Nat} {K : Int32 → tS → Prop} (C : TC Γ cX6_aPerson RX6 7 155) (hw : tWf N0) (hR : xnL Γ = 2) (r : TRz Γ N0 cX6_aPerson K) (hM : N0 0 ≠ 0) {a1 : Int32} {S : tS} (hf : M_aPerson_b74 K a1 S) : TJ Γ N0 0 0 74 [(0, .ref (xad Γ 0)), (1, .int a1)] [] S := by
  unfold M_aPerson_b74 at hf
  refine tj_aload_n C 0 rfl rfl dX6_aPerson_74 ?_
  refine tj_bipush C kb_12 dX6_aPerson_75 ?_
  refine tj_callVz C (k := 0) [.int (nI 12)] [] (fun hN => c_M_isThere (by rw [hN]; exact hM) hf) lk_X6_209 ty_X6_isThere rfl (Nat.le_of_ble_eq_true rfl) (Nat.le_of_ble_eq_true rfl) (Nat.le_of_ble_eq_true rfl) hM rfl (by decide) rfl rfl dX6_aPerson_77 (fun r14 S13 hf => ?_)
  have hz_r14 := hf.1
  replace hf := hf.2
  refine tj_if_eq C 95 (by decide) dX6_aPerson_80 (fun hc => ?_) (fun hc => ?_)
  · replace hf := hf.1 hc
    exact tj_sub [0] (w_M_aPerson_b95 C hw hR r hM hf) rfl
  · replace hf := hf.2 hc
    refine tj_aload_n C 0 rfl rfl dX6_aPerson_83 ?_
    refine tj_iload_n C 1 rfl rfl dX6_aPerson_84 ?_
    refine tj_iconst C kc_1 dX6_aPerson_85 ?_
    refine tj_iadd C dX6_aPerson_86 ?_
    refine tj_callVz C (k := 0) [.int (a1 + (nI 1))] [] (fun hN => c_M_smellsTo (by rw [hN]; exact hM) hf) lk_X6_227 ty_X6_smellsTo rfl (Nat.le_of_ble_eq_true rfl) (Nat.le_of_ble_eq_true rfl) (Nat.le_of_ble_eq_true rfl) hM rfl (by decide) rfl rfl dX6_aPerson_87 (fun r16 S15 hf => ?_)
    have hz_r16 := hf.1
    replace hf := hf.2
    refine tj_if_ne C 95 (by decide) dX6_aPerson_90 (fun hc => ?_) (fun hc => ?_)
    · replace hf := hf.2 hc
      exact tj_sub [0] (w_M_aPerson_b95 C hw hR r hM hf) rfl
    · replace hf := hf.1 hc
      refine tj_iconst C kc_0 dX6_aPerson_93 ?_
      exact r _ _ _ _ dX6_aPerson_94 zb0 hf
theorem w_M_aPerson_b51 {Γ : tX} {N0 : Nat → Nat} {K : Int32 → tS → Prop} (C : TC Γ cX6_aPerson RX6 7 155) (hw : tWf N0) (hR : xnL Γ = 2) (r : TRz Γ N0 cX6_aPerson K) (hM : N0 0 ≠ 0) {a1 : Int32} {s1 : Int32} {s2 : Int32} {S : tS} (hf : M_aPerson_b51 K a1 s1 s2 S) : TJ Γ N0 0 0 51 [(0, .ref (xad Γ 0)), (1, .int a1)] [.int s2, .int s1, .ref (xad Γ 48)] S := by
  unfold M_aPerson_b51 at hf
  refine tj_iast C 48 3548 rfl (ln_48 hw hM) _ rfl hf.1 dX6_aPerson_51 ?_
  replace hf := hf.2
  refine tj_topS (fun S8 eS => ?_)
  replace hf := hf S8 eS
  refine tj_aload_n C 0 rfl rfl dX6_aPerson_52 ?_
  refine tj_bipush C kb_10 dX6_aPerson_53 ?_
  refine tj_callVz C (k := 0) [.int (nI 10)] [] (fun hN => c_M_isThere (by rw [hN]; exact hM) hf) lk_X6_209 ty_X6_isThere rfl (Nat.le_of_ble_eq_true rfl) (Nat.le_of_ble_eq_true rfl) (Nat.le_of_ble_eq_true rfl) hM rfl (by decide) rfl rfl dX6_aPerson_55 (fun r10 S9 hf => ?_)
  have hz_r10 := hf.1
  replace hf := hf.2
  refine tj_if_eq C 74 (by decide) dX6_aPerson_58 (fun hc => ?_) (fun hc => ?_)
  · replace hf := hf.1 hc
    exact w_M_aPerson_b74 C hw hR r hM hf
  · replace hf := hf.2 hc
    refine tj_aload_n C 0 rfl rfl dX6_aPerson_61 ?_
    refine tj_iload_n C 1 rfl rfl dX6_aPerson_62 ?_
    refine tj_iconst C kc_0 dX6_aPerson_63 ?_
    refine tj_bipush C kb_99 dX6_aPerson_64 ?_
    refine tj_callVz C (k := 0) [.int a1, .int (nI 0), .int (nI 99)] [] (fun hN => c_M_number (by rw [hN]; exact hM) hf) lk_X6_212 ty_X6_number rfl (Nat.le_of_ble_eq_true rfl) (Nat.le_of_ble_eq_true rfl) (Nat.le_of_ble_eq_true rfl) hM rfl (by decide) rfl rfl dX6_aPerson_66 (fun r12 S11 hf => ?_)
    have hz_r12 := hf.1
    replace hf := hf.2
    refine tj_if_ne C 74 (by decide) dX6_aPerson_69 (fun hc => ?_) (fun hc => ?_)
    · replace hf := hf.2 hc
      exact w_M_aPerson_b74 C hw hR r hM hf
    · replace hf := hf.1 hc
      refine tj_iconst C kc_0 dX6_aPerson_72 ?_
      exact r _ _ _ _ dX6_aPerson_73 zb0 hf
theorem w_M_aPerson_b0 {Γ : tX} {N0 : Nat → Nat} {K : Int32 → tS → Prop} (C : TC Γ cX6_aPerson RX6 7 155) (hw : tWf N0) (hR : xnL Γ = 2) (r : TRz Γ N0 cX6_aPerson K) (hM : N0 0 ≠ 0) {S : tS} (hf : M_aPerson S K) : TJ Γ N0 0 0 0 [(0, .ref (xad Γ 0))] [] S := by
  unfold M_aPerson at hf
  refine tj_sipush C ks_2008 dX6_aPerson_0 ?_
  refine tj_aload_n C 0 rfl rfl dX6_aPerson_3 ?_
  refine gf_X6_7 C hM dX6_aPerson_4 ?_
  refine tj_sipush C ks_2011 dX6_aPerson_7 ?_
  refine tj_iald C 48 3548 rfl (ln_48 hw hM) 2011 kn_2011 (vp_in_nI (by decide) (by decide)) dX6_aPerson_10 ?_
  refine tj_callSi C [.int (gI S 48 2011)] [.int (nI 2008)] (fun hN => c_M_personRow hf) lk_X6_224 ty_X6_personRow rfl (Nat.le_of_ble_eq_true rfl) (Nat.le_of_ble_eq_true rfl) (Nat.le_of_ble_eq_true rfl) rfl dX6_aPerson_11 (fun r2 S1 hf => ?_)
  refine tj_iadd C dX6_aPerson_14 ?_
  refine tj_topi (fun x3 ex => ?_)
  replace hf := hf x3 ex
  refine tj_istore_n C (by rw [hR]; decide) [(1, .int x3), (0, .ref (xad Γ 0))] rfl rfl dX6_aPerson_15 ?_
  refine tj_aload_n C 1 rfl rfl dX6_aPerson_16 ?_
  refine tj_iconst C kc_3 dX6_aPerson_17 ?_
  refine tj_bipush C kb_6 dX6_aPerson_18 ?_
  refine tj_bipush C kb_11 dX6_aPerson_20 ?_
  refine tj_callVz C (k := 0) [.int (nI 3), .int (nI 6), .int (nI 11)] [] (fun hN => c_M_newOne (by rw [hN]; exact hM) hf) lk_X6_201 ty_X6_newOne rfl (Nat.le_of_ble_eq_true rfl) (Nat.le_of_ble_eq_true rfl) (Nat.le_of_ble_eq_true rfl) hM rfl (by decide) rfl rfl dX6_aPerson_22 (fun r5 S4 hf => ?_)
  have hz_r5 := hf.1
  replace hf := hf.2
  refine tj_if_ne C 30 (by decide) dX6_aPerson_25 (fun hc => ?_) (fun hc => ?_)
  · replace hf := hf.2 hc
    refine tj_aload_n C 1 rfl rfl dX6_aPerson_30 ?_
    refine gf_X6_7 C hM dX6_aPerson_31 ?_
    refine tj_iload_n C 0 rfl rfl dX6_aPerson_34 ?_
    refine tj_iconst C kc_3 dX6_aPerson_35 ?_
    refine tj_iadd C dX6_aPerson_36 ?_
    refine tj_aload_n C 1 rfl rfl dX6_aPerson_37 ?_
    refine tj_bipush C kb_8 dX6_aPerson_38 ?_
    refine tj_callVz C (k := 0) [.int (nI 8)] [.int (x3 + (nI 3)), .ref (xad Γ 48)] (fun hN => c_M_isThere (by rw [hN]; exact hM) hf) lk_X6_209 ty_X6_isThere rfl (Nat.le_of_ble_eq_true rfl) (Nat.le_of_ble_eq_true rfl) (Nat.le_of_ble_eq_true rfl) hM rfl (by decide) rfl rfl dX6_aPerson_40 (fun r7 S6 hf => ?_)
    have hz_r7 := hf.1
    replace hf := hf.2
    refine tj_if_eq C 50 (by decide) dX6_aPerson_43 (fun hc => ?_) (fun hc => ?_)
    · replace hf := hf.1 hc
      refine tj_iconst C kc_0 dX6_aPerson_50 ?_
      exact tj_sub [1, 0] (w_M_aPerson_b51 C hw hR r hM hf) rfl
    · replace hf := hf.2 hc
      refine tj_iconst C kc_1 dX6_aPerson_46 ?_
      refine tj_goto C 51 (by decide) dX6_aPerson_47 ?_
      exact tj_sub [1, 0] (w_M_aPerson_b51 C hw hR r hM hf) rfl
  · replace hf := hf.1 hc
    refine tj_iconst C kc_0 dX6_aPerson_28 ?_
    exact r _ _ _ _ dX6_aPerson_29 zb0 hf
theorem c_M_aPerson {l : Launch} {G : tG} {ad : Nat → Nat} {A : Nat → Prop} {S : tS} {K : Int32 → tS → Prop} (hM : gN S 0 ≠ 0) (hf : M_aPerson S K) : Met l yX6_aPerson (ws_ yX6_aPerson cX6_aPerson 2 (some .boolean)) (tRm 7 155) (va_Pc [.ref (ad 0)] (tPre G ad A S)) (va_Qi (fun r u => r &&& 1 = r ∧ K r u) (tB G ad A (gN S)) A) 0 0 A :=
  tj_met_z [(0, .ref (ad 0))] pn_X6 rfl (Nat.le_of_ble_eq_true rfl) (fun p e R s m args below meth c Q C hw r => w_M_aPerson_b0 C hw rfl r hM hf)
theorem w_M_aReader_b0 {Γ : tX} {N0 : Nat → Nat} {K : Int32 → tS → Prop} (C : TC Γ cX6_aReader RX6 7 155) (hw : tWf N0) (hR : xnL Γ = 2) (r : TRz Γ N0 cX6_aReader K) (hM : N0 0 ≠ 0) {S : tS} (hf : M_aReader S K) : TJ Γ N0 0 0 0 [(0, .ref (xad Γ 0))] [] S := by
  unfold M_aReader at hf
  refine tj_sipush C ks_2110 dX6_aReader_0 ?_
  refine tj_iconst C kc_2 dX6_aReader_3 ?_
  refine tj_aload_n C 0 rfl rfl dX6_aReader_4 ?_
  refine gf_X6_7 C hM dX6_aReader_5 ?_
  refine tj_sipush C ks_2012 dX6_aReader_8 ?_
  refine tj_iald C 48 3548 rfl (ln_48 hw hM) 2012 kn_2012 (vp_in_nI (by decide) (by decide)) dX6_aReader_11 ?_
  refine tj_imul C dX6_aReader_12 ?_
  refine tj_iadd C dX6_aReader_13 ?_
  refine tj_topi (fun x1 ex => ?_)
  replace hf := hf x1 ex
  refine tj_istore_n C (by rw [hR]; decide) [(1, .int x1), (0, .ref (xad Γ 0))] rfl rfl dX6_aReader_14 ?_
  refine tj_aload_n C 1 rfl rfl dX6_aReader_15 ?_
  refine tj_iconst C kc_4 dX6_aReader_16 ?_
  refine tj_bipush C kb_6 dX6_aReader_17 ?_
  refine tj_bipush C kb_17 dX6_aReader_19 ?_
  refine tj_callVz C (k := 0) [.int (nI 4), .int (nI 6), .int (nI 17)] [] (fun hN => c_M_newOne (by rw [hN]; exact hM) hf) lk_X6_201 ty_X6_newOne rfl (Nat.le_of_ble_eq_true rfl) (Nat.le_of_ble_eq_true rfl) (Nat.le_of_ble_eq_true rfl) hM rfl (by decide) rfl rfl dX6_aReader_21 (fun r3 S2 hf => ?_)
  have hz_r3 := hf.1
  replace hf := hf.2
  refine tj_if_eq C 73 (by decide) dX6_aReader_24 (fun hc => ?_) (fun hc => ?_)
  · replace hf := hf.1 hc
    refine tj_iconst C kc_0 dX6_aReader_73 ?_
    exact r _ _ _ _ dX6_aReader_74 zb0 hf
  · replace hf := hf.2 hc
    refine tj_aload_n C 1 rfl rfl dX6_aReader_27 ?_
    refine tj_ldcS C 0 rfl dX6_aReader_28 ?_
    refine tj_bipush C kb_13 dX6_aReader_30 ?_
    refine tj_callVz C (k := 0) [.ref (xK Γ 0), .int (nI 13)] [] (fun hN => c_M_wantWord (by rw [hN]; exact hM) (by decide) hf) lk_X6_205 ty_X6_wantWord rfl (Nat.le_of_ble_eq_true rfl) (Nat.le_of_ble_eq_true rfl) (Nat.le_of_ble_eq_true rfl) hM rfl (by decide) rfl rfl dX6_aReader_32 (fun r5 S4 hf => ?_)
    have hz_r5 := hf.1
    replace hf := hf.2
    refine tj_if_eq C 73 (by decide) dX6_aReader_35 (fun hc => ?_) (fun hc => ?_)
    · replace hf := hf.1 hc
      refine tj_iconst C kc_0 dX6_aReader_73 ?_
      exact r _ _ _ _ dX6_aReader_74 zb0 hf
    · replace hf := hf.2 hc
      refine tj_aload_n C 1 rfl rfl dX6_aReader_38 ?_
      refine tj_iload_n C 0 rfl rfl dX6_aReader_39 ?_
      refine tj_iconst C kc_0 dX6_aReader_40 ?_
      refine tj_bipush C kb_16 dX6_aReader_41 ?_
      refine tj_callVz C (k := 0) [.int x1, .int (nI 0), .int (nI 16)] [] (fun hN => c_M_number (by rw [hN]; exact hM) hf) lk_X6_212 ty_X6_number rfl (Nat.le_of_ble_eq_true rfl) (Nat.le_of_ble_eq_true rfl) (Nat.le_of_ble_eq_true rfl) hM rfl (by decide) rfl rfl dX6_aReader_43 (fun r7 S6 hf => ?_)
      have hz_r7 := hf.1
      replace hf := hf.2
      refine tj_if_eq C 73 (by decide) dX6_aReader_46 (fun hc => ?_) (fun hc => ?_)
      · replace hf := hf.1 hc
        refine tj_iconst C kc_0 dX6_aReader_73 ?_
        exact r _ _ _ _ dX6_aReader_74 zb0 hf
      · replace hf := hf.2 hc
        refine tj_aload_n C 1 rfl rfl dX6_aReader_49 ?_
        refine tj_ldcS C 0 rfl dX6_aReader_50 ?_
        refine tj_bipush C kb_14 dX6_aReader_52 ?_
        refine tj_callVz C (k := 0) [.ref (xK Γ 0), .int (nI 14)] [] (fun hN => c_M_wantWord (by rw [hN]; exact hM) (by decide) hf) lk_X6_205 ty_X6_wantWord rfl (Nat.le_of_ble_eq_true rfl) (Nat.le_of_ble_eq_true rfl) (Nat.le_of_ble_eq_true rfl) hM rfl (by decide) rfl rfl dX6_aReader_54 (fun r9 S8 hf => ?_)
        have hz_r9 := hf.1
        replace hf := hf.2
        refine tj_if_eq C 73 (by decide) dX6_aReader_57 (fun hc => ?_) (fun hc => ?_)
        · replace hf := hf.1 hc
          refine tj_iconst C kc_0 dX6_aReader_73 ?_
          exact r _ _ _ _ dX6_aReader_74 zb0 hf
        · replace hf := hf.2 hc
          refine tj_aload_n C 1 rfl rfl dX6_aReader_60 ?_
          refine tj_iload_n C 0 rfl rfl dX6_aReader_61 ?_
          refine tj_iconst C kc_1 dX6_aReader_62 ?_
          refine tj_iadd C dX6_aReader_63 ?_
          refine tj_iconst C kc_1 dX6_aReader_64 ?_
          refine tj_bipush C kb_9 dX6_aReader_65 ?_
          refine tj_callVz C (k := 0) [.int (x1 + (nI 1)), .int (nI 1), .int (nI 9)] [] (fun hN => c_M_number (by rw [hN]; exact hM) hf) lk_X6_212 ty_X6_number rfl (Nat.le_of_ble_eq_true rfl) (Nat.le_of_ble_eq_true rfl) (Nat.le_of_ble_eq_true rfl) hM rfl (by decide) rfl rfl dX6_aReader_67 (fun r11 S10 hf => ?_)
          have hz_r11 := hf.1
          replace hf := hf.2
          refine tj_if_ne C 75 (by decide) dX6_aReader_70 (fun hc => ?_) (fun hc => ?_)
          · replace hf := hf.2 hc
            refine tj_aload_n C 1 rfl rfl dX6_aReader_75 ?_
            refine gf_X6_7 C hM dX6_aReader_76 ?_
            refine tj_sipush C ks_2012 dX6_aReader_79 ?_
            refine tj_dup2 C rfl rfl dX6_aReader_82 ?_
            refine tj_iald C 48 3548 rfl (ln_48 hw hM) 2012 kn_2012 (vp_in_nI (by decide) (by decide)) dX6_aReader_83 ?_
            refine tj_iconst C kc_1 dX6_aReader_84 ?_
            refine tj_iadd C dX6_aReader_85 ?_
            refine tj_iast C 48 3548 rfl (ln_48 hw hM) 2012 kn_2012 (vp_in_nI (by decide) (by decide)) dX6_aReader_86 ?_
            refine tj_topS (fun S12 eS => ?_)
            replace hf := hf S12 eS
            refine tj_iconst C kc_1 dX6_aReader_87 ?_
            exact r _ _ _ _ dX6_aReader_88 zb1 hf
          · replace hf := hf.1 hc
            refine tj_iconst C kc_0 dX6_aReader_73 ?_
            exact r _ _ _ _ dX6_aReader_74 zb0 hf
theorem c_M_aReader {l : Launch} {G : tG} {ad : Nat → Nat} {A : Nat → Prop} {S : tS} {K : Int32 → tS → Prop} (hM : gN S 0 ≠ 0) (hf : M_aReader S K) : Met l yX6_aReader (ws_ yX6_aReader cX6_aReader 2 (some .boolean)) (tRm 7 155) (va_Pc [.ref (ad 0)] (tPre G ad A S)) (va_Qi (fun r u => r &&& 1 = r ∧ K r u) (tB G ad A (gN S)) A) 0 0 A :=
  tj_met_z [(0, .ref (ad 0))] pn_X6 rfl (Nat.le_of_ble_eq_true rfl) (fun p e R s m args below meth c Q C hw r => w_M_aReader_b0 C hw rfl r hM hf)
theorem w_M_ruleRow_b0 {Γ : tX} {N0 : Nat → Nat} {K : Int32 → tS → Prop} (C : TC Γ cX6_ruleRow RX6 0 0) (hw : tWf N0) (hR : xnL Γ = 1) (r : TRi Γ N0 cX6_ruleRow K) {a0 : Int32} {S : tS} (hf : M_ruleRow a0 S K) : TJ Γ N0 0 0 0 [(0, .int a0)] [] S := by
  unfold M_ruleRow at hf
  refine tj_bipush C kb_16 dX6_ruleRow_0 ?_
  refine tj_bipush C kb_7 dX6_ruleRow_2 ?_
  refine tj_iload_n C 0 rfl rfl dX6_ruleRow_4 ?_
  refine tj_imul C dX6_ruleRow_5 ?_
  refine tj_iadd C dX6_ruleRow_6 ?_
  exact r _ _ _ _ dX6_ruleRow_7 hf
theorem c_M_ruleRow {l : Launch} {G : tG} {ad : Nat → Nat} {A : Nat → Prop} {S : tS} {K : Int32 → tS → Prop} {a0 : Int32} (hf : M_ruleRow a0 S K) : Met l yX6_ruleRow (ws_ yX6_ruleRow cX6_ruleRow 1 (some .int)) (tRm 0 0) (va_Pc [.int a0] (tPre G ad A S)) (va_Qi K (tB G ad A (gN S)) A) 0 0 A :=
  tj_met_i [(0, .int a0)] pn_X6 rfl (Nat.le_of_ble_eq_true rfl) (fun p e R s m args below meth c Q C hw r => w_M_ruleRow_b0 C hw rfl r hf)
