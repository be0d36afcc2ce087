set_option maxRecDepth 100000
theorem w_Ac_nights_b0 {Γ : tX} {N0 : Nat → Nat} {K : Int32 → tS → Prop} (C : TC Γ cX13_nights RX13 0 0) (hw : tWf N0) (hR : xnL Γ = 1) (r : TRz Γ N0 cX13_nights K) {a0 : Nat} (h_a0 : N0 a0 ≠ 0 ∧ a0 % 32 = 6) {S : tS} (hf : Ac_nights a0 S K) : TJ Γ N0 0 0 0 [(0, .ref (xad Γ a0))] [] S := by
  unfold Ac_nights at hf
  refine tj_aload_n C 0 rfl rfl dX13_nights_0 ?_
  refine gf_X13_80 C h_a0.2 h_a0.1 dX13_nights_1 ?_
  refine tj_if_ne C 9 (by decide) dX13_nights_4 (fun hc => ?_) (fun hc => ?_)
  · replace hf := hf.2 hc
    refine tj_aload_n C 0 rfl rfl dX13_nights_9 ?_
    refine tj_iconst C kc_0 dX13_nights_10 ?_
    refine pf_X13_80 C h_a0.2 h_a0.1 dX13_nights_11 ?_
    refine tj_topS (fun S1 eS => ?_)
    replace hf := hf S1 eS
    refine tj_iconst C kc_1 dX13_nights_14 ?_
    exact r _ _ _ _ dX13_nights_15 zb1 hf
  · replace hf := hf.1 hc
    refine tj_iconst C kc_0 dX13_nights_7 ?_
    exact r _ _ _ _ dX13_nights_8 zb0 hf
theorem c_Ac_nights {l : Launch} {G : tG} {ad : Nat → Nat} {A : Nat → Prop} {S : tS} {K : Int32 → tS → Prop} {a0 : Nat} (h_a0 : gN S a0 ≠ 0 ∧ a0 % 32 = 6) (hf : Ac_nights a0 S K) : Met l yX13_nights (ws_ yX13_nights cX13_nights 1 (some .boolean)) (tRm 0 0) (va_Pc [.ref (ad a0)] (tPre G ad A S)) (va_Qi (fun r u => r &&& 1 = r ∧ K r u) (tB G ad A (gN S)) A) 0 0 A :=
  tj_met_z [(0, .ref (ad a0))] pn_X13 rfl (Nat.le_of_ble_eq_true rfl) (fun p e R s m args below meth c Q C hw r => w_Ac_nights_b0 C hw rfl r h_a0 hf)
theorem w_Ac_can_b0 {Γ : tX} {N0 : Nat → Nat} {K : Int32 → tS → Prop} (C : TC Γ cX13_can RX13 10 227) (hw : tWf N0) (hR : xnL Γ = 3) (r : TRz Γ N0 cX13_can K) {t0 : Nat} {a1 : Nat} (h_t0 : N0 t0 ≠ 0 ∧ t0 % 32 = 8) (h_a1 : N0 a1 ≠ 0 ∧ a1 % 32 = 12) {S : tS} (hf : Ac_can t0 a1 S K) : TJ Γ N0 0 0 0 [(0, .ref (xad Γ t0)), (1, .ref (xad Γ a1))] [] S := by
  unfold Ac_can at hf
  refine tj_aload_n C 1 rfl rfl dX13_can_0 ?_
  refine gf_X13_21 C h_a1.2 h_a1.1 dX13_can_1 ?_
  refine tj_hN (fun hN => ?_)
  obtain ⟨t1, he, h_t1, hf⟩ := hf
  rw [hN] at h_t1
  refine tj_some he ?_
  refine tj_astore_n C (by rw [hR]; decide) [(2, .ref (xad Γ t1)), (0, .ref (xad Γ t0)), (1, .ref (xad Γ a1))] rfl rfl dX13_can_4 ?_
  refine tj_aload_n C 1 rfl rfl dX13_can_5 ?_
  refine gf_X13_9 C h_t0.2 h_t0.1 dX13_can_6 ?_
  by_cases h0 : (gI S t0 0) = nI 0
  · replace hf := hf.1 h0
    refine tj_tswIn C 0 (off := 43) 52 (by decide) h0 (by decide) (by decide) (by decide) (by decide) dX13_can_9 ?_
    refine tj_aload_n C 1 rfl rfl dX13_can_52 ?_
    refine tj_aload_n C 2 rfl rfl dX13_can_53 ?_
    refine tj_aload_n C 0 rfl rfl dX13_can_54 ?_
    refine tj_callVz C (k := 8) [.ref (xad Γ a1), .ref (xad Γ t1)] [] (fun hN => c_Ac_sits (by rw [hN]; exact ⟨h_t0.1, h_t0.2⟩) (by rw [hN]; exact ⟨h_a1.1, h_a1.2⟩) (by rw [hN]; exact ⟨h_t1.1, h_t1.2⟩) hf) lk_X13_27 ty_X13_sits rfl (Nat.le_of_ble_eq_true rfl) (Nat.le_of_ble_eq_true rfl) (Nat.le_of_ble_eq_true rfl) h_t0.1 h_t0.2 (by decide) rfl rfl dX13_can_55 (fun r3 S2 hf => ?_)
    have hz_r3 := hf.1
    replace hf := hf.2
    exact r _ _ _ _ dX13_can_58 hz_r3 hf
  · replace hf := hf.2 h0
    by_cases h1 : (gI S t0 0) = nI 1
    · replace hf := hf.1 h1
      refine tj_tswIn C 1 (off := 50) 59 (by decide) h1 (by decide) (by decide) (by decide) (by decide) dX13_can_9 ?_
      refine tj_aload_n C 2 rfl rfl dX13_can_59 ?_
      refine tj_aload_n C 0 rfl rfl dX13_can_60 ?_
      refine tj_callSz C [.ref (xad Γ a1), .ref (xad Γ t1)] [] (fun hN => c_Ac_terms (by rw [hN]; exact ⟨h_a1.1, h_a1.2⟩) (by rw [hN]; exact ⟨h_t1.1, h_t1.2⟩) hf) lk_X13_31 ty_X13_terms rfl (Nat.le_of_ble_eq_true rfl) (Nat.le_of_ble_eq_true rfl) (Nat.le_of_ble_eq_true rfl) rfl dX13_can_61 (fun r5 S4 hf => ?_)
      have hz_r5 := hf.1
      replace hf := hf.2
      exact r _ _ _ _ dX13_can_64 hz_r5 hf
    · replace hf := hf.2 h1
      by_cases h2 : (gI S t0 0) = nI 2
      · replace hf := hf.1 h2
        refine tj_tswIn C 2 (off := 56) 65 (by decide) h2 (by decide) (by decide) (by decide) (by decide) dX13_can_9 ?_
        refine tj_aload_n C 0 rfl rfl dX13_can_65 ?_
        refine tj_aload_n C 1 rfl rfl dX13_can_66 ?_
        refine gf_X13_15 C h_t0.2 h_t0.1 dX13_can_67 ?_
        refine tj_aload_n C 1 rfl rfl dX13_can_70 ?_
        refine gf_X13_18 C h_t0.2 h_t0.1 dX13_can_71 ?_
        refine tj_callVz C (k := 6) [.int (gI S t0 1), .int (gI S t0 2)] [] (fun hN => c_Co_feeds (by rw [hN]; exact ⟨h_t1.1, h_t1.2⟩) hf) lk_X13_34 ty_X5_feeds rfl (Nat.le_of_ble_eq_true rfl) (Nat.le_of_ble_eq_true rfl) (Nat.le_of_ble_eq_true rfl) h_t1.1 h_t1.2 (by decide) rfl rfl dX13_can_74 (fun r7 S6 hf => ?_)
        have hz_r7 := hf.1
        replace hf := hf.2
        exact r _ _ _ _ dX13_can_77 hz_r7 hf
      · replace hf := hf.2 h2
        by_cases h3 : (gI S t0 0) = nI 3
        · replace hf := hf.1 h3
          refine tj_tswIn C 3 (off := 69) 78 (by decide) h3 (by decide) (by decide) (by decide) (by decide) dX13_can_9 ?_
          refine tj_aload_n C 0 rfl rfl dX13_can_78 ?_
          refine tj_aload_n C 1 rfl rfl dX13_can_79 ?_
          refine gf_X13_15 C h_t0.2 h_t0.1 dX13_can_80 ?_
          refine tj_aload_n C 1 rfl rfl dX13_can_83 ?_
          refine gf_X13_18 C h_t0.2 h_t0.1 dX13_can_84 ?_
          refine tj_iconst C kc_1 dX13_can_87 ?_
          refine tj_callVz C (k := 6) [.int (gI S t0 1), .int (gI S t0 2), .int (nI 1)] [] (fun hN => c_Co_scents (by rw [hN]; exact ⟨h_t1.1, h_t1.2⟩) hf) lk_X13_40 ty_X5_scents rfl (Nat.le_of_ble_eq_true rfl) (Nat.le_of_ble_eq_true rfl) (Nat.le_of_ble_eq_true rfl) h_t1.1 h_t1.2 (by decide) rfl rfl dX13_can_88 (fun r9 S8 hf => ?_)
          have hz_r9 := hf.1
          replace hf := hf.2
          exact r _ _ _ _ dX13_can_91 hz_r9 hf
        · replace hf := hf.2 h3
          by_cases h4 : (gI S t0 0) = nI 4
          · replace hf := hf.1 h4
            refine tj_tswIn C 4 (off := 83) 92 (by decide) h4 (by decide) (by decide) (by decide) (by decide) dX13_can_9 ?_
            refine tj_aload_n C 0 rfl rfl dX13_can_92 ?_
            refine tj_aload_n C 1 rfl rfl dX13_can_93 ?_
            refine gf_X13_15 C h_t0.2 h_t0.1 dX13_can_94 ?_
            refine tj_aload_n C 1 rfl rfl dX13_can_97 ?_
            refine gf_X13_18 C h_t0.2 h_t0.1 dX13_can_98 ?_
            refine tj_iconst C kc_0 dX13_can_101 ?_
            refine tj_callVz C (k := 6) [.int (gI S t0 1), .int (gI S t0 2), .int (nI 0)] [] (fun hN => c_Co_scents (by rw [hN]; exact ⟨h_t1.1, h_t1.2⟩) hf) lk_X13_40 ty_X5_scents rfl (Nat.le_of_ble_eq_true rfl) (Nat.le_of_ble_eq_true rfl) (Nat.le_of_ble_eq_true rfl) h_t1.1 h_t1.2 (by decide) rfl rfl dX13_can_102 (fun r11 S10 hf => ?_)
            have hz_r11 := hf.1
            replace hf := hf.2
            exact r _ _ _ _ dX13_can_105 hz_r11 hf
          · replace hf := hf.2 h4
            by_cases h5 : (gI S t0 0) = nI 5
            · replace hf := hf.1 h5
              refine tj_tswIn C 5 (off := 97) 106 (by decide) h5 (by decide) (by decide) (by decide) (by decide) dX13_can_9 ?_
              refine tj_aload_n C 0 rfl rfl dX13_can_106 ?_
              refine tj_callSz C [.ref (xad Γ t1)] [] (fun hN => c_Ac_nights (by rw [hN]; exact ⟨h_t1.1, h_t1.2⟩) hf) lk_X13_44 ty_X13_nights rfl (Nat.le_of_ble_eq_true rfl) (Nat.le_of_ble_eq_true rfl) (Nat.le_of_ble_eq_true rfl) rfl dX13_can_107 (fun r13 S12 hf => ?_)
              have hz_r13 := hf.1
              replace hf := hf.2
              exact r _ _ _ _ dX13_can_110 hz_r13 hf
            · replace hf := hf.2 h5
              by_cases h6 : (gI S t0 0) = nI 6
              · replace hf := hf.1 h6
                refine tj_tswIn C 6 (off := 102) 111 (by decide) h6 (by decide) (by decide) (by decide) (by decide) dX13_can_9 ?_
                refine tj_aload_n C 2 rfl rfl dX13_can_111 ?_
                refine tj_aload_n C 0 rfl rfl dX13_can_112 ?_
                refine tj_callSz C [.ref (xad Γ a1), .ref (xad Γ t1)] [] (fun hN => c_Ac_any (by rw [hN]; exact ⟨h_a1.1, h_a1.2⟩) (by rw [hN]; exact ⟨h_t1.1, h_t1.2⟩) hf) lk_X13_48 ty_X13_any rfl (Nat.le_of_ble_eq_true rfl) (Nat.le_of_ble_eq_true rfl) (Nat.le_of_ble_eq_true rfl) rfl dX13_can_113 (fun r15 S14 hf => ?_)
                have hz_r15 := hf.1
                replace hf := hf.2
                exact r _ _ _ _ dX13_can_116 hz_r15 hf
              · replace hf := hf.2 h6
                refine tj_tswOut C 0 7 117 (by decide) (fun k hk => match k, hk with | 0, _ => h0 | 1, _ => h1 | 2, _ => h2 | 3, _ => h3 | 4, _ => h4 | 5, _ => h5 | 6, _ => h6 | k + 7, hk => absurd hk (by omega)) (by decide) (by decide) (by decide) dX13_can_9 ?_
                refine tj_aload_n C 2 rfl rfl dX13_can_117 ?_
                refine tj_iconst C kc_1 dX13_can_118 ?_
                refine pf_X13_51 C h_a1.2 (Or.inr rfl) h_a1.1 dX13_can_119 ?_
                refine tj_topS (fun S16 eS => ?_)
                replace hf := hf S16 eS
                refine tj_iconst C kc_1 dX13_can_122 ?_
                exact r _ _ _ _ dX13_can_123 zb1 hf
theorem c_Ac_can {l : Launch} {G : tG} {ad : Nat → Nat} {A : Nat → Prop} {S : tS} {K : Int32 → tS → Prop} {t0 : Nat} {a1 : Nat} (h_t0 : gN S t0 ≠ 0 ∧ t0 % 32 = 8) (h_a1 : gN S a1 ≠ 0 ∧ a1 % 32 = 12) (hf : Ac_can t0 a1 S K) : Met l yX13_can (ws_ yX13_can cX13_can 3 (some .boolean)) (tRm 10 227) (va_Pc [.ref (ad t0), .ref (ad a1)] (tPre G ad A S)) (va_Qi (fun r u => r &&& 1 = r ∧ K r u) (tB G ad A (gN S)) A) 0 0 A :=
  tj_met_z [(0, .ref (ad t0)), (1, .ref (ad a1))] pn_X13 rfl (Nat.le_of_ble_eq_true rfl) (fun p e R s m args below meth c Q C hw r => w_Ac_can_b0 C hw rfl r h_t0 h_a1 hf)
theorem w_Ac_does_b0 {Γ : tX} {N0 : Nat → Nat} {K : tS → Prop} (C : TC Γ cX13_does RX13 11 249) (hw : tWf N0) (hR : xnL Γ = 2) (r : TRv Γ N0 cX13_does K) {t0 : Nat} {a1 : Nat} (h_t0 : N0 t0 ≠ 0 ∧ t0 % 32 = 8) (h_a1 : N0 a1 ≠ 0 ∧ a1 % 32 = 12) {S : tS} (hf : Ac_does t0 a1 S K) : TJ Γ N0 0 0 0 [(0, .ref (xad Γ t0)), (1, .ref (xad Γ a1))] [] S := by
  unfold Ac_does at hf
  refine tj_aload_n C 0 rfl rfl dX13_does_0 ?_
  refine tj_aload_n C 1 rfl rfl dX13_does_1 ?_
  refine tj_callVz C (k := 8) [.ref (xad Γ a1)] [] (fun hN => c_Ac_can (by rw [hN]; exact ⟨h_t0.1, h_t0.2⟩) (by rw [hN]; exact ⟨h_a1.1, h_a1.2⟩) hf) lk_X13_89 ty_X13_can rfl (Nat.le_of_ble_eq_true rfl) (Nat.le_of_ble_eq_true rfl) (Nat.le_of_ble_eq_true rfl) h_t0.1 h_t0.2 (by decide) rfl rfl dX13_does_2 (fun r2 S1 hf => ?_)
  have hz_r2 := hf.1
  replace hf := hf.2
  refine tj_if_ne C 18 (by decide) dX13_does_5 (fun hc => ?_) (fun hc => ?_)
  · replace hf := hf.2 hc
    exact r _ _ _ dX13_does_18 hf
  · replace hf := hf.1 hc
    refine tj_aload_n C 1 rfl rfl dX13_does_8 ?_
    refine tj_dup C rfl dX13_does_9 ?_
    refine gf_X13_93 C h_a1.2 h_a1.1 dX13_does_10 ?_
    refine tj_iconst C kc_1 dX13_does_13 ?_
    refine tj_iadd C dX13_does_14 ?_
    refine pf_X13_93 C h_a1.2 h_a1.1 dX13_does_15 ?_
    refine tj_topS (fun S3 eS => ?_)
    replace hf := hf S3 eS
    exact r _ _ _ dX13_does_18 hf
theorem c_Ac_does {l : Launch} {G : tG} {ad : Nat → Nat} {A : Nat → Prop} {S : tS} {K : tS → Prop} {t0 : Nat} {a1 : Nat} (h_t0 : gN S t0 ≠ 0 ∧ t0 % 32 = 8) (h_a1 : gN S a1 ≠ 0 ∧ a1 % 32 = 12) (hf : Ac_does t0 a1 S K) : Met l yX13_does (ws_ yX13_does cX13_does 2 (none)) (tRm 11 249) (va_Pc [.ref (ad t0), .ref (ad a1)] (tPre G ad A S)) (va_Qv K (tB G ad A (gN S)) A) 0 0 A :=
  tj_met_v [(0, .ref (ad t0)), (1, .ref (ad a1))] pn_X13 rfl (Nat.le_of_ble_eq_true rfl) (fun p e R s m args below meth c Q C hw r => w_Ac_does_b0 C hw rfl r h_t0 h_a1 hf)
theorem w_Bd_at_b0 {Γ : tX} {N0 : Nat → Nat} {K : tS → Prop} (C : TC Γ cX2_at RX2 0 0) (hw : tWf N0) (hR : xnL Γ = 3) (r : TRa Γ N0 cX2_at 1123 K) {a1 : Int32} {a2 : Int32} (hX : N0 1025 ≠ 0) {S : tS} (hf : Bd_at a1 a2 S K) : TJ Γ N0 0 0 0 [(0, .ref (xad Γ 1123)), (1, .int a1), (2, .int a2)] [] S := by
  unfold Bd_at at hf
  refine tj_aload_n C 0 rfl rfl dX2_at_0 ?_
  refine tj_iload_n C 1 rfl rfl dX2_at_1 ?_
  refine pf_X2_7 C (ne0 (ln_1123 hw hX)) dX2_at_2 ?_
  refine tj_topS (fun S1 eS => ?_)
  replace hf := hf S1 eS
  refine tj_aload_n C 0 rfl rfl dX2_at_5 ?_
  refine tj_iload_n C 2 rfl rfl dX2_at_6 ?_
  refine pf_X2_13 C (ne0 (ln_1123 hw hX)) dX2_at_7 ?_
  refine tj_topS (fun S2 eS => ?_)
  replace hf := hf S2 eS
  refine tj_aload_n C 0 rfl rfl dX2_at_10 ?_
  exact r _ _ _ dX2_at_11 hf
theorem c_Bd_at {l : Launch} {G : tG} {ad : Nat → Nat} {A : Nat → Prop} {S : tS} {K : tS → Prop} {a1 : Int32} {a2 : Int32} (hX : gN S 1025 ≠ 0) (hf : Bd_at a1 a2 S K) : Met l yX2_at (ws_ yX2_at cX2_at 3 (some (.object "CatWitness$Bad"))) (tRm 0 0) (va_Pc [.ref (ad 1123), .int a1, .int a2] (tPre G ad A S)) (va_Qr K (fun u ra t => ra = ad 1123 ∧ tB G ad A (gN S) u t) A) 0 0 A :=
  tj_met_a [(0, .ref (ad 1123)), (1, .int a1), (2, .int a2)] pn_X2 rfl (Nat.le_of_ble_eq_true rfl) (fun p e R s m args below meth c Q C hw r => w_Bd_at_b0 C hw rfl r hX hf)
theorem w_Co_find_l3 {Γ : tX} {N0 : Nat → Nat} {K : Int32 → tS → Prop} (C : TC Γ cX5_find RX5 0 0) (hw : tWf N0) (hR : xnL Γ = 5) (r : TRi Γ N0 cX5_find K) {a0 : Nat} {a1 : Int32} {a2 : Int64} (h_a0 : N0 a0 ≠ 0 ∧ a0 % 32 = 17) : ∀ (n : Nat) (a4 : Int32) (S : tS), Co_find_l3 a0 a1 a2 K n a4 S → TJ Γ N0 0 0 3 [(0, .ref (xad Γ a0)), (1, .int a1), (2, .long a2), (4, .int a4)] [] S := by
  intro n
  induction n with
  | zero => intro a4 S hf; exact hf.elim
  | succ n ih =>
    intro a4 S hf
    unfold Co_find_l3 at hf
    refine tj_iload C 3 rfl dX5_find_3 ?_
    refine tj_iload_n C 1 rfl rfl dX5_find_5 ?_
    refine tj_icmp_ge C 27 (by decide) dX5_find_6 (fun hc => ?_) (fun hc => ?_)
    · replace hf := hf.1 hc
      refine tj_iconst C kc_m1 dX5_find_27 ?_
      exact r _ _ _ _ dX5_find_28 hf
    · replace hf := hf.2 hc
      refine tj_aload_n C 0 rfl rfl dX5_find_9 ?_
      refine tj_iload C 3 rfl dX5_find_10 ?_
      refine tj_laldd C a0 h_a0.2 h_a0.1 _ rfl hf.1 dX5_find_12 ?_
      replace hf := hf.2
      refine tj_lload_n C 2 rfl rfl dX5_find_13 ?_
      refine tj_lcmp C dX5_find_14 ?_
      refine tj_if_ne C 21 (by decide) dX5_find_15 (fun hc => ?_) (fun hc => ?_)
      · replace hf := hf.2 hc
        obtain ⟨x1, ex⟩ : ∃ y : Int32, y = a4 + nI 1 := ⟨_, rfl⟩
        refine tj_iinc C (by rw [hR]; decide) 3 [(4, .int x1), (0, .ref (xad Γ a0)), (1, .int a1), (2, .long a2)] rfl (by rw [ex]; exact ki_1 _) rfl dX5_find_21 ?_
        replace hf := hf x1 ex
        refine tj_goto C 3 (by decide) dX5_find_24 ?_
        exact tj_sub [1, 2, 3, 0] (ih _ _ hf) rfl
      · replace hf := hf.1 hc
        refine tj_iload C 3 rfl dX5_find_18 ?_
        exact r _ _ _ _ dX5_find_20 hf
theorem w_Co_find_b0 {Γ : tX} {N0 : Nat → Nat} {K : Int32 → tS → Prop} (C : TC Γ cX5_find RX5 0 0) (hw : tWf N0) (hR : xnL Γ = 5) (r : TRi Γ N0 cX5_find K) {a0 : Nat} {a1 : Int32} {a2 : Int64} (h_a0 : N0 a0 ≠ 0 ∧ a0 % 32 = 17) {S : tS} (hf : Co_find a0 a1 a2 S K) : TJ Γ N0 0 0 0 [(0, .ref (xad Γ a0)), (1, .int a1), (2, .long a2)] [] S := by
  unfold Co_find at hf
  refine tj_iconst C kc_0 dX5_find_0 ?_
  refine tj_istore C (by rw [hR]; decide) [(4, .int (nI 0)), (0, .ref (xad Γ a0)), (1, .int a1), (2, .long a2)] rfl dX5_find_1 ?_
  exact tj_sub [1, 2, 3, 0] (hf.elim fun k hf => w_Co_find_l3 C hw hR r h_a0 k _ _ hf) rfl
theorem c_Co_find {l : Launch} {G : tG} {ad : Nat → Nat} {A : Nat → Prop} {S : tS} {K : Int32 → tS → Prop} {a0 : Nat} {a1 : Int32} {a2 : Int64} (h_a0 : gN S a0 ≠ 0 ∧ a0 % 32 = 17) (hf : Co_find a0 a1 a2 S K) : Met l yX5_find (ws_ yX5_find cX5_find 5 (some .int)) (tRm 0 0) (va_Pc [.ref (ad a0), .int a1, .long a2] (tPre G ad A S)) (va_Qi K (tB G ad A (gN S)) A) 0 0 A :=
  tj_met_i [(0, .ref (ad a0)), (1, .int a1), (2, .long a2)] pn_X5 rfl (Nat.le_of_ble_eq_true rfl) (fun p e R s m args below meth c Q C hw r => w_Co_find_b0 C hw rfl r h_a0 hf)
theorem w_Co_cueNamed_b0 {Γ : tX} {N0 : Nat → Nat} {K : Int32 → tS → Prop} (C : TC Γ cX5_cueNamed RX5 1 24) (hw : tWf N0) (hR : xnL Γ = 3) (r : TRi Γ N0 cX5_cueNamed K) {t0 : Nat} {a1 : Int64} (h_t0 : N0 t0 ≠ 0 ∧ t0 % 32 = 6) {S : tS} (hf : Co_cueNamed t0 a1 S K) : TJ Γ N0 0 0 0 [(0, .ref (xad Γ t0)), (1, .long a1)] [] S := by
  unfold Co_cueNamed at hf
  refine tj_aload_n C 0 rfl rfl dX5_cueNamed_0 ?_
  refine gf_X5_15 C h_t0.2 h_t0.1 dX5_cueNamed_1 ?_
  refine tj_hN (fun hN => ?_)
  obtain ⟨t1, he, h_t1, hf⟩ := hf
  rw [hN] at h_t1
  refine tj_some he ?_
  refine tj_aload_n C 0 rfl rfl dX5_cueNamed_4 ?_
  refine gf_X5_65 C h_t0.2 h_t0.1 dX5_cueNamed_5 ?_
  refine tj_lload_n C 1 rfl rfl dX5_cueNamed_8 ?_
  refine tj_callSi C [.ref (xad Γ t1), .int (gI S t0 1), .long a1] [] (fun hN => c_Co_find (by rw [hN]; exact ⟨h_t1.1, h_t1.2⟩) hf) lk_X5_96 ty_X5_find rfl (Nat.le_of_ble_eq_true rfl) (Nat.le_of_ble_eq_true rfl) (Nat.le_of_ble_eq_true rfl) rfl dX5_cueNamed_9 (fun r3 S2 hf => ?_)
  exact r _ _ _ _ dX5_cueNamed_12 hf
theorem c_Co_cueNamed {l : Launch} {G : tG} {ad : Nat → Nat} {A : Nat → Prop} {S : tS} {K : Int32 → tS → Prop} {t0 : Nat} {a1 : Int64} (h_t0 : gN S t0 ≠ 0 ∧ t0 % 32 = 6) (hf : Co_cueNamed t0 a1 S K) : Met l yX5_cueNamed (ws_ yX5_cueNamed cX5_cueNamed 3 (some .int)) (tRm 1 24) (va_Pc [.ref (ad t0), .long a1] (tPre G ad A S)) (va_Qi K (tB G ad A (gN S)) A) 0 0 A :=
  tj_met_i [(0, .ref (ad t0)), (1, .long a1)] pn_X5 rfl (Nat.le_of_ble_eq_true rfl) (fun p e R s m args below meth c Q C hw r => w_Co_cueNamed_b0 C hw rfl r h_t0 hf)
theorem w_Co_personNamed_b0 {Γ : tX} {N0 : Nat → Nat} {K : Int32 → tS → Prop} (C : TC Γ cX5_personNamed RX5 1 24) (hw : tWf N0) (hR : xnL Γ = 3) (r : TRi Γ N0 cX5_personNamed K) {t0 : Nat} {a1 : Int64} (h_t0 : N0 t0 ≠ 0 ∧ t0 % 32 = 6) {S : tS} (hf : Co_personNamed t0 a1 S K) : TJ Γ N0 0 0 0 [(0, .ref (xad Γ t0)), (1, .long a1)] [] S := by
  unfold Co_personNamed at hf
  refine tj_aload_n C 0 rfl rfl dX5_personNamed_0 ?_
  refine gf_X5_18 C h_t0.2 h_t0.1 dX5_personNamed_1 ?_
  refine tj_hN (fun hN => ?_)
  obtain ⟨t1, he, h_t1, hf⟩ := hf
  rw [hN] at h_t1
  refine tj_some he ?_
  refine tj_aload_n C 0 rfl rfl dX5_personNamed_4 ?_
  refine gf_X5_71 C h_t0.2 h_t0.1 dX5_personNamed_5 ?_
  refine tj_lload_n C 1 rfl rfl dX5_personNamed_8 ?_
  refine tj_callSi C [.ref (xad Γ t1), .int (gI S t0 3), .long a1] [] (fun hN => c_Co_find (by rw [hN]; exact ⟨h_t1.1, h_t1.2⟩) hf) lk_X5_96 ty_X5_find rfl (Nat.le_of_ble_eq_true rfl) (Nat.le_of_ble_eq_true rfl) (Nat.le_of_ble_eq_true rfl) rfl dX5_personNamed_9 (fun r3 S2 hf => ?_)
  exact r _ _ _ _ dX5_personNamed_12 hf
theorem c_Co_personNamed {l : Launch} {G : tG} {ad : Nat → Nat} {A : Nat → Prop} {S : tS} {K : Int32 → tS → Prop} {t0 : Nat} {a1 : Int64} (h_t0 : gN S t0 ≠ 0 ∧ t0 % 32 = 6) (hf : Co_personNamed t0 a1 S K) : Met l yX5_personNamed (ws_ yX5_personNamed cX5_personNamed 3 (some .int)) (tRm 1 24) (va_Pc [.ref (ad t0), .long a1] (tPre G ad A S)) (va_Qi K (tB G ad A (gN S)) A) 0 0 A :=
  tj_met_i [(0, .ref (ad t0)), (1, .long a1)] pn_X5 rfl (Nat.le_of_ble_eq_true rfl) (fun p e R s m args below meth c Q C hw r => w_Co_personNamed_b0 C hw rfl r h_t0 hf)
theorem w_Co_readerNamed_b0 {Γ : tX} {N0 : Nat → Nat} {K : Int32 → tS → Prop} (C : TC Γ cX5_readerNamed RX5 1 24) (hw : tWf N0) (hR : xnL Γ = 3) (r : TRi Γ N0 cX5_readerNamed K) {t0 : Nat} {a1 : Int64} (h_t0 : N0 t0 ≠ 0 ∧ t0 % 32 = 6) {S : tS} (hf : Co_readerNamed t0 a1 S K) : TJ Γ N0 0 0 0 [(0, .ref (xad Γ t0)), (1, .long a1)] [] S := by
  unfold Co_readerNamed at hf
  refine tj_aload_n C 0 rfl rfl dX5_readerNamed_0 ?_
  refine gf_X5_21 C h_t0.2 h_t0.1 dX5_readerNamed_1 ?_
  refine tj_hN (fun hN => ?_)
  obtain ⟨t1, he, h_t1, hf⟩ := hf
  rw [hN] at h_t1
  refine tj_some he ?_
  refine tj_aload_n C 0 rfl rfl dX5_readerNamed_4 ?_
  refine gf_X5_74 C h_t0.2 h_t0.1 dX5_readerNamed_5 ?_
  refine tj_lload_n C 1 rfl rfl dX5_readerNamed_8 ?_
  refine tj_callSi C [.ref (xad Γ t1), .int (gI S t0 4), .long a1] [] (fun hN => c_Co_find (by rw [hN]; exact ⟨h_t1.1, h_t1.2⟩) hf) lk_X5_96 ty_X5_find rfl (Nat.le_of_ble_eq_true rfl) (Nat.le_of_ble_eq_true rfl) (Nat.le_of_ble_eq_true rfl) rfl dX5_readerNamed_9 (fun r3 S2 hf => ?_)
  exact r _ _ _ _ dX5_readerNamed_12 hf
theorem c_Co_readerNamed {l : Launch} {G : tG} {ad : Nat → Nat} {A : Nat → Prop} {S : tS} {K : Int32 → tS → Prop} {t0 : Nat} {a1 : Int64} (h_t0 : gN S t0 ≠ 0 ∧ t0 % 32 = 6) (hf : Co_readerNamed t0 a1 S K) : Met l yX5_readerNamed (ws_ yX5_readerNamed cX5_readerNamed 3 (some .int)) (tRm 1 24) (va_Pc [.ref (ad t0), .long a1] (tPre G ad A S)) (va_Qi K (tB G ad A (gN S)) A) 0 0 A :=
  tj_met_i [(0, .ref (ad t0)), (1, .long a1)] pn_X5 rfl (Nat.le_of_ble_eq_true rfl) (fun p e R s m args below meth c Q C hw r => w_Co_readerNamed_b0 C hw rfl r h_t0 hf)
theorem w_Co_smellNamed_b0 {Γ : tX} {N0 : Nat → Nat} {K : Int32 → tS → Prop} (C : TC Γ cX5_smellNamed RX5 1 24) (hw : tWf N0) (hR : xnL Γ = 3) (r : TRi Γ N0 cX5_smellNamed K) {t0 : Nat} {a1 : Int64} (h_t0 : N0 t0 ≠ 0 ∧ t0 % 32 = 6) {S : tS} (hf : Co_smellNamed t0 a1 S K) : TJ Γ N0 0 0 0 [(0, .ref (xad Γ t0)), (1, .long a1)] [] S := by
  unfold Co_smellNamed at hf
  refine tj_aload_n C 0 rfl rfl dX5_smellNamed_0 ?_
  refine gf_X5_9 C h_t0.2 h_t0.1 dX5_smellNamed_1 ?_
  refine tj_hN (fun hN => ?_)
  obtain ⟨t1, he, h_t1, hf⟩ := hf
  rw [hN] at h_t1
  refine tj_some he ?_
  refine tj_aload_n C 0 rfl rfl dX5_smellNamed_4 ?_
  refine gf_X5_61 C h_t0.2 h_t0.1 dX5_smellNamed_5 ?_
  refine tj_lload_n C 1 rfl rfl dX5_smellNamed_8 ?_
  refine tj_callSi C [.ref (xad Γ t1), .int (gI S t0 0), .long a1] [] (fun hN => c_Co_find (by rw [hN]; exact ⟨h_t1.1, h_t1.2⟩) hf) lk_X5_96 ty_X5_find rfl (Nat.le_of_ble_eq_true rfl) (Nat.le_of_ble_eq_true rfl) (Nat.le_of_ble_eq_true rfl) rfl dX5_smellNamed_9 (fun r3 S2 hf => ?_)
  exact r _ _ _ _ dX5_smellNamed_12 hf
theorem c_Co_smellNamed {l : Launch} {G : tG} {ad : Nat → Nat} {A : Nat → Prop} {S : tS} {K : Int32 → tS → Prop} {t0 : Nat} {a1 : Int64} (h_t0 : gN S t0 ≠ 0 ∧ t0 % 32 = 6) (hf : Co_smellNamed t0 a1 S K) : Met l yX5_smellNamed (ws_ yX5_smellNamed cX5_smellNamed 3 (some .int)) (tRm 1 24) (va_Pc [.ref (ad t0), .long a1] (tPre G ad A S)) (va_Qi K (tB G ad A (gN S)) A) 0 0 A :=
  tj_met_i [(0, .ref (ad t0)), (1, .long a1)] pn_X5 rfl (Nat.le_of_ble_eq_true rfl) (fun p e R s m args below meth c Q C hw r => w_Co_smellNamed_b0 C hw rfl r h_t0 hf)
