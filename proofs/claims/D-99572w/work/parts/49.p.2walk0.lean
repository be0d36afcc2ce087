set_option maxRecDepth 100000
theorem w_XV_pour_b113 {Γ : tX} {Nb : Nat → Nat} {K : Int32 → tS → Prop} {mc ms : Nat} (C : TC Γ cX0_pour RX0 12 10260) (hE : tDyn (xad Γ)) (hB : mc ≤ (xR Γ).cells ∧ ms ≤ (xR Γ).slots) (hR : xnL Γ = 9) (r : TEz Γ Nb mc ms cX0_pour K) (hst : (xl Γ).stackTraces = false) (hT : (xc Γ).exceptionTable.toList = tableOf [(85, 97, 100, 163), (5, 112, 113, 41)]) {a1 : Int32} {a2 : Int32} {a3 : Int32} {a4 : Int32} {a5 : Int32} : ∀ (N0 : Nat → Nat) (hx : tExt Nb N0) (hw : tWf N0) (hX : N0 1025 ≠ 0) (uc : Nat) (us : Nat) (S : tS), XV_pour_b113 a1 a2 a3 a4 a5 mc ms K uc us S → TJ Γ N0 uc us 113 [(0, .ref (xad Γ 1025))] [.ref (xad Γ 1156)] S := by
  intro N0 hx hw hX uc us S hf
  unfold XV_pour_b113 at hf
  refine tj_astore C (by rw [hR]; decide) [(6, .ref (xad Γ 1156)), (0, .ref (xad Γ 1025))] rfl dX0_pour_113 ?_
  refine tj_aload_n C 1 rfl rfl dX0_pour_115 ?_
  refine tj_aload C 0 rfl dX0_pour_116 ?_
  refine tj_callVz C (k := 1) [.ref (xad Γ 1156)] [] (fun hN => c_X_no (by rw [hN]; exact hX) hf) lk_X0_129 ty_X0_no rfl (Nat.le_of_ble_eq_true rfl) (Nat.le_of_ble_eq_true rfl) (Nat.le_of_ble_eq_true rfl) hX rfl (by decide) rfl rfl dX0_pour_118 (fun r15 S14 hf => ?_)
  have hz_r15 := hf.1
  replace hf := hf.2
  exact tj_up mc ms hB hf.1 (r _ _ _ _ _ hx dX0_pour_121 hz_r15 hf.2)
theorem w_XV_pour_b100 {Γ : tX} {Nb : Nat → Nat} {K : Int32 → tS → Prop} {mc ms : Nat} (C : TC Γ cX0_pour RX0 12 10260) (hE : tDyn (xad Γ)) (hB : mc ≤ (xR Γ).cells ∧ ms ≤ (xR Γ).slots) (hR : xnL Γ = 9) (r : TEz Γ Nb mc ms cX0_pour K) (hst : (xl Γ).stackTraces = false) (hT : (xc Γ).exceptionTable.toList = tableOf [(85, 97, 100, 163), (5, 112, 113, 41)]) {a1 : Int32} {a2 : Int32} {a3 : Int32} {a4 : Int32} {a5 : Int32} : ∀ (N0 : Nat → Nat) (hx : tExt Nb N0) (hw : tWf N0) (hX : N0 1025 ≠ 0) (uc : Nat) (us : Nat) (s0 : Nat) (S : tS), XV_pour_b100 a1 a2 a3 a4 a5 mc ms K uc us S → TJ Γ N0 uc us 100 [(0, .ref (xad Γ 1025))] [.ref s0] S := by
  intro N0 hx hw hX uc us s0 S hf
  unfold XV_pour_b100 at hf
  refine tj_astore C (by rw [hR]; decide) [(8, .ref s0), (0, .ref (xad Γ 1025))] rfl dX0_pour_100 ?_
  refine tj_aload_n C 1 rfl rfl dX0_pour_102 ?_
  refine gf_X0_44 C hX dX0_pour_103 ?_
  refine tj_iconst C kc_3 dX0_pour_106 ?_
  refine tj_callVa C (k := 4) [.int (nI 3)] [] (fun hN => c_Rf_by (by rw [hN]; exact hX) hf) lk_X0_97 ty_X3_by rfl (Nat.le_of_ble_eq_true rfl) (Nat.le_of_ble_eq_true rfl) (Nat.le_of_ble_eq_true rfl) (ne0 (ln_1156 hw hX)) rfl (by decide) rfl rfl dX0_pour_107 (fun S19 hf => ?_)
  refine tj_athrow C 4 1156 (ne0 (ln_1156 hw hX)) rfl (by decide) rfl dX0_pour_110 ?_
  refine tj_catch C [⟨85, 97, 100, 163⟩] ⟨5, 112, 113, 41⟩ [] hT (fun z hz => by rw [List.mem_singleton.mp hz]; exact Or.inl (by decide)) (by decide) (by decide) q287 q289 ?_
  exact tj_sub [1] (w_XV_pour_b113 C hE hB hR r hst hT _ hx hw hX _ _ _ hf) rfl
theorem w_XV_pour_b80 {Γ : tX} {Nb : Nat → Nat} {K : Int32 → tS → Prop} {mc ms : Nat} (C : TC Γ cX0_pour RX0 12 10260) (hE : tDyn (xad Γ)) (hB : mc ≤ (xR Γ).cells ∧ ms ≤ (xR Γ).slots) (hR : xnL Γ = 9) (r : TEz Γ Nb mc ms cX0_pour K) (hst : (xl Γ).stackTraces = false) (hT : (xc Γ).exceptionTable.toList = tableOf [(85, 97, 100, 163), (5, 112, 113, 41)]) {a1 : Int32} {a2 : Int32} {a3 : Int32} {a4 : Int32} {a5 : Int32} : ∀ (N0 : Nat → Nat) (hx : tExt Nb N0) (hw : tWf N0) (hX : N0 1025 ≠ 0) (uc : Nat) (us : Nat) (a6 : Nat) (a7 : Nat) (s1 : Int32) (S : tS), ∀ (h_a6 : N0 a6 ≠ 0 ∧ (16 ≤ a6 % 32 ∧ a6 % 32 ≤ 19)), ∀ (h_a7 : N0 a7 ≠ 0 ∧ (16 ≤ a7 % 32 ∧ a7 % 32 ≤ 19)), XV_pour_b80 a1 a2 a3 a4 a5 mc ms K uc us a6 a7 s1 S → TJ Γ N0 uc us 80 [(0, .ref (xad Γ 1025)), (2, .int a2), (4, .int a4), (5, .int a5), (6, .ref (xad Γ a6)), (7, .ref (xad Γ a7))] [.int s1, .ref (xad Γ 1025)] S := by
  intro N0 hx hw hX uc us a6 a7 s1 S h_a6 h_a7 hf
  unfold XV_pour_b80 at hf
  refine tj_bipush C kb_8 dX0_pour_80 ?_
  refine tj_xVv C (k := 1) [.int s1, .int (nI 8)] [] (fun hN => c_X_want (by rw [hN]; exact hX) hf) lk_X0_116 ty_X0_want rfl (Nat.le_of_ble_eq_true rfl) (Nat.le_of_ble_eq_true rfl) (Nat.le_of_ble_eq_true rfl) hX rfl (by decide) rfl rfl dX0_pour_82 (fun S17 hf => ?_) (fun S16 hf => ?_)
  · refine tj_catch C [⟨85, 97, 100, 163⟩] ⟨5, 112, 113, 41⟩ [] hT (fun z hz => by rw [List.mem_singleton.mp hz]; exact Or.inl (by decide)) (by decide) (by decide) q287 q289 ?_
    exact tj_sub [0] (w_XV_pour_b113 C hE hB hR r hst hT _ hx hw hX _ _ _ hf) rfl
  · refine tj_aload C 4 rfl dX0_pour_85 ?_
    refine tj_iload_n C 1 rfl rfl dX0_pour_87 ?_
    refine tj_aload C 5 rfl dX0_pour_88 ?_
    refine tj_iload C 2 rfl dX0_pour_90 ?_
    refine tj_iload C 3 rfl dX0_pour_92 ?_
    obtain ⟨hq1, hfY, hfN⟩ := hf
    by_cases hv : a2.toNatClampNeg + a5.toNatClampNeg ≤ gN S16 a6 - 1 ∧ a4.toNatClampNeg + a5.toNatClampNeg ≤ gN S16 a7 - 1
    · replace hf := hfY hv
      refine tj_pourY C a6 a7 ⟨h_a6.1, h_a6.2⟩ ⟨h_a7.1, h_a7.2⟩ hq1.1 q649 hq1.2 hv hf.1 (Nat.le_of_ble_eq_true rfl) (Nat.le_of_ble_eq_true rfl) (Nat.le_of_ble_eq_true rfl) dX0_pour_94 ?_
      replace hf := hf.2
      refine tj_topS (fun S18 eS => ?_)
      replace hf := hf S18 eS
      refine tj_goto C 111 (by decide) dX0_pour_97 ?_
      refine tj_iconst C kc_1 dX0_pour_111 ?_
      exact tj_up mc ms hB hf.1 (r _ _ _ _ _ hx dX0_pour_112 zb1 hf.2)
    · replace hf := hfN hv
      refine tj_pourZ C hst a6 a7 ⟨h_a6.1, h_a6.2⟩ ⟨h_a7.1, h_a7.2⟩ hq1.1 q649 hq1.2 hf.1 hv (Nat.le_of_ble_eq_true rfl) (Nat.le_of_ble_eq_true rfl) (Nat.le_of_ble_eq_true rfl) ⟨Nat.le_trans hf.2.1.1 hB.1, Nat.le_trans hf.2.1.2 hB.2⟩ dX0_pour_94 (fun q9 => ?_)
      replace hf := hf.2.2
      refine tj_catch C [] ⟨85, 97, 100, 163⟩ [⟨5, 112, 113, 41⟩] hT (fun z hz => nomatch hz) (by decide) (by decide) q645 q2420 ?_
      exact tj_sub [0] (w_XV_pour_b100 C hE hB hR r hst hT _ hx hw hX _ _ _ _ hf) rfl
theorem w_XV_pour_b43 {Γ : tX} {Nb : Nat → Nat} {K : Int32 → tS → Prop} {mc ms : Nat} (C : TC Γ cX0_pour RX0 12 10260) (hE : tDyn (xad Γ)) (hB : mc ≤ (xR Γ).cells ∧ ms ≤ (xR Γ).slots) (hR : xnL Γ = 9) (r : TEz Γ Nb mc ms cX0_pour K) (hst : (xl Γ).stackTraces = false) (hT : (xc Γ).exceptionTable.toList = tableOf [(85, 97, 100, 163), (5, 112, 113, 41)]) {a1 : Int32} {a2 : Int32} {a3 : Int32} {a4 : Int32} {a5 : Int32} : ∀ (N0 : Nat → Nat) (hx : tExt Nb N0) (hw : tWf N0) (hX : N0 1025 ≠ 0) (uc : Nat) (us : Nat) (s1 : Int32) (S : tS), XV_pour_b43 a1 a2 a3 a4 a5 mc ms K uc us s1 S → TJ Γ N0 uc us 43 [(0, .ref (xad Γ 1025)), (1, .int a1), (2, .int a2), (3, .int a3), (4, .int a4), (5, .int a5)] [.int s1, .ref (xad Γ 1025)] S := by
  intro N0 hx hw hX uc us s1 S hf
  unfold XV_pour_b43 at hf
  refine tj_iconst C kc_1 dX0_pour_43 ?_
  refine tj_xVv C (k := 1) [.int s1, .int (nI 1)] [] (fun hN => c_X_want (by rw [hN]; exact hX) hf) lk_X0_116 ty_X0_want rfl (Nat.le_of_ble_eq_true rfl) (Nat.le_of_ble_eq_true rfl) (Nat.le_of_ble_eq_true rfl) hX rfl (by decide) rfl rfl dX0_pour_44 (fun S3 hf => ?_) (fun S2 hf => ?_)
  · refine tj_catch C [⟨85, 97, 100, 163⟩] ⟨5, 112, 113, 41⟩ [] hT (fun z hz => by rw [List.mem_singleton.mp hz]; exact Or.inl (by decide)) (by decide) (by decide) q287 q289 ?_
    exact tj_sub [0] (w_XV_pour_b113 C hE hB hR r hst hT _ hx hw hX _ _ _ hf) rfl
  · refine tj_aload_n C 0 rfl rfl dX0_pour_47 ?_
    refine tj_iload_n C 1 rfl rfl dX0_pour_48 ?_
    refine tj_xVa C (k := 1) [.int a1] [] (fun hN => c_X_on (by rw [hN]; exact hX) hf) lk_X0_133 ty_X0_on rfl (Nat.le_of_ble_eq_true rfl) (Nat.le_of_ble_eq_true rfl) (Nat.le_of_ble_eq_true rfl) hX rfl (by decide) rfl rfl dX0_pour_49 (fun S5 hf => ?_) (fun t6 S4 hf hN => ?_)
    · refine tj_catch C [⟨85, 97, 100, 163⟩] ⟨5, 112, 113, 41⟩ [] hT (fun z hz => by rw [List.mem_singleton.mp hz]; exact Or.inl (by decide)) (by decide) (by decide) q287 q289 ?_
      exact tj_sub [0] (w_XV_pour_b113 C hE hB hR r hst hT _ hx hw hX _ _ _ hf) rfl
    · have h_t6 := hf.1
      rw [hN] at h_t6
      replace hf := hf.2
      refine tj_astore C (by rw [hR]; decide) [(6, .ref (xad Γ t6)), (0, .ref (xad Γ 1025)), (1, .int a1), (2, .int a2), (3, .int a3), (4, .int a4), (5, .int a5)] rfl dX0_pour_52 ?_
      refine tj_aload_n C 1 rfl rfl dX0_pour_54 ?_
      refine tj_iload_n C 4 rfl rfl dX0_pour_55 ?_
      refine tj_xVa C (k := 1) [.int a3] [] (fun hN => c_X_on (by rw [hN]; exact hX) hf) lk_X0_133 ty_X0_on rfl (Nat.le_of_ble_eq_true rfl) (Nat.le_of_ble_eq_true rfl) (Nat.le_of_ble_eq_true rfl) hX rfl (by decide) rfl rfl dX0_pour_56 (fun S8 hf => ?_) (fun t9 S7 hf hN => ?_)
      · refine tj_catch C [⟨85, 97, 100, 163⟩] ⟨5, 112, 113, 41⟩ [] hT (fun z hz => by rw [List.mem_singleton.mp hz]; exact Or.inl (by decide)) (by decide) (by decide) q287 q289 ?_
        exact tj_sub [1] (w_XV_pour_b113 C hE hB hR r hst hT _ hx hw hX _ _ _ hf) rfl
      · have h_t9 := hf.1
        rw [hN] at h_t9
        replace hf := hf.2
        refine tj_astore C (by rw [hR]; decide) [(7, .ref (xad Γ t9)), (6, .ref (xad Γ t6)), (0, .ref (xad Γ 1025)), (1, .int a1), (2, .int a2), (3, .int a3), (4, .int a4), (5, .int a5)] rfl dX0_pour_59 ?_
        refine tj_aload_n C 2 rfl rfl dX0_pour_61 ?_
        refine tj_aload C 1 rfl dX0_pour_62 ?_
        refine tj_callSi C [.ref (xad Γ t6)] [.ref (xad Γ 1025)] (fun hN => c_X_sortOf (by rw [hN]; exact ⟨h_t6.1, h_t6.2⟩) hf) lk_X0_153 ty_X0_sortOf rfl (Nat.le_of_ble_eq_true rfl) (Nat.le_of_ble_eq_true rfl) (Nat.le_of_ble_eq_true rfl) rfl dX0_pour_64 (fun r11 S10 hf => ?_)
        refine tj_aload C 0 rfl dX0_pour_67 ?_
        refine tj_callSi C [.ref (xad Γ t9)] [.int r11, .ref (xad Γ 1025)] (fun hN => c_X_sortOf (by rw [hN]; exact ⟨h_t9.1, h_t9.2⟩) hf) lk_X0_153 ty_X0_sortOf rfl (Nat.le_of_ble_eq_true rfl) (Nat.le_of_ble_eq_true rfl) (Nat.le_of_ble_eq_true rfl) rfl dX0_pour_69 (fun r13 S12 hf => ?_)
        refine tj_icmp_ne C 79 (by decide) dX0_pour_72 (fun hc => ?_) (fun hc => ?_)
        · replace hf := hf.2 hc
          refine tj_iconst C kc_0 dX0_pour_79 ?_
          exact tj_sub [2, 4, 6, 7, 1, 0] (w_XV_pour_b80 C hE hB hR r hst hT _ hx hw hX _ _ _ _ _ _ ⟨h_t6.1, h_t6.2⟩ ⟨h_t9.1, h_t9.2⟩ hf) rfl
        · replace hf := hf.1 hc
          refine tj_iconst C kc_1 dX0_pour_75 ?_
          refine tj_goto C 80 (by decide) dX0_pour_76 ?_
          exact tj_sub [2, 4, 6, 7, 1, 0] (w_XV_pour_b80 C hE hB hR r hst hT _ hx hw hX _ _ _ _ _ _ ⟨h_t6.1, h_t6.2⟩ ⟨h_t9.1, h_t9.2⟩ hf) rfl
theorem w_XV_pour_b42 {Γ : tX} {Nb : Nat → Nat} {K : Int32 → tS → Prop} {mc ms : Nat} (C : TC Γ cX0_pour RX0 12 10260) (hE : tDyn (xad Γ)) (hB : mc ≤ (xR Γ).cells ∧ ms ≤ (xR Γ).slots) (hR : xnL Γ = 9) (r : TEz Γ Nb mc ms cX0_pour K) (hst : (xl Γ).stackTraces = false) (hT : (xc Γ).exceptionTable.toList = tableOf [(85, 97, 100, 163), (5, 112, 113, 41)]) {a1 : Int32} {a2 : Int32} {a3 : Int32} {a4 : Int32} {a5 : Int32} : ∀ (N0 : Nat → Nat) (hx : tExt Nb N0) (hw : tWf N0) (hX : N0 1025 ≠ 0) (uc : Nat) (us : Nat) (S : tS), XV_pour_b42 a1 a2 a3 a4 a5 mc ms K uc us S → TJ Γ N0 uc us 42 [(0, .ref (xad Γ 1025)), (1, .int a1), (2, .int a2), (3, .int a3), (4, .int a4), (5, .int a5)] [.ref (xad Γ 1025)] S := by
  intro N0 hx hw hX uc us S hf
  unfold XV_pour_b42 at hf
  refine tj_iconst C kc_0 dX0_pour_42 ?_
  exact w_XV_pour_b43 C hE hB hR r hst hT _ hx hw hX _ _ _ _ hf
theorem w_XV_pour_b0 {Γ : tX} {Nb : Nat → Nat} {K : Int32 → tS → Prop} {mc ms : Nat} (C : TC Γ cX0_pour RX0 12 10260) (hE : tDyn (xad Γ)) (hB : mc ≤ (xR Γ).cells ∧ ms ≤ (xR Γ).slots) (hR : xnL Γ = 9) (r : TEz Γ Nb mc ms cX0_pour K) (hst : (xl Γ).stackTraces = false) (hT : (xc Γ).exceptionTable.toList = tableOf [(85, 97, 100, 163), (5, 112, 113, 41)]) (N0 : Nat → Nat) (hx : tExt Nb N0) (hw : tWf N0) {a1 : Int32} {a2 : Int32} {a3 : Int32} {a4 : Int32} {a5 : Int32} (hX : N0 1025 ≠ 0) {S : tS} (hf : XV_pour a1 a2 a3 a4 a5 mc ms S K) : TJ Γ N0 0 0 0 [(0, .ref (xad Γ 1025)), (1, .int a1), (2, .int a2), (3, .int a3), (4, .int a4), (5, .int a5)] [] S := by
  unfold XV_pour at hf
  refine tj_aload_n C 0 rfl rfl dX0_pour_0 ?_
  refine tj_iconst C kc_0 dX0_pour_1 ?_
  refine pf_X0_91 C hX dX0_pour_2 ?_
  refine tj_topS (fun S1 eS => ?_)
  replace hf := hf S1 eS
  refine tj_aload_n C 0 rfl rfl dX0_pour_5 ?_
  refine tj_iload_n C 1 rfl rfl dX0_pour_6 ?_
  refine tj_if_lt C 42 (by decide) dX0_pour_7 (fun hc => ?_) (fun hc => ?_)
  · replace hf := hf.1 hc
    exact w_XV_pour_b42 C hE hB hR r hst hT _ hx hw hX _ _ _ hf
  · replace hf := hf.2 hc
    refine tj_iload_n C 1 rfl rfl dX0_pour_10 ?_
    refine tj_iconst C kc_4 dX0_pour_11 ?_
    refine tj_icmp_ge C 42 (by decide) dX0_pour_12 (fun hc => ?_) (fun hc => ?_)
    · replace hf := hf.1 hc
      exact w_XV_pour_b42 C hE hB hR r hst hT _ hx hw hX _ _ _ hf
    · replace hf := hf.2 hc
      refine tj_iload_n C 3 rfl rfl dX0_pour_15 ?_
      refine tj_if_lt C 42 (by decide) dX0_pour_16 (fun hc => ?_) (fun hc => ?_)
      · replace hf := hf.1 hc
        exact w_XV_pour_b42 C hE hB hR r hst hT _ hx hw hX _ _ _ hf
      · replace hf := hf.2 hc
        refine tj_iload_n C 3 rfl rfl dX0_pour_19 ?_
        refine tj_iconst C kc_4 dX0_pour_20 ?_
        refine tj_icmp_ge C 42 (by decide) dX0_pour_21 (fun hc => ?_) (fun hc => ?_)
        · replace hf := hf.1 hc
          exact w_XV_pour_b42 C hE hB hR r hst hT _ hx hw hX _ _ _ hf
        · replace hf := hf.2 hc
          refine tj_iload_n C 2 rfl rfl dX0_pour_24 ?_
          refine tj_if_lt C 42 (by decide) dX0_pour_25 (fun hc => ?_) (fun hc => ?_)
          · replace hf := hf.1 hc
            exact w_XV_pour_b42 C hE hB hR r hst hT _ hx hw hX _ _ _ hf
          · replace hf := hf.2 hc
            refine tj_iload C 4 rfl dX0_pour_28 ?_
            refine tj_if_lt C 42 (by decide) dX0_pour_30 (fun hc => ?_) (fun hc => ?_)
            · replace hf := hf.1 hc
              exact w_XV_pour_b42 C hE hB hR r hst hT _ hx hw hX _ _ _ hf
            · replace hf := hf.2 hc
              refine tj_iload C 5 rfl dX0_pour_33 ?_
              refine tj_if_lt C 42 (by decide) dX0_pour_35 (fun hc => ?_) (fun hc => ?_)
              · replace hf := hf.1 hc
                exact w_XV_pour_b42 C hE hB hR r hst hT _ hx hw hX _ _ _ hf
              · replace hf := hf.2 hc
                refine tj_iconst C kc_1 dX0_pour_38 ?_
                refine tj_goto C 43 (by decide) dX0_pour_39 ?_
                exact w_XV_pour_b43 C hE hB hR r hst hT _ hx hw hX _ _ _ _ hf
theorem c_XV_pour {l : Launch} {G : tG} {ad : Nat → Nat} {A : Nat → Prop} {S : tS} {K : Int32 → tS → Prop} {mc ms : Nat} {a1 : Int32} {a2 : Int32} {a3 : Int32} {a4 : Int32} {a5 : Int32} (hX : gN S 1025 ≠ 0) (hE : tDyn ad) (hst : l.stackTraces = false) (hf : XV_pour a1 a2 a3 a4 a5 mc ms S K) : vx_Met l yX0_pour (wsW_ yX0_pour cX0_pour 9 (some .boolean) [(85, 97, 100, 163), (5, 112, 113, 41)]) (tRe 12 10260 mc ms) (va_Pc [.ref (ad 1025), .int a1, .int a2, .int a3, .int a4, .int a5] (tPre G ad A S)) (va_Qi (fun r u => r &&& 1 = r ∧ K r u) (tBE G ad A (gN S)) A) (vx_X (fun _ => False) (tBXE G ad A (gN S) RX2 1123) A) mc ms A :=
  te_xmetW_z [(0, .ref (ad 1025)), (1, .int a1), (2, .int a2), (3, .int a3), (4, .int a4), (5, .int a5)] pn_X0 rfl (Nat.le_of_ble_eq_true rfl) (fun p e R s m args below meth c Q C hw hB hT r => w_XV_pour_b0 C hE hB rfl r hst hT _ tExt.rf hw hX hf)
