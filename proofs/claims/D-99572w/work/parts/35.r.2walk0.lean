set_option maxRecDepth 100000
theorem w_Rd_isWord_l28 {Γ : tX} {N0 : Nat → Nat} {K : Int32 → tS → Prop} (C : TC Γ cX7_isWord RX7 4 85) (hw : tWf N0) (hR : xnL Γ = 3) (r : TRz Γ N0 cX7_isWord K) {t0 : Nat} {a1 : Nat} (h_t0 : N0 t0 ≠ 0 ∧ t0 % 32 = 11) (hX : N0 1025 ≠ 0) (h_a1 : a1 < nST) : ∀ (n : Nat) (a2 : Int32) (S : tS), Rd_isWord_l28 t0 a1 K n a2 S → TJ Γ N0 0 0 28 [(0, .ref (xad Γ t0)), (1, .ref (xK Γ a1)), (2, .int a2)] [] S := by
  intro n
  induction n with
  | zero => intro a2 S hf; exact hf.elim
  | succ n ih =>
    intro a2 S hf
    unfold Rd_isWord_l28 at hf
    refine tj_iload_n C 2 rfl rfl dX7_isWord_28 ?_
    refine tj_aload_n C 1 rfl rfl dX7_isWord_29 ?_
    refine tj_slength C a1 h_a1 q718 (Nat.le_of_ble_eq_true rfl) (Nat.le_of_ble_eq_true rfl) (Nat.le_of_ble_eq_true rfl) dX7_isWord_30 ?_
    refine tj_icmp_ge C 66 (by decide) dX7_isWord_33 (fun hc => ?_) (fun hc => ?_)
    · replace hf := hf.1 hc
      refine tj_iconst C kc_1 dX7_isWord_66 ?_
      exact r _ _ _ _ dX7_isWord_67 zb1 hf
    · replace hf := hf.2 hc
      refine tj_aload_n C 0 rfl rfl dX7_isWord_36 ?_
      refine gf_X7_3 C h_t0.2 h_t0.1 dX7_isWord_37 ?_
      refine tj_some hf.1 ?_
      replace hf := hf.2
      refine gf_X7_22 C hX dX7_isWord_40 ?_
      refine tj_aload_n C 0 rfl rfl dX7_isWord_43 ?_
      refine gf_X7_29 C h_t0.2 h_t0.1 dX7_isWord_44 ?_
      refine tj_iload_n C 2 rfl rfl dX7_isWord_47 ?_
      refine tj_iadd C dX7_isWord_48 ?_
      refine tj_bald C 1106 900 rfl (ln_1106 hw hX) _ rfl hf.1 dX7_isWord_49 ?_
      replace hf := hf.2
      refine tj_aload_n C 1 rfl rfl dX7_isWord_50 ?_
      refine tj_iload_n C 2 rfl rfl dX7_isWord_51 ?_
      refine tj_scharAt C a1 h_a1 hf.1 q728 (Nat.le_of_ble_eq_true rfl) (Nat.le_of_ble_eq_true rfl) (Nat.le_of_ble_eq_true rfl) dX7_isWord_52 ?_
      replace hf := hf.2
      refine tj_icmp_eq C 60 (by decide) dX7_isWord_55 (fun hc => ?_) (fun hc => ?_)
      · replace hf := hf.1 hc
        obtain ⟨x1, ex⟩ : ∃ y : Int32, y = a2 + nI 1 := ⟨_, rfl⟩
        refine tj_iinc C (by rw [hR]; decide) 2 [(2, .int x1), (0, .ref (xad Γ t0)), (1, .ref (xK Γ a1))] rfl (by rw [ex]; exact ki_1 _) rfl dX7_isWord_60 ?_
        replace hf := hf x1 ex
        refine tj_goto C 28 (by decide) dX7_isWord_63 ?_
        exact tj_sub [1, 2, 0] (ih _ _ hf) rfl
      · replace hf := hf.2 hc
        refine tj_iconst C kc_0 dX7_isWord_58 ?_
        exact r _ _ _ _ dX7_isWord_59 zb0 hf
theorem w_Rd_isWord_b0 {Γ : tX} {N0 : Nat → Nat} {K : Int32 → tS → Prop} (C : TC Γ cX7_isWord RX7 4 85) (hw : tWf N0) (hR : xnL Γ = 3) (r : TRz Γ N0 cX7_isWord K) {t0 : Nat} {a1 : Nat} (h_t0 : N0 t0 ≠ 0 ∧ t0 % 32 = 11) (hX : N0 1025 ≠ 0) (h_a1 : a1 < nST) {S : tS} (hf : Rd_isWord t0 a1 S K) : TJ Γ N0 0 0 0 [(0, .ref (xad Γ t0)), (1, .ref (xK Γ a1))] [] S := by
  unfold Rd_isWord at hf
  refine tj_aload_n C 0 rfl rfl dX7_isWord_0 ?_
  refine gf_X7_32 C h_t0.2 h_t0.1 dX7_isWord_1 ?_
  refine tj_iconst C kc_1 dX7_isWord_4 ?_
  refine tj_icmp_ne C 24 (by decide) dX7_isWord_5 (fun hc => ?_) (fun hc => ?_)
  · replace hf := hf.2 hc
    refine tj_iconst C kc_0 dX7_isWord_24 ?_
    exact r _ _ _ _ dX7_isWord_25 zb0 hf
  · replace hf := hf.1 hc
    refine tj_aload_n C 0 rfl rfl dX7_isWord_8 ?_
    refine gf_X7_26 C h_t0.2 h_t0.1 dX7_isWord_9 ?_
    refine tj_aload_n C 0 rfl rfl dX7_isWord_12 ?_
    refine gf_X7_29 C h_t0.2 h_t0.1 dX7_isWord_13 ?_
    refine tj_isub C dX7_isWord_16 ?_
    refine tj_aload_n C 1 rfl rfl dX7_isWord_17 ?_
    refine tj_slength C a1 h_a1 q718 (Nat.le_of_ble_eq_true rfl) (Nat.le_of_ble_eq_true rfl) (Nat.le_of_ble_eq_true rfl) dX7_isWord_18 ?_
    refine tj_icmp_eq C 26 (by decide) dX7_isWord_21 (fun hc => ?_) (fun hc => ?_)
    · replace hf := hf.1 hc
      refine tj_iconst C kc_0 dX7_isWord_26 ?_
      refine tj_istore_n C (by rw [hR]; decide) [(2, .int (nI 0)), (0, .ref (xad Γ t0)), (1, .ref (xK Γ a1))] rfl rfl dX7_isWord_27 ?_
      exact tj_sub [1, 2, 0] (hf.elim fun k hf => w_Rd_isWord_l28 C hw hR r h_t0 hX h_a1 k _ _ hf) rfl
    · replace hf := hf.2 hc
      refine tj_iconst C kc_0 dX7_isWord_24 ?_
      exact r _ _ _ _ dX7_isWord_25 zb0 hf
theorem c_Rd_isWord {l : Launch} {G : tG} {ad : Nat → Nat} {A : Nat → Prop} {S : tS} {K : Int32 → tS → Prop} {t0 : Nat} {a1 : Nat} (h_t0 : gN S t0 ≠ 0 ∧ t0 % 32 = 11) (hX : gN S 1025 ≠ 0) (h_a1 : a1 < nST) (hf : Rd_isWord t0 a1 S K) : Met l yX7_isWord (ws_ yX7_isWord cX7_isWord 3 (some .boolean)) (tRm 4 85) (va_Pc [.ref (ad t0), .ref (G.2.2.1 a1)] (tPre G ad A S)) (va_Qi (fun r u => r &&& 1 = r ∧ K r u) (tB G ad A (gN S)) A) 0 0 A :=
  tj_met_z [(0, .ref (ad t0)), (1, .ref (G.2.2.1 a1))] pn_X7 rfl (Nat.le_of_ble_eq_true rfl) (fun p e R s m args below meth c Q C hw r => w_Rd_isWord_b0 C hw rfl r h_t0 hX h_a1 hf)
theorem w_Rd_isLetter_b0 {Γ : tX} {N0 : Nat → Nat} {K : Int32 → tS → Prop} (C : TC Γ cX7_isLetter RX7 0 0) (hw : tWf N0) (hR : xnL Γ = 2) (r : TRz Γ N0 cX7_isLetter K) {t0 : Nat} {a1 : Int32} (h_t0 : N0 t0 ≠ 0 ∧ t0 % 32 = 11) (hX : N0 1025 ≠ 0) {S : tS} (hf : Rd_isLetter t0 a1 S K) : TJ Γ N0 0 0 0 [(0, .ref (xad Γ t0)), (1, .int a1)] [] S := by
  unfold Rd_isLetter at hf
  refine tj_iload_n C 1 rfl rfl dX7_isLetter_0 ?_
  refine tj_aload_n C 0 rfl rfl dX7_isLetter_1 ?_
  refine gf_X7_15 C h_t0.2 h_t0.1 dX7_isLetter_2 ?_
  refine tj_icmp_ge C 40 (by decide) dX7_isLetter_5 (fun hc => ?_) (fun hc => ?_)
  · replace hf := hf.1 hc
    refine tj_iconst C kc_0 dX7_isLetter_40 ?_
    exact r _ _ _ _ dX7_isLetter_41 zb0 hf
  · replace hf := hf.2 hc
    refine tj_aload_n C 0 rfl rfl dX7_isLetter_8 ?_
    refine gf_X7_3 C h_t0.2 h_t0.1 dX7_isLetter_9 ?_
    refine tj_some hf.1 ?_
    replace hf := hf.2
    refine gf_X7_22 C hX dX7_isLetter_12 ?_
    refine tj_iload_n C 1 rfl rfl dX7_isLetter_15 ?_
    refine tj_bald C 1106 900 rfl (ln_1106 hw hX) _ rfl hf.1 dX7_isLetter_16 ?_
    replace hf := hf.2
    refine tj_bipush C kb_97 dX7_isLetter_17 ?_
    refine tj_icmp_lt C 40 (by decide) dX7_isLetter_19 (fun hc => ?_) (fun hc => ?_)
    · replace hf := hf.1 hc
      refine tj_iconst C kc_0 dX7_isLetter_40 ?_
      exact r _ _ _ _ dX7_isLetter_41 zb0 hf
    · replace hf := hf.2 hc
      refine tj_aload_n C 0 rfl rfl dX7_isLetter_22 ?_
      refine gf_X7_3 C h_t0.2 h_t0.1 dX7_isLetter_23 ?_
      refine tj_some hf.1 ?_
      replace hf := hf.2
      refine gf_X7_22 C hX dX7_isLetter_26 ?_
      refine tj_iload_n C 1 rfl rfl dX7_isLetter_29 ?_
      refine tj_bald C 1106 900 rfl (ln_1106 hw hX) _ rfl hf.1 dX7_isLetter_30 ?_
      replace hf := hf.2
      refine tj_bipush C kb_122 dX7_isLetter_31 ?_
      refine tj_icmp_gt C 40 (by decide) dX7_isLetter_33 (fun hc => ?_) (fun hc => ?_)
      · replace hf := hf.1 hc
        refine tj_iconst C kc_0 dX7_isLetter_40 ?_
        exact r _ _ _ _ dX7_isLetter_41 zb0 hf
      · replace hf := hf.2 hc
        refine tj_iconst C kc_1 dX7_isLetter_36 ?_
        refine tj_goto C 41 (by decide) dX7_isLetter_37 ?_
        exact r _ _ _ _ dX7_isLetter_41 zb1 hf
theorem c_Rd_isLetter {l : Launch} {G : tG} {ad : Nat → Nat} {A : Nat → Prop} {S : tS} {K : Int32 → tS → Prop} {t0 : Nat} {a1 : Int32} (h_t0 : gN S t0 ≠ 0 ∧ t0 % 32 = 11) (hX : gN S 1025 ≠ 0) (hf : Rd_isLetter t0 a1 S K) : Met l yX7_isLetter (ws_ yX7_isLetter cX7_isLetter 2 (some .boolean)) (tRm 0 0) (va_Pc [.ref (ad t0), .int a1] (tPre G ad A S)) (va_Qi (fun r u => r &&& 1 = r ∧ K r u) (tB G ad A (gN S)) A) 0 0 A :=
  tj_met_z [(0, .ref (ad t0)), (1, .int a1)] pn_X7 rfl (Nat.le_of_ble_eq_true rfl) (fun p e R s m args below meth c Q C hw r => w_Rd_isLetter_b0 C hw rfl r h_t0 hX hf)
theorem w_Rd_isDigit_b0 {Γ : tX} {N0 : Nat → Nat} {K : Int32 → tS → Prop} (C : TC Γ cX7_isDigit RX7 0 0) (hw : tWf N0) (hR : xnL Γ = 2) (r : TRz Γ N0 cX7_isDigit K) {t0 : Nat} {a1 : Int32} (h_t0 : N0 t0 ≠ 0 ∧ t0 % 32 = 11) (hX : N0 1025 ≠ 0) {S : tS} (hf : Rd_isDigit t0 a1 S K) : TJ Γ N0 0 0 0 [(0, .ref (xad Γ t0)), (1, .int a1)] [] S := by
  unfold Rd_isDigit at hf
  refine tj_iload_n C 1 rfl rfl dX7_isDigit_0 ?_
  refine tj_aload_n C 0 rfl rfl dX7_isDigit_1 ?_
  refine gf_X7_15 C h_t0.2 h_t0.1 dX7_isDigit_2 ?_
  refine tj_icmp_ge C 40 (by decide) dX7_isDigit_5 (fun hc => ?_) (fun hc => ?_)
  · replace hf := hf.1 hc
    refine tj_iconst C kc_0 dX7_isDigit_40 ?_
    exact r _ _ _ _ dX7_isDigit_41 zb0 hf
  · replace hf := hf.2 hc
    refine tj_aload_n C 0 rfl rfl dX7_isDigit_8 ?_
    refine gf_X7_3 C h_t0.2 h_t0.1 dX7_isDigit_9 ?_
    refine tj_some hf.1 ?_
    replace hf := hf.2
    refine gf_X7_22 C hX dX7_isDigit_12 ?_
    refine tj_iload_n C 1 rfl rfl dX7_isDigit_15 ?_
    refine tj_bald C 1106 900 rfl (ln_1106 hw hX) _ rfl hf.1 dX7_isDigit_16 ?_
    replace hf := hf.2
    refine tj_bipush C kb_48 dX7_isDigit_17 ?_
    refine tj_icmp_lt C 40 (by decide) dX7_isDigit_19 (fun hc => ?_) (fun hc => ?_)
    · replace hf := hf.1 hc
      refine tj_iconst C kc_0 dX7_isDigit_40 ?_
      exact r _ _ _ _ dX7_isDigit_41 zb0 hf
    · replace hf := hf.2 hc
      refine tj_aload_n C 0 rfl rfl dX7_isDigit_22 ?_
      refine gf_X7_3 C h_t0.2 h_t0.1 dX7_isDigit_23 ?_
      refine tj_some hf.1 ?_
      replace hf := hf.2
      refine gf_X7_22 C hX dX7_isDigit_26 ?_
      refine tj_iload_n C 1 rfl rfl dX7_isDigit_29 ?_
      refine tj_bald C 1106 900 rfl (ln_1106 hw hX) _ rfl hf.1 dX7_isDigit_30 ?_
      replace hf := hf.2
      refine tj_bipush C kb_57 dX7_isDigit_31 ?_
      refine tj_icmp_gt C 40 (by decide) dX7_isDigit_33 (fun hc => ?_) (fun hc => ?_)
      · replace hf := hf.1 hc
        refine tj_iconst C kc_0 dX7_isDigit_40 ?_
        exact r _ _ _ _ dX7_isDigit_41 zb0 hf
      · replace hf := hf.2 hc
        refine tj_iconst C kc_1 dX7_isDigit_36 ?_
        refine tj_goto C 41 (by decide) dX7_isDigit_37 ?_
        exact r _ _ _ _ dX7_isDigit_41 zb1 hf
theorem c_Rd_isDigit {l : Launch} {G : tG} {ad : Nat → Nat} {A : Nat → Prop} {S : tS} {K : Int32 → tS → Prop} {t0 : Nat} {a1 : Int32} (h_t0 : gN S t0 ≠ 0 ∧ t0 % 32 = 11) (hX : gN S 1025 ≠ 0) (hf : Rd_isDigit t0 a1 S K) : Met l yX7_isDigit (ws_ yX7_isDigit cX7_isDigit 2 (some .boolean)) (tRm 0 0) (va_Pc [.ref (ad t0), .int a1] (tPre G ad A S)) (va_Qi (fun r u => r &&& 1 = r ∧ K r u) (tB G ad A (gN S)) A) 0 0 A :=
  tj_met_z [(0, .ref (ad t0)), (1, .int a1)] pn_X7 rfl (Nat.le_of_ble_eq_true rfl) (fun p e R s m args below meth c Q C hw r => w_Rd_isDigit_b0 C hw rfl r h_t0 hX hf)
theorem w_Rd_next_b320 {Γ : tX} {N0 : Nat → Nat} {K : tS → Prop} (C : TC Γ cX7_next RX7 1 21) (hw : tWf N0) (hR : xnL Γ = 1) (r : TRv Γ N0 cX7_next K) {t0 : Nat} (h_t0 : N0 t0 ≠ 0 ∧ t0 % 32 = 11) (hX : N0 1025 ≠ 0) {s1 : Int32} {S : tS} (hf : Rd_next_b320 t0 K s1 S) : TJ Γ N0 0 0 320 [] [.int s1, .ref (xad Γ t0)] S := by
  unfold Rd_next_b320 at hf
  refine pf_X7_32 C h_t0.2 h_t0.1 dX7_next_320 ?_
  refine tj_topS (fun S12 eS => ?_)
  replace hf := hf S12 eS
  exact r _ _ _ dX7_next_323 hf
theorem w_Rd_next_b315 {Γ : tX} {N0 : Nat → Nat} {K : tS → Prop} (C : TC Γ cX7_next RX7 1 21) (hw : tWf N0) (hR : xnL Γ = 1) (r : TRv Γ N0 cX7_next K) {t0 : Nat} (h_t0 : N0 t0 ≠ 0 ∧ t0 % 32 = 11) (hX : N0 1025 ≠ 0) {S : tS} (hf : Rd_next_b315 t0 K  S) : TJ Γ N0 0 0 315 [] [.ref (xad Γ t0)] S := by
  unfold Rd_next_b315 at hf
  refine tj_iconst C kc_3 dX7_next_315 ?_
  refine tj_goto C 320 (by decide) dX7_next_316 ?_
  exact w_Rd_next_b320 C hw hR r h_t0 hX hf
theorem w_Rd_next_b230 {Γ : tX} {N0 : Nat → Nat} {K : tS → Prop} (C : TC Γ cX7_next RX7 1 21) (hw : tWf N0) (hR : xnL Γ = 1) (r : TRv Γ N0 cX7_next K) {t0 : Nat} (h_t0 : N0 t0 ≠ 0 ∧ t0 % 32 = 11) (hX : N0 1025 ≠ 0) {s1 : Int32} {S : tS} (hf : Rd_next_b230 t0 K s1 S) : TJ Γ N0 0 0 230 [] [.int s1, .ref (xad Γ t0)] S := by
  unfold Rd_next_b230 at hf
  refine pf_X7_32 C h_t0.2 h_t0.1 dX7_next_230 ?_
  refine tj_topS (fun S19 eS => ?_)
  replace hf := hf S19 eS
  refine tj_goto C 323 (by decide) dX7_next_233 ?_
  exact r _ _ _ dX7_next_323 hf
theorem w_Rd_next_b198 {Γ : tX} {N0 : Nat → Nat} {K : tS → Prop} (C : TC Γ cX7_next RX7 1 21) (hw : tWf N0) (hR : xnL Γ = 1) (r : TRv Γ N0 cX7_next K) {t0 : Nat} (h_t0 : N0 t0 ≠ 0 ∧ t0 % 32 = 11) (hX : N0 1025 ≠ 0) {κ147 : tS → Prop} (hκ147 : ∀  (S : tS), κ147  S → TJ Γ N0 0 0 147 [(0, .ref (xad Γ t0))] [] S) {S : tS} (hf : Rd_next_b198 t0 K κ147  S) : TJ Γ N0 0 0 198 [(0, .ref (xad Γ t0))] [] S := by
  unfold Rd_next_b198 at hf
  refine tj_aload_n C 0 rfl rfl dX7_next_198 ?_
  refine tj_dup C rfl dX7_next_199 ?_
  refine gf_X7_26 C h_t0.2 h_t0.1 dX7_next_200 ?_
  refine tj_iconst C kc_1 dX7_next_203 ?_
  refine tj_iadd C dX7_next_204 ?_
  refine pf_X7_26 C h_t0.2 h_t0.1 dX7_next_205 ?_
  refine tj_topS (fun S20 eS => ?_)
  replace hf := hf S20 eS
  refine tj_goto C 147 (by decide) dX7_next_208 ?_
  exact hκ147 _ hf
theorem w_Rd_next_l147 {Γ : tX} {N0 : Nat → Nat} {K : tS → Prop} (C : TC Γ cX7_next RX7 1 21) (hw : tWf N0) (hR : xnL Γ = 1) (r : TRv Γ N0 cX7_next K) {t0 : Nat} (h_t0 : N0 t0 ≠ 0 ∧ t0 % 32 = 11) (hX : N0 1025 ≠ 0) : ∀ (n : Nat)  (S : tS), Rd_next_l147 t0 K n  S → TJ Γ N0 0 0 147 [(0, .ref (xad Γ t0))] [] S := by
  intro n
  induction n with
  | zero => intro  S hf; exact hf.elim
  | succ n ih =>
    intro  S hf
    unfold Rd_next_l147 at hf
    refine tj_aload_n C 0 rfl rfl dX7_next_147 ?_
    refine tj_aload_n C 0 rfl rfl dX7_next_148 ?_
    refine gf_X7_26 C h_t0.2 h_t0.1 dX7_next_149 ?_
    refine tj_callVz C (k := 11) [.int (gI S t0 2)] [] (fun hN => c_Rd_isDigit (by rw [hN]; exact ⟨h_t0.1, h_t0.2⟩) (by rw [hN]; exact hX) hf) lk_X7_39 ty_X7_isDigit rfl (Nat.le_of_ble_eq_true rfl) (Nat.le_of_ble_eq_true rfl) (Nat.le_of_ble_eq_true rfl) h_t0.1 h_t0.2 (by decide) rfl rfl dX7_next_152 (fun r14 S13 hf => ?_)
    have hz_r14 := hf.1
    replace hf := hf.2
    refine tj_if_eq C 211 (by decide) dX7_next_155 (fun hc => ?_) (fun hc => ?_)
    · replace hf := hf.1 hc
      refine tj_aload_n C 0 rfl rfl dX7_next_211 ?_
      refine tj_aload_n C 0 rfl rfl dX7_next_212 ?_
      refine gf_X7_26 C h_t0.2 h_t0.1 dX7_next_213 ?_
      refine tj_aload_n C 0 rfl rfl dX7_next_216 ?_
      refine gf_X7_29 C h_t0.2 h_t0.1 dX7_next_217 ?_
      refine tj_isub C dX7_next_220 ?_
      refine tj_iconst C kc_4 dX7_next_221 ?_
      refine tj_icmp_le C 229 (by decide) dX7_next_222 (fun hc => ?_) (fun hc => ?_)
      · replace hf := hf.1 hc
        refine tj_iconst C kc_2 dX7_next_229 ?_
        exact tj_sub [] (w_Rd_next_b230 C hw hR r h_t0 hX hf) rfl
      · replace hf := hf.2 hc
        refine tj_iconst C kc_4 dX7_next_225 ?_
        refine tj_goto C 230 (by decide) dX7_next_226 ?_
        exact tj_sub [] (w_Rd_next_b230 C hw hR r h_t0 hX hf) rfl
    · replace hf := hf.2 hc
      refine tj_aload_n C 0 rfl rfl dX7_next_158 ?_
      refine gf_X7_26 C h_t0.2 h_t0.1 dX7_next_159 ?_
      refine tj_aload_n C 0 rfl rfl dX7_next_162 ?_
      refine gf_X7_29 C h_t0.2 h_t0.1 dX7_next_163 ?_
      refine tj_isub C dX7_next_166 ?_
      refine tj_iconst C kc_4 dX7_next_167 ?_
      refine tj_icmp_ge C 198 (by decide) dX7_next_168 (fun hc => ?_) (fun hc => ?_)
      · replace hf := hf.1 hc
        exact w_Rd_next_b198 C hw hR r h_t0 hX ih hf
      · replace hf := hf.2 hc
        refine tj_aload_n C 0 rfl rfl dX7_next_171 ?_
        refine tj_bipush C kb_10 dX7_next_172 ?_
        refine tj_aload_n C 0 rfl rfl dX7_next_174 ?_
        refine gf_X7_42 C h_t0.2 h_t0.1 dX7_next_175 ?_
        refine tj_imul C dX7_next_178 ?_
        refine tj_aload_n C 0 rfl rfl dX7_next_179 ?_
        refine gf_X7_3 C h_t0.2 h_t0.1 dX7_next_180 ?_
        refine tj_some hf.1 ?_
        replace hf := hf.2
        refine gf_X7_22 C hX dX7_next_183 ?_
        refine tj_aload_n C 0 rfl rfl dX7_next_186 ?_
        refine gf_X7_26 C h_t0.2 h_t0.1 dX7_next_187 ?_
        refine tj_bald C 1106 900 rfl (ln_1106 hw hX) _ rfl hf.1 dX7_next_190 ?_
        replace hf := hf.2
        refine tj_iadd C dX7_next_191 ?_
        refine tj_bipush C kb_48 dX7_next_192 ?_
        refine tj_isub C dX7_next_194 ?_
        refine pf_X7_42 C h_t0.2 h_t0.1 dX7_next_195 ?_
        refine tj_topS (fun S15 eS => ?_)
        replace hf := hf S15 eS
        exact w_Rd_next_b198 C hw hR r h_t0 hX ih hf
theorem w_Rd_next_l107 {Γ : tX} {N0 : Nat → Nat} {K : tS → Prop} (C : TC Γ cX7_next RX7 1 21) (hw : tWf N0) (hR : xnL Γ = 1) (r : TRv Γ N0 cX7_next K) {t0 : Nat} (h_t0 : N0 t0 ≠ 0 ∧ t0 % 32 = 11) (hX : N0 1025 ≠ 0) : ∀ (n : Nat)  (S : tS), Rd_next_l107 t0 K n  S → TJ Γ N0 0 0 107 [(0, .ref (xad Γ t0))] [] S := by
  intro n
  induction n with
  | zero => intro  S hf; exact hf.elim
  | succ n ih =>
    intro  S hf
    unfold Rd_next_l107 at hf
    refine tj_aload_n C 0 rfl rfl dX7_next_107 ?_
    refine tj_aload_n C 0 rfl rfl dX7_next_108 ?_
    refine gf_X7_26 C h_t0.2 h_t0.1 dX7_next_109 ?_
    refine tj_callVz C (k := 11) [.int (gI S t0 2)] [] (fun hN => c_Rd_isLetter (by rw [hN]; exact ⟨h_t0.1, h_t0.2⟩) (by rw [hN]; exact hX) hf) lk_X7_35 ty_X7_isLetter rfl (Nat.le_of_ble_eq_true rfl) (Nat.le_of_ble_eq_true rfl) (Nat.le_of_ble_eq_true rfl) h_t0.1 h_t0.2 (by decide) rfl rfl dX7_next_112 (fun r17 S16 hf => ?_)
    have hz_r17 := hf.1
    replace hf := hf.2
    refine tj_if_eq C 323 (by decide) dX7_next_115 (fun hc => ?_) (fun hc => ?_)
    · replace hf := hf.1 hc
      exact r _ _ _ dX7_next_323 hf
    · replace hf := hf.2 hc
      refine tj_aload_n C 0 rfl rfl dX7_next_118 ?_
      refine tj_dup C rfl dX7_next_119 ?_
      refine gf_X7_26 C h_t0.2 h_t0.1 dX7_next_120 ?_
      refine tj_iconst C kc_1 dX7_next_123 ?_
      refine tj_iadd C dX7_next_124 ?_
      refine pf_X7_26 C h_t0.2 h_t0.1 dX7_next_125 ?_
      refine tj_topS (fun S18 eS => ?_)
      replace hf := hf S18 eS
      refine tj_goto C 107 (by decide) dX7_next_128 ?_
      exact ih _ hf
theorem w_Rd_next_b66 {Γ : tX} {N0 : Nat → Nat} {K : tS → Prop} (C : TC Γ cX7_next RX7 1 21) (hw : tWf N0) (hR : xnL Γ = 1) (r : TRv Γ N0 cX7_next K) {t0 : Nat} (h_t0 : N0 t0 ≠ 0 ∧ t0 % 32 = 11) (hX : N0 1025 ≠ 0) {S : tS} (hf : Rd_next_b66 t0 K  S) : TJ Γ N0 0 0 66 [(0, .ref (xad Γ t0))] [] S := by
  unfold Rd_next_b66 at hf
  refine tj_aload_n C 0 rfl rfl dX7_next_66 ?_
  refine tj_aload_n C 0 rfl rfl dX7_next_67 ?_
  refine gf_X7_29 C h_t0.2 h_t0.1 dX7_next_68 ?_
  refine pf_X7_26 C h_t0.2 h_t0.1 dX7_next_71 ?_
  refine tj_topS (fun S2 eS => ?_)
  replace hf := hf S2 eS
  refine tj_aload_n C 0 rfl rfl dX7_next_74 ?_
  refine tj_iconst C kc_0 dX7_next_75 ?_
  refine pf_X7_32 C h_t0.2 h_t0.1 dX7_next_76 ?_
  refine tj_topS (fun S3 eS => ?_)
  replace hf := hf S3 eS
  refine tj_aload_n C 0 rfl rfl dX7_next_79 ?_
  refine gf_X7_29 C h_t0.2 h_t0.1 dX7_next_80 ?_
  refine tj_aload_n C 0 rfl rfl dX7_next_83 ?_
  refine gf_X7_15 C h_t0.2 h_t0.1 dX7_next_84 ?_
  refine tj_icmp_lt C 91 (by decide) dX7_next_87 (fun hc => ?_) (fun hc => ?_)
  · replace hf := hf.1 hc
    refine tj_aload_n C 0 rfl rfl dX7_next_91 ?_
    refine tj_aload_n C 0 rfl rfl dX7_next_92 ?_
    refine gf_X7_29 C h_t0.2 h_t0.1 dX7_next_93 ?_
    refine tj_callVz C (k := 11) [.int (gI S3 t0 1)] [] (fun hN => c_Rd_isLetter (by rw [hN]; exact ⟨h_t0.1, h_t0.2⟩) (by rw [hN]; exact hX) hf) lk_X7_35 ty_X7_isLetter rfl (Nat.le_of_ble_eq_true rfl) (Nat.le_of_ble_eq_true rfl) (Nat.le_of_ble_eq_true rfl) h_t0.1 h_t0.2 (by decide) rfl rfl dX7_next_96 (fun r5 S4 hf => ?_)
    have hz_r5 := hf.1
    replace hf := hf.2
    refine tj_if_eq C 131 (by decide) dX7_next_99 (fun hc => ?_) (fun hc => ?_)
    · replace hf := hf.1 hc
      refine tj_aload_n C 0 rfl rfl dX7_next_131 ?_
      refine tj_aload_n C 0 rfl rfl dX7_next_132 ?_
      refine gf_X7_29 C h_t0.2 h_t0.1 dX7_next_133 ?_
      refine tj_callVz C (k := 11) [.int (gI S4 t0 1)] [] (fun hN => c_Rd_isDigit (by rw [hN]; exact ⟨h_t0.1, h_t0.2⟩) (by rw [hN]; exact hX) hf) lk_X7_39 ty_X7_isDigit rfl (Nat.le_of_ble_eq_true rfl) (Nat.le_of_ble_eq_true rfl) (Nat.le_of_ble_eq_true rfl) h_t0.1 h_t0.2 (by decide) rfl rfl dX7_next_136 (fun r7 S6 hf => ?_)
      have hz_r7 := hf.1
      replace hf := hf.2
      refine tj_if_eq C 236 (by decide) dX7_next_139 (fun hc => ?_) (fun hc => ?_)
      · replace hf := hf.1 hc
        refine tj_aload_n C 0 rfl rfl dX7_next_236 ?_
        refine tj_aload_n C 0 rfl rfl dX7_next_237 ?_
        refine gf_X7_29 C h_t0.2 h_t0.1 dX7_next_238 ?_
        refine tj_iconst C kc_1 dX7_next_241 ?_
        refine tj_iadd C dX7_next_242 ?_
        refine pf_X7_26 C h_t0.2 h_t0.1 dX7_next_243 ?_
        refine tj_topS (fun S8 eS => ?_)
        replace hf := hf S8 eS
        refine tj_aload_n C 0 rfl rfl dX7_next_246 ?_
        refine tj_aload_n C 0 rfl rfl dX7_next_247 ?_
        refine gf_X7_3 C h_t0.2 h_t0.1 dX7_next_248 ?_
        refine tj_some hf.1 ?_
        replace hf := hf.2
        refine gf_X7_22 C hX dX7_next_251 ?_
        refine tj_aload_n C 0 rfl rfl dX7_next_254 ?_
        refine gf_X7_29 C h_t0.2 h_t0.1 dX7_next_255 ?_
        refine tj_bald C 1106 900 rfl (ln_1106 hw hX) _ rfl hf.1 dX7_next_258 ?_
        replace hf := hf.2
        refine tj_bipush C kb_59 dX7_next_259 ?_
        refine tj_icmp_eq C 315 (by decide) dX7_next_261 (fun hc => ?_) (fun hc => ?_)
        · replace hf := hf.1 hc
          exact tj_sub [] (w_Rd_next_b315 C hw hR r h_t0 hX hf) rfl
        · replace hf := hf.2 hc
          refine tj_aload_n C 0 rfl rfl dX7_next_264 ?_
          refine gf_X7_3 C h_t0.2 h_t0.1 dX7_next_265 ?_
          refine tj_some hf.1 ?_
          replace hf := hf.2
          refine gf_X7_22 C hX dX7_next_268 ?_
          refine tj_aload_n C 0 rfl rfl dX7_next_271 ?_
          refine gf_X7_29 C h_t0.2 h_t0.1 dX7_next_272 ?_
          refine tj_bald C 1106 900 rfl (ln_1106 hw hX) _ rfl hf.1 dX7_next_275 ?_
          replace hf := hf.2
          refine tj_bipush C kb_60 dX7_next_276 ?_
          refine tj_icmp_eq C 315 (by decide) dX7_next_278 (fun hc => ?_) (fun hc => ?_)
          · replace hf := hf.1 hc
            exact tj_sub [] (w_Rd_next_b315 C hw hR r h_t0 hX hf) rfl
          · replace hf := hf.2 hc
            refine tj_aload_n C 0 rfl rfl dX7_next_281 ?_
            refine gf_X7_3 C h_t0.2 h_t0.1 dX7_next_282 ?_
            refine tj_some hf.1 ?_
            replace hf := hf.2
            refine gf_X7_22 C hX dX7_next_285 ?_
            refine tj_aload_n C 0 rfl rfl dX7_next_288 ?_
            refine gf_X7_29 C h_t0.2 h_t0.1 dX7_next_289 ?_
            refine tj_bald C 1106 900 rfl (ln_1106 hw hX) _ rfl hf.1 dX7_next_292 ?_
            replace hf := hf.2
            refine tj_bipush C kb_62 dX7_next_293 ?_
            refine tj_icmp_eq C 315 (by decide) dX7_next_295 (fun hc => ?_) (fun hc => ?_)
            · replace hf := hf.1 hc
              exact tj_sub [] (w_Rd_next_b315 C hw hR r h_t0 hX hf) rfl
            · replace hf := hf.2 hc
              refine tj_aload_n C 0 rfl rfl dX7_next_298 ?_
              refine gf_X7_3 C h_t0.2 h_t0.1 dX7_next_299 ?_
              refine tj_some hf.1 ?_
              replace hf := hf.2
              refine gf_X7_22 C hX dX7_next_302 ?_
              refine tj_aload_n C 0 rfl rfl dX7_next_305 ?_
              refine gf_X7_29 C h_t0.2 h_t0.1 dX7_next_306 ?_
              refine tj_bald C 1106 900 rfl (ln_1106 hw hX) _ rfl hf.1 dX7_next_309 ?_
              replace hf := hf.2
              refine tj_bipush C kb_61 dX7_next_310 ?_
              refine tj_icmp_ne C 319 (by decide) dX7_next_312 (fun hc => ?_) (fun hc => ?_)
              · replace hf := hf.2 hc
                refine tj_iconst C kc_4 dX7_next_319 ?_
                exact tj_sub [] (w_Rd_next_b320 C hw hR r h_t0 hX hf) rfl
              · replace hf := hf.1 hc
                exact tj_sub [] (w_Rd_next_b315 C hw hR r h_t0 hX hf) rfl
      · replace hf := hf.2 hc
        refine tj_aload_n C 0 rfl rfl dX7_next_142 ?_
        refine tj_iconst C kc_0 dX7_next_143 ?_
        refine pf_X7_42 C h_t0.2 h_t0.1 dX7_next_144 ?_
        refine tj_topS (fun S9 eS => ?_)
        replace hf := hf S9 eS
        exact hf.elim fun k hf => w_Rd_next_l147 C hw hR r h_t0 hX k _ hf
    · replace hf := hf.2 hc
      refine tj_aload_n C 0 rfl rfl dX7_next_102 ?_
      refine tj_iconst C kc_1 dX7_next_103 ?_
      refine pf_X7_32 C h_t0.2 h_t0.1 dX7_next_104 ?_
      refine tj_topS (fun S10 eS => ?_)
      replace hf := hf S10 eS
      exact hf.elim fun k hf => w_Rd_next_l107 C hw hR r h_t0 hX k _ hf
  · replace hf := hf.2 hc
    exact r _ _ _ dX7_next_90 hf
theorem w_Rd_next_b53 {Γ : tX} {N0 : Nat → Nat} {K : tS → Prop} (C : TC Γ cX7_next RX7 1 21) (hw : tWf N0) (hR : xnL Γ = 1) (r : TRv Γ N0 cX7_next K) {t0 : Nat} (h_t0 : N0 t0 ≠ 0 ∧ t0 % 32 = 11) (hX : N0 1025 ≠ 0) {κ8 : tS → Prop} (hκ8 : ∀  (S : tS), κ8  S → TJ Γ N0 0 0 8 [(0, .ref (xad Γ t0))] [] S) {S : tS} (hf : Rd_next_b53 t0 K κ8  S) : TJ Γ N0 0 0 53 [(0, .ref (xad Γ t0))] [] S := by
  unfold Rd_next_b53 at hf
  refine tj_aload_n C 0 rfl rfl dX7_next_53 ?_
  refine tj_dup C rfl dX7_next_54 ?_
  refine gf_X7_29 C h_t0.2 h_t0.1 dX7_next_55 ?_
  refine tj_iconst C kc_1 dX7_next_58 ?_
  refine tj_iadd C dX7_next_59 ?_
  refine pf_X7_29 C h_t0.2 h_t0.1 dX7_next_60 ?_
  refine tj_topS (fun S11 eS => ?_)
  replace hf := hf S11 eS
  refine tj_goto C 8 (by decide) dX7_next_63 ?_
  exact hκ8 _ hf
theorem w_Rd_next_l8 {Γ : tX} {N0 : Nat → Nat} {K : tS → Prop} (C : TC Γ cX7_next RX7 1 21) (hw : tWf N0) (hR : xnL Γ = 1) (r : TRv Γ N0 cX7_next K) {t0 : Nat} (h_t0 : N0 t0 ≠ 0 ∧ t0 % 32 = 11) (hX : N0 1025 ≠ 0) : ∀ (n : Nat)  (S : tS), Rd_next_l8 t0 K n  S → TJ Γ N0 0 0 8 [(0, .ref (xad Γ t0))] [] S := by
  intro n
  induction n with
  | zero => intro  S hf; exact hf.elim
  | succ n ih =>
    intro  S hf
    unfold Rd_next_l8 at hf
    refine tj_aload_n C 0 rfl rfl dX7_next_8 ?_
    refine gf_X7_29 C h_t0.2 h_t0.1 dX7_next_9 ?_
    refine tj_aload_n C 0 rfl rfl dX7_next_12 ?_
    refine gf_X7_15 C h_t0.2 h_t0.1 dX7_next_13 ?_
    refine tj_icmp_ge C 66 (by decide) dX7_next_16 (fun hc => ?_) (fun hc => ?_)
    · replace hf := hf.1 hc
      exact w_Rd_next_b66 C hw hR r h_t0 hX hf
    · replace hf := hf.2 hc
      refine tj_aload_n C 0 rfl rfl dX7_next_19 ?_
      refine gf_X7_3 C h_t0.2 h_t0.1 dX7_next_20 ?_
      refine tj_some hf.1 ?_
      replace hf := hf.2
      refine gf_X7_22 C hX dX7_next_23 ?_
      refine tj_aload_n C 0 rfl rfl dX7_next_26 ?_
      refine gf_X7_29 C h_t0.2 h_t0.1 dX7_next_27 ?_
      refine tj_bald C 1106 900 rfl (ln_1106 hw hX) _ rfl hf.1 dX7_next_30 ?_
      replace hf := hf.2
      refine tj_bipush C kb_10 dX7_next_31 ?_
      refine tj_icmp_eq C 53 (by decide) dX7_next_33 (fun hc => ?_) (fun hc => ?_)
      · replace hf := hf.1 hc
        exact w_Rd_next_b53 C hw hR r h_t0 hX ih hf
      · replace hf := hf.2 hc
        refine tj_aload_n C 0 rfl rfl dX7_next_36 ?_
        refine gf_X7_3 C h_t0.2 h_t0.1 dX7_next_37 ?_
        refine tj_some hf.1 ?_
        replace hf := hf.2
        refine gf_X7_22 C hX dX7_next_40 ?_
        refine tj_aload_n C 0 rfl rfl dX7_next_43 ?_
        refine gf_X7_29 C h_t0.2 h_t0.1 dX7_next_44 ?_
        refine tj_bald C 1106 900 rfl (ln_1106 hw hX) _ rfl hf.1 dX7_next_47 ?_
        replace hf := hf.2
        refine tj_bipush C kb_32 dX7_next_48 ?_
        refine tj_icmp_ne C 66 (by decide) dX7_next_50 (fun hc => ?_) (fun hc => ?_)
        · replace hf := hf.2 hc
          exact w_Rd_next_b66 C hw hR r h_t0 hX hf
        · replace hf := hf.1 hc
          exact w_Rd_next_b53 C hw hR r h_t0 hX ih hf
theorem w_Rd_next_b0 {Γ : tX} {N0 : Nat → Nat} {K : tS → Prop} (C : TC Γ cX7_next RX7 1 21) (hw : tWf N0) (hR : xnL Γ = 1) (r : TRv Γ N0 cX7_next K) {t0 : Nat} (h_t0 : N0 t0 ≠ 0 ∧ t0 % 32 = 11) (hX : N0 1025 ≠ 0) {S : tS} (hf : Rd_next t0 S K) : TJ Γ N0 0 0 0 [(0, .ref (xad Γ t0))] [] S := by
  unfold Rd_next at hf
  refine tj_aload_n C 0 rfl rfl dX7_next_0 ?_
  refine tj_aload_n C 0 rfl rfl dX7_next_1 ?_
  refine gf_X7_26 C h_t0.2 h_t0.1 dX7_next_2 ?_
  refine pf_X7_29 C h_t0.2 h_t0.1 dX7_next_5 ?_
  refine tj_topS (fun S1 eS => ?_)
  replace hf := hf S1 eS
  exact hf.elim fun k hf => w_Rd_next_l8 C hw hR r h_t0 hX k _ hf
theorem c_Rd_next {l : Launch} {G : tG} {ad : Nat → Nat} {A : Nat → Prop} {S : tS} {K : tS → Prop} {t0 : Nat} (h_t0 : gN S t0 ≠ 0 ∧ t0 % 32 = 11) (hX : gN S 1025 ≠ 0) (hf : Rd_next t0 S K) : Met l yX7_next (ws_ yX7_next cX7_next 1 (none)) (tRm 1 21) (va_Pc [.ref (ad t0)] (tPre G ad A S)) (va_Qv K (tB G ad A (gN S)) A) 0 0 A :=
  tj_met_v [(0, .ref (ad t0))] pn_X7 rfl (Nat.le_of_ble_eq_true rfl) (fun p e R s m args below meth c Q C hw r => w_Rd_next_b0 C hw rfl r h_t0 hX hf)
theorem w_Rd_room_b0 {Γ : tX} {N0 : Nat → Nat} {K : tS → Prop} (C : TC Γ cX7_room RX7 2 41) (hw : tWf N0) (hR : xnL Γ = 2) (r : TRv Γ N0 cX7_room K) {t0 : Nat} {a1 : Int32} (h_t0 : N0 t0 ≠ 0 ∧ t0 % 32 = 11) (hX : N0 1025 ≠ 0) {KX : tS → Prop} (rx : TRX Γ N0 RX2 1123 KX) {S : tS} (hf : Rd_room t0 a1 S K KX) : TJ Γ N0 0 0 0 [(0, .ref (xad Γ t0)), (1, .int a1)] [] S := by
  unfold Rd_room at hf
  refine tj_iload_n C 1 rfl rfl dX7_room_0 ?_
  refine tj_if_ne C 21 (by decide) dX7_room_1 (fun hc => ?_) (fun hc => ?_)
  · replace hf := hf.2 hc
    refine tj_aload_n C 0 rfl rfl dX7_room_21 ?_
    refine tj_callVv C (k := 11) [] [] (fun hN => c_Rd_next (by rw [hN]; exact ⟨h_t0.1, h_t0.2⟩) (by rw [hN]; exact hX) hf) lk_X7_19 ty_X7_next rfl (Nat.le_of_ble_eq_true rfl) (Nat.le_of_ble_eq_true rfl) (Nat.le_of_ble_eq_true rfl) h_t0.1 h_t0.2 (by decide) rfl rfl dX7_room_22 (fun S1 hf => ?_)
    exact r _ _ _ dX7_room_25 hf
  · replace hf := hf.1 hc
    refine tj_aload_n C 0 rfl rfl dX7_room_4 ?_
    refine gf_X7_3 C h_t0.2 h_t0.1 dX7_room_5 ?_
    refine tj_some hf.1 ?_
    replace hf := hf.2
    refine gf_X7_55 C hX dX7_room_8 ?_
    refine tj_bipush C kb_6 dX7_room_11 ?_
    refine tj_aload_n C 0 rfl rfl dX7_room_13 ?_
    refine gf_X7_29 C h_t0.2 h_t0.1 dX7_room_14 ?_
    refine tj_callVa C (k := 3) [.int (nI 6), .int (gI S t0 1)] [] (fun hN => c_Bd_at (by rw [hN]; exact hX) hf) lk_X7_59 ty_X2_at rfl (Nat.le_of_ble_eq_true rfl) (Nat.le_of_ble_eq_true rfl) (Nat.le_of_ble_eq_true rfl) (ne0 (ln_1123 hw hX)) rfl (by decide) rfl rfl dX7_room_17 (fun S2 hf => ?_)
    refine tj_athrow C 3 1123 (ne0 (ln_1123 hw hX)) rfl (by decide) rfl dX7_room_20 ?_
    exact rx _ _ _ hf
theorem c_Rd_room {l : Launch} {G : tG} {ad : Nat → Nat} {A : Nat → Prop} {S : tS} {K : tS → Prop} {KX : tS → Prop} {t0 : Nat} {a1 : Int32} (h_t0 : gN S t0 ≠ 0 ∧ t0 % 32 = 11) (hX : gN S 1025 ≠ 0) (hf : Rd_room t0 a1 S K KX) : vx_Met l yX7_room (ws_ yX7_room cX7_room 2 (none)) (tRm 2 41) (va_Pc [.ref (ad t0), .int a1] (tPre G ad A S)) (va_Qv K (tB G ad A (gN S)) A) (vx_X KX (tBX G ad A (gN S) RX2 1123) A) 0 0 A :=
  tj_xmet_v [(0, .ref (ad t0)), (1, .int a1)] pn_X7 rfl (Nat.le_of_ble_eq_true rfl) (fun p e R s m args below meth c Q C hw r rx => w_Rd_room_b0 C hw rfl r h_t0 hX rx hf)
theorem w_Rd_senses_b0 {Γ : tX} {N0 : Nat → Nat} {K : Int32 → tS → Prop} (C : TC Γ cX7_senses RX7 5 107) (hw : tWf N0) (hR : xnL Γ = 1) (r : TRi Γ N0 cX7_senses K) {t0 : Nat} (h_t0 : N0 t0 ≠ 0 ∧ t0 % 32 = 11) (hX : N0 1025 ≠ 0) {S : tS} (hf : Rd_senses t0 S K) : TJ Γ N0 0 0 0 [(0, .ref (xad Γ t0))] [] S := by
  unfold Rd_senses at hf
  refine tj_aload_n C 0 rfl rfl dX7_senses_0 ?_
  refine tj_ldcS C 1 rfl dX7_senses_1 ?_
  refine tj_callVz C (k := 11) [.ref (xK Γ 1)] [] (fun hN => c_Rd_isWord (by rw [hN]; exact ⟨h_t0.1, h_t0.2⟩) (by rw [hN]; exact hX) (by decide) hf) lk_X7_72 ty_X7_isWord rfl (Nat.le_of_ble_eq_true rfl) (Nat.le_of_ble_eq_true rfl) (Nat.le_of_ble_eq_true rfl) h_t0.1 h_t0.2 (by decide) rfl rfl dX7_senses_3 (fun r2 S1 hf => ?_)
  have hz_r2 := hf.1
  replace hf := hf.2
  refine tj_if_eq C 13 (by decide) dX7_senses_6 (fun hc => ?_) (fun hc => ?_)
  · replace hf := hf.1 hc
    refine tj_aload_n C 0 rfl rfl dX7_senses_13 ?_
    refine tj_ldcS C 2 rfl dX7_senses_14 ?_
    refine tj_callVz C (k := 11) [.ref (xK Γ 2)] [] (fun hN => c_Rd_isWord (by rw [hN]; exact ⟨h_t0.1, h_t0.2⟩) (by rw [hN]; exact hX) (by decide) hf) lk_X7_72 ty_X7_isWord rfl (Nat.le_of_ble_eq_true rfl) (Nat.le_of_ble_eq_true rfl) (Nat.le_of_ble_eq_true rfl) h_t0.1 h_t0.2 (by decide) rfl rfl dX7_senses_16 (fun r4 S3 hf => ?_)
    have hz_r4 := hf.1
    replace hf := hf.2
    refine tj_if_eq C 26 (by decide) dX7_senses_19 (fun hc => ?_) (fun hc => ?_)
    · replace hf := hf.1 hc
      refine tj_aload_n C 0 rfl rfl dX7_senses_26 ?_
      refine tj_ldcS C 3 rfl dX7_senses_27 ?_
      refine tj_callVz C (k := 11) [.ref (xK Γ 3)] [] (fun hN => c_Rd_isWord (by rw [hN]; exact ⟨h_t0.1, h_t0.2⟩) (by rw [hN]; exact hX) (by decide) hf) lk_X7_72 ty_X7_isWord rfl (Nat.le_of_ble_eq_true rfl) (Nat.le_of_ble_eq_true rfl) (Nat.le_of_ble_eq_true rfl) h_t0.1 h_t0.2 (by decide) rfl rfl dX7_senses_29 (fun r6 S5 hf => ?_)
      have hz_r6 := hf.1
      replace hf := hf.2
      refine tj_if_eq C 39 (by decide) dX7_senses_32 (fun hc => ?_) (fun hc => ?_)
      · replace hf := hf.1 hc
        refine tj_iconst C kc_m1 dX7_senses_39 ?_
        exact r _ _ _ _ dX7_senses_40 hf
      · replace hf := hf.2 hc
        refine tj_iconst C kc_2 dX7_senses_35 ?_
        refine tj_goto C 40 (by decide) dX7_senses_36 ?_
        exact r _ _ _ _ dX7_senses_40 hf
    · replace hf := hf.2 hc
      refine tj_iconst C kc_1 dX7_senses_22 ?_
      refine tj_goto C 40 (by decide) dX7_senses_23 ?_
      exact r _ _ _ _ dX7_senses_40 hf
  · replace hf := hf.2 hc
    refine tj_iconst C kc_0 dX7_senses_9 ?_
    refine tj_goto C 40 (by decide) dX7_senses_10 ?_
    exact r _ _ _ _ dX7_senses_40 hf
theorem c_Rd_senses {l : Launch} {G : tG} {ad : Nat → Nat} {A : Nat → Prop} {S : tS} {K : Int32 → tS → Prop} {t0 : Nat} (h_t0 : gN S t0 ≠ 0 ∧ t0 % 32 = 11) (hX : gN S 1025 ≠ 0) (hf : Rd_senses t0 S K) : Met l yX7_senses (ws_ yX7_senses cX7_senses 1 (some .int)) (tRm 5 107) (va_Pc [.ref (ad t0)] (tPre G ad A S)) (va_Qi K (tB G ad A (gN S)) A) 0 0 A :=
  tj_met_i [(0, .ref (ad t0))] pn_X7 rfl (Nat.le_of_ble_eq_true rfl) (fun p e R s m args below meth c Q C hw r => w_Rd_senses_b0 C hw rfl r h_t0 hX hf)
theorem w_Rd_acts_b0 {Γ : tX} {N0 : Nat → Nat} {K : Int32 → tS → Prop} (C : TC Γ cX7_acts RX7 5 107) (hw : tWf N0) (hR : xnL Γ = 1) (r : TRi Γ N0 cX7_acts K) {t0 : Nat} (h_t0 : N0 t0 ≠ 0 ∧ t0 % 32 = 11) (hX : N0 1025 ≠ 0) {S : tS} (hf : Rd_acts t0 S K) : TJ Γ N0 0 0 0 [(0, .ref (xad Γ t0))] [] S := by
  unfold Rd_acts at hf
  refine tj_aload_n C 0 rfl rfl dX7_acts_0 ?_
  refine tj_ldcS C 4 rfl dX7_acts_1 ?_
  refine tj_callVz C (k := 11) [.ref (xK Γ 4)] [] (fun hN => c_Rd_isWord (by rw [hN]; exact ⟨h_t0.1, h_t0.2⟩) (by rw [hN]; exact hX) (by decide) hf) lk_X7_72 ty_X7_isWord rfl (Nat.le_of_ble_eq_true rfl) (Nat.le_of_ble_eq_true rfl) (Nat.le_of_ble_eq_true rfl) h_t0.1 h_t0.2 (by decide) rfl rfl dX7_acts_3 (fun r2 S1 hf => ?_)
  have hz_r2 := hf.1
  replace hf := hf.2
  refine tj_if_eq C 11 (by decide) dX7_acts_6 (fun hc => ?_) (fun hc => ?_)
  · replace hf := hf.1 hc
    refine tj_aload_n C 0 rfl rfl dX7_acts_11 ?_
    refine tj_ldcS C 5 rfl dX7_acts_12 ?_
    refine tj_callVz C (k := 11) [.ref (xK Γ 5)] [] (fun hN => c_Rd_isWord (by rw [hN]; exact ⟨h_t0.1, h_t0.2⟩) (by rw [hN]; exact hX) (by decide) hf) lk_X7_72 ty_X7_isWord rfl (Nat.le_of_ble_eq_true rfl) (Nat.le_of_ble_eq_true rfl) (Nat.le_of_ble_eq_true rfl) h_t0.1 h_t0.2 (by decide) rfl rfl dX7_acts_14 (fun r4 S3 hf => ?_)
    have hz_r4 := hf.1
    replace hf := hf.2
    refine tj_if_eq C 22 (by decide) dX7_acts_17 (fun hc => ?_) (fun hc => ?_)
    · replace hf := hf.1 hc
      refine tj_aload_n C 0 rfl rfl dX7_acts_22 ?_
      refine tj_ldcS C 6 rfl dX7_acts_23 ?_
      refine tj_callVz C (k := 11) [.ref (xK Γ 6)] [] (fun hN => c_Rd_isWord (by rw [hN]; exact ⟨h_t0.1, h_t0.2⟩) (by rw [hN]; exact hX) (by decide) hf) lk_X7_72 ty_X7_isWord rfl (Nat.le_of_ble_eq_true rfl) (Nat.le_of_ble_eq_true rfl) (Nat.le_of_ble_eq_true rfl) h_t0.1 h_t0.2 (by decide) rfl rfl dX7_acts_25 (fun r6 S5 hf => ?_)
      have hz_r6 := hf.1
      replace hf := hf.2
      refine tj_if_eq C 33 (by decide) dX7_acts_28 (fun hc => ?_) (fun hc => ?_)
      · replace hf := hf.1 hc
        refine tj_aload_n C 0 rfl rfl dX7_acts_33 ?_
        refine tj_ldcS C 7 rfl dX7_acts_34 ?_
        refine tj_callVz C (k := 11) [.ref (xK Γ 7)] [] (fun hN => c_Rd_isWord (by rw [hN]; exact ⟨h_t0.1, h_t0.2⟩) (by rw [hN]; exact hX) (by decide) hf) lk_X7_72 ty_X7_isWord rfl (Nat.le_of_ble_eq_true rfl) (Nat.le_of_ble_eq_true rfl) (Nat.le_of_ble_eq_true rfl) h_t0.1 h_t0.2 (by decide) rfl rfl dX7_acts_36 (fun r8 S7 hf => ?_)
        have hz_r8 := hf.1
        replace hf := hf.2
        refine tj_if_eq C 44 (by decide) dX7_acts_39 (fun hc => ?_) (fun hc => ?_)
        · replace hf := hf.1 hc
          refine tj_aload_n C 0 rfl rfl dX7_acts_44 ?_
          refine tj_ldcS C 8 rfl dX7_acts_45 ?_
          refine tj_callVz C (k := 11) [.ref (xK Γ 8)] [] (fun hN => c_Rd_isWord (by rw [hN]; exact ⟨h_t0.1, h_t0.2⟩) (by rw [hN]; exact hX) (by decide) hf) lk_X7_72 ty_X7_isWord rfl (Nat.le_of_ble_eq_true rfl) (Nat.le_of_ble_eq_true rfl) (Nat.le_of_ble_eq_true rfl) h_t0.1 h_t0.2 (by decide) rfl rfl dX7_acts_47 (fun r10 S9 hf => ?_)
          have hz_r10 := hf.1
          replace hf := hf.2
          refine tj_if_eq C 55 (by decide) dX7_acts_50 (fun hc => ?_) (fun hc => ?_)
          · replace hf := hf.1 hc
            refine tj_aload_n C 0 rfl rfl dX7_acts_55 ?_
            refine tj_ldcS C 9 rfl dX7_acts_56 ?_
            refine tj_callVz C (k := 11) [.ref (xK Γ 9)] [] (fun hN => c_Rd_isWord (by rw [hN]; exact ⟨h_t0.1, h_t0.2⟩) (by rw [hN]; exact hX) (by decide) hf) lk_X7_72 ty_X7_isWord rfl (Nat.le_of_ble_eq_true rfl) (Nat.le_of_ble_eq_true rfl) (Nat.le_of_ble_eq_true rfl) h_t0.1 h_t0.2 (by decide) rfl rfl dX7_acts_58 (fun r12 S11 hf => ?_)
            have hz_r12 := hf.1
            replace hf := hf.2
            refine tj_if_eq C 66 (by decide) dX7_acts_61 (fun hc => ?_) (fun hc => ?_)
            · replace hf := hf.1 hc
              refine tj_aload_n C 0 rfl rfl dX7_acts_66 ?_
              refine tj_ldcS C 10 rfl dX7_acts_67 ?_
              refine tj_callVz C (k := 11) [.ref (xK Γ 10)] [] (fun hN => c_Rd_isWord (by rw [hN]; exact ⟨h_t0.1, h_t0.2⟩) (by rw [hN]; exact hX) (by decide) hf) lk_X7_72 ty_X7_isWord rfl (Nat.le_of_ble_eq_true rfl) (Nat.le_of_ble_eq_true rfl) (Nat.le_of_ble_eq_true rfl) h_t0.1 h_t0.2 (by decide) rfl rfl dX7_acts_69 (fun r14 S13 hf => ?_)
              have hz_r14 := hf.1
              replace hf := hf.2
              refine tj_if_eq C 78 (by decide) dX7_acts_72 (fun hc => ?_) (fun hc => ?_)
              · replace hf := hf.1 hc
                refine tj_aload_n C 0 rfl rfl dX7_acts_78 ?_
                refine tj_ldcS C 11 rfl dX7_acts_79 ?_
                refine tj_callVz C (k := 11) [.ref (xK Γ 11)] [] (fun hN => c_Rd_isWord (by rw [hN]; exact ⟨h_t0.1, h_t0.2⟩) (by rw [hN]; exact hX) (by decide) hf) lk_X7_72 ty_X7_isWord rfl (Nat.le_of_ble_eq_true rfl) (Nat.le_of_ble_eq_true rfl) (Nat.le_of_ble_eq_true rfl) h_t0.1 h_t0.2 (by decide) rfl rfl dX7_acts_81 (fun r16 S15 hf => ?_)
                have hz_r16 := hf.1
                replace hf := hf.2
                refine tj_if_eq C 92 (by decide) dX7_acts_84 (fun hc => ?_) (fun hc => ?_)
                · replace hf := hf.1 hc
                  refine tj_iconst C kc_m1 dX7_acts_92 ?_
                  exact r _ _ _ _ dX7_acts_93 hf
                · replace hf := hf.2 hc
                  refine tj_bipush C kb_7 dX7_acts_87 ?_
                  refine tj_goto C 93 (by decide) dX7_acts_89 ?_
                  exact r _ _ _ _ dX7_acts_93 hf
              · replace hf := hf.2 hc
                refine tj_bipush C kb_6 dX7_acts_75 ?_
                exact r _ _ _ _ dX7_acts_77 hf
            · replace hf := hf.2 hc
              refine tj_iconst C kc_5 dX7_acts_64 ?_
              exact r _ _ _ _ dX7_acts_65 hf
          · replace hf := hf.2 hc
            refine tj_iconst C kc_4 dX7_acts_53 ?_
            exact r _ _ _ _ dX7_acts_54 hf
        · replace hf := hf.2 hc
          refine tj_iconst C kc_3 dX7_acts_42 ?_
          exact r _ _ _ _ dX7_acts_43 hf
      · replace hf := hf.2 hc
        refine tj_iconst C kc_2 dX7_acts_31 ?_
        exact r _ _ _ _ dX7_acts_32 hf
    · replace hf := hf.2 hc
      refine tj_iconst C kc_1 dX7_acts_20 ?_
      exact r _ _ _ _ dX7_acts_21 hf
  · replace hf := hf.2 hc
    refine tj_iconst C kc_0 dX7_acts_9 ?_
    exact r _ _ _ _ dX7_acts_10 hf
theorem c_Rd_acts {l : Launch} {G : tG} {ad : Nat → Nat} {A : Nat → Prop} {S : tS} {K : Int32 → tS → Prop} {t0 : Nat} (h_t0 : gN S t0 ≠ 0 ∧ t0 % 32 = 11) (hX : gN S 1025 ≠ 0) (hf : Rd_acts t0 S K) : Met l yX7_acts (ws_ yX7_acts cX7_acts 1 (some .int)) (tRm 5 107) (va_Pc [.ref (ad t0)] (tPre G ad A S)) (va_Qi K (tB G ad A (gN S)) A) 0 0 A :=
  tj_met_i [(0, .ref (ad t0))] pn_X7 rfl (Nat.le_of_ble_eq_true rfl) (fun p e R s m args below meth c Q C hw r => w_Rd_acts_b0 C hw rfl r h_t0 hX hf)
theorem w_Rd_tests_b0 {Γ : tX} {N0 : Nat → Nat} {K : Int32 → tS → Prop} (C : TC Γ cX7_tests RX7 5 107) (hw : tWf N0) (hR : xnL Γ = 1) (r : TRi Γ N0 cX7_tests K) {t0 : Nat} (h_t0 : N0 t0 ≠ 0 ∧ t0 % 32 = 11) (hX : N0 1025 ≠ 0) {S : tS} (hf : Rd_tests t0 S K) : TJ Γ N0 0 0 0 [(0, .ref (xad Γ t0))] [] S := by
  unfold Rd_tests at hf
  refine tj_aload_n C 0 rfl rfl dX7_tests_0 ?_
  refine tj_ldcS C 12 rfl dX7_tests_1 ?_
  refine tj_callVz C (k := 11) [.ref (xK Γ 12)] [] (fun hN => c_Rd_isWord (by rw [hN]; exact ⟨h_t0.1, h_t0.2⟩) (by rw [hN]; exact hX) (by decide) hf) lk_X7_72 ty_X7_isWord rfl (Nat.le_of_ble_eq_true rfl) (Nat.le_of_ble_eq_true rfl) (Nat.le_of_ble_eq_true rfl) h_t0.1 h_t0.2 (by decide) rfl rfl dX7_tests_3 (fun r2 S1 hf => ?_)
  have hz_r2 := hf.1
  replace hf := hf.2
  refine tj_if_eq C 11 (by decide) dX7_tests_6 (fun hc => ?_) (fun hc => ?_)
  · replace hf := hf.1 hc
    refine tj_aload_n C 0 rfl rfl dX7_tests_11 ?_
    refine tj_ldcS C 13 rfl dX7_tests_12 ?_
    refine tj_callVz C (k := 11) [.ref (xK Γ 13)] [] (fun hN => c_Rd_isWord (by rw [hN]; exact ⟨h_t0.1, h_t0.2⟩) (by rw [hN]; exact hX) (by decide) hf) lk_X7_72 ty_X7_isWord rfl (Nat.le_of_ble_eq_true rfl) (Nat.le_of_ble_eq_true rfl) (Nat.le_of_ble_eq_true rfl) h_t0.1 h_t0.2 (by decide) rfl rfl dX7_tests_14 (fun r4 S3 hf => ?_)
    have hz_r4 := hf.1
    replace hf := hf.2
    refine tj_if_eq C 22 (by decide) dX7_tests_17 (fun hc => ?_) (fun hc => ?_)
    · replace hf := hf.1 hc
      refine tj_aload_n C 0 rfl rfl dX7_tests_22 ?_
      refine tj_ldcS C 14 rfl dX7_tests_23 ?_
      refine tj_callVz C (k := 11) [.ref (xK Γ 14)] [] (fun hN => c_Rd_isWord (by rw [hN]; exact ⟨h_t0.1, h_t0.2⟩) (by rw [hN]; exact hX) (by decide) hf) lk_X7_72 ty_X7_isWord rfl (Nat.le_of_ble_eq_true rfl) (Nat.le_of_ble_eq_true rfl) (Nat.le_of_ble_eq_true rfl) h_t0.1 h_t0.2 (by decide) rfl rfl dX7_tests_25 (fun r6 S5 hf => ?_)
      have hz_r6 := hf.1
      replace hf := hf.2
      refine tj_if_eq C 33 (by decide) dX7_tests_28 (fun hc => ?_) (fun hc => ?_)
      · replace hf := hf.1 hc
        refine tj_aload_n C 0 rfl rfl dX7_tests_33 ?_
        refine tj_ldcS C 15 rfl dX7_tests_34 ?_
        refine tj_callVz C (k := 11) [.ref (xK Γ 15)] [] (fun hN => c_Rd_isWord (by rw [hN]; exact ⟨h_t0.1, h_t0.2⟩) (by rw [hN]; exact hX) (by decide) hf) lk_X7_72 ty_X7_isWord rfl (Nat.le_of_ble_eq_true rfl) (Nat.le_of_ble_eq_true rfl) (Nat.le_of_ble_eq_true rfl) h_t0.1 h_t0.2 (by decide) rfl rfl dX7_tests_36 (fun r8 S7 hf => ?_)
        have hz_r8 := hf.1
        replace hf := hf.2
        refine tj_if_eq C 46 (by decide) dX7_tests_39 (fun hc => ?_) (fun hc => ?_)
        · replace hf := hf.1 hc
          refine tj_iconst C kc_m1 dX7_tests_46 ?_
          exact r _ _ _ _ dX7_tests_47 hf
        · replace hf := hf.2 hc
          refine tj_iconst C kc_3 dX7_tests_42 ?_
          refine tj_goto C 47 (by decide) dX7_tests_43 ?_
          exact r _ _ _ _ dX7_tests_47 hf
      · replace hf := hf.2 hc
        refine tj_iconst C kc_2 dX7_tests_31 ?_
        exact r _ _ _ _ dX7_tests_32 hf
    · replace hf := hf.2 hc
      refine tj_iconst C kc_1 dX7_tests_20 ?_
      exact r _ _ _ _ dX7_tests_21 hf
  · replace hf := hf.2 hc
    refine tj_iconst C kc_0 dX7_tests_9 ?_
    exact r _ _ _ _ dX7_tests_10 hf
theorem c_Rd_tests {l : Launch} {G : tG} {ad : Nat → Nat} {A : Nat → Prop} {S : tS} {K : Int32 → tS → Prop} {t0 : Nat} (h_t0 : gN S t0 ≠ 0 ∧ t0 % 32 = 11) (hX : gN S 1025 ≠ 0) (hf : Rd_tests t0 S K) : Met l yX7_tests (ws_ yX7_tests cX7_tests 1 (some .int)) (tRm 5 107) (va_Pc [.ref (ad t0)] (tPre G ad A S)) (va_Qi K (tB G ad A (gN S)) A) 0 0 A :=
  tj_met_i [(0, .ref (ad t0))] pn_X7 rfl (Nat.le_of_ble_eq_true rfl) (fun p e R s m args below meth c Q C hw r => w_Rd_tests_b0 C hw rfl r h_t0 hX hf)
theorem w_Rd_isKept_b157 {Γ : tX} {N0 : Nat → Nat} {K : Int32 → tS → Prop} (C : TC Γ cX7_isKept RX7 6 127) (hw : tWf N0) (hR : xnL Γ = 2) (r : TRz Γ N0 cX7_isKept K) {t0 : Nat} (h_t0 : N0 t0 ≠ 0 ∧ t0 % 32 = 11) (hX : N0 1025 ≠ 0) {S : tS} (hf : Rd_isKept_b157 t0 K  S) : TJ Γ N0 0 0 157 [] [] S := by
  unfold Rd_isKept_b157 at hf
  refine tj_iconst C kc_1 dX7_isKept_157 ?_
  refine tj_goto C 162 (by decide) dX7_isKept_158 ?_
  exact r _ _ _ _ dX7_isKept_162 zb1 hf
theorem w_Rd_isKept_b95 {Γ : tX} {N0 : Nat → Nat} {K : Int32 → tS → Prop} (C : TC Γ cX7_isKept RX7 6 127) (hw : tWf N0) (hR : xnL Γ = 2) (r : TRz Γ N0 cX7_isKept K) {t0 : Nat} (h_t0 : N0 t0 ≠ 0 ∧ t0 % 32 = 11) (hX : N0 1025 ≠ 0) {s0 : Int32} {S : tS} (hf : Rd_isKept_b95 t0 K s0 S) : TJ Γ N0 0 0 95 [(0, .ref (xad Γ t0))] [.int s0] S := by
  unfold Rd_isKept_b95 at hf
  refine tj_istore_n C (by rw [hR]; decide) [(1, .int s0), (0, .ref (xad Γ t0))] rfl rfl dX7_isKept_95 ?_
  refine tj_iload_n C 0 rfl rfl dX7_isKept_96 ?_
  refine tj_if_ne C 157 (by decide) dX7_isKept_97 (fun hc => ?_) (fun hc => ?_)
  · replace hf := hf.2 hc
    exact tj_sub [] (w_Rd_isKept_b157 C hw hR r h_t0 hX hf) rfl
  · replace hf := hf.1 hc
    refine tj_aload_n C 1 rfl rfl dX7_isKept_100 ?_
    refine tj_ldcS C 26 rfl dX7_isKept_101 ?_
    refine tj_callVz C (k := 11) [.ref (xK Γ 26)] [] (fun hN => c_Rd_isWord (by rw [hN]; exact ⟨h_t0.1, h_t0.2⟩) (by rw [hN]; exact hX) (by decide) hf) lk_X7_72 ty_X7_isWord rfl (Nat.le_of_ble_eq_true rfl) (Nat.le_of_ble_eq_true rfl) (Nat.le_of_ble_eq_true rfl) h_t0.1 h_t0.2 (by decide) rfl rfl dX7_isKept_103 (fun r22 S21 hf => ?_)
    have hz_r22 := hf.1
    replace hf := hf.2
    refine tj_if_ne C 157 (by decide) dX7_isKept_106 (fun hc => ?_) (fun hc => ?_)
    · replace hf := hf.2 hc
      exact tj_sub [] (w_Rd_isKept_b157 C hw hR r h_t0 hX hf) rfl
    · replace hf := hf.1 hc
      refine tj_aload_n C 1 rfl rfl dX7_isKept_109 ?_
      refine tj_callVi C (k := 11) [] [] (fun hN => c_Rd_senses (by rw [hN]; exact ⟨h_t0.1, h_t0.2⟩) (by rw [hN]; exact hX) hf) lk_X7_89 ty_X7_senses rfl (Nat.le_of_ble_eq_true rfl) (Nat.le_of_ble_eq_true rfl) (Nat.le_of_ble_eq_true rfl) h_t0.1 h_t0.2 (by decide) rfl rfl dX7_isKept_110 (fun r24 S23 hf => ?_)
      refine tj_if_ge C 157 (by decide) dX7_isKept_113 (fun hc => ?_) (fun hc => ?_)
      · replace hf := hf.1 hc
        exact tj_sub [] (w_Rd_isKept_b157 C hw hR r h_t0 hX hf) rfl
      · replace hf := hf.2 hc
        refine tj_aload_n C 1 rfl rfl dX7_isKept_116 ?_
        refine tj_ldcS C 27 rfl dX7_isKept_117 ?_
        refine tj_callVz C (k := 11) [.ref (xK Γ 27)] [] (fun hN => c_Rd_isWord (by rw [hN]; exact ⟨h_t0.1, h_t0.2⟩) (by rw [hN]; exact hX) (by decide) hf) lk_X7_72 ty_X7_isWord rfl (Nat.le_of_ble_eq_true rfl) (Nat.le_of_ble_eq_true rfl) (Nat.le_of_ble_eq_true rfl) h_t0.1 h_t0.2 (by decide) rfl rfl dX7_isKept_119 (fun r26 S25 hf => ?_)
        have hz_r26 := hf.1
        replace hf := hf.2
        refine tj_if_ne C 157 (by decide) dX7_isKept_122 (fun hc => ?_) (fun hc => ?_)
        · replace hf := hf.2 hc
          exact tj_sub [] (w_Rd_isKept_b157 C hw hR r h_t0 hX hf) rfl
        · replace hf := hf.1 hc
          refine tj_aload_n C 1 rfl rfl dX7_isKept_125 ?_
          refine tj_ldcS C 28 rfl dX7_isKept_126 ?_
          refine tj_callVz C (k := 11) [.ref (xK Γ 28)] [] (fun hN => c_Rd_isWord (by rw [hN]; exact ⟨h_t0.1, h_t0.2⟩) (by rw [hN]; exact hX) (by decide) hf) lk_X7_72 ty_X7_isWord rfl (Nat.le_of_ble_eq_true rfl) (Nat.le_of_ble_eq_true rfl) (Nat.le_of_ble_eq_true rfl) h_t0.1 h_t0.2 (by decide) rfl rfl dX7_isKept_128 (fun r28 S27 hf => ?_)
          have hz_r28 := hf.1
          replace hf := hf.2
          refine tj_if_ne C 157 (by decide) dX7_isKept_131 (fun hc => ?_) (fun hc => ?_)
          · replace hf := hf.2 hc
            exact tj_sub [] (w_Rd_isKept_b157 C hw hR r h_t0 hX hf) rfl
          · replace hf := hf.1 hc
            refine tj_aload_n C 1 rfl rfl dX7_isKept_134 ?_
            refine tj_ldcS C 29 rfl dX7_isKept_135 ?_
            refine tj_callVz C (k := 11) [.ref (xK Γ 29)] [] (fun hN => c_Rd_isWord (by rw [hN]; exact ⟨h_t0.1, h_t0.2⟩) (by rw [hN]; exact hX) (by decide) hf) lk_X7_72 ty_X7_isWord rfl (Nat.le_of_ble_eq_true rfl) (Nat.le_of_ble_eq_true rfl) (Nat.le_of_ble_eq_true rfl) h_t0.1 h_t0.2 (by decide) rfl rfl dX7_isKept_137 (fun r30 S29 hf => ?_)
            have hz_r30 := hf.1
            replace hf := hf.2
            refine tj_if_ne C 157 (by decide) dX7_isKept_140 (fun hc => ?_) (fun hc => ?_)
            · replace hf := hf.2 hc
              exact tj_sub [] (w_Rd_isKept_b157 C hw hR r h_t0 hX hf) rfl
            · replace hf := hf.1 hc
              refine tj_aload_n C 1 rfl rfl dX7_isKept_143 ?_
              refine tj_callVi C (k := 11) [] [] (fun hN => c_Rd_acts (by rw [hN]; exact ⟨h_t0.1, h_t0.2⟩) (by rw [hN]; exact hX) hf) lk_X7_143 ty_X7_acts rfl (Nat.le_of_ble_eq_true rfl) (Nat.le_of_ble_eq_true rfl) (Nat.le_of_ble_eq_true rfl) h_t0.1 h_t0.2 (by decide) rfl rfl dX7_isKept_144 (fun r32 S31 hf => ?_)
              refine tj_if_ge C 157 (by decide) dX7_isKept_147 (fun hc => ?_) (fun hc => ?_)
              · replace hf := hf.1 hc
                exact tj_sub [] (w_Rd_isKept_b157 C hw hR r h_t0 hX hf) rfl
              · replace hf := hf.2 hc
                refine tj_aload_n C 1 rfl rfl dX7_isKept_150 ?_
                refine tj_callVi C (k := 11) [] [] (fun hN => c_Rd_tests (by rw [hN]; exact ⟨h_t0.1, h_t0.2⟩) (by rw [hN]; exact hX) hf) lk_X7_146 ty_X7_tests rfl (Nat.le_of_ble_eq_true rfl) (Nat.le_of_ble_eq_true rfl) (Nat.le_of_ble_eq_true rfl) h_t0.1 h_t0.2 (by decide) rfl rfl dX7_isKept_151 (fun r34 S33 hf => ?_)
                refine tj_if_lt C 161 (by decide) dX7_isKept_154 (fun hc => ?_) (fun hc => ?_)
                · replace hf := hf.1 hc
                  refine tj_iconst C kc_0 dX7_isKept_161 ?_
                  exact r _ _ _ _ dX7_isKept_162 zb0 hf
                · replace hf := hf.2 hc
                  exact tj_sub [] (w_Rd_isKept_b157 C hw hR r h_t0 hX hf) rfl
theorem w_Rd_isKept_b90 {Γ : tX} {N0 : Nat → Nat} {K : Int32 → tS → Prop} (C : TC Γ cX7_isKept RX7 6 127) (hw : tWf N0) (hR : xnL Γ = 2) (r : TRz Γ N0 cX7_isKept K) {t0 : Nat} (h_t0 : N0 t0 ≠ 0 ∧ t0 % 32 = 11) (hX : N0 1025 ≠ 0) {S : tS} (hf : Rd_isKept_b90 t0 K  S) : TJ Γ N0 0 0 90 [(0, .ref (xad Γ t0))] [] S := by
  unfold Rd_isKept_b90 at hf
  refine tj_iconst C kc_1 dX7_isKept_90 ?_
  refine tj_goto C 95 (by decide) dX7_isKept_91 ?_
  exact w_Rd_isKept_b95 C hw hR r h_t0 hX hf
theorem w_Rd_isKept_b0 {Γ : tX} {N0 : Nat → Nat} {K : Int32 → tS → Prop} (C : TC Γ cX7_isKept RX7 6 127) (hw : tWf N0) (hR : xnL Γ = 2) (r : TRz Γ N0 cX7_isKept K) {t0 : Nat} (h_t0 : N0 t0 ≠ 0 ∧ t0 % 32 = 11) (hX : N0 1025 ≠ 0) {S : tS} (hf : Rd_isKept t0 S K) : TJ Γ N0 0 0 0 [(0, .ref (xad Γ t0))] [] S := by
  unfold Rd_isKept at hf
  refine tj_aload_n C 0 rfl rfl dX7_isKept_0 ?_
  refine tj_ldcS C 16 rfl dX7_isKept_1 ?_
  refine tj_callVz C (k := 11) [.ref (xK Γ 16)] [] (fun hN => c_Rd_isWord (by rw [hN]; exact ⟨h_t0.1, h_t0.2⟩) (by rw [hN]; exact hX) (by decide) hf) lk_X7_72 ty_X7_isWord rfl (Nat.le_of_ble_eq_true rfl) (Nat.le_of_ble_eq_true rfl) (Nat.le_of_ble_eq_true rfl) h_t0.1 h_t0.2 (by decide) rfl rfl dX7_isKept_3 (fun r2 S1 hf => ?_)
  have hz_r2 := hf.1
  replace hf := hf.2
  refine tj_if_ne C 90 (by decide) dX7_isKept_6 (fun hc => ?_) (fun hc => ?_)
  · replace hf := hf.2 hc
    exact w_Rd_isKept_b90 C hw hR r h_t0 hX hf
  · replace hf := hf.1 hc
    refine tj_aload_n C 0 rfl rfl dX7_isKept_9 ?_
    refine tj_ldcS C 17 rfl dX7_isKept_10 ?_
    refine tj_callVz C (k := 11) [.ref (xK Γ 17)] [] (fun hN => c_Rd_isWord (by rw [hN]; exact ⟨h_t0.1, h_t0.2⟩) (by rw [hN]; exact hX) (by decide) hf) lk_X7_72 ty_X7_isWord rfl (Nat.le_of_ble_eq_true rfl) (Nat.le_of_ble_eq_true rfl) (Nat.le_of_ble_eq_true rfl) h_t0.1 h_t0.2 (by decide) rfl rfl dX7_isKept_12 (fun r4 S3 hf => ?_)
    have hz_r4 := hf.1
    replace hf := hf.2
    refine tj_if_ne C 90 (by decide) dX7_isKept_15 (fun hc => ?_) (fun hc => ?_)
    · replace hf := hf.2 hc
      exact w_Rd_isKept_b90 C hw hR r h_t0 hX hf
    · replace hf := hf.1 hc
      refine tj_aload_n C 0 rfl rfl dX7_isKept_18 ?_
      refine tj_ldcS C 18 rfl dX7_isKept_19 ?_
      refine tj_callVz C (k := 11) [.ref (xK Γ 18)] [] (fun hN => c_Rd_isWord (by rw [hN]; exact ⟨h_t0.1, h_t0.2⟩) (by rw [hN]; exact hX) (by decide) hf) lk_X7_72 ty_X7_isWord rfl (Nat.le_of_ble_eq_true rfl) (Nat.le_of_ble_eq_true rfl) (Nat.le_of_ble_eq_true rfl) h_t0.1 h_t0.2 (by decide) rfl rfl dX7_isKept_21 (fun r6 S5 hf => ?_)
      have hz_r6 := hf.1
      replace hf := hf.2
      refine tj_if_ne C 90 (by decide) dX7_isKept_24 (fun hc => ?_) (fun hc => ?_)
      · replace hf := hf.2 hc
        exact w_Rd_isKept_b90 C hw hR r h_t0 hX hf
      · replace hf := hf.1 hc
        refine tj_aload_n C 0 rfl rfl dX7_isKept_27 ?_
        refine tj_ldcS C 19 rfl dX7_isKept_28 ?_
        refine tj_callVz C (k := 11) [.ref (xK Γ 19)] [] (fun hN => c_Rd_isWord (by rw [hN]; exact ⟨h_t0.1, h_t0.2⟩) (by rw [hN]; exact hX) (by decide) hf) lk_X7_72 ty_X7_isWord rfl (Nat.le_of_ble_eq_true rfl) (Nat.le_of_ble_eq_true rfl) (Nat.le_of_ble_eq_true rfl) h_t0.1 h_t0.2 (by decide) rfl rfl dX7_isKept_30 (fun r8 S7 hf => ?_)
        have hz_r8 := hf.1
        replace hf := hf.2
        refine tj_if_ne C 90 (by decide) dX7_isKept_33 (fun hc => ?_) (fun hc => ?_)
        · replace hf := hf.2 hc
          exact w_Rd_isKept_b90 C hw hR r h_t0 hX hf
        · replace hf := hf.1 hc
          refine tj_aload_n C 0 rfl rfl dX7_isKept_36 ?_
          refine tj_ldcS C 20 rfl dX7_isKept_37 ?_
          refine tj_callVz C (k := 11) [.ref (xK Γ 20)] [] (fun hN => c_Rd_isWord (by rw [hN]; exact ⟨h_t0.1, h_t0.2⟩) (by rw [hN]; exact hX) (by decide) hf) lk_X7_72 ty_X7_isWord rfl (Nat.le_of_ble_eq_true rfl) (Nat.le_of_ble_eq_true rfl) (Nat.le_of_ble_eq_true rfl) h_t0.1 h_t0.2 (by decide) rfl rfl dX7_isKept_39 (fun r10 S9 hf => ?_)
          have hz_r10 := hf.1
          replace hf := hf.2
          refine tj_if_ne C 90 (by decide) dX7_isKept_42 (fun hc => ?_) (fun hc => ?_)
          · replace hf := hf.2 hc
            exact w_Rd_isKept_b90 C hw hR r h_t0 hX hf
          · replace hf := hf.1 hc
            refine tj_aload_n C 0 rfl rfl dX7_isKept_45 ?_
            refine tj_ldcS C 21 rfl dX7_isKept_46 ?_
            refine tj_callVz C (k := 11) [.ref (xK Γ 21)] [] (fun hN => c_Rd_isWord (by rw [hN]; exact ⟨h_t0.1, h_t0.2⟩) (by rw [hN]; exact hX) (by decide) hf) lk_X7_72 ty_X7_isWord rfl (Nat.le_of_ble_eq_true rfl) (Nat.le_of_ble_eq_true rfl) (Nat.le_of_ble_eq_true rfl) h_t0.1 h_t0.2 (by decide) rfl rfl dX7_isKept_48 (fun r12 S11 hf => ?_)
            have hz_r12 := hf.1
            replace hf := hf.2
            refine tj_if_ne C 90 (by decide) dX7_isKept_51 (fun hc => ?_) (fun hc => ?_)
            · replace hf := hf.2 hc
              exact w_Rd_isKept_b90 C hw hR r h_t0 hX hf
            · replace hf := hf.1 hc
              refine tj_aload_n C 0 rfl rfl dX7_isKept_54 ?_
              refine tj_ldcS C 22 rfl dX7_isKept_55 ?_
              refine tj_callVz C (k := 11) [.ref (xK Γ 22)] [] (fun hN => c_Rd_isWord (by rw [hN]; exact ⟨h_t0.1, h_t0.2⟩) (by rw [hN]; exact hX) (by decide) hf) lk_X7_72 ty_X7_isWord rfl (Nat.le_of_ble_eq_true rfl) (Nat.le_of_ble_eq_true rfl) (Nat.le_of_ble_eq_true rfl) h_t0.1 h_t0.2 (by decide) rfl rfl dX7_isKept_57 (fun r14 S13 hf => ?_)
              have hz_r14 := hf.1
              replace hf := hf.2
              refine tj_if_ne C 90 (by decide) dX7_isKept_60 (fun hc => ?_) (fun hc => ?_)
              · replace hf := hf.2 hc
                exact w_Rd_isKept_b90 C hw hR r h_t0 hX hf
              · replace hf := hf.1 hc
                refine tj_aload_n C 0 rfl rfl dX7_isKept_63 ?_
                refine tj_ldcS C 23 rfl dX7_isKept_64 ?_
                refine tj_callVz C (k := 11) [.ref (xK Γ 23)] [] (fun hN => c_Rd_isWord (by rw [hN]; exact ⟨h_t0.1, h_t0.2⟩) (by rw [hN]; exact hX) (by decide) hf) lk_X7_72 ty_X7_isWord rfl (Nat.le_of_ble_eq_true rfl) (Nat.le_of_ble_eq_true rfl) (Nat.le_of_ble_eq_true rfl) h_t0.1 h_t0.2 (by decide) rfl rfl dX7_isKept_66 (fun r16 S15 hf => ?_)
                have hz_r16 := hf.1
                replace hf := hf.2
                refine tj_if_ne C 90 (by decide) dX7_isKept_69 (fun hc => ?_) (fun hc => ?_)
                · replace hf := hf.2 hc
                  exact w_Rd_isKept_b90 C hw hR r h_t0 hX hf
                · replace hf := hf.1 hc
                  refine tj_aload_n C 0 rfl rfl dX7_isKept_72 ?_
                  refine tj_ldcS C 24 rfl dX7_isKept_73 ?_
                  refine tj_callVz C (k := 11) [.ref (xK Γ 24)] [] (fun hN => c_Rd_isWord (by rw [hN]; exact ⟨h_t0.1, h_t0.2⟩) (by rw [hN]; exact hX) (by decide) hf) lk_X7_72 ty_X7_isWord rfl (Nat.le_of_ble_eq_true rfl) (Nat.le_of_ble_eq_true rfl) (Nat.le_of_ble_eq_true rfl) h_t0.1 h_t0.2 (by decide) rfl rfl dX7_isKept_75 (fun r18 S17 hf => ?_)
                  have hz_r18 := hf.1
                  replace hf := hf.2
                  refine tj_if_ne C 90 (by decide) dX7_isKept_78 (fun hc => ?_) (fun hc => ?_)
                  · replace hf := hf.2 hc
                    exact w_Rd_isKept_b90 C hw hR r h_t0 hX hf
                  · replace hf := hf.1 hc
                    refine tj_aload_n C 0 rfl rfl dX7_isKept_81 ?_
                    refine tj_ldcS C 25 rfl dX7_isKept_82 ?_
                    refine tj_callVz C (k := 11) [.ref (xK Γ 25)] [] (fun hN => c_Rd_isWord (by rw [hN]; exact ⟨h_t0.1, h_t0.2⟩) (by rw [hN]; exact hX) (by decide) hf) lk_X7_72 ty_X7_isWord rfl (Nat.le_of_ble_eq_true rfl) (Nat.le_of_ble_eq_true rfl) (Nat.le_of_ble_eq_true rfl) h_t0.1 h_t0.2 (by decide) rfl rfl dX7_isKept_84 (fun r20 S19 hf => ?_)
                    have hz_r20 := hf.1
                    replace hf := hf.2
                    refine tj_if_eq C 94 (by decide) dX7_isKept_87 (fun hc => ?_) (fun hc => ?_)
                    · replace hf := hf.1 hc
                      refine tj_iconst C kc_0 dX7_isKept_94 ?_
                      exact w_Rd_isKept_b95 C hw hR r h_t0 hX hf
                    · replace hf := hf.2 hc
                      exact w_Rd_isKept_b90 C hw hR r h_t0 hX hf
theorem c_Rd_isKept {l : Launch} {G : tG} {ad : Nat → Nat} {A : Nat → Prop} {S : tS} {K : Int32 → tS → Prop} {t0 : Nat} (h_t0 : gN S t0 ≠ 0 ∧ t0 % 32 = 11) (hX : gN S 1025 ≠ 0) (hf : Rd_isKept t0 S K) : Met l yX7_isKept (ws_ yX7_isKept cX7_isKept 2 (some .boolean)) (tRm 6 127) (va_Pc [.ref (ad t0)] (tPre G ad A S)) (va_Qi (fun r u => r &&& 1 = r ∧ K r u) (tB G ad A (gN S)) A) 0 0 A :=
  tj_met_z [(0, .ref (ad t0))] pn_X7 rfl (Nat.le_of_ble_eq_true rfl) (fun p e R s m args below meth c Q C hw r => w_Rd_isKept_b0 C hw rfl r h_t0 hX hf)
theorem w_Rd_wrong_b20 {Γ : tX} {N0 : Nat → Nat} {K : tS → Prop} (C : TC Γ cX7_wrong RX7 1 22) (hw : tWf N0) (hR : xnL Γ = 1) (r : TRa Γ N0 cX7_wrong 1123 K) {t0 : Nat} (h_t0 : N0 t0 ≠ 0 ∧ t0 % 32 = 11) (hX : N0 1025 ≠ 0) {s1 : Int32} {S : tS} (hf : Rd_wrong_b20 t0 K s1 S) : TJ Γ N0 0 0 20 [(0, .ref (xad Γ t0))] [.int s1, .ref (xad Γ 1123)] S := by
  unfold Rd_wrong_b20 at hf
  refine tj_aload_n C 0 rfl rfl dX7_wrong_20 ?_
  refine gf_X7_29 C h_t0.2 h_t0.1 dX7_wrong_21 ?_
  refine tj_callVa C (k := 3) [.int s1, .int (gI S t0 1)] [] (fun hN => c_Bd_at (by rw [hN]; exact hX) hf) lk_X7_59 ty_X2_at rfl (Nat.le_of_ble_eq_true rfl) (Nat.le_of_ble_eq_true rfl) (Nat.le_of_ble_eq_true rfl) (ne0 (ln_1123 hw hX)) rfl (by decide) rfl rfl dX7_wrong_24 (fun S1 hf => ?_)
  exact r _ _ _ dX7_wrong_27 hf
theorem w_Rd_wrong_b0 {Γ : tX} {N0 : Nat → Nat} {K : tS → Prop} (C : TC Γ cX7_wrong RX7 1 22) (hw : tWf N0) (hR : xnL Γ = 1) (r : TRa Γ N0 cX7_wrong 1123 K) {t0 : Nat} (h_t0 : N0 t0 ≠ 0 ∧ t0 % 32 = 11) (hX : N0 1025 ≠ 0) {S : tS} (hf : Rd_wrong t0 S K) : TJ Γ N0 0 0 0 [(0, .ref (xad Γ t0))] [] S := by
  unfold Rd_wrong at hf
  refine tj_aload_n C 0 rfl rfl dX7_wrong_0 ?_
  refine gf_X7_3 C h_t0.2 h_t0.1 dX7_wrong_1 ?_
  refine tj_some hf.1 ?_
  replace hf := hf.2
  refine gf_X7_55 C hX dX7_wrong_4 ?_
  refine tj_aload_n C 0 rfl rfl dX7_wrong_7 ?_
  refine gf_X7_32 C h_t0.2 h_t0.1 dX7_wrong_8 ?_
  refine tj_iconst C kc_4 dX7_wrong_11 ?_
  refine tj_icmp_ne C 19 (by decide) dX7_wrong_12 (fun hc => ?_) (fun hc => ?_)
  · replace hf := hf.2 hc
    refine tj_iconst C kc_2 dX7_wrong_19 ?_
    exact w_Rd_wrong_b20 C hw hR r h_t0 hX hf
  · replace hf := hf.1 hc
    refine tj_iconst C kc_1 dX7_wrong_15 ?_
    refine tj_goto C 20 (by decide) dX7_wrong_16 ?_
    exact w_Rd_wrong_b20 C hw hR r h_t0 hX hf
theorem c_Rd_wrong {l : Launch} {G : tG} {ad : Nat → Nat} {A : Nat → Prop} {S : tS} {K : tS → Prop} {t0 : Nat} (h_t0 : gN S t0 ≠ 0 ∧ t0 % 32 = 11) (hX : gN S 1025 ≠ 0) (hf : Rd_wrong t0 S K) : Met l yX7_wrong (ws_ yX7_wrong cX7_wrong 1 (some (.object "CatWitness$Bad"))) (tRm 1 22) (va_Pc [.ref (ad t0)] (tPre G ad A S)) (va_Qr K (fun u ra t => ra = ad 1123 ∧ tB G ad A (gN S) u t) A) 0 0 A :=
  tj_met_a [(0, .ref (ad t0))] pn_X7 rfl (Nat.le_of_ble_eq_true rfl) (fun p e R s m args below meth c Q C hw r => w_Rd_wrong_b0 C hw rfl r h_t0 hX hf)
theorem w_Rd_name_l41 {Γ : tX} {N0 : Nat → Nat} {K : Int64 → tS → Prop} (C : TC Γ cX7_name RX7 7 148) (hw : tWf N0) (hR : xnL Γ = 4) (r : TRl Γ N0 cX7_name K) {t0 : Nat} (h_t0 : N0 t0 ≠ 0 ∧ t0 % 32 = 11) (hX : N0 1025 ≠ 0) {KX : tS → Prop} (rx : TRX Γ N0 RX2 1123 KX) : ∀ (n : Nat) (a1 : Int64) (a3 : Int32) (S : tS), Rd_name_l41 t0 K KX n a1 a3 S → TJ Γ N0 0 0 41 [(0, .ref (xad Γ t0)), (1, .long a1), (3, .int a3)] [] S := by
  intro n
  induction n with
  | zero => intro a1 a3 S hf; exact hf.elim
  | succ n ih =>
    intro a1 a3 S hf
    unfold Rd_name_l41 at hf
    refine tj_iload_n C 2 rfl rfl dX7_name_41 ?_
    refine tj_aload_n C 0 rfl rfl dX7_name_42 ?_
    refine gf_X7_26 C h_t0.2 h_t0.1 dX7_name_43 ?_
    refine tj_icmp_ge C 76 (by decide) dX7_name_46 (fun hc => ?_) (fun hc => ?_)
    · replace hf := hf.1 hc
      refine tj_lload_n C 1 rfl rfl dX7_name_76 ?_
      exact r _ _ _ _ dX7_name_77 hf
    · replace hf := hf.2 hc
      refine tj_lload_n C 1 rfl rfl dX7_name_49 ?_
      refine tj_ldc2 C kl_X7_153 dX7_name_50 ?_
      refine tj_lmul C dX7_name_53 ?_
      refine tj_aload_n C 0 rfl rfl dX7_name_54 ?_
      refine gf_X7_3 C h_t0.2 h_t0.1 dX7_name_55 ?_
      refine tj_some hf.1 ?_
      replace hf := hf.2
      refine gf_X7_22 C hX dX7_name_58 ?_
      refine tj_iload_n C 2 rfl rfl dX7_name_61 ?_
      refine tj_bald C 1106 900 rfl (ln_1106 hw hX) _ rfl hf.1 dX7_name_62 ?_
      replace hf := hf.2
      refine tj_i2l C dX7_name_63 ?_
      refine tj_ladd C dX7_name_64 ?_
      refine tj_ldc2 C kl_X7_155 dX7_name_65 ?_
      refine tj_lsub C dX7_name_68 ?_
      refine tj_topl (fun x6 ex => ?_)
      replace hf := hf x6 ex
      refine tj_lstore_n C (by rw [hR]; decide) [(1, .long x6), (0, .ref (xad Γ t0)), (3, .int a3)] rfl rfl dX7_name_69 ?_
      obtain ⟨x7, ex⟩ : ∃ y : Int32, y = a3 + nI 1 := ⟨_, rfl⟩
      refine tj_iinc C (by rw [hR]; decide) 2 [(3, .int x7), (1, .long x6), (0, .ref (xad Γ t0))] rfl (by rw [ex]; exact ki_1 _) rfl dX7_name_70 ?_
      replace hf := hf x7 ex
      refine tj_goto C 41 (by decide) dX7_name_73 ?_
      exact tj_sub [2, 1, 0] (ih _ _ _ hf) rfl
theorem w_Rd_name_b29 {Γ : tX} {N0 : Nat → Nat} {K : Int64 → tS → Prop} (C : TC Γ cX7_name RX7 7 148) (hw : tWf N0) (hR : xnL Γ = 4) (r : TRl Γ N0 cX7_name K) {t0 : Nat} (h_t0 : N0 t0 ≠ 0 ∧ t0 % 32 = 11) (hX : N0 1025 ≠ 0) {KX : tS → Prop} (rx : TRX Γ N0 RX2 1123 KX) {S : tS} (hf : Rd_name_b29 t0 K KX  S) : TJ Γ N0 0 0 29 [(0, .ref (xad Γ t0))] [] S := by
  unfold Rd_name_b29 at hf
  refine tj_aload_n C 0 rfl rfl dX7_name_29 ?_
  refine tj_callVa C (k := 11) [] [] (fun hN => c_Rd_wrong (by rw [hN]; exact ⟨h_t0.1, h_t0.2⟩) (by rw [hN]; exact hX) hf) lk_X7_68 ty_X7_wrong rfl (Nat.le_of_ble_eq_true rfl) (Nat.le_of_ble_eq_true rfl) (Nat.le_of_ble_eq_true rfl) h_t0.1 h_t0.2 (by decide) rfl rfl dX7_name_30 (fun S5 hf => ?_)
  refine tj_athrow C 3 1123 (ne0 (ln_1123 hw hX)) rfl (by decide) rfl dX7_name_33 ?_
  exact rx _ _ _ hf
theorem w_Rd_name_b0 {Γ : tX} {N0 : Nat → Nat} {K : Int64 → tS → Prop} (C : TC Γ cX7_name RX7 7 148) (hw : tWf N0) (hR : xnL Γ = 4) (r : TRl Γ N0 cX7_name K) {t0 : Nat} (h_t0 : N0 t0 ≠ 0 ∧ t0 % 32 = 11) (hX : N0 1025 ≠ 0) {KX : tS → Prop} (rx : TRX Γ N0 RX2 1123 KX) {S : tS} (hf : Rd_name t0 S K KX) : TJ Γ N0 0 0 0 [(0, .ref (xad Γ t0))] [] S := by
  unfold Rd_name at hf
  refine tj_aload_n C 0 rfl rfl dX7_name_0 ?_
  refine gf_X7_32 C h_t0.2 h_t0.1 dX7_name_1 ?_
  refine tj_iconst C kc_1 dX7_name_4 ?_
  refine tj_icmp_ne C 29 (by decide) dX7_name_5 (fun hc => ?_) (fun hc => ?_)
  · replace hf := hf.2 hc
    exact w_Rd_name_b29 C hw hR r h_t0 hX rx hf
  · replace hf := hf.1 hc
    refine tj_aload_n C 0 rfl rfl dX7_name_8 ?_
    refine gf_X7_26 C h_t0.2 h_t0.1 dX7_name_9 ?_
    refine tj_aload_n C 0 rfl rfl dX7_name_12 ?_
    refine gf_X7_29 C h_t0.2 h_t0.1 dX7_name_13 ?_
    refine tj_isub C dX7_name_16 ?_
    refine tj_bipush C kb_8 dX7_name_17 ?_
    refine tj_icmp_gt C 29 (by decide) dX7_name_19 (fun hc => ?_) (fun hc => ?_)
    · replace hf := hf.1 hc
      exact w_Rd_name_b29 C hw hR r h_t0 hX rx hf
    · replace hf := hf.2 hc
      refine tj_aload_n C 0 rfl rfl dX7_name_22 ?_
      refine tj_callVz C (k := 11) [] [] (fun hN => c_Rd_isKept (by rw [hN]; exact ⟨h_t0.1, h_t0.2⟩) (by rw [hN]; exact hX) hf) lk_X7_149 ty_X7_isKept rfl (Nat.le_of_ble_eq_true rfl) (Nat.le_of_ble_eq_true rfl) (Nat.le_of_ble_eq_true rfl) h_t0.1 h_t0.2 (by decide) rfl rfl dX7_name_23 (fun r2 S1 hf => ?_)
      have hz_r2 := hf.1
      replace hf := hf.2
      refine tj_if_eq C 34 (by decide) dX7_name_26 (fun hc => ?_) (fun hc => ?_)
      · replace hf := hf.1 hc
        refine tj_lconst C (v := lN 0) rfl dX7_name_34 ?_
        refine tj_topl (fun x3 ex => ?_)
        replace hf := hf x3 ex
        refine tj_lstore_n C (by rw [hR]; decide) [(1, .long x3), (0, .ref (xad Γ t0))] rfl rfl dX7_name_35 ?_
        refine tj_aload_n C 1 rfl rfl dX7_name_36 ?_
        refine gf_X7_29 C h_t0.2 h_t0.1 dX7_name_37 ?_
        refine tj_topi (fun x4 ex => ?_)
        replace hf := hf x4 ex
        refine tj_istore_n C (by rw [hR]; decide) [(3, .int x4), (1, .long x3), (0, .ref (xad Γ t0))] rfl rfl dX7_name_40 ?_
        exact tj_sub [2, 1, 0] (hf.elim fun k hf => w_Rd_name_l41 C hw hR r h_t0 hX rx k _ _ _ hf) rfl
      · replace hf := hf.2 hc
        exact w_Rd_name_b29 C hw hR r h_t0 hX rx hf
theorem c_Rd_name {l : Launch} {G : tG} {ad : Nat → Nat} {A : Nat → Prop} {S : tS} {K : Int64 → tS → Prop} {KX : tS → Prop} {t0 : Nat} (h_t0 : gN S t0 ≠ 0 ∧ t0 % 32 = 11) (hX : gN S 1025 ≠ 0) (hf : Rd_name t0 S K KX) : vx_Met l yX7_name (ws_ yX7_name cX7_name 4 (some .long)) (tRm 7 148) (va_Pc [.ref (ad t0)] (tPre G ad A S)) (va_Ql K (tB G ad A (gN S)) A) (vx_X KX (tBX G ad A (gN S) RX2 1123) A) 0 0 A :=
  tj_xmet_l [(0, .ref (ad t0))] pn_X7 rfl (Nat.le_of_ble_eq_true rfl) (fun p e R s m args below meth c Q C hw r rx => w_Rd_name_b0 C hw rfl r h_t0 hX rx hf)
theorem w_Rd_fresh_b42 {Γ : tX} {N0 : Nat → Nat} {K : Int64 → tS → Prop} (C : TC Γ cX7_fresh RX7 8 171) (hw : tWf N0) (hR : xnL Γ = 5) (r : TRl Γ N0 cX7_fresh K) {t0 : Nat} {a1 : Nat} {a2 : Int32} (h_t0 : N0 t0 ≠ 0 ∧ t0 % 32 = 11) (hX : N0 1025 ≠ 0) (h_a1 : N0 a1 ≠ 0 ∧ a1 % 32 = 6) {KX : tS → Prop} (rx : TRX Γ N0 RX2 1123 KX) {S : tS} (hf : Rd_fresh_b42 t0 a1 a2 K KX  S) : TJ Γ N0 0 0 42 [(0, .ref (xad Γ t0))] [] S := by
  unfold Rd_fresh_b42 at hf
  refine tj_aload_n C 0 rfl rfl dX7_fresh_42 ?_
  refine gf_X7_3 C h_t0.2 h_t0.1 dX7_fresh_43 ?_
  refine tj_some hf.1 ?_
  replace hf := hf.2
  refine gf_X7_55 C hX dX7_fresh_46 ?_
  refine tj_iconst C kc_3 dX7_fresh_49 ?_
  refine tj_aload_n C 0 rfl rfl dX7_fresh_50 ?_
  refine gf_X7_29 C h_t0.2 h_t0.1 dX7_fresh_51 ?_
  refine tj_callVa C (k := 3) [.int (nI 3), .int (gI S t0 1)] [] (fun hN => c_Bd_at (by rw [hN]; exact hX) hf) lk_X7_59 ty_X2_at rfl (Nat.le_of_ble_eq_true rfl) (Nat.le_of_ble_eq_true rfl) (Nat.le_of_ble_eq_true rfl) (ne0 (ln_1123 hw hX)) rfl (by decide) rfl rfl dX7_fresh_54 (fun S15 hf => ?_)
  refine tj_athrow C 3 1123 (ne0 (ln_1123 hw hX)) rfl (by decide) rfl dX7_fresh_57 ?_
  exact rx _ _ _ hf
theorem w_Rd_fresh_b0 {Γ : tX} {N0 : Nat → Nat} {K : Int64 → tS → Prop} (C : TC Γ cX7_fresh RX7 8 171) (hw : tWf N0) (hR : xnL Γ = 5) (r : TRl Γ N0 cX7_fresh K) {t0 : Nat} {a1 : Nat} {a2 : Int32} (h_t0 : N0 t0 ≠ 0 ∧ t0 % 32 = 11) (hX : N0 1025 ≠ 0) (h_a1 : N0 a1 ≠ 0 ∧ a1 % 32 = 6) {KX : tS → Prop} (rx : TRX Γ N0 RX2 1123 KX) {S : tS} (hf : Rd_fresh t0 a1 a2 S K KX) : TJ Γ N0 0 0 0 [(0, .ref (xad Γ t0)), (1, .ref (xad Γ a1)), (2, .int a2)] [] S := by
  unfold Rd_fresh at hf
  refine tj_aload_n C 0 rfl rfl dX7_fresh_0 ?_
  refine tj_iload_n C 2 rfl rfl dX7_fresh_1 ?_
  refine tj_xVv C (k := 11) [.int a2] [] (fun hN => c_Rd_room (by rw [hN]; exact ⟨h_t0.1, h_t0.2⟩) (by rw [hN]; exact hX) hf) lk_X7_157 ty_X7_room rfl (Nat.le_of_ble_eq_true rfl) (Nat.le_of_ble_eq_true rfl) (Nat.le_of_ble_eq_true rfl) h_t0.1 h_t0.2 (by decide) rfl rfl dX7_fresh_2 (fun S2 hf => ?_) (fun S1 hf => ?_)
  · exact rx _ _ _ hf
  · refine tj_aload_n C 0 rfl rfl dX7_fresh_5 ?_
    refine tj_xVl C (k := 11) [] [] (fun hN => c_Rd_name (by rw [hN]; exact ⟨h_t0.1, h_t0.2⟩) (by rw [hN]; exact hX) hf) lk_X7_161 ty_X7_name rfl (Nat.le_of_ble_eq_true rfl) (Nat.le_of_ble_eq_true rfl) (Nat.le_of_ble_eq_true rfl) h_t0.1 h_t0.2 (by decide) rfl rfl dX7_fresh_6 (fun S4 hf => ?_) (fun r5 S3 hf => ?_)
    · exact rx _ _ _ hf
    · refine tj_lstore_n C (by rw [hR]; decide) [(3, .long r5), (0, .ref (xad Γ t0)), (1, .ref (xad Γ a1)), (2, .int a2)] rfl rfl dX7_fresh_9 ?_
      refine tj_aload_n C 2 rfl rfl dX7_fresh_10 ?_
      refine tj_lload_n C 0 rfl rfl dX7_fresh_11 ?_
      refine tj_callVi C (k := 6) [.long r5] [] (fun hN => c_Co_smellNamed (by rw [hN]; exact ⟨h_a1.1, h_a1.2⟩) hf) lk_X7_165 ty_X5_smellNamed rfl (Nat.le_of_ble_eq_true rfl) (Nat.le_of_ble_eq_true rfl) (Nat.le_of_ble_eq_true rfl) h_a1.1 h_a1.2 (by decide) rfl rfl dX7_fresh_12 (fun r7 S6 hf => ?_)
      refine tj_if_ge C 42 (by decide) dX7_fresh_15 (fun hc => ?_) (fun hc => ?_)
      · replace hf := hf.1 hc
        exact tj_sub [1] (w_Rd_fresh_b42 C hw hR r h_t0 hX h_a1 rx hf) rfl
      · replace hf := hf.2 hc
        refine tj_aload_n C 2 rfl rfl dX7_fresh_18 ?_
        refine tj_lload_n C 0 rfl rfl dX7_fresh_19 ?_
        refine tj_callVi C (k := 6) [.long r5] [] (fun hN => c_Co_cueNamed (by rw [hN]; exact ⟨h_a1.1, h_a1.2⟩) hf) lk_X7_171 ty_X5_cueNamed rfl (Nat.le_of_ble_eq_true rfl) (Nat.le_of_ble_eq_true rfl) (Nat.le_of_ble_eq_true rfl) h_a1.1 h_a1.2 (by decide) rfl rfl dX7_fresh_20 (fun r9 S8 hf => ?_)
        refine tj_if_ge C 42 (by decide) dX7_fresh_23 (fun hc => ?_) (fun hc => ?_)
        · replace hf := hf.1 hc
          exact tj_sub [1] (w_Rd_fresh_b42 C hw hR r h_t0 hX h_a1 rx hf) rfl
        · replace hf := hf.2 hc
          refine tj_aload_n C 2 rfl rfl dX7_fresh_26 ?_
          refine tj_lload_n C 0 rfl rfl dX7_fresh_27 ?_
          refine tj_callVi C (k := 6) [.long r5] [] (fun hN => c_Co_personNamed (by rw [hN]; exact ⟨h_a1.1, h_a1.2⟩) hf) lk_X7_174 ty_X5_personNamed rfl (Nat.le_of_ble_eq_true rfl) (Nat.le_of_ble_eq_true rfl) (Nat.le_of_ble_eq_true rfl) h_a1.1 h_a1.2 (by decide) rfl rfl dX7_fresh_28 (fun r11 S10 hf => ?_)
          refine tj_if_ge C 42 (by decide) dX7_fresh_31 (fun hc => ?_) (fun hc => ?_)
          · replace hf := hf.1 hc
            exact tj_sub [1] (w_Rd_fresh_b42 C hw hR r h_t0 hX h_a1 rx hf) rfl
          · replace hf := hf.2 hc
            refine tj_aload_n C 2 rfl rfl dX7_fresh_34 ?_
            refine tj_lload_n C 0 rfl rfl dX7_fresh_35 ?_
            refine tj_callVi C (k := 6) [.long r5] [] (fun hN => c_Co_readerNamed (by rw [hN]; exact ⟨h_a1.1, h_a1.2⟩) hf) lk_X7_177 ty_X5_readerNamed rfl (Nat.le_of_ble_eq_true rfl) (Nat.le_of_ble_eq_true rfl) (Nat.le_of_ble_eq_true rfl) h_a1.1 h_a1.2 (by decide) rfl rfl dX7_fresh_36 (fun r13 S12 hf => ?_)
            refine tj_if_lt C 58 (by decide) dX7_fresh_39 (fun hc => ?_) (fun hc => ?_)
            · replace hf := hf.1 hc
              refine tj_aload_n C 1 rfl rfl dX7_fresh_58 ?_
              refine tj_callVv C (k := 11) [] [] (fun hN => c_Rd_next (by rw [hN]; exact ⟨h_t0.1, h_t0.2⟩) (by rw [hN]; exact hX) hf) lk_X7_19 ty_X7_next rfl (Nat.le_of_ble_eq_true rfl) (Nat.le_of_ble_eq_true rfl) (Nat.le_of_ble_eq_true rfl) h_t0.1 h_t0.2 (by decide) rfl rfl dX7_fresh_59 (fun S14 hf => ?_)
              refine tj_lload_n C 0 rfl rfl dX7_fresh_62 ?_
              exact r _ _ _ _ dX7_fresh_63 hf
            · replace hf := hf.2 hc
              exact tj_sub [1] (w_Rd_fresh_b42 C hw hR r h_t0 hX h_a1 rx hf) rfl
theorem c_Rd_fresh {l : Launch} {G : tG} {ad : Nat → Nat} {A : Nat → Prop} {S : tS} {K : Int64 → tS → Prop} {KX : tS → Prop} {t0 : Nat} {a1 : Nat} {a2 : Int32} (h_t0 : gN S t0 ≠ 0 ∧ t0 % 32 = 11) (hX : gN S 1025 ≠ 0) (h_a1 : gN S a1 ≠ 0 ∧ a1 % 32 = 6) (hf : Rd_fresh t0 a1 a2 S K KX) : vx_Met l yX7_fresh (ws_ yX7_fresh cX7_fresh 5 (some .long)) (tRm 8 171) (va_Pc [.ref (ad t0), .ref (ad a1), .int a2] (tPre G ad A S)) (va_Ql K (tB G ad A (gN S)) A) (vx_X KX (tBX G ad A (gN S) RX2 1123) A) 0 0 A :=
  tj_xmet_l [(0, .ref (ad t0)), (1, .ref (ad a1)), (2, .int a2)] pn_X7 rfl (Nat.le_of_ble_eq_true rfl) (fun p e R s m args below meth c Q C hw r rx => w_Rd_fresh_b0 C hw rfl r h_t0 hX h_a1 rx hf)
theorem w_Rd_newSmell_b17 {Γ : tX} {N0 : Nat → Nat} {K : tS → Prop} (C : TC Γ cX7_newSmell RX7 9 195) (hw : tWf N0) (hR : xnL Γ = 5) (r : TRv Γ N0 cX7_newSmell K) {t0 : Nat} {a1 : Nat} (h_t0 : N0 t0 ≠ 0 ∧ t0 % 32 = 11) (hX : N0 1025 ≠ 0) (h_a1 : N0 a1 ≠ 0 ∧ a1 % 32 = 6) {KX : tS → Prop} (rx : TRX Γ N0 RX2 1123 KX) {a2 : Int32} {s2 : Int32} {S : tS} (hf : Rd_newSmell_b17 t0 a1 K KX a2 s2 S) : TJ Γ N0 0 0 17 [(1, .ref (xad Γ a1)), (2, .int a2)] [.int s2, .ref (xad Γ a1), .ref (xad Γ t0)] S := by
  unfold Rd_newSmell_b17 at hf
  refine tj_xVl C (k := 11) [.ref (xad Γ a1), .int s2] [] (fun hN => c_Rd_fresh (by rw [hN]; exact ⟨h_t0.1, h_t0.2⟩) (by rw [hN]; exact hX) (by rw [hN]; exact ⟨h_a1.1, h_a1.2⟩) hf) lk_X7_211 ty_X7_fresh rfl (Nat.le_of_ble_eq_true rfl) (Nat.le_of_ble_eq_true rfl) (Nat.le_of_ble_eq_true rfl) h_t0.1 h_t0.2 (by decide) rfl rfl dX7_newSmell_17 (fun S3 hf => ?_) (fun r4 S2 hf => ?_)
  · exact rx _ _ _ hf
  · refine tj_lstore_n C (by rw [hR]; decide) [(3, .long r4), (1, .ref (xad Γ a1)), (2, .int a2)] rfl rfl dX7_newSmell_20 ?_
    refine tj_aload_n C 1 rfl rfl dX7_newSmell_21 ?_
    refine gf_X7_215 C h_a1.2 h_a1.1 dX7_newSmell_22 ?_
    refine tj_hN (fun hN => ?_)
    obtain ⟨t5, he, h_t5, hf⟩ := hf
    rw [hN] at h_t5
    refine tj_some he ?_
    refine tj_iload_n C 2 rfl rfl dX7_newSmell_25 ?_
    refine tj_lload_n C 0 rfl rfl dX7_newSmell_26 ?_
    refine tj_lastd C t5 h_t5.2 h_t5.1 _ rfl hf.1 dX7_newSmell_27 ?_
    replace hf := hf.2
    refine tj_topS (fun S6 eS => ?_)
    replace hf := hf S6 eS
    refine tj_aload_n C 1 rfl rfl dX7_newSmell_28 ?_
    refine tj_dup C rfl dX7_newSmell_29 ?_
    refine gf_X7_209 C h_a1.2 h_a1.1 dX7_newSmell_30 ?_
    refine tj_iconst C kc_1 dX7_newSmell_33 ?_
    refine tj_iadd C dX7_newSmell_34 ?_
    refine pf_X7_209 C h_a1.2 h_a1.1 dX7_newSmell_35 ?_
    refine tj_topS (fun S7 eS => ?_)
    replace hf := hf S7 eS
    exact r _ _ _ dX7_newSmell_38 hf
theorem w_Rd_newSmell_b0 {Γ : tX} {N0 : Nat → Nat} {K : tS → Prop} (C : TC Γ cX7_newSmell RX7 9 195) (hw : tWf N0) (hR : xnL Γ = 5) (r : TRv Γ N0 cX7_newSmell K) {t0 : Nat} {a1 : Nat} (h_t0 : N0 t0 ≠ 0 ∧ t0 % 32 = 11) (hX : N0 1025 ≠ 0) (h_a1 : N0 a1 ≠ 0 ∧ a1 % 32 = 6) {KX : tS → Prop} (rx : TRX Γ N0 RX2 1123 KX) {S : tS} (hf : Rd_newSmell t0 a1 S K KX) : TJ Γ N0 0 0 0 [(0, .ref (xad Γ t0)), (1, .ref (xad Γ a1))] [] S := by
  unfold Rd_newSmell at hf
  refine tj_aload_n C 1 rfl rfl dX7_newSmell_0 ?_
  refine gf_X7_209 C h_a1.2 h_a1.1 dX7_newSmell_1 ?_
  refine tj_topi (fun x1 ex => ?_)
  replace hf := hf x1 ex
  refine tj_istore_n C (by rw [hR]; decide) [(2, .int x1), (0, .ref (xad Γ t0)), (1, .ref (xad Γ a1))] rfl rfl dX7_newSmell_4 ?_
  refine tj_aload_n C 1 rfl rfl dX7_newSmell_5 ?_
  refine tj_aload_n C 2 rfl rfl dX7_newSmell_6 ?_
  refine tj_iload_n C 0 rfl rfl dX7_newSmell_7 ?_
  refine tj_iconst C kc_5 dX7_newSmell_8 ?_
  refine tj_icmp_ge C 16 (by decide) dX7_newSmell_9 (fun hc => ?_) (fun hc => ?_)
  · replace hf := hf.1 hc
    refine tj_iconst C kc_0 dX7_newSmell_16 ?_
    exact tj_sub [2, 0] (w_Rd_newSmell_b17 C hw hR r h_t0 hX h_a1 rx hf) rfl
  · replace hf := hf.2 hc
    refine tj_iconst C kc_1 dX7_newSmell_12 ?_
    refine tj_goto C 17 (by decide) dX7_newSmell_13 ?_
    exact tj_sub [2, 0] (w_Rd_newSmell_b17 C hw hR r h_t0 hX h_a1 rx hf) rfl
theorem c_Rd_newSmell {l : Launch} {G : tG} {ad : Nat → Nat} {A : Nat → Prop} {S : tS} {K : tS → Prop} {KX : tS → Prop} {t0 : Nat} {a1 : Nat} (h_t0 : gN S t0 ≠ 0 ∧ t0 % 32 = 11) (hX : gN S 1025 ≠ 0) (h_a1 : gN S a1 ≠ 0 ∧ a1 % 32 = 6) (hf : Rd_newSmell t0 a1 S K KX) : vx_Met l yX7_newSmell (ws_ yX7_newSmell cX7_newSmell 5 (none)) (tRm 9 195) (va_Pc [.ref (ad t0), .ref (ad a1)] (tPre G ad A S)) (va_Qv K (tB G ad A (gN S)) A) (vx_X KX (tBX G ad A (gN S) RX2 1123) A) 0 0 A :=
  tj_xmet_v [(0, .ref (ad t0)), (1, .ref (ad a1))] pn_X7 rfl (Nat.le_of_ble_eq_true rfl) (fun p e R s m args below meth c Q C hw r rx => w_Rd_newSmell_b0 C hw rfl r h_t0 hX h_a1 rx hf)
theorem w_Rd_word_b0 {Γ : tX} {N0 : Nat → Nat} {K : tS → Prop} (C : TC Γ cX7_word RX7 5 107) (hw : tWf N0) (hR : xnL Γ = 2) (r : TRv Γ N0 cX7_word K) {t0 : Nat} {a1 : Nat} (h_t0 : N0 t0 ≠ 0 ∧ t0 % 32 = 11) (hX : N0 1025 ≠ 0) (h_a1 : a1 < nST) {KX : tS → Prop} (rx : TRX Γ N0 RX2 1123 KX) {S : tS} (hf : Rd_word t0 a1 S K KX) : TJ Γ N0 0 0 0 [(0, .ref (xad Γ t0)), (1, .ref (xK Γ a1))] [] S := by
  unfold Rd_word at hf
  refine tj_aload_n C 0 rfl rfl dX7_word_0 ?_
  refine tj_aload_n C 1 rfl rfl dX7_word_1 ?_
  refine tj_callVz C (k := 11) [.ref (xK Γ a1)] [] (fun hN => c_Rd_isWord (by rw [hN]; exact ⟨h_t0.1, h_t0.2⟩) (by rw [hN]; exact hX) h_a1 hf) lk_X7_72 ty_X7_isWord rfl (Nat.le_of_ble_eq_true rfl) (Nat.le_of_ble_eq_true rfl) (Nat.le_of_ble_eq_true rfl) h_t0.1 h_t0.2 (by decide) rfl rfl dX7_word_2 (fun r2 S1 hf => ?_)
  have hz_r2 := hf.1
  replace hf := hf.2
  refine tj_if_ne C 13 (by decide) dX7_word_5 (fun hc => ?_) (fun hc => ?_)
  · replace hf := hf.2 hc
    refine tj_aload_n C 0 rfl rfl dX7_word_13 ?_
    refine tj_callVv C (k := 11) [] [] (fun hN => c_Rd_next (by rw [hN]; exact ⟨h_t0.1, h_t0.2⟩) (by rw [hN]; exact hX) hf) lk_X7_19 ty_X7_next rfl (Nat.le_of_ble_eq_true rfl) (Nat.le_of_ble_eq_true rfl) (Nat.le_of_ble_eq_true rfl) h_t0.1 h_t0.2 (by decide) rfl rfl dX7_word_14 (fun S3 hf => ?_)
    exact r _ _ _ dX7_word_17 hf
  · replace hf := hf.1 hc
    refine tj_aload_n C 0 rfl rfl dX7_word_8 ?_
    refine tj_callVa C (k := 11) [] [] (fun hN => c_Rd_wrong (by rw [hN]; exact ⟨h_t0.1, h_t0.2⟩) (by rw [hN]; exact hX) hf) lk_X7_68 ty_X7_wrong rfl (Nat.le_of_ble_eq_true rfl) (Nat.le_of_ble_eq_true rfl) (Nat.le_of_ble_eq_true rfl) h_t0.1 h_t0.2 (by decide) rfl rfl dX7_word_9 (fun S4 hf => ?_)
    refine tj_athrow C 3 1123 (ne0 (ln_1123 hw hX)) rfl (by decide) rfl dX7_word_12 ?_
    exact rx _ _ _ hf
theorem c_Rd_word {l : Launch} {G : tG} {ad : Nat → Nat} {A : Nat → Prop} {S : tS} {K : tS → Prop} {KX : tS → Prop} {t0 : Nat} {a1 : Nat} (h_t0 : gN S t0 ≠ 0 ∧ t0 % 32 = 11) (hX : gN S 1025 ≠ 0) (h_a1 : a1 < nST) (hf : Rd_word t0 a1 S K KX) : vx_Met l yX7_word (ws_ yX7_word cX7_word 2 (none)) (tRm 5 107) (va_Pc [.ref (ad t0), .ref (G.2.2.1 a1)] (tPre G ad A S)) (va_Qv K (tB G ad A (gN S)) A) (vx_X KX (tBX G ad A (gN S) RX2 1123) A) 0 0 A :=
  tj_xmet_v [(0, .ref (ad t0)), (1, .ref (G.2.2.1 a1))] pn_X7 rfl (Nat.le_of_ble_eq_true rfl) (fun p e R s m args below meth c Q C hw r rx => w_Rd_word_b0 C hw rfl r h_t0 hX h_a1 rx hf)
theorem w_Rd_sense_b0 {Γ : tX} {N0 : Nat → Nat} {K : Int32 → tS → Prop} (C : TC Γ cX7_sense RX7 6 127) (hw : tWf N0) (hR : xnL Γ = 3) (r : TRi Γ N0 cX7_sense K) {t0 : Nat} {a1 : Int32} (h_t0 : N0 t0 ≠ 0 ∧ t0 % 32 = 11) (hX : N0 1025 ≠ 0) {KX : tS → Prop} (rx : TRX Γ N0 RX2 1123 KX) {S : tS} (hf : Rd_sense t0 a1 S K KX) : TJ Γ N0 0 0 0 [(0, .ref (xad Γ t0)), (1, .int a1)] [] S := by
  unfold Rd_sense at hf
  refine tj_aload_n C 0 rfl rfl dX7_sense_0 ?_
  refine tj_callVi C (k := 11) [] [] (fun hN => c_Rd_senses (by rw [hN]; exact ⟨h_t0.1, h_t0.2⟩) (by rw [hN]; exact hX) hf) lk_X7_89 ty_X7_senses rfl (Nat.le_of_ble_eq_true rfl) (Nat.le_of_ble_eq_true rfl) (Nat.le_of_ble_eq_true rfl) h_t0.1 h_t0.2 (by decide) rfl rfl dX7_sense_1 (fun r2 S1 hf => ?_)
  refine tj_istore_n C (by rw [hR]; decide) [(2, .int r2), (0, .ref (xad Γ t0)), (1, .int a1)] rfl rfl dX7_sense_4 ?_
  refine tj_iload_n C 0 rfl rfl dX7_sense_5 ?_
  refine tj_iload_n C 2 rfl rfl dX7_sense_6 ?_
  refine tj_icmp_ge C 15 (by decide) dX7_sense_7 (fun hc => ?_) (fun hc => ?_)
  · replace hf := hf.1 hc
    refine tj_aload_n C 1 rfl rfl dX7_sense_15 ?_
    refine tj_callVv C (k := 11) [] [] (fun hN => c_Rd_next (by rw [hN]; exact ⟨h_t0.1, h_t0.2⟩) (by rw [hN]; exact hX) hf) lk_X7_19 ty_X7_next rfl (Nat.le_of_ble_eq_true rfl) (Nat.le_of_ble_eq_true rfl) (Nat.le_of_ble_eq_true rfl) h_t0.1 h_t0.2 (by decide) rfl rfl dX7_sense_16 (fun S3 hf => ?_)
    refine tj_iload_n C 0 rfl rfl dX7_sense_19 ?_
    exact r _ _ _ _ dX7_sense_20 hf
  · replace hf := hf.2 hc
    refine tj_aload_n C 1 rfl rfl dX7_sense_10 ?_
    refine tj_callVa C (k := 11) [] [] (fun hN => c_Rd_wrong (by rw [hN]; exact ⟨h_t0.1, h_t0.2⟩) (by rw [hN]; exact hX) hf) lk_X7_68 ty_X7_wrong rfl (Nat.le_of_ble_eq_true rfl) (Nat.le_of_ble_eq_true rfl) (Nat.le_of_ble_eq_true rfl) h_t0.1 h_t0.2 (by decide) rfl rfl dX7_sense_11 (fun S4 hf => ?_)
    refine tj_athrow C 3 1123 (ne0 (ln_1123 hw hX)) rfl (by decide) rfl dX7_sense_14 ?_
    exact rx _ _ _ hf
theorem c_Rd_sense {l : Launch} {G : tG} {ad : Nat → Nat} {A : Nat → Prop} {S : tS} {K : Int32 → tS → Prop} {KX : tS → Prop} {t0 : Nat} {a1 : Int32} (h_t0 : gN S t0 ≠ 0 ∧ t0 % 32 = 11) (hX : gN S 1025 ≠ 0) (hf : Rd_sense t0 a1 S K KX) : vx_Met l yX7_sense (ws_ yX7_sense cX7_sense 3 (some .int)) (tRm 6 127) (va_Pc [.ref (ad t0), .int a1] (tPre G ad A S)) (va_Qi K (tB G ad A (gN S)) A) (vx_X KX (tBX G ad A (gN S) RX2 1123) A) 0 0 A :=
  tj_xmet_i [(0, .ref (ad t0)), (1, .int a1)] pn_X7 rfl (Nat.le_of_ble_eq_true rfl) (fun p e R s m args below meth c Q C hw r rx => w_Rd_sense_b0 C hw rfl r h_t0 hX rx hf)
theorem w_Rd_newCue_b18 {Γ : tX} {N0 : Nat → Nat} {K : tS → Prop} (C : TC Γ cX7_newCue RX7 9 195) (hw : tWf N0) (hR : xnL Γ = 5) (r : TRv Γ N0 cX7_newCue K) {t0 : Nat} {a1 : Nat} (h_t0 : N0 t0 ≠ 0 ∧ t0 % 32 = 11) (hX : N0 1025 ≠ 0) (h_a1 : N0 a1 ≠ 0 ∧ a1 % 32 = 6) {KX : tS → Prop} (rx : TRX Γ N0 RX2 1123 KX) {a2 : Int32} {s2 : Int32} {S : tS} (hf : Rd_newCue_b18 t0 a1 K KX a2 s2 S) : TJ Γ N0 0 0 18 [(0, .ref (xad Γ t0)), (1, .ref (xad Γ a1)), (2, .int a2)] [.int s2, .ref (xad Γ a1), .ref (xad Γ t0)] S := by
  unfold Rd_newCue_b18 at hf
  refine tj_xVl C (k := 11) [.ref (xad Γ a1), .int s2] [] (fun hN => c_Rd_fresh (by rw [hN]; exact ⟨h_t0.1, h_t0.2⟩) (by rw [hN]; exact hX) (by rw [hN]; exact ⟨h_a1.1, h_a1.2⟩) hf) lk_X7_211 ty_X7_fresh rfl (Nat.le_of_ble_eq_true rfl) (Nat.le_of_ble_eq_true rfl) (Nat.le_of_ble_eq_true rfl) h_t0.1 h_t0.2 (by decide) rfl rfl dX7_newCue_18 (fun S3 hf => ?_) (fun r4 S2 hf => ?_)
  · exact rx _ _ _ hf
  · refine tj_lstore_n C (by rw [hR]; decide) [(3, .long r4), (0, .ref (xad Γ t0)), (1, .ref (xad Γ a1)), (2, .int a2)] rfl rfl dX7_newCue_21 ?_
    refine tj_aload_n C 1 rfl rfl dX7_newCue_22 ?_
    refine tj_ldcS C 18 rfl dX7_newCue_23 ?_
    refine tj_xVv C (k := 11) [.ref (xK Γ 18)] [] (fun hN => c_Rd_word (by rw [hN]; exact ⟨h_t0.1, h_t0.2⟩) (by rw [hN]; exact hX) (by decide) hf) lk_X7_76 ty_X7_word rfl (Nat.le_of_ble_eq_true rfl) (Nat.le_of_ble_eq_true rfl) (Nat.le_of_ble_eq_true rfl) h_t0.1 h_t0.2 (by decide) rfl rfl dX7_newCue_25 (fun S6 hf => ?_) (fun S5 hf => ?_)
    · exact rx _ _ _ hf
    · refine tj_aload_n C 2 rfl rfl dX7_newCue_28 ?_
      refine gf_X7_222 C h_a1.2 h_a1.1 dX7_newCue_29 ?_
      refine tj_iload_n C 3 rfl rfl dX7_newCue_32 ?_
      refine tj_aload_n C 1 rfl rfl dX7_newCue_33 ?_
      refine tj_iconst C kc_0 dX7_newCue_34 ?_
      refine tj_xVi C (k := 11) [.int (nI 0)] [.int a2, .ref (xad Γ (a1 + 170))] (fun hN => c_Rd_sense (by rw [hN]; exact ⟨h_t0.1, h_t0.2⟩) (by rw [hN]; exact hX) hf) lk_X7_226 ty_X7_sense rfl (Nat.le_of_ble_eq_true rfl) (Nat.le_of_ble_eq_true rfl) (Nat.le_of_ble_eq_true rfl) h_t0.1 h_t0.2 (by decide) rfl rfl dX7_newCue_35 (fun S8 hf => ?_) (fun r9 S7 hf => ?_)
      · exact rx _ _ _ hf
      · refine tj_iast C (a1 + 170) 6 (by have := h_a1.2; omega) (lnc_170 hw h_a1.2 h_a1.1) _ rfl hf.1 dX7_newCue_38 ?_
        replace hf := hf.2
        refine tj_topS (fun S10 eS => ?_)
        replace hf := hf S10 eS
        refine tj_aload_n C 2 rfl rfl dX7_newCue_39 ?_
        refine gf_X7_229 C h_a1.2 h_a1.1 dX7_newCue_40 ?_
        refine tj_hN (fun hN => ?_)
        obtain ⟨t11, he, h_t11, hf⟩ := hf
        rw [hN] at h_t11
        refine tj_some he ?_
        refine tj_iload_n C 3 rfl rfl dX7_newCue_43 ?_
        refine tj_lload_n C 0 rfl rfl dX7_newCue_44 ?_
        refine tj_lastd C t11 h_t11.2 h_t11.1 _ rfl hf.1 dX7_newCue_45 ?_
        replace hf := hf.2
        refine tj_topS (fun S12 eS => ?_)
        replace hf := hf S12 eS
        refine tj_aload_n C 2 rfl rfl dX7_newCue_46 ?_
        refine tj_dup C rfl dX7_newCue_47 ?_
        refine gf_X7_219 C h_a1.2 h_a1.1 dX7_newCue_48 ?_
        refine tj_iconst C kc_1 dX7_newCue_51 ?_
        refine tj_iadd C dX7_newCue_52 ?_
        refine pf_X7_219 C h_a1.2 h_a1.1 dX7_newCue_53 ?_
        refine tj_topS (fun S13 eS => ?_)
        replace hf := hf S13 eS
        exact r _ _ _ dX7_newCue_56 hf
theorem w_Rd_newCue_b0 {Γ : tX} {N0 : Nat → Nat} {K : tS → Prop} (C : TC Γ cX7_newCue RX7 9 195) (hw : tWf N0) (hR : xnL Γ = 5) (r : TRv Γ N0 cX7_newCue K) {t0 : Nat} {a1 : Nat} (h_t0 : N0 t0 ≠ 0 ∧ t0 % 32 = 11) (hX : N0 1025 ≠ 0) (h_a1 : N0 a1 ≠ 0 ∧ a1 % 32 = 6) {KX : tS → Prop} (rx : TRX Γ N0 RX2 1123 KX) {S : tS} (hf : Rd_newCue t0 a1 S K KX) : TJ Γ N0 0 0 0 [(0, .ref (xad Γ t0)), (1, .ref (xad Γ a1))] [] S := by
  unfold Rd_newCue at hf
  refine tj_aload_n C 1 rfl rfl dX7_newCue_0 ?_
  refine gf_X7_219 C h_a1.2 h_a1.1 dX7_newCue_1 ?_
  refine tj_topi (fun x1 ex => ?_)
  replace hf := hf x1 ex
  refine tj_istore_n C (by rw [hR]; decide) [(2, .int x1), (0, .ref (xad Γ t0)), (1, .ref (xad Γ a1))] rfl rfl dX7_newCue_4 ?_
  refine tj_aload_n C 1 rfl rfl dX7_newCue_5 ?_
  refine tj_aload_n C 2 rfl rfl dX7_newCue_6 ?_
  refine tj_iload_n C 0 rfl rfl dX7_newCue_7 ?_
  refine tj_bipush C kb_6 dX7_newCue_8 ?_
  refine tj_icmp_ge C 17 (by decide) dX7_newCue_10 (fun hc => ?_) (fun hc => ?_)
  · replace hf := hf.1 hc
    refine tj_iconst C kc_0 dX7_newCue_17 ?_
    exact tj_sub [1, 2, 0] (w_Rd_newCue_b18 C hw hR r h_t0 hX h_a1 rx hf) rfl
  · replace hf := hf.2 hc
    refine tj_iconst C kc_1 dX7_newCue_13 ?_
    refine tj_goto C 18 (by decide) dX7_newCue_14 ?_
    exact tj_sub [1, 2, 0] (w_Rd_newCue_b18 C hw hR r h_t0 hX h_a1 rx hf) rfl
theorem c_Rd_newCue {l : Launch} {G : tG} {ad : Nat → Nat} {A : Nat → Prop} {S : tS} {K : tS → Prop} {KX : tS → Prop} {t0 : Nat} {a1 : Nat} (h_t0 : gN S t0 ≠ 0 ∧ t0 % 32 = 11) (hX : gN S 1025 ≠ 0) (h_a1 : gN S a1 ≠ 0 ∧ a1 % 32 = 6) (hf : Rd_newCue t0 a1 S K KX) : vx_Met l yX7_newCue (ws_ yX7_newCue cX7_newCue 5 (none)) (tRm 9 195) (va_Pc [.ref (ad t0), .ref (ad a1)] (tPre G ad A S)) (va_Qv K (tB G ad A (gN S)) A) (vx_X KX (tBX G ad A (gN S) RX2 1123) A) 0 0 A :=
  tj_xmet_v [(0, .ref (ad t0)), (1, .ref (ad a1))] pn_X7 rfl (Nat.le_of_ble_eq_true rfl) (fun p e R s m args below meth c Q C hw r rx => w_Rd_newCue_b0 C hw rfl r h_t0 hX h_a1 rx hf)
theorem w_Rd_known_b0 {Γ : tX} {N0 : Nat → Nat} {K : Int32 → tS → Prop} (C : TC Γ cX7_known RX7 2 41) (hw : tWf N0) (hR : xnL Γ = 3) (r : TRi Γ N0 cX7_known K) {t0 : Nat} {a1 : Int32} {a2 : Int32} (h_t0 : N0 t0 ≠ 0 ∧ t0 % 32 = 11) (hX : N0 1025 ≠ 0) {KX : tS → Prop} (rx : TRX Γ N0 RX2 1123 KX) {S : tS} (hf : Rd_known t0 a1 a2 S K KX) : TJ Γ N0 0 0 0 [(0, .ref (xad Γ t0)), (1, .int a1), (2, .int a2)] [] S := by
  unfold Rd_known at hf
  refine tj_iload_n C 1 rfl rfl dX7_known_0 ?_
  refine tj_if_ge C 20 (by decide) dX7_known_1 (fun hc => ?_) (fun hc => ?_)
  · replace hf := hf.1 hc
    refine tj_iload_n C 2 rfl rfl dX7_known_20 ?_
    refine tj_iload_n C 1 rfl rfl dX7_known_21 ?_
    refine tj_callSNz C [.int a2, .int a1] [] (fun hN => c_X_has hf) (lw_meth q881) q879 q167 q880 ty_X0_has rfl (Nat.le_of_ble_eq_true rfl) (Nat.le_of_ble_eq_true rfl) (Nat.le_of_ble_eq_true rfl) rfl dX7_known_22 (fun r2 S1 hf => ?_)
    have hz_r2 := hf.1
    replace hf := hf.2
    refine tj_if_eq C 44 (by decide) dX7_known_25 (fun hc => ?_) (fun hc => ?_)
    · replace hf := hf.1 hc
      refine tj_aload_n C 0 rfl rfl dX7_known_44 ?_
      refine tj_callVv C (k := 11) [] [] (fun hN => c_Rd_next (by rw [hN]; exact ⟨h_t0.1, h_t0.2⟩) (by rw [hN]; exact hX) hf) lk_X7_19 ty_X7_next rfl (Nat.le_of_ble_eq_true rfl) (Nat.le_of_ble_eq_true rfl) (Nat.le_of_ble_eq_true rfl) h_t0.1 h_t0.2 (by decide) rfl rfl dX7_known_45 (fun S3 hf => ?_)
      refine tj_iload_n C 1 rfl rfl dX7_known_48 ?_
      exact r _ _ _ _ dX7_known_49 hf
    · replace hf := hf.2 hc
      refine tj_aload_n C 0 rfl rfl dX7_known_28 ?_
      refine gf_X7_3 C h_t0.2 h_t0.1 dX7_known_29 ?_
      refine tj_some hf.1 ?_
      replace hf := hf.2
      refine gf_X7_55 C hX dX7_known_32 ?_
      refine tj_iconst C kc_5 dX7_known_35 ?_
      refine tj_aload_n C 0 rfl rfl dX7_known_36 ?_
      refine gf_X7_29 C h_t0.2 h_t0.1 dX7_known_37 ?_
      refine tj_callVa C (k := 3) [.int (nI 5), .int (gI S1 t0 1)] [] (fun hN => c_Bd_at (by rw [hN]; exact hX) hf) lk_X7_59 ty_X2_at rfl (Nat.le_of_ble_eq_true rfl) (Nat.le_of_ble_eq_true rfl) (Nat.le_of_ble_eq_true rfl) (ne0 (ln_1123 hw hX)) rfl (by decide) rfl rfl dX7_known_40 (fun S4 hf => ?_)
      refine tj_athrow C 3 1123 (ne0 (ln_1123 hw hX)) rfl (by decide) rfl dX7_known_43 ?_
      exact rx _ _ _ hf
  · replace hf := hf.2 hc
    refine tj_aload_n C 0 rfl rfl dX7_known_4 ?_
    refine gf_X7_3 C h_t0.2 h_t0.1 dX7_known_5 ?_
    refine tj_some hf.1 ?_
    replace hf := hf.2
    refine gf_X7_55 C hX dX7_known_8 ?_
    refine tj_iconst C kc_3 dX7_known_11 ?_
    refine tj_aload_n C 0 rfl rfl dX7_known_12 ?_
    refine gf_X7_29 C h_t0.2 h_t0.1 dX7_known_13 ?_
    refine tj_callVa C (k := 3) [.int (nI 3), .int (gI S t0 1)] [] (fun hN => c_Bd_at (by rw [hN]; exact hX) hf) lk_X7_59 ty_X2_at rfl (Nat.le_of_ble_eq_true rfl) (Nat.le_of_ble_eq_true rfl) (Nat.le_of_ble_eq_true rfl) (ne0 (ln_1123 hw hX)) rfl (by decide) rfl rfl dX7_known_16 (fun S5 hf => ?_)
    refine tj_athrow C 3 1123 (ne0 (ln_1123 hw hX)) rfl (by decide) rfl dX7_known_19 ?_
    exact rx _ _ _ hf
theorem c_Rd_known {l : Launch} {G : tG} {ad : Nat → Nat} {A : Nat → Prop} {S : tS} {K : Int32 → tS → Prop} {KX : tS → Prop} {t0 : Nat} {a1 : Int32} {a2 : Int32} (h_t0 : gN S t0 ≠ 0 ∧ t0 % 32 = 11) (hX : gN S 1025 ≠ 0) (hf : Rd_known t0 a1 a2 S K KX) : vx_Met l yX7_known (ws_ yX7_known cX7_known 3 (some .int)) (tRm 2 41) (va_Pc [.ref (ad t0), .int a1, .int a2] (tPre G ad A S)) (va_Qi K (tB G ad A (gN S)) A) (vx_X KX (tBX G ad A (gN S) RX2 1123) A) 0 0 A :=
  tj_xmet_i [(0, .ref (ad t0)), (1, .int a1), (2, .int a2)] pn_X7 rfl (Nat.le_of_ble_eq_true rfl) (fun p e R s m args below meth c Q C hw r rx => w_Rd_known_b0 C hw rfl r h_t0 hX rx hf)
theorem w_Rd_cue_b0 {Γ : tX} {N0 : Nat → Nat} {K : Int32 → tS → Prop} (C : TC Γ cX7_cue RX7 8 171) (hw : tWf N0) (hR : xnL Γ = 2) (r : TRi Γ N0 cX7_cue K) {t0 : Nat} {a1 : Nat} (h_t0 : N0 t0 ≠ 0 ∧ t0 % 32 = 11) (hX : N0 1025 ≠ 0) (h_a1 : N0 a1 ≠ 0 ∧ a1 % 32 = 6) {KX : tS → Prop} (rx : TRX Γ N0 RX2 1123 KX) {S : tS} (hf : Rd_cue t0 a1 S K KX) : TJ Γ N0 0 0 0 [(0, .ref (xad Γ t0)), (1, .ref (xad Γ a1))] [] S := by
  unfold Rd_cue at hf
  refine tj_aload_n C 0 rfl rfl dX7_cue_0 ?_
  refine tj_aload_n C 1 rfl rfl dX7_cue_1 ?_
  refine tj_aload_n C 0 rfl rfl dX7_cue_2 ?_
  refine tj_xVl C (k := 11) [] [.ref (xad Γ a1), .ref (xad Γ t0)] (fun hN => c_Rd_name (by rw [hN]; exact ⟨h_t0.1, h_t0.2⟩) (by rw [hN]; exact hX) hf) lk_X7_161 ty_X7_name rfl (Nat.le_of_ble_eq_true rfl) (Nat.le_of_ble_eq_true rfl) (Nat.le_of_ble_eq_true rfl) h_t0.1 h_t0.2 (by decide) rfl rfl dX7_cue_3 (fun S2 hf => ?_) (fun r3 S1 hf => ?_)
  · exact rx _ _ _ hf
  · refine tj_callVi C (k := 6) [.long r3] [.ref (xad Γ t0)] (fun hN => c_Co_cueNamed (by rw [hN]; exact ⟨h_a1.1, h_a1.2⟩) hf) lk_X7_171 ty_X5_cueNamed rfl (Nat.le_of_ble_eq_true rfl) (Nat.le_of_ble_eq_true rfl) (Nat.le_of_ble_eq_true rfl) h_a1.1 h_a1.2 (by decide) rfl rfl dX7_cue_6 (fun r5 S4 hf => ?_)
    refine tj_iconst C kc_0 dX7_cue_9 ?_
    refine tj_xVi C (k := 11) [.int r5, .int (nI 0)] [] (fun hN => c_Rd_known (by rw [hN]; exact ⟨h_t0.1, h_t0.2⟩) (by rw [hN]; exact hX) hf) lk_X7_184 ty_X7_known rfl (Nat.le_of_ble_eq_true rfl) (Nat.le_of_ble_eq_true rfl) (Nat.le_of_ble_eq_true rfl) h_t0.1 h_t0.2 (by decide) rfl rfl dX7_cue_10 (fun S7 hf => ?_) (fun r8 S6 hf => ?_)
    · exact rx _ _ _ hf
    · exact r _ _ _ _ dX7_cue_13 hf
theorem c_Rd_cue {l : Launch} {G : tG} {ad : Nat → Nat} {A : Nat → Prop} {S : tS} {K : Int32 → tS → Prop} {KX : tS → Prop} {t0 : Nat} {a1 : Nat} (h_t0 : gN S t0 ≠ 0 ∧ t0 % 32 = 11) (hX : gN S 1025 ≠ 0) (h_a1 : gN S a1 ≠ 0 ∧ a1 % 32 = 6) (hf : Rd_cue t0 a1 S K KX) : vx_Met l yX7_cue (ws_ yX7_cue cX7_cue 2 (some .int)) (tRm 8 171) (va_Pc [.ref (ad t0), .ref (ad a1)] (tPre G ad A S)) (va_Qi K (tB G ad A (gN S)) A) (vx_X KX (tBX G ad A (gN S) RX2 1123) A) 0 0 A :=
  tj_xmet_i [(0, .ref (ad t0)), (1, .ref (ad a1))] pn_X7 rfl (Nat.le_of_ble_eq_true rfl) (fun p e R s m args below meth c Q C hw r rx => w_Rd_cue_b0 C hw rfl r h_t0 hX h_a1 rx hf)
theorem w_Rd_reads_b0 {Γ : tX} {N0 : Nat → Nat} {K : Int32 → tS → Prop} (C : TC Γ cX7_reads RX7 5 107) (hw : tWf N0) (hR : xnL Γ = 2) (r : TRz Γ N0 cX7_reads K) {t0 : Nat} {a1 : Nat} (h_t0 : N0 t0 ≠ 0 ∧ t0 % 32 = 11) (hX : N0 1025 ≠ 0) (h_a1 : a1 < nST) {S : tS} (hf : Rd_reads t0 a1 S K) : TJ Γ N0 0 0 0 [(0, .ref (xad Γ t0)), (1, .ref (xK Γ a1))] [] S := by
  unfold Rd_reads at hf
  refine tj_aload_n C 0 rfl rfl dX7_reads_0 ?_
  refine tj_aload_n C 1 rfl rfl dX7_reads_1 ?_
  refine tj_callVz C (k := 11) [.ref (xK Γ a1)] [] (fun hN => c_Rd_isWord (by rw [hN]; exact ⟨h_t0.1, h_t0.2⟩) (by rw [hN]; exact hX) h_a1 hf) lk_X7_72 ty_X7_isWord rfl (Nat.le_of_ble_eq_true rfl) (Nat.le_of_ble_eq_true rfl) (Nat.le_of_ble_eq_true rfl) h_t0.1 h_t0.2 (by decide) rfl rfl dX7_reads_2 (fun r2 S1 hf => ?_)
  have hz_r2 := hf.1
  replace hf := hf.2
  refine tj_if_ne C 10 (by decide) dX7_reads_5 (fun hc => ?_) (fun hc => ?_)
  · replace hf := hf.2 hc
    refine tj_aload_n C 0 rfl rfl dX7_reads_10 ?_
    refine tj_callVv C (k := 11) [] [] (fun hN => c_Rd_next (by rw [hN]; exact ⟨h_t0.1, h_t0.2⟩) (by rw [hN]; exact hX) hf) lk_X7_19 ty_X7_next rfl (Nat.le_of_ble_eq_true rfl) (Nat.le_of_ble_eq_true rfl) (Nat.le_of_ble_eq_true rfl) h_t0.1 h_t0.2 (by decide) rfl rfl dX7_reads_11 (fun S3 hf => ?_)
    refine tj_iconst C kc_1 dX7_reads_14 ?_
    exact r _ _ _ _ dX7_reads_15 zb1 hf
  · replace hf := hf.1 hc
    refine tj_iconst C kc_0 dX7_reads_8 ?_
    exact r _ _ _ _ dX7_reads_9 zb0 hf
theorem c_Rd_reads {l : Launch} {G : tG} {ad : Nat → Nat} {A : Nat → Prop} {S : tS} {K : Int32 → tS → Prop} {t0 : Nat} {a1 : Nat} (h_t0 : gN S t0 ≠ 0 ∧ t0 % 32 = 11) (hX : gN S 1025 ≠ 0) (h_a1 : a1 < nST) (hf : Rd_reads t0 a1 S K) : Met l yX7_reads (ws_ yX7_reads cX7_reads 2 (some .boolean)) (tRm 5 107) (va_Pc [.ref (ad t0), .ref (G.2.2.1 a1)] (tPre G ad A S)) (va_Qi (fun r u => r &&& 1 = r ∧ K r u) (tB G ad A (gN S)) A) 0 0 A :=
  tj_met_z [(0, .ref (ad t0)), (1, .ref (G.2.2.1 a1))] pn_X7 rfl (Nat.le_of_ble_eq_true rfl) (fun p e R s m args below meth c Q C hw r => w_Rd_reads_b0 C hw rfl r h_t0 hX h_a1 hf)
theorem w_Rd_isSign_b0 {Γ : tX} {N0 : Nat → Nat} {K : Int32 → tS → Prop} (C : TC Γ cX7_isSign RX7 0 0) (hw : tWf N0) (hR : xnL Γ = 2) (r : TRz Γ N0 cX7_isSign K) {t0 : Nat} {a1 : Int32} (h_t0 : N0 t0 ≠ 0 ∧ t0 % 32 = 11) (hX : N0 1025 ≠ 0) {S : tS} (hf : Rd_isSign t0 a1 S K) : TJ Γ N0 0 0 0 [(0, .ref (xad Γ t0)), (1, .int a1)] [] S := by
  unfold Rd_isSign at hf
  refine tj_aload_n C 0 rfl rfl dX7_isSign_0 ?_
  refine gf_X7_32 C h_t0.2 h_t0.1 dX7_isSign_1 ?_
  refine tj_iconst C kc_3 dX7_isSign_4 ?_
  refine tj_icmp_ne C 28 (by decide) dX7_isSign_5 (fun hc => ?_) (fun hc => ?_)
  · replace hf := hf.2 hc
    refine tj_iconst C kc_0 dX7_isSign_28 ?_
    exact r _ _ _ _ dX7_isSign_29 zb0 hf
  · replace hf := hf.1 hc
    refine tj_aload_n C 0 rfl rfl dX7_isSign_8 ?_
    refine gf_X7_3 C h_t0.2 h_t0.1 dX7_isSign_9 ?_
    refine tj_some hf.1 ?_
    replace hf := hf.2
    refine gf_X7_22 C hX dX7_isSign_12 ?_
    refine tj_aload_n C 0 rfl rfl dX7_isSign_15 ?_
    refine gf_X7_29 C h_t0.2 h_t0.1 dX7_isSign_16 ?_
    refine tj_bald C 1106 900 rfl (ln_1106 hw hX) _ rfl hf.1 dX7_isSign_19 ?_
    replace hf := hf.2
    refine tj_iload_n C 1 rfl rfl dX7_isSign_20 ?_
    refine tj_icmp_ne C 28 (by decide) dX7_isSign_21 (fun hc => ?_) (fun hc => ?_)
    · replace hf := hf.2 hc
      refine tj_iconst C kc_0 dX7_isSign_28 ?_
      exact r _ _ _ _ dX7_isSign_29 zb0 hf
    · replace hf := hf.1 hc
      refine tj_iconst C kc_1 dX7_isSign_24 ?_
      refine tj_goto C 29 (by decide) dX7_isSign_25 ?_
      exact r _ _ _ _ dX7_isSign_29 zb1 hf
theorem c_Rd_isSign {l : Launch} {G : tG} {ad : Nat → Nat} {A : Nat → Prop} {S : tS} {K : Int32 → tS → Prop} {t0 : Nat} {a1 : Int32} (h_t0 : gN S t0 ≠ 0 ∧ t0 % 32 = 11) (hX : gN S 1025 ≠ 0) (hf : Rd_isSign t0 a1 S K) : Met l yX7_isSign (ws_ yX7_isSign cX7_isSign 2 (some .boolean)) (tRm 0 0) (va_Pc [.ref (ad t0), .int a1] (tPre G ad A S)) (va_Qi (fun r u => r &&& 1 = r ∧ K r u) (tB G ad A (gN S)) A) 0 0 A :=
  tj_met_z [(0, .ref (ad t0)), (1, .int a1)] pn_X7 rfl (Nat.le_of_ble_eq_true rfl) (fun p e R s m args below meth c Q C hw r => w_Rd_isSign_b0 C hw rfl r h_t0 hX hf)
theorem w_Rd_compare_b30 {Γ : tX} {N0 : Nat → Nat} {K : Int32 → tS → Prop} (C : TC Γ cX7_compare RX7 2 42) (hw : tWf N0) (hR : xnL Γ = 2) (r : TRi Γ N0 cX7_compare K) {t0 : Nat} (h_t0 : N0 t0 ≠ 0 ∧ t0 % 32 = 11) (hX : N0 1025 ≠ 0) {KX : tS → Prop} (rx : TRX Γ N0 RX2 1123 KX) {s0 : Int32} {S : tS} (hf : Rd_compare_b30 t0 K KX s0 S) : TJ Γ N0 0 0 30 [(0, .ref (xad Γ t0))] [.int s0] S := by
  unfold Rd_compare_b30 at hf
  refine tj_istore_n C (by rw [hR]; decide) [(1, .int s0), (0, .ref (xad Γ t0))] rfl rfl dX7_compare_30 ?_
  refine tj_aload_n C 1 rfl rfl dX7_compare_31 ?_
  refine tj_iload_n C 0 rfl rfl dX7_compare_32 ?_
  refine tj_i2c C dX7_compare_33 ?_
  refine tj_callVz C (k := 11) [.int ((s0.toUInt32 % 65536).toInt32)] [] (fun hN => c_Rd_isSign (by rw [hN]; exact ⟨h_t0.1, h_t0.2⟩) (by rw [hN]; exact hX) hf) lk_X7_64 ty_X7_isSign rfl (Nat.le_of_ble_eq_true rfl) (Nat.le_of_ble_eq_true rfl) (Nat.le_of_ble_eq_true rfl) h_t0.1 h_t0.2 (by decide) rfl rfl dX7_compare_34 (fun r6 S5 hf => ?_)
  have hz_r6 := hf.1
  replace hf := hf.2
  refine tj_if_ne C 45 (by decide) dX7_compare_37 (fun hc => ?_) (fun hc => ?_)
  · replace hf := hf.2 hc
    refine tj_aload_n C 1 rfl rfl dX7_compare_45 ?_
    refine tj_callVv C (k := 11) [] [] (fun hN => c_Rd_next (by rw [hN]; exact ⟨h_t0.1, h_t0.2⟩) (by rw [hN]; exact hX) hf) lk_X7_19 ty_X7_next rfl (Nat.le_of_ble_eq_true rfl) (Nat.le_of_ble_eq_true rfl) (Nat.le_of_ble_eq_true rfl) h_t0.1 h_t0.2 (by decide) rfl rfl dX7_compare_46 (fun S7 hf => ?_)
    refine tj_iload_n C 0 rfl rfl dX7_compare_49 ?_
    exact r _ _ _ _ dX7_compare_50 hf
  · replace hf := hf.1 hc
    refine tj_aload_n C 1 rfl rfl dX7_compare_40 ?_
    refine tj_callVa C (k := 11) [] [] (fun hN => c_Rd_wrong (by rw [hN]; exact ⟨h_t0.1, h_t0.2⟩) (by rw [hN]; exact hX) hf) lk_X7_68 ty_X7_wrong rfl (Nat.le_of_ble_eq_true rfl) (Nat.le_of_ble_eq_true rfl) (Nat.le_of_ble_eq_true rfl) h_t0.1 h_t0.2 (by decide) rfl rfl dX7_compare_41 (fun S8 hf => ?_)
    refine tj_athrow C 3 1123 (ne0 (ln_1123 hw hX)) rfl (by decide) rfl dX7_compare_44 ?_
    exact rx _ _ _ hf
theorem w_Rd_compare_b0 {Γ : tX} {N0 : Nat → Nat} {K : Int32 → tS → Prop} (C : TC Γ cX7_compare RX7 2 42) (hw : tWf N0) (hR : xnL Γ = 2) (r : TRi Γ N0 cX7_compare K) {t0 : Nat} (h_t0 : N0 t0 ≠ 0 ∧ t0 % 32 = 11) (hX : N0 1025 ≠ 0) {KX : tS → Prop} (rx : TRX Γ N0 RX2 1123 KX) {S : tS} (hf : Rd_compare t0 S K KX) : TJ Γ N0 0 0 0 [(0, .ref (xad Γ t0))] [] S := by
  unfold Rd_compare at hf
  refine tj_aload_n C 0 rfl rfl dX7_compare_0 ?_
  refine tj_bipush C kb_60 dX7_compare_1 ?_
  refine tj_callVz C (k := 11) [.int (nI 60)] [] (fun hN => c_Rd_isSign (by rw [hN]; exact ⟨h_t0.1, h_t0.2⟩) (by rw [hN]; exact hX) hf) lk_X7_64 ty_X7_isSign rfl (Nat.le_of_ble_eq_true rfl) (Nat.le_of_ble_eq_true rfl) (Nat.le_of_ble_eq_true rfl) h_t0.1 h_t0.2 (by decide) rfl rfl dX7_compare_3 (fun r2 S1 hf => ?_)
  have hz_r2 := hf.1
  replace hf := hf.2
  refine tj_if_eq C 14 (by decide) dX7_compare_6 (fun hc => ?_) (fun hc => ?_)
  · replace hf := hf.1 hc
    refine tj_aload_n C 0 rfl rfl dX7_compare_14 ?_
    refine tj_bipush C kb_62 dX7_compare_15 ?_
    refine tj_callVz C (k := 11) [.int (nI 62)] [] (fun hN => c_Rd_isSign (by rw [hN]; exact ⟨h_t0.1, h_t0.2⟩) (by rw [hN]; exact hX) hf) lk_X7_64 ty_X7_isSign rfl (Nat.le_of_ble_eq_true rfl) (Nat.le_of_ble_eq_true rfl) (Nat.le_of_ble_eq_true rfl) h_t0.1 h_t0.2 (by decide) rfl rfl dX7_compare_17 (fun r4 S3 hf => ?_)
    have hz_r4 := hf.1
    replace hf := hf.2
    refine tj_if_eq C 28 (by decide) dX7_compare_20 (fun hc => ?_) (fun hc => ?_)
    · replace hf := hf.1 hc
      refine tj_bipush C kb_61 dX7_compare_28 ?_
      exact w_Rd_compare_b30 C hw hR r h_t0 hX rx hf
    · replace hf := hf.2 hc
      refine tj_bipush C kb_62 dX7_compare_23 ?_
      refine tj_goto C 30 (by decide) dX7_compare_25 ?_
      exact w_Rd_compare_b30 C hw hR r h_t0 hX rx hf
  · replace hf := hf.2 hc
    refine tj_bipush C kb_60 dX7_compare_9 ?_
    refine tj_goto C 30 (by decide) dX7_compare_11 ?_
    exact w_Rd_compare_b30 C hw hR r h_t0 hX rx hf
theorem c_Rd_compare {l : Launch} {G : tG} {ad : Nat → Nat} {A : Nat → Prop} {S : tS} {K : Int32 → tS → Prop} {KX : tS → Prop} {t0 : Nat} (h_t0 : gN S t0 ≠ 0 ∧ t0 % 32 = 11) (hX : gN S 1025 ≠ 0) (hf : Rd_compare t0 S K KX) : vx_Met l yX7_compare (ws_ yX7_compare cX7_compare 2 (some .int)) (tRm 2 42) (va_Pc [.ref (ad t0)] (tPre G ad A S)) (va_Qi K (tB G ad A (gN S)) A) (vx_X KX (tBX G ad A (gN S) RX2 1123) A) 0 0 A :=
  tj_xmet_i [(0, .ref (ad t0))] pn_X7 rfl (Nat.le_of_ble_eq_true rfl) (fun p e R s m args below meth c Q C hw r rx => w_Rd_compare_b0 C hw rfl r h_t0 hX rx hf)
theorem w_Rd_number_b29 {Γ : tX} {N0 : Nat → Nat} {K : Int32 → tS → Prop} (C : TC Γ cX7_number RX7 2 42) (hw : tWf N0) (hR : xnL Γ = 4) (r : TRi Γ N0 cX7_number K) {t0 : Nat} {a1 : Int32} {a2 : Int32} (h_t0 : N0 t0 ≠ 0 ∧ t0 % 32 = 11) (hX : N0 1025 ≠ 0) {KX : tS → Prop} (rx : TRX Γ N0 RX2 1123 KX) {S : tS} (hf : Rd_number_b29 t0 a1 a2 K KX  S) : TJ Γ N0 0 0 29 [(0, .ref (xad Γ t0))] [] S := by
  unfold Rd_number_b29 at hf
  refine tj_aload_n C 0 rfl rfl dX7_number_29 ?_
  refine gf_X7_3 C h_t0.2 h_t0.1 dX7_number_30 ?_
  refine tj_some hf.1 ?_
  replace hf := hf.2
  refine gf_X7_55 C hX dX7_number_33 ?_
  refine tj_iconst C kc_4 dX7_number_36 ?_
  refine tj_aload_n C 0 rfl rfl dX7_number_37 ?_
  refine gf_X7_29 C h_t0.2 h_t0.1 dX7_number_38 ?_
  refine tj_callVa C (k := 3) [.int (nI 4), .int (gI S t0 1)] [] (fun hN => c_Bd_at (by rw [hN]; exact hX) hf) lk_X7_59 ty_X2_at rfl (Nat.le_of_ble_eq_true rfl) (Nat.le_of_ble_eq_true rfl) (Nat.le_of_ble_eq_true rfl) (ne0 (ln_1123 hw hX)) rfl (by decide) rfl rfl dX7_number_41 (fun S4 hf => ?_)
  refine tj_athrow C 3 1123 (ne0 (ln_1123 hw hX)) rfl (by decide) rfl dX7_number_44 ?_
  exact rx _ _ _ hf
theorem w_Rd_number_b0 {Γ : tX} {N0 : Nat → Nat} {K : Int32 → tS → Prop} (C : TC Γ cX7_number RX7 2 42) (hw : tWf N0) (hR : xnL Γ = 4) (r : TRi Γ N0 cX7_number K) {t0 : Nat} {a1 : Int32} {a2 : Int32} (h_t0 : N0 t0 ≠ 0 ∧ t0 % 32 = 11) (hX : N0 1025 ≠ 0) {KX : tS → Prop} (rx : TRX Γ N0 RX2 1123 KX) {S : tS} (hf : Rd_number t0 a1 a2 S K KX) : TJ Γ N0 0 0 0 [(0, .ref (xad Γ t0)), (1, .int a1), (2, .int a2)] [] S := by
  unfold Rd_number at hf
  refine tj_aload_n C 0 rfl rfl dX7_number_0 ?_
  refine gf_X7_32 C h_t0.2 h_t0.1 dX7_number_1 ?_
  refine tj_iconst C kc_2 dX7_number_4 ?_
  refine tj_icmp_eq C 13 (by decide) dX7_number_5 (fun hc => ?_) (fun hc => ?_)
  · replace hf := hf.1 hc
    refine tj_aload_n C 0 rfl rfl dX7_number_13 ?_
    refine gf_X7_42 C h_t0.2 h_t0.1 dX7_number_14 ?_
    refine tj_iload_n C 1 rfl rfl dX7_number_17 ?_
    refine tj_icmp_lt C 29 (by decide) dX7_number_18 (fun hc => ?_) (fun hc => ?_)
    · replace hf := hf.1 hc
      exact tj_sub [0] (w_Rd_number_b29 C hw hR r h_t0 hX rx hf) rfl
    · replace hf := hf.2 hc
      refine tj_aload_n C 0 rfl rfl dX7_number_21 ?_
      refine gf_X7_42 C h_t0.2 h_t0.1 dX7_number_22 ?_
      refine tj_iload_n C 2 rfl rfl dX7_number_25 ?_
      refine tj_icmp_le C 45 (by decide) dX7_number_26 (fun hc => ?_) (fun hc => ?_)
      · replace hf := hf.1 hc
        refine tj_aload_n C 0 rfl rfl dX7_number_45 ?_
        refine gf_X7_42 C h_t0.2 h_t0.1 dX7_number_46 ?_
        refine tj_topi (fun x1 ex => ?_)
        replace hf := hf x1 ex
        refine tj_istore_n C (by rw [hR]; decide) [(3, .int x1), (0, .ref (xad Γ t0)), (1, .int a1), (2, .int a2)] rfl rfl dX7_number_49 ?_
        refine tj_aload_n C 1 rfl rfl dX7_number_50 ?_
        refine tj_callVv C (k := 11) [] [] (fun hN => c_Rd_next (by rw [hN]; exact ⟨h_t0.1, h_t0.2⟩) (by rw [hN]; exact hX) hf) lk_X7_19 ty_X7_next rfl (Nat.le_of_ble_eq_true rfl) (Nat.le_of_ble_eq_true rfl) (Nat.le_of_ble_eq_true rfl) h_t0.1 h_t0.2 (by decide) rfl rfl dX7_number_51 (fun S2 hf => ?_)
        refine tj_iload_n C 0 rfl rfl dX7_number_54 ?_
        exact r _ _ _ _ dX7_number_55 hf
      · replace hf := hf.2 hc
        exact tj_sub [0] (w_Rd_number_b29 C hw hR r h_t0 hX rx hf) rfl
  · replace hf := hf.2 hc
    refine tj_aload_n C 0 rfl rfl dX7_number_8 ?_
    refine tj_callVa C (k := 11) [] [] (fun hN => c_Rd_wrong (by rw [hN]; exact ⟨h_t0.1, h_t0.2⟩) (by rw [hN]; exact hX) hf) lk_X7_68 ty_X7_wrong rfl (Nat.le_of_ble_eq_true rfl) (Nat.le_of_ble_eq_true rfl) (Nat.le_of_ble_eq_true rfl) h_t0.1 h_t0.2 (by decide) rfl rfl dX7_number_9 (fun S3 hf => ?_)
    refine tj_athrow C 3 1123 (ne0 (ln_1123 hw hX)) rfl (by decide) rfl dX7_number_12 ?_
    exact rx _ _ _ hf
theorem c_Rd_number {l : Launch} {G : tG} {ad : Nat → Nat} {A : Nat → Prop} {S : tS} {K : Int32 → tS → Prop} {KX : tS → Prop} {t0 : Nat} {a1 : Int32} {a2 : Int32} (h_t0 : gN S t0 ≠ 0 ∧ t0 % 32 = 11) (hX : gN S 1025 ≠ 0) (hf : Rd_number t0 a1 a2 S K KX) : vx_Met l yX7_number (ws_ yX7_number cX7_number 4 (some .int)) (tRm 2 42) (va_Pc [.ref (ad t0), .int a1, .int a2] (tPre G ad A S)) (va_Qi K (tB G ad A (gN S)) A) (vx_X KX (tBX G ad A (gN S) RX2 1123) A) 0 0 A :=
  tj_xmet_i [(0, .ref (ad t0)), (1, .int a1), (2, .int a2)] pn_X7 rfl (Nat.le_of_ble_eq_true rfl) (fun p e R s m args below meth c Q C hw r rx => w_Rd_number_b0 C hw rfl r h_t0 hX rx hf)
theorem w_Rd_smell_b0 {Γ : tX} {N0 : Nat → Nat} {K : Int32 → tS → Prop} (C : TC Γ cX7_smell RX7 8 171) (hw : tWf N0) (hR : xnL Γ = 3) (r : TRi Γ N0 cX7_smell K) {t0 : Nat} {a1 : Nat} {a2 : Int32} (h_t0 : N0 t0 ≠ 0 ∧ t0 % 32 = 11) (hX : N0 1025 ≠ 0) (h_a1 : N0 a1 ≠ 0 ∧ a1 % 32 = 6) {KX : tS → Prop} (rx : TRX Γ N0 RX2 1123 KX) {S : tS} (hf : Rd_smell t0 a1 a2 S K KX) : TJ Γ N0 0 0 0 [(0, .ref (xad Γ t0)), (1, .ref (xad Γ a1)), (2, .int a2)] [] S := by
  unfold Rd_smell at hf
  refine tj_aload_n C 0 rfl rfl dX7_smell_0 ?_
  refine tj_aload_n C 1 rfl rfl dX7_smell_1 ?_
  refine tj_aload_n C 0 rfl rfl dX7_smell_2 ?_
  refine tj_xVl C (k := 11) [] [.ref (xad Γ a1), .ref (xad Γ t0)] (fun hN => c_Rd_name (by rw [hN]; exact ⟨h_t0.1, h_t0.2⟩) (by rw [hN]; exact hX) hf) lk_X7_161 ty_X7_name rfl (Nat.le_of_ble_eq_true rfl) (Nat.le_of_ble_eq_true rfl) (Nat.le_of_ble_eq_true rfl) h_t0.1 h_t0.2 (by decide) rfl rfl dX7_smell_3 (fun S2 hf => ?_) (fun r3 S1 hf => ?_)
  · exact rx _ _ _ hf
  · refine tj_callVi C (k := 6) [.long r3] [.ref (xad Γ t0)] (fun hN => c_Co_smellNamed (by rw [hN]; exact ⟨h_a1.1, h_a1.2⟩) hf) lk_X7_165 ty_X5_smellNamed rfl (Nat.le_of_ble_eq_true rfl) (Nat.le_of_ble_eq_true rfl) (Nat.le_of_ble_eq_true rfl) h_a1.1 h_a1.2 (by decide) rfl rfl dX7_smell_6 (fun r5 S4 hf => ?_)
    refine tj_iload_n C 2 rfl rfl dX7_smell_9 ?_
    refine tj_xVi C (k := 11) [.int r5, .int a2] [] (fun hN => c_Rd_known (by rw [hN]; exact ⟨h_t0.1, h_t0.2⟩) (by rw [hN]; exact hX) hf) lk_X7_184 ty_X7_known rfl (Nat.le_of_ble_eq_true rfl) (Nat.le_of_ble_eq_true rfl) (Nat.le_of_ble_eq_true rfl) h_t0.1 h_t0.2 (by decide) rfl rfl dX7_smell_10 (fun S7 hf => ?_) (fun r8 S6 hf => ?_)
    · exact rx _ _ _ hf
    · exact r _ _ _ _ dX7_smell_13 hf
theorem c_Rd_smell {l : Launch} {G : tG} {ad : Nat → Nat} {A : Nat → Prop} {S : tS} {K : Int32 → tS → Prop} {KX : tS → Prop} {t0 : Nat} {a1 : Nat} {a2 : Int32} (h_t0 : gN S t0 ≠ 0 ∧ t0 % 32 = 11) (hX : gN S 1025 ≠ 0) (h_a1 : gN S a1 ≠ 0 ∧ a1 % 32 = 6) (hf : Rd_smell t0 a1 a2 S K KX) : vx_Met l yX7_smell (ws_ yX7_smell cX7_smell 3 (some .int)) (tRm 8 171) (va_Pc [.ref (ad t0), .ref (ad a1), .int a2] (tPre G ad A S)) (va_Qi K (tB G ad A (gN S)) A) (vx_X KX (tBX G ad A (gN S) RX2 1123) A) 0 0 A :=
  tj_xmet_i [(0, .ref (ad t0)), (1, .ref (ad a1)), (2, .int a2)] pn_X7 rfl (Nat.le_of_ble_eq_true rfl) (fun p e R s m args below meth c Q C hw r rx => w_Rd_smell_b0 C hw rfl r h_t0 hX h_a1 rx hf)
theorem w_Rd_newPerson_b105 {Γ : tX} {N0 : Nat → Nat} {K : tS → Prop} (C : TC Γ cX7_newPerson RX7 9 195) (hw : tWf N0) (hR : xnL Γ = 6) (r : TRv Γ N0 cX7_newPerson K) {t0 : Nat} {a1 : Nat} (h_t0 : N0 t0 ≠ 0 ∧ t0 % 32 = 11) (hX : N0 1025 ≠ 0) (h_a1 : N0 a1 ≠ 0 ∧ a1 % 32 = 6) {KX : tS → Prop} (rx : TRX Γ N0 RX2 1123 KX) {a2 : Int32} {a3 : Int64} {a5 : Int32} {S : tS} (hf : Rd_newPerson_b105 t0 a1 K KX a2 a3 a5 S) : TJ Γ N0 0 0 105 [(1, .ref (xad Γ a1)), (2, .int a2), (3, .long a3), (5, .int a5)] [] S := by
  unfold Rd_newPerson_b105 at hf
  refine tj_aload_n C 0 rfl rfl dX7_newPerson_105 ?_
  refine gf_X7_263 C h_a1.2 h_a1.1 dX7_newPerson_106 ?_
  refine tj_iload_n C 1 rfl rfl dX7_newPerson_109 ?_
  refine tj_iload C 3 rfl dX7_newPerson_110 ?_
  refine tj_iast C (a1 + 234) 6 (by have := h_a1.2; omega) (lnc_234 hw h_a1.2 h_a1.1) _ rfl hf.1 dX7_newPerson_112 ?_
  replace hf := hf.2
  refine tj_topS (fun S16 eS => ?_)
  replace hf := hf S16 eS
  refine tj_aload_n C 0 rfl rfl dX7_newPerson_113 ?_
  refine gf_X7_266 C h_a1.2 h_a1.1 dX7_newPerson_114 ?_
  refine tj_hN (fun hN => ?_)
  obtain ⟨t17, he, h_t17, hf⟩ := hf
  rw [hN] at h_t17
  refine tj_some he ?_
  refine tj_iload_n C 1 rfl rfl dX7_newPerson_117 ?_
  refine tj_lload_n C 2 rfl rfl dX7_newPerson_118 ?_
  refine tj_lastd C t17 h_t17.2 h_t17.1 _ rfl hf.1 dX7_newPerson_119 ?_
  replace hf := hf.2
  refine tj_topS (fun S18 eS => ?_)
  replace hf := hf S18 eS
  refine tj_aload_n C 0 rfl rfl dX7_newPerson_120 ?_
  refine tj_dup C rfl dX7_newPerson_121 ?_
  refine gf_X7_256 C h_a1.2 h_a1.1 dX7_newPerson_122 ?_
  refine tj_iconst C kc_1 dX7_newPerson_125 ?_
  refine tj_iadd C dX7_newPerson_126 ?_
  refine pf_X7_256 C h_a1.2 h_a1.1 dX7_newPerson_127 ?_
  refine tj_topS (fun S19 eS => ?_)
  replace hf := hf S19 eS
  exact r _ _ _ dX7_newPerson_130 hf
theorem w_Rd_newPerson_l80 {Γ : tX} {N0 : Nat → Nat} {K : tS → Prop} (C : TC Γ cX7_newPerson RX7 9 195) (hw : tWf N0) (hR : xnL Γ = 6) (r : TRv Γ N0 cX7_newPerson K) {t0 : Nat} {a1 : Nat} (h_t0 : N0 t0 ≠ 0 ∧ t0 % 32 = 11) (hX : N0 1025 ≠ 0) (h_a1 : N0 a1 ≠ 0 ∧ a1 % 32 = 6) {KX : tS → Prop} (rx : TRX Γ N0 RX2 1123 KX) : ∀ (n : Nat) (a2 : Int32) (a3 : Int64) (a5 : Int32) (S : tS), Rd_newPerson_l80 t0 a1 K KX n a2 a3 a5 S → TJ Γ N0 0 0 80 [(0, .ref (xad Γ t0)), (1, .ref (xad Γ a1)), (2, .int a2), (3, .long a3), (5, .int a5)] [] S := by
  intro n
  induction n with
  | zero => intro a2 a3 a5 S hf; exact hf.elim
  | succ n ih =>
    intro a2 a3 a5 S hf
    unfold Rd_newPerson_l80 at hf
    refine tj_aload_n C 0 rfl rfl dX7_newPerson_80 ?_
    refine gf_X7_32 C h_t0.2 h_t0.1 dX7_newPerson_81 ?_
    refine tj_iconst C kc_1 dX7_newPerson_84 ?_
    refine tj_icmp_ne C 105 (by decide) dX7_newPerson_85 (fun hc => ?_) (fun hc => ?_)
    · replace hf := hf.2 hc
      exact tj_sub [1, 2, 3, 4] (w_Rd_newPerson_b105 C hw hR r h_t0 hX h_a1 rx hf) rfl
    · replace hf := hf.1 hc
      refine tj_iload C 4 rfl dX7_newPerson_88 ?_
      refine tj_iconst C kc_1 dX7_newPerson_90 ?_
      refine tj_aload_n C 0 rfl rfl dX7_newPerson_91 ?_
      refine tj_aload_n C 1 rfl rfl dX7_newPerson_92 ?_
      refine tj_iload C 4 rfl dX7_newPerson_93 ?_
      refine tj_xVi C (k := 11) [.ref (xad Γ a1), .int a5] [.int (nI 1), .int a5] (fun hN => c_Rd_smell (by rw [hN]; exact ⟨h_t0.1, h_t0.2⟩) (by rw [hN]; exact hX) (by rw [hN]; exact ⟨h_a1.1, h_a1.2⟩) hf) lk_X7_250 ty_X7_smell rfl (Nat.le_of_ble_eq_true rfl) (Nat.le_of_ble_eq_true rfl) (Nat.le_of_ble_eq_true rfl) h_t0.1 h_t0.2 (by decide) rfl rfl dX7_newPerson_95 (fun S21 hf => ?_) (fun r22 S20 hf => ?_)
      · exact rx _ _ _ hf
      · refine tj_ishl C dX7_newPerson_98 ?_
        refine tj_ior C dX7_newPerson_99 ?_
        refine tj_topi (fun x23 ex => ?_)
        replace hf := hf x23 ex
        refine tj_istore C (by rw [hR]; decide) [(5, .int x23), (0, .ref (xad Γ t0)), (1, .ref (xad Γ a1)), (2, .int a2), (3, .long a3)] rfl dX7_newPerson_100 ?_
        refine tj_goto C 80 (by decide) dX7_newPerson_102 ?_
        exact tj_sub [1, 2, 3, 4, 0] (ih _ _ _ _ hf) rfl
theorem w_Rd_newPerson_b67 {Γ : tX} {N0 : Nat → Nat} {K : tS → Prop} (C : TC Γ cX7_newPerson RX7 9 195) (hw : tWf N0) (hR : xnL Γ = 6) (r : TRv Γ N0 cX7_newPerson K) {t0 : Nat} {a1 : Nat} (h_t0 : N0 t0 ≠ 0 ∧ t0 % 32 = 11) (hX : N0 1025 ≠ 0) (h_a1 : N0 a1 ≠ 0 ∧ a1 % 32 = 6) {KX : tS → Prop} (rx : TRX Γ N0 RX2 1123 KX) {a2 : Int32} {a3 : Int64} {s1 : Int32} {s2 : Int32} {S : tS} (hf : Rd_newPerson_b67 t0 a1 K KX a2 a3 s1 s2 S) : TJ Γ N0 0 0 67 [(0, .ref (xad Γ t0)), (1, .ref (xad Γ a1)), (2, .int a2), (3, .long a3)] [.int s2, .int s1, .ref (xad Γ (a1 + 202))] S := by
  unfold Rd_newPerson_b67 at hf
  refine tj_iast C (a1 + 202) 6 (by have := h_a1.2; omega) (lnc_202 hw h_a1.2 h_a1.1) _ rfl hf.1 dX7_newPerson_67 ?_
  replace hf := hf.2
  refine tj_topS (fun S13 eS => ?_)
  replace hf := hf S13 eS
  refine tj_iconst C kc_0 dX7_newPerson_68 ?_
  refine tj_istore C (by rw [hR]; decide) [(5, .int (nI 0)), (0, .ref (xad Γ t0)), (1, .ref (xad Γ a1)), (2, .int a2), (3, .long a3)] rfl dX7_newPerson_69 ?_
  refine tj_aload_n C 1 rfl rfl dX7_newPerson_71 ?_
  refine tj_ldcS C 21 rfl dX7_newPerson_72 ?_
  refine tj_callVz C (k := 11) [.ref (xK Γ 21)] [] (fun hN => c_Rd_reads (by rw [hN]; exact ⟨h_t0.1, h_t0.2⟩) (by rw [hN]; exact hX) (by decide) hf) lk_X7_239 ty_X7_reads rfl (Nat.le_of_ble_eq_true rfl) (Nat.le_of_ble_eq_true rfl) (Nat.le_of_ble_eq_true rfl) h_t0.1 h_t0.2 (by decide) rfl rfl dX7_newPerson_74 (fun r15 S14 hf => ?_)
  have hz_r15 := hf.1
  replace hf := hf.2
  refine tj_if_eq C 105 (by decide) dX7_newPerson_77 (fun hc => ?_) (fun hc => ?_)
  · replace hf := hf.1 hc
    exact tj_sub [2, 3, 4, 0] (w_Rd_newPerson_b105 C hw hR r h_t0 hX h_a1 rx hf) rfl
  · replace hf := hf.2 hc
    exact tj_sub [1, 2, 3, 4, 0] (hf.elim fun k hf => w_Rd_newPerson_l80 C hw hR r h_t0 hX h_a1 rx k _ _ _ _ hf) rfl
theorem w_Rd_newPerson_b41 {Γ : tX} {N0 : Nat → Nat} {K : tS → Prop} (C : TC Γ cX7_newPerson RX7 9 195) (hw : tWf N0) (hR : xnL Γ = 6) (r : TRv Γ N0 cX7_newPerson K) {t0 : Nat} {a1 : Nat} (h_t0 : N0 t0 ≠ 0 ∧ t0 % 32 = 11) (hX : N0 1025 ≠ 0) (h_a1 : N0 a1 ≠ 0 ∧ a1 % 32 = 6) {KX : tS → Prop} (rx : TRX Γ N0 RX2 1123 KX) {a2 : Int32} {a3 : Int64} {s1 : Int32} {s2 : Int32} {S : tS} (hf : Rd_newPerson_b41 t0 a1 K KX a2 a3 s1 s2 S) : TJ Γ N0 0 0 41 [(0, .ref (xad Γ t0)), (1, .ref (xad Γ a1)), (2, .int a2), (3, .long a3)] [.int s2, .int s1, .ref (xad Γ (a1 + 298))] S := by
  unfold Rd_newPerson_b41 at hf
  refine tj_iast C (a1 + 298) 6 (by have := h_a1.2; omega) (lnc_298 hw h_a1.2 h_a1.1) _ rfl hf.1 dX7_newPerson_41 ?_
  replace hf := hf.2
  refine tj_topS (fun S7 eS => ?_)
  replace hf := hf S7 eS
  refine tj_aload_n C 1 rfl rfl dX7_newPerson_42 ?_
  refine gf_X7_261 C h_a1.2 h_a1.1 dX7_newPerson_43 ?_
  refine tj_iload_n C 2 rfl rfl dX7_newPerson_46 ?_
  refine tj_aload_n C 0 rfl rfl dX7_newPerson_47 ?_
  refine tj_ldcS C 20 rfl dX7_newPerson_48 ?_
  refine tj_callVz C (k := 11) [.ref (xK Γ 20)] [.int a2, .ref (xad Γ (a1 + 202))] (fun hN => c_Rd_reads (by rw [hN]; exact ⟨h_t0.1, h_t0.2⟩) (by rw [hN]; exact hX) (by decide) hf) lk_X7_239 ty_X7_reads rfl (Nat.le_of_ble_eq_true rfl) (Nat.le_of_ble_eq_true rfl) (Nat.le_of_ble_eq_true rfl) h_t0.1 h_t0.2 (by decide) rfl rfl dX7_newPerson_50 (fun r9 S8 hf => ?_)
  have hz_r9 := hf.1
  replace hf := hf.2
  refine tj_if_eq C 66 (by decide) dX7_newPerson_53 (fun hc => ?_) (fun hc => ?_)
  · replace hf := hf.1 hc
    refine tj_iconst C kc_0 dX7_newPerson_66 ?_
    exact w_Rd_newPerson_b67 C hw hR r h_t0 hX h_a1 rx hf
  · replace hf := hf.2 hc
    refine tj_aload_n C 0 rfl rfl dX7_newPerson_56 ?_
    refine tj_iconst C kc_0 dX7_newPerson_57 ?_
    refine tj_bipush C kb_99 dX7_newPerson_58 ?_
    refine tj_xVi C (k := 11) [.int (nI 0), .int (nI 99)] [.int a2, .ref (xad Γ (a1 + 202))] (fun hN => c_Rd_number (by rw [hN]; exact ⟨h_t0.1, h_t0.2⟩) (by rw [hN]; exact hX) hf) lk_X7_80 ty_X7_number rfl (Nat.le_of_ble_eq_true rfl) (Nat.le_of_ble_eq_true rfl) (Nat.le_of_ble_eq_true rfl) h_t0.1 h_t0.2 (by decide) rfl rfl dX7_newPerson_60 (fun S11 hf => ?_) (fun r12 S10 hf => ?_)
    · exact rx _ _ _ hf
    · refine tj_goto C 67 (by decide) dX7_newPerson_63 ?_
      exact w_Rd_newPerson_b67 C hw hR r h_t0 hX h_a1 rx hf
theorem w_Rd_newPerson_b18 {Γ : tX} {N0 : Nat → Nat} {K : tS → Prop} (C : TC Γ cX7_newPerson RX7 9 195) (hw : tWf N0) (hR : xnL Γ = 6) (r : TRv Γ N0 cX7_newPerson K) {t0 : Nat} {a1 : Nat} (h_t0 : N0 t0 ≠ 0 ∧ t0 % 32 = 11) (hX : N0 1025 ≠ 0) (h_a1 : N0 a1 ≠ 0 ∧ a1 % 32 = 6) {KX : tS → Prop} (rx : TRX Γ N0 RX2 1123 KX) {a2 : Int32} {s2 : Int32} {S : tS} (hf : Rd_newPerson_b18 t0 a1 K KX a2 s2 S) : TJ Γ N0 0 0 18 [(0, .ref (xad Γ t0)), (1, .ref (xad Γ a1)), (2, .int a2)] [.int s2, .ref (xad Γ a1), .ref (xad Γ t0)] S := by
  unfold Rd_newPerson_b18 at hf
  refine tj_xVl C (k := 11) [.ref (xad Γ a1), .int s2] [] (fun hN => c_Rd_fresh (by rw [hN]; exact ⟨h_t0.1, h_t0.2⟩) (by rw [hN]; exact hX) (by rw [hN]; exact ⟨h_a1.1, h_a1.2⟩) hf) lk_X7_211 ty_X7_fresh rfl (Nat.le_of_ble_eq_true rfl) (Nat.le_of_ble_eq_true rfl) (Nat.le_of_ble_eq_true rfl) h_t0.1 h_t0.2 (by decide) rfl rfl dX7_newPerson_18 (fun S3 hf => ?_) (fun r4 S2 hf => ?_)
  · exact rx _ _ _ hf
  · refine tj_lstore_n C (by rw [hR]; decide) [(3, .long r4), (0, .ref (xad Γ t0)), (1, .ref (xad Γ a1)), (2, .int a2)] rfl rfl dX7_newPerson_21 ?_
    refine tj_aload_n C 2 rfl rfl dX7_newPerson_22 ?_
    refine gf_X7_259 C h_a1.2 h_a1.1 dX7_newPerson_23 ?_
    refine tj_iload_n C 3 rfl rfl dX7_newPerson_26 ?_
    refine tj_aload_n C 1 rfl rfl dX7_newPerson_27 ?_
    refine tj_ldcS C 2 rfl dX7_newPerson_28 ?_
    refine tj_callVz C (k := 11) [.ref (xK Γ 2)] [.int a2, .ref (xad Γ (a1 + 298))] (fun hN => c_Rd_reads (by rw [hN]; exact ⟨h_t0.1, h_t0.2⟩) (by rw [hN]; exact hX) (by decide) hf) lk_X7_239 ty_X7_reads rfl (Nat.le_of_ble_eq_true rfl) (Nat.le_of_ble_eq_true rfl) (Nat.le_of_ble_eq_true rfl) h_t0.1 h_t0.2 (by decide) rfl rfl dX7_newPerson_30 (fun r6 S5 hf => ?_)
    have hz_r6 := hf.1
    replace hf := hf.2
    refine tj_if_eq C 40 (by decide) dX7_newPerson_33 (fun hc => ?_) (fun hc => ?_)
    · replace hf := hf.1 hc
      refine tj_iconst C kc_0 dX7_newPerson_40 ?_
      exact tj_sub [1, 2, 3, 0] (w_Rd_newPerson_b41 C hw hR r h_t0 hX h_a1 rx hf) rfl
    · replace hf := hf.2 hc
      refine tj_iconst C kc_1 dX7_newPerson_36 ?_
      refine tj_goto C 41 (by decide) dX7_newPerson_37 ?_
      exact tj_sub [1, 2, 3, 0] (w_Rd_newPerson_b41 C hw hR r h_t0 hX h_a1 rx hf) rfl
theorem w_Rd_newPerson_b0 {Γ : tX} {N0 : Nat → Nat} {K : tS → Prop} (C : TC Γ cX7_newPerson RX7 9 195) (hw : tWf N0) (hR : xnL Γ = 6) (r : TRv Γ N0 cX7_newPerson K) {t0 : Nat} {a1 : Nat} (h_t0 : N0 t0 ≠ 0 ∧ t0 % 32 = 11) (hX : N0 1025 ≠ 0) (h_a1 : N0 a1 ≠ 0 ∧ a1 % 32 = 6) {KX : tS → Prop} (rx : TRX Γ N0 RX2 1123 KX) {S : tS} (hf : Rd_newPerson t0 a1 S K KX) : TJ Γ N0 0 0 0 [(0, .ref (xad Γ t0)), (1, .ref (xad Γ a1))] [] S := by
  unfold Rd_newPerson at hf
  refine tj_aload_n C 1 rfl rfl dX7_newPerson_0 ?_
  refine gf_X7_256 C h_a1.2 h_a1.1 dX7_newPerson_1 ?_
  refine tj_topi (fun x1 ex => ?_)
  replace hf := hf x1 ex
  refine tj_istore_n C (by rw [hR]; decide) [(2, .int x1), (0, .ref (xad Γ t0)), (1, .ref (xad Γ a1))] rfl rfl dX7_newPerson_4 ?_
  refine tj_aload_n C 1 rfl rfl dX7_newPerson_5 ?_
  refine tj_aload_n C 2 rfl rfl dX7_newPerson_6 ?_
  refine tj_iload_n C 0 rfl rfl dX7_newPerson_7 ?_
  refine tj_bipush C kb_6 dX7_newPerson_8 ?_
  refine tj_icmp_ge C 17 (by decide) dX7_newPerson_10 (fun hc => ?_) (fun hc => ?_)
  · replace hf := hf.1 hc
    refine tj_iconst C kc_0 dX7_newPerson_17 ?_
    exact tj_sub [1, 2, 0] (w_Rd_newPerson_b18 C hw hR r h_t0 hX h_a1 rx hf) rfl
  · replace hf := hf.2 hc
    refine tj_iconst C kc_1 dX7_newPerson_13 ?_
    refine tj_goto C 18 (by decide) dX7_newPerson_14 ?_
    exact tj_sub [1, 2, 0] (w_Rd_newPerson_b18 C hw hR r h_t0 hX h_a1 rx hf) rfl
theorem c_Rd_newPerson {l : Launch} {G : tG} {ad : Nat → Nat} {A : Nat → Prop} {S : tS} {K : tS → Prop} {KX : tS → Prop} {t0 : Nat} {a1 : Nat} (h_t0 : gN S t0 ≠ 0 ∧ t0 % 32 = 11) (hX : gN S 1025 ≠ 0) (h_a1 : gN S a1 ≠ 0 ∧ a1 % 32 = 6) (hf : Rd_newPerson t0 a1 S K KX) : vx_Met l yX7_newPerson (ws_ yX7_newPerson cX7_newPerson 6 (none)) (tRm 9 195) (va_Pc [.ref (ad t0), .ref (ad a1)] (tPre G ad A S)) (va_Qv K (tB G ad A (gN S)) A) (vx_X KX (tBX G ad A (gN S) RX2 1123) A) 0 0 A :=
  tj_xmet_v [(0, .ref (ad t0)), (1, .ref (ad a1))] pn_X7 rfl (Nat.le_of_ble_eq_true rfl) (fun p e R s m args below meth c Q C hw r rx => w_Rd_newPerson_b0 C hw rfl r h_t0 hX h_a1 rx hf)
