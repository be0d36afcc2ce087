set_option maxRecDepth 100000
theorem w_X_answer_b11 {Γ : tX} {N0 : Nat → Nat} {K : Int32 → tS → Prop} (C : TC Γ cX0_answer RX0 0 0) (hw : tWf N0) (hR : xnL Γ = 2) (r : TRi Γ N0 cX0_answer K) {a1 : Int32} (hX : N0 1025 ≠ 0) {s1 : Int32} {S : tS} (hf : X_answer_b11 a1 K s1 S) : TJ Γ N0 0 0 11 [(1, .int a1)] [.int s1, .ref (xad Γ 1025)] S := by
  unfold X_answer_b11 at hf
  refine pf_X0_91 C hX dX0_answer_11 ?_
  refine tj_topS (fun S1 eS => ?_)
  replace hf := hf S1 eS
  refine tj_iload_n C 0 rfl rfl dX0_answer_14 ?_
  exact r _ _ _ _ dX0_answer_15 hf
theorem w_X_answer_b0 {Γ : tX} {N0 : Nat → Nat} {K : Int32 → tS → Prop} (C : TC Γ cX0_answer RX0 0 0) (hw : tWf N0) (hR : xnL Γ = 2) (r : TRi Γ N0 cX0_answer K) {a1 : Int32} (hX : N0 1025 ≠ 0) {S : tS} (hf : X_answer a1 S K) : TJ Γ N0 0 0 0 [(0, .ref (xad Γ 1025)), (1, .int a1)] [] S := by
  unfold X_answer at hf
  refine tj_aload_n C 0 rfl rfl dX0_answer_0 ?_
  refine tj_iload_n C 1 rfl rfl dX0_answer_1 ?_
  refine tj_if_ge C 10 (by decide) dX0_answer_2 (fun hc => ?_) (fun hc => ?_)
  · replace hf := hf.1 hc
    refine tj_iconst C kc_0 dX0_answer_10 ?_
    exact tj_sub [1] (w_X_answer_b11 C hw hR r hX hf) rfl
  · replace hf := hf.2 hc
    refine tj_bipush C kb_6 dX0_answer_5 ?_
    refine tj_goto C 11 (by decide) dX0_answer_7 ?_
    exact tj_sub [1] (w_X_answer_b11 C hw hR r hX hf) rfl
theorem c_X_answer {l : Launch} {G : tG} {ad : Nat → Nat} {A : Nat → Prop} {S : tS} {K : Int32 → tS → Prop} {a1 : Int32} (hX : gN S 1025 ≠ 0) (hf : X_answer a1 S K) : Met l yX0_answer (ws_ yX0_answer cX0_answer 2 (some .int)) (tRm 0 0) (va_Pc [.ref (ad 1025), .int a1] (tPre G ad A S)) (va_Qi K (tB G ad A (gN S)) A) 0 0 A :=
  tj_met_i [(0, .ref (ad 1025)), (1, .int a1)] pn_X0 rfl (Nat.le_of_ble_eq_true rfl) (fun p e R s m args below meth c Q C hw r => w_X_answer_b0 C hw rfl r hX hf)
theorem w_X_at_b0 {Γ : tX} {N0 : Nat → Nat} {K : tS → Prop} (C : TC Γ cX0_at RX0 0 0) (hw : tWf N0) (hR : xnL Γ = 1) (r : TRa Γ N0 cX0_at 1222 K) (hX : N0 1025 ≠ 0) {S : tS} (hf : X_at S K) : TJ Γ N0 0 0 0 [(0, .ref (xad Γ 1025))] [] S := by
  unfold X_at at hf
  refine tj_aload_n C 0 rfl rfl dX0_at_0 ?_
  refine gf_X0_55 C hX dX0_at_1 ?_
  refine gf_X0_165 C rfl (ne0 (ln_1189 hw hX)) dX0_at_4 ?_
  exact r _ _ _ dX0_at_7 hf
theorem c_X_at {l : Launch} {G : tG} {ad : Nat → Nat} {A : Nat → Prop} {S : tS} {K : tS → Prop} (hX : gN S 1025 ≠ 0) (hf : X_at S K) : Met l yX0_at (ws_ yX0_at cX0_at 1 (some (.object "CatWitness$Court"))) (tRm 0 0) (va_Pc [.ref (ad 1025)] (tPre G ad A S)) (va_Qr K (fun u ra t => ra = ad 1222 ∧ tB G ad A (gN S) u t) A) 0 0 A :=
  tj_met_a [(0, .ref (ad 1025))] pn_X0 rfl (Nat.le_of_ble_eq_true rfl) (fun p e R s m args below meth c Q C hw r => w_X_at_b0 C hw rfl r hX hf)
theorem w_X_answerCue_b17 {Γ : tX} {N0 : Nat → Nat} {K : Int32 → tS → Prop} (C : TC Γ cX0_answerCue RX0 1 21) (hw : tWf N0) (hR : xnL Γ = 2) (r : TRi Γ N0 cX0_answerCue K) {a1 : Int32} (hX : N0 1025 ≠ 0) {s1 : Int32} {S : tS} (hf : X_answerCue_b17 a1 K s1 S) : TJ Γ N0 0 0 17 [] [.int s1, .ref (xad Γ 1025)] S := by
  unfold X_answerCue_b17 at hf
  refine tj_callVi C (k := 1) [.int s1] [] (fun hN => c_X_answer (by rw [hN]; exact hX) hf) lk_X0_292 ty_X0_answer rfl (Nat.le_of_ble_eq_true rfl) (Nat.le_of_ble_eq_true rfl) (Nat.le_of_ble_eq_true rfl) hX rfl (by decide) rfl rfl dX0_answerCue_17 (fun r3 S2 hf => ?_)
  exact r _ _ _ _ dX0_answerCue_20 hf
theorem w_X_answerCue_b0 {Γ : tX} {N0 : Nat → Nat} {K : Int32 → tS → Prop} (C : TC Γ cX0_answerCue RX0 1 21) (hw : tWf N0) (hR : xnL Γ = 2) (r : TRi Γ N0 cX0_answerCue K) {a1 : Int32} (hX : N0 1025 ≠ 0) {S : tS} (hf : X_answerCue a1 S K) : TJ Γ N0 0 0 0 [(0, .ref (xad Γ 1025)), (1, .int a1)] [] S := by
  unfold X_answerCue at hf
  refine tj_aload_n C 0 rfl rfl dX0_answerCue_0 ?_
  refine tj_iload_n C 1 rfl rfl dX0_answerCue_1 ?_
  refine tj_aload_n C 0 rfl rfl dX0_answerCue_2 ?_
  refine tj_callVa C (k := 1) [] [.int a1, .ref (xad Γ 1025)] (fun hN => c_X_at (by rw [hN]; exact hX) hf) lk_X0_168 ty_X0_at rfl (Nat.le_of_ble_eq_true rfl) (Nat.le_of_ble_eq_true rfl) (Nat.le_of_ble_eq_true rfl) hX rfl (by decide) rfl rfl dX0_answerCue_3 (fun S1 hf => ?_)
  refine gf_X0_179 C rfl (ne0 (ln_1222 hw hX)) dX0_answerCue_6 ?_
  refine tj_icmp_ne C 16 (by decide) dX0_answerCue_9 (fun hc => ?_) (fun hc => ?_)
  · replace hf := hf.2 hc
    refine tj_iload_n C 1 rfl rfl dX0_answerCue_16 ?_
    exact tj_sub [] (w_X_answerCue_b17 C hw hR r hX hf) rfl
  · replace hf := hf.1 hc
    refine tj_iconst C kc_m1 dX0_answerCue_12 ?_
    refine tj_goto C 17 (by decide) dX0_answerCue_13 ?_
    exact tj_sub [] (w_X_answerCue_b17 C hw hR r hX hf) rfl
theorem c_X_answerCue {l : Launch} {G : tG} {ad : Nat → Nat} {A : Nat → Prop} {S : tS} {K : Int32 → tS → Prop} {a1 : Int32} (hX : gN S 1025 ≠ 0) (hf : X_answerCue a1 S K) : Met l yX0_answerCue (ws_ yX0_answerCue cX0_answerCue 2 (some .int)) (tRm 1 21) (va_Pc [.ref (ad 1025), .int a1] (tPre G ad A S)) (va_Qi K (tB G ad A (gN S)) A) 0 0 A :=
  tj_met_i [(0, .ref (ad 1025)), (1, .int a1)] pn_X0 rfl (Nat.le_of_ble_eq_true rfl) (fun p e R s m args below meth c Q C hw r => w_X_answerCue_b0 C hw rfl r hX hf)
theorem w_X_isIn_b0 {Γ : tX} {N0 : Nat → Nat} {K : Int32 → tS → Prop} (C : TC Γ cX0_isIn RX0 0 0) (hw : tWf N0) (hR : xnL Γ = 6) (r : TRz Γ N0 cX0_isIn K) {a0 : Int64} {a2 : Int64} {a4 : Int64} {S : tS} (hf : X_isIn a0 a2 a4 S K) : TJ Γ N0 0 0 0 [(0, .long a0), (2, .long a2), (4, .long a4)] [] S := by
  unfold X_isIn at hf
  refine tj_lload_n C 0 rfl rfl dX0_isIn_0 ?_
  refine tj_lload_n C 1 rfl rfl dX0_isIn_1 ?_
  refine tj_lcmp C dX0_isIn_2 ?_
  refine tj_if_lt C 17 (by decide) dX0_isIn_3 (fun hc => ?_) (fun hc => ?_)
  · replace hf := hf.1 hc
    refine tj_iconst C kc_0 dX0_isIn_17 ?_
    exact r _ _ _ _ dX0_isIn_18 zb0 hf
  · replace hf := hf.2 hc
    refine tj_lload_n C 0 rfl rfl dX0_isIn_6 ?_
    refine tj_lload C 2 rfl dX0_isIn_7 ?_
    refine tj_lcmp C dX0_isIn_9 ?_
    refine tj_if_gt C 17 (by decide) dX0_isIn_10 (fun hc => ?_) (fun hc => ?_)
    · replace hf := hf.1 hc
      refine tj_iconst C kc_0 dX0_isIn_17 ?_
      exact r _ _ _ _ dX0_isIn_18 zb0 hf
    · replace hf := hf.2 hc
      refine tj_iconst C kc_1 dX0_isIn_13 ?_
      refine tj_goto C 18 (by decide) dX0_isIn_14 ?_
      exact r _ _ _ _ dX0_isIn_18 zb1 hf
theorem c_X_isIn {l : Launch} {G : tG} {ad : Nat → Nat} {A : Nat → Prop} {S : tS} {K : Int32 → tS → Prop} {a0 : Int64} {a2 : Int64} {a4 : Int64} (hf : X_isIn a0 a2 a4 S K) : Met l yX0_isIn (ws_ yX0_isIn cX0_isIn 6 (some .boolean)) (tRm 0 0) (va_Pc [.long a0, .long a2, .long a4] (tPre G ad A S)) (va_Qi (fun r u => r &&& 1 = r ∧ K r u) (tB G ad A (gN S)) A) 0 0 A :=
  tj_met_z [(0, .long a0), (2, .long a2), (4, .long a4)] pn_X0 rfl (Nat.le_of_ble_eq_true rfl) (fun p e R s m args below meth c Q C hw r => w_X_isIn_b0 C hw rfl r hf)
theorem w_X_isPerson_b0 {Γ : tX} {N0 : Nat → Nat} {K : Int32 → tS → Prop} (C : TC Γ cX0_isPerson RX0 1 25) (hw : tWf N0) (hR : xnL Γ = 3) (r : TRz Γ N0 cX0_isPerson K) {a1 : Int64} (hX : N0 1025 ≠ 0) {S : tS} (hf : X_isPerson a1 S K) : TJ Γ N0 0 0 0 [(0, .ref (xad Γ 1025)), (1, .long a1)] [] S := by
  unfold X_isPerson at hf
  refine tj_lload_n C 1 rfl rfl dX0_isPerson_0 ?_
  refine tj_lconst C (v := lN 0) rfl dX0_isPerson_1 ?_
  refine tj_aload_n C 0 rfl rfl dX0_isPerson_2 ?_
  refine tj_callVa C (k := 1) [] [.long (lN 0), .long a1] (fun hN => c_X_at (by rw [hN]; exact hX) hf) lk_X0_168 ty_X0_at rfl (Nat.le_of_ble_eq_true rfl) (Nat.le_of_ble_eq_true rfl) (Nat.le_of_ble_eq_true rfl) hX rfl (by decide) rfl rfl dX0_isPerson_3 (fun S1 hf => ?_)
  refine gf_X0_185 C rfl (ne0 (ln_1222 hw hX)) dX0_isPerson_6 ?_
  refine tj_iconst C kc_1 dX0_isPerson_9 ?_
  refine tj_isub C dX0_isPerson_10 ?_
  refine tj_i2l C dX0_isPerson_11 ?_
  refine tj_callSz C [.long a1, .long (lN 0), .long (((gI S1 1222 3) - (nI 1)).toInt64)] [] (fun hN => c_X_isIn hf) lk_X0_175 ty_X0_isIn rfl (Nat.le_of_ble_eq_true rfl) (Nat.le_of_ble_eq_true rfl) (Nat.le_of_ble_eq_true rfl) rfl dX0_isPerson_12 (fun r3 S2 hf => ?_)
  have hz_r3 := hf.1
  replace hf := hf.2
  exact r _ _ _ _ dX0_isPerson_15 hz_r3 hf
theorem c_X_isPerson {l : Launch} {G : tG} {ad : Nat → Nat} {A : Nat → Prop} {S : tS} {K : Int32 → tS → Prop} {a1 : Int64} (hX : gN S 1025 ≠ 0) (hf : X_isPerson a1 S K) : Met l yX0_isPerson (ws_ yX0_isPerson cX0_isPerson 3 (some .boolean)) (tRm 1 25) (va_Pc [.ref (ad 1025), .long a1] (tPre G ad A S)) (va_Qi (fun r u => r &&& 1 = r ∧ K r u) (tB G ad A (gN S)) A) 0 0 A :=
  tj_met_z [(0, .ref (ad 1025)), (1, .long a1)] pn_X0 rfl (Nat.le_of_ble_eq_true rfl) (fun p e R s m args below meth c Q C hw r => w_X_isPerson_b0 C hw rfl r hX hf)
theorem w_X_appeal_b32 {Γ : tX} {N0 : Nat → Nat} {K : Int32 → tS → Prop} (C : TC Γ cX0_appeal RX0 2 47) (hw : tWf N0) (hR : xnL Γ = 3) (r : TRi Γ N0 cX0_appeal K) {a1 : Int32} (hX : N0 1025 ≠ 0) {s1 : Int32} {S : tS} (hf : X_appeal_b32 a1 K s1 S) : TJ Γ N0 0 0 32 [(0, .ref (xad Γ 1025)), (1, .int a1)] [.int s1, .ref (xad Γ 1025)] S := by
  unfold X_appeal_b32 at hf
  refine pf_X0_91 C hX dX0_appeal_32 ?_
  refine tj_topS (fun S4 eS => ?_)
  replace hf := hf S4 eS
  refine tj_aload_n C 0 rfl rfl dX0_appeal_35 ?_
  refine gf_X0_91 C hX dX0_appeal_36 ?_
  refine tj_if_le C 44 (by decide) dX0_appeal_39 (fun hc => ?_) (fun hc => ?_)
  · replace hf := hf.1 hc
    refine tj_aload_n C 0 rfl rfl dX0_appeal_44 ?_
    refine tj_callVa C (k := 1) [] [] (fun hN => c_X_at (by rw [hN]; exact hX) hf) lk_X0_168 ty_X0_at rfl (Nat.le_of_ble_eq_true rfl) (Nat.le_of_ble_eq_true rfl) (Nat.le_of_ble_eq_true rfl) hX rfl (by decide) rfl rfl dX0_appeal_45 (fun S5 hf => ?_)
    refine gf_X0_314 C rfl (ne0 (ln_1222 hw hX)) dX0_appeal_48 ?_
    refine tj_iload_n C 1 rfl rfl dX0_appeal_51 ?_
    refine tj_iald C 1488 6 rfl (ln_1488 hw hX) _ rfl hf.1 dX0_appeal_52 ?_
    replace hf := hf.2
    refine tj_topi (fun x6 ex => ?_)
    replace hf := hf x6 ex
    refine tj_istore_n C (by rw [hR]; decide) [(2, .int x6), (0, .ref (xad Γ 1025)), (1, .int a1)] rfl rfl dX0_appeal_53 ?_
    refine tj_aload_n C 1 rfl rfl dX0_appeal_54 ?_
    refine tj_callVa C (k := 1) [] [] (fun hN => c_X_at (by rw [hN]; exact hX) hf) lk_X0_168 ty_X0_at rfl (Nat.le_of_ble_eq_true rfl) (Nat.le_of_ble_eq_true rfl) (Nat.le_of_ble_eq_true rfl) hX rfl (by decide) rfl rfl dX0_appeal_55 (fun S7 hf => ?_)
    refine gf_X0_314 C rfl (ne0 (ln_1222 hw hX)) dX0_appeal_58 ?_
    refine tj_iload_n C 2 rfl rfl dX0_appeal_61 ?_
    refine tj_iconst C kc_0 dX0_appeal_62 ?_
    refine tj_iast C 1488 6 rfl (ln_1488 hw hX) _ rfl hf.1 dX0_appeal_63 ?_
    replace hf := hf.2
    refine tj_topS (fun S8 eS => ?_)
    replace hf := hf S8 eS
    refine tj_iload_n C 0 rfl rfl dX0_appeal_64 ?_
    exact r _ _ _ _ dX0_appeal_65 hf
  · replace hf := hf.2 hc
    refine tj_iconst C kc_m1 dX0_appeal_42 ?_
    exact r _ _ _ _ dX0_appeal_43 hf
theorem w_X_appeal_b0 {Γ : tX} {N0 : Nat → Nat} {K : Int32 → tS → Prop} (C : TC Γ cX0_appeal RX0 2 47) (hw : tWf N0) (hR : xnL Γ = 3) (r : TRi Γ N0 cX0_appeal K) {a1 : Int32} (hX : N0 1025 ≠ 0) {S : tS} (hf : X_appeal a1 S K) : TJ Γ N0 0 0 0 [(0, .ref (xad Γ 1025)), (1, .int a1)] [] S := by
  unfold X_appeal at hf
  refine tj_aload_n C 0 rfl rfl dX0_appeal_0 ?_
  refine tj_aload_n C 0 rfl rfl dX0_appeal_1 ?_
  refine tj_iload_n C 1 rfl rfl dX0_appeal_2 ?_
  refine tj_i2l C dX0_appeal_3 ?_
  refine tj_callVz C (k := 1) [.long (a1.toInt64)] [.ref (xad Γ 1025)] (fun hN => c_X_isPerson (by rw [hN]; exact hX) hf) lk_X0_304 ty_X0_isPerson rfl (Nat.le_of_ble_eq_true rfl) (Nat.le_of_ble_eq_true rfl) (Nat.le_of_ble_eq_true rfl) hX rfl (by decide) rfl rfl dX0_appeal_4 (fun r2 S1 hf => ?_)
  have hz_r2 := hf.1
  replace hf := hf.2
  refine tj_if_ne C 14 (by decide) dX0_appeal_7 (fun hc => ?_) (fun hc => ?_)
  · replace hf := hf.2 hc
    refine tj_aload_n C 0 rfl rfl dX0_appeal_14 ?_
    refine tj_callVa C (k := 1) [] [.ref (xad Γ 1025)] (fun hN => c_X_at (by rw [hN]; exact hX) hf) lk_X0_168 ty_X0_at rfl (Nat.le_of_ble_eq_true rfl) (Nat.le_of_ble_eq_true rfl) (Nat.le_of_ble_eq_true rfl) hX rfl (by decide) rfl rfl dX0_appeal_15 (fun S3 hf => ?_)
    refine gf_X0_314 C rfl (ne0 (ln_1222 hw hX)) dX0_appeal_18 ?_
    refine tj_iload_n C 1 rfl rfl dX0_appeal_21 ?_
    refine tj_iald C 1488 6 rfl (ln_1488 hw hX) _ rfl hf.1 dX0_appeal_22 ?_
    replace hf := hf.2
    refine tj_if_ne C 31 (by decide) dX0_appeal_23 (fun hc => ?_) (fun hc => ?_)
    · replace hf := hf.2 hc
      refine tj_iconst C kc_0 dX0_appeal_31 ?_
      exact w_X_appeal_b32 C hw hR r hX hf
    · replace hf := hf.1 hc
      refine tj_bipush C kb_7 dX0_appeal_26 ?_
      refine tj_goto C 32 (by decide) dX0_appeal_28 ?_
      exact w_X_appeal_b32 C hw hR r hX hf
  · replace hf := hf.1 hc
    refine tj_iconst C kc_1 dX0_appeal_10 ?_
    refine tj_goto C 32 (by decide) dX0_appeal_11 ?_
    exact w_X_appeal_b32 C hw hR r hX hf
theorem c_X_appeal {l : Launch} {G : tG} {ad : Nat → Nat} {A : Nat → Prop} {S : tS} {K : Int32 → tS → Prop} {a1 : Int32} (hX : gN S 1025 ≠ 0) (hf : X_appeal a1 S K) : Met l yX0_appeal (ws_ yX0_appeal cX0_appeal 3 (some .int)) (tRm 2 47) (va_Pc [.ref (ad 1025), .int a1] (tPre G ad A S)) (va_Qi K (tB G ad A (gN S)) A) 0 0 A :=
  tj_met_i [(0, .ref (ad 1025)), (1, .int a1)] pn_X0 rfl (Nat.le_of_ble_eq_true rfl) (fun p e R s m args below meth c Q C hw r => w_X_appeal_b0 C hw rfl r hX hf)
theorem w_Rf_by_b0 {Γ : tX} {N0 : Nat → Nat} {K : tS → Prop} (C : TC Γ cX3_by RX3 0 0) (hw : tWf N0) (hR : xnL Γ = 2) (r : TRa Γ N0 cX3_by 1156 K) {a1 : Int32} (hX : N0 1025 ≠ 0) {S : tS} (hf : Rf_by a1 S K) : TJ Γ N0 0 0 0 [(0, .ref (xad Γ 1156)), (1, .int a1)] [] S := by
  unfold Rf_by at hf
  refine tj_aload_n C 0 rfl rfl dX3_by_0 ?_
  refine tj_iload_n C 1 rfl rfl dX3_by_1 ?_
  refine pf_X3_7 C (ne0 (ln_1156 hw hX)) dX3_by_2 ?_
  refine tj_topS (fun S1 eS => ?_)
  replace hf := hf S1 eS
  refine tj_aload_n C 0 rfl rfl dX3_by_5 ?_
  exact r _ _ _ dX3_by_6 hf
theorem c_Rf_by {l : Launch} {G : tG} {ad : Nat → Nat} {A : Nat → Prop} {S : tS} {K : tS → Prop} {a1 : Int32} (hX : gN S 1025 ≠ 0) (hf : Rf_by a1 S K) : Met l yX3_by (ws_ yX3_by cX3_by 2 (some (.object "CatWitness$Refused"))) (tRm 0 0) (va_Pc [.ref (ad 1156), .int a1] (tPre G ad A S)) (va_Qr K (fun u ra t => ra = ad 1156 ∧ tB G ad A (gN S) u t) A) 0 0 A :=
  tj_met_a [(0, .ref (ad 1156)), (1, .int a1)] pn_X3 rfl (Nat.le_of_ble_eq_true rfl) (fun p e R s m args below meth c Q C hw r => w_Rf_by_b0 C hw rfl r hX hf)
theorem w_X_want_b0 {Γ : tX} {N0 : Nat → Nat} {K : tS → Prop} (C : TC Γ cX0_want RX0 1 21) (hw : tWf N0) (hR : xnL Γ = 3) (r : TRv Γ N0 cX0_want K) {a1 : Int32} {a2 : Int32} (hX : N0 1025 ≠ 0) {KX : tS → Prop} (rx : TRX Γ N0 RX3 1156 KX) {S : tS} (hf : X_want a1 a2 S K KX) : TJ Γ N0 0 0 0 [(0, .ref (xad Γ 1025)), (1, .int a1), (2, .int a2)] [] S := by
  unfold X_want at hf
  refine tj_iload_n C 1 rfl rfl dX0_want_0 ?_
  refine tj_if_ne C 13 (by decide) dX0_want_1 (fun hc => ?_) (fun hc => ?_)
  · replace hf := hf.2 hc
    exact r _ _ _ dX0_want_13 hf
  · replace hf := hf.1 hc
    refine tj_aload_n C 0 rfl rfl dX0_want_4 ?_
    refine gf_X0_44 C hX dX0_want_5 ?_
    refine tj_iload_n C 2 rfl rfl dX0_want_8 ?_
    refine tj_callVa C (k := 4) [.int a2] [] (fun hN => c_Rf_by (by rw [hN]; exact hX) hf) lk_X0_97 ty_X3_by rfl (Nat.le_of_ble_eq_true rfl) (Nat.le_of_ble_eq_true rfl) (Nat.le_of_ble_eq_true rfl) (ne0 (ln_1156 hw hX)) rfl (by decide) rfl rfl dX0_want_9 (fun S1 hf => ?_)
    refine tj_athrow C 4 1156 (ne0 (ln_1156 hw hX)) rfl (by decide) rfl dX0_want_12 ?_
    exact rx _ _ _ hf
theorem c_X_want {l : Launch} {G : tG} {ad : Nat → Nat} {A : Nat → Prop} {S : tS} {K : tS → Prop} {KX : tS → Prop} {a1 : Int32} {a2 : Int32} (hX : gN S 1025 ≠ 0) (hf : X_want a1 a2 S K KX) : vx_Met l yX0_want (ws_ yX0_want cX0_want 3 (none)) (tRm 1 21) (va_Pc [.ref (ad 1025), .int a1, .int a2] (tPre G ad A S)) (va_Qv K (tB G ad A (gN S)) A) (vx_X KX (tBX G ad A (gN S) RX3 1156) A) 0 0 A :=
  tj_xmet_v [(0, .ref (ad 1025)), (1, .int a1), (2, .int a2)] pn_X0 rfl (Nat.le_of_ble_eq_true rfl) (fun p e R s m args below meth c Q C hw r rx => w_X_want_b0 C hw rfl r hX rx hf)
theorem w_X_on_b37 {Γ : tX} {N0 : Nat → Nat} {K : Nat → tS → Prop} (C : TC Γ cX0_on RX0 2 43) (hw : tWf N0) (hR : xnL Γ = 2) (r : TRr Γ N0 cX0_on (tRow K)) {a1 : Int32} (hX : N0 1025 ≠ 0) {KX : tS → Prop} (rx : TRX Γ N0 RX3 1156 KX) {s1 : Int32} {S : tS} (hf : X_on_b37 a1 K KX s1 S) : TJ Γ N0 0 0 37 [(0, .ref (xad Γ 1025)), (1, .int a1)] [.int s1, .ref (xad Γ 1025)] S := by
  unfold X_on_b37 at hf
  refine tj_iconst C kc_2 dX0_on_37 ?_
  refine tj_xVv C (k := 1) [.int s1, .int (nI 2)] [] (fun hN => c_X_want (by rw [hN]; exact hX) hf) lk_X0_116 ty_X0_want rfl (Nat.le_of_ble_eq_true rfl) (Nat.le_of_ble_eq_true rfl) (Nat.le_of_ble_eq_true rfl) hX rfl (by decide) rfl rfl dX0_on_38 (fun S5 hf => ?_) (fun S4 hf => ?_)
  · exact rx _ _ _ hf
  · refine tj_aload_n C 0 rfl rfl dX0_on_41 ?_
    refine gf_X0_18 C hX dX0_on_42 ?_
    refine tj_iload_n C 1 rfl rfl dX0_on_45 ?_
    refine tj_aald21 C 1077 4 rfl (ln_1077 hw hX) _ rfl hf.1 dX0_on_46 ?_
    replace hf := hf.2
    refine tj_hN (fun hN => ?_)
    obtain ⟨t6, he, h_t6, hf⟩ := hf
    rw [hN] at h_t6
    refine tj_some he ?_
    refine gf_X0_120 C h_t6.2 h_t6.1 dX0_on_47 ?_
    refine tj_hN (fun hN => ?_)
    obtain ⟨t7, he, h_t7, hf⟩ := hf
    rw [hN] at h_t7
    refine tj_some he ?_
    exact tj_hN (fun hN => r _ _ _ _ dX0_on_50 ⟨by rw [hN]; exact h_t7, hf⟩)
theorem w_X_on_b15 {Γ : tX} {N0 : Nat → Nat} {K : Nat → tS → Prop} (C : TC Γ cX0_on RX0 2 43) (hw : tWf N0) (hR : xnL Γ = 2) (r : TRr Γ N0 cX0_on (tRow K)) {a1 : Int32} (hX : N0 1025 ≠ 0) {KX : tS → Prop} (rx : TRX Γ N0 RX3 1156 KX) {s1 : Int32} {S : tS} (hf : X_on_b15 a1 K KX s1 S) : TJ Γ N0 0 0 15 [(0, .ref (xad Γ 1025)), (1, .int a1)] [.int s1, .ref (xad Γ 1025)] S := by
  unfold X_on_b15 at hf
  refine tj_iconst C kc_1 dX0_on_15 ?_
  refine tj_xVv C (k := 1) [.int s1, .int (nI 1)] [] (fun hN => c_X_want (by rw [hN]; exact hX) hf) lk_X0_116 ty_X0_want rfl (Nat.le_of_ble_eq_true rfl) (Nat.le_of_ble_eq_true rfl) (Nat.le_of_ble_eq_true rfl) hX rfl (by decide) rfl rfl dX0_on_16 (fun S2 hf => ?_) (fun S1 hf => ?_)
  · exact rx _ _ _ hf
  · refine tj_aload_n C 0 rfl rfl dX0_on_19 ?_
    refine tj_aload_n C 0 rfl rfl dX0_on_20 ?_
    refine gf_X0_18 C hX dX0_on_21 ?_
    refine tj_iload_n C 1 rfl rfl dX0_on_24 ?_
    refine tj_aald21 C 1077 4 rfl (ln_1077 hw hX) _ rfl hf.1 dX0_on_25 ?_
    replace hf := hf.2
    refine tj_hN (fun hN => ?_)
    obtain ⟨t3, he, h_t3, hf⟩ := hf
    rw [hN] at h_t3
    refine tj_some he ?_
    refine gf_X0_120 C h_t3.2 h_t3.1 dX0_on_26 ?_
    refine tj_ifnull C 36 (by decide) dX0_on_29 (fun hc => ?_) (fun hc => ?_)
    · replace hf := hf.1 hc
      refine tj_iconst C kc_0 dX0_on_36 ?_
      exact w_X_on_b37 C hw hR r hX rx hf
    · replace hf := hf.2 hc
      refine tj_iconst C kc_1 dX0_on_32 ?_
      refine tj_goto C 37 (by decide) dX0_on_33 ?_
      exact w_X_on_b37 C hw hR r hX rx hf
theorem w_X_on_b14 {Γ : tX} {N0 : Nat → Nat} {K : Nat → tS → Prop} (C : TC Γ cX0_on RX0 2 43) (hw : tWf N0) (hR : xnL Γ = 2) (r : TRr Γ N0 cX0_on (tRow K)) {a1 : Int32} (hX : N0 1025 ≠ 0) {KX : tS → Prop} (rx : TRX Γ N0 RX3 1156 KX) {S : tS} (hf : X_on_b14 a1 K KX  S) : TJ Γ N0 0 0 14 [(0, .ref (xad Γ 1025)), (1, .int a1)] [.ref (xad Γ 1025)] S := by
  unfold X_on_b14 at hf
  refine tj_iconst C kc_0 dX0_on_14 ?_
  exact w_X_on_b15 C hw hR r hX rx hf
theorem w_X_on_b0 {Γ : tX} {N0 : Nat → Nat} {K : Nat → tS → Prop} (C : TC Γ cX0_on RX0 2 43) (hw : tWf N0) (hR : xnL Γ = 2) (r : TRr Γ N0 cX0_on (tRow K)) {a1 : Int32} (hX : N0 1025 ≠ 0) {KX : tS → Prop} (rx : TRX Γ N0 RX3 1156 KX) {S : tS} (hf : X_on a1 S K KX) : TJ Γ N0 0 0 0 [(0, .ref (xad Γ 1025)), (1, .int a1)] [] S := by
  unfold X_on at hf
  refine tj_aload_n C 0 rfl rfl dX0_on_0 ?_
  refine tj_iload_n C 1 rfl rfl dX0_on_1 ?_
  refine tj_if_lt C 14 (by decide) dX0_on_2 (fun hc => ?_) (fun hc => ?_)
  · replace hf := hf.1 hc
    exact w_X_on_b14 C hw hR r hX rx hf
  · replace hf := hf.2 hc
    refine tj_iload_n C 1 rfl rfl dX0_on_5 ?_
    refine tj_iconst C kc_4 dX0_on_6 ?_
    refine tj_icmp_ge C 14 (by decide) dX0_on_7 (fun hc => ?_) (fun hc => ?_)
    · replace hf := hf.1 hc
      exact w_X_on_b14 C hw hR r hX rx hf
    · replace hf := hf.2 hc
      refine tj_iconst C kc_1 dX0_on_10 ?_
      refine tj_goto C 15 (by decide) dX0_on_11 ?_
      exact w_X_on_b15 C hw hR r hX rx hf
theorem c_X_on {l : Launch} {G : tG} {ad : Nat → Nat} {A : Nat → Prop} {S : tS} {K : Nat → tS → Prop} {KX : tS → Prop} {a1 : Int32} (hX : gN S 1025 ≠ 0) (hf : X_on a1 S K KX) : vx_Met l yX0_on (ws_ yX0_on cX0_on 2 (some (.object "java/lang/Object"))) (tRm 2 43) (va_Pc [.ref (ad 1025), .int a1] (tPre G ad A S)) (va_Qq (fun r (u : tS × Nat) => r = some (ad u.2) ∧ tRow K u.2 u.1) (fun u t => tB G ad A (gN S) u.1 t) A) (vx_X KX (tBX G ad A (gN S) RX3 1156) A) 0 0 A :=
  tj_xmet_r [(0, .ref (ad 1025)), (1, .int a1)] pn_X0 rfl (Nat.le_of_ble_eq_true rfl) (fun p e R s m args below meth c Q C hw r rx => w_X_on_b0 C hw rfl r hX rx hf)
theorem w_X_sizeOf_b0 {Γ : tX} {N0 : Nat → Nat} {K : Int32 → tS → Prop} (C : TC Γ cX0_sizeOf RX0 0 0) (hw : tWf N0) (hR : xnL Γ = 2) (r : TRi Γ N0 cX0_sizeOf K) {a0 : Nat} (h_a0 : N0 a0 ≠ 0 ∧ (16 ≤ a0 % 32 ∧ a0 % 32 ≤ 19)) {S : tS} (hf : X_sizeOf a0 S K) : TJ Γ N0 0 0 0 [(0, .ref (xad Γ a0))] [] S := by
  unfold X_sizeOf at hf
  refine tj_aload_n C 0 rfl rfl dX0_sizeOf_0 ?_
  by_cases hk1 : a0 % 32 = 18
  · replace hf := hf.1 hk1
    refine tj_instY C 18 a0 hk1 (by decide) (by decide) rfl h_a0.1 q625 dX0_sizeOf_1 ?_
    refine tj_if_eq C 15 (by decide) dX0_sizeOf_4 (fun hc => absurd hc (by decide +kernel)) (fun hc => ?_)
    refine tj_aload_n C 0 rfl rfl dX0_sizeOf_7 ?_
    refine tj_castA C 18 a0 hk1 (by decide) (by decide) rfl h_a0.1 q625 dX0_sizeOf_8 ?_
    refine tj_astore_n C (by rw [hR]; decide) [(1, .ref (xad Γ a0)), (0, .ref (xad Γ a0))] rfl rfl dX0_sizeOf_11 ?_
    refine tj_aload_n C 0 rfl rfl dX0_sizeOf_12 ?_
    refine tj_alend C 18 a0 (by decide) (by decide) hk1 h_a0.1 dX0_sizeOf_13 ?_
    exact r _ _ _ _ dX0_sizeOf_14 hf
  · replace hf := hf.2 hk1
    refine tj_instN C 18 a0 h_a0.2.1 h_a0.2.2 (by decide) hk1 rfl h_a0.1 q625 dX0_sizeOf_1 ?_
    refine tj_if_eq C 15 (by decide) dX0_sizeOf_4 (fun hc => ?_) (fun hc => absurd hc (by decide +kernel))
    refine tj_aload_n C 0 rfl rfl dX0_sizeOf_15 ?_
    by_cases hk2 : a0 % 32 = 19
    · replace hf := hf.1 hk2
      refine tj_instY C 19 a0 hk2 (by decide) (by decide) rfl h_a0.1 q626 dX0_sizeOf_16 ?_
      refine tj_if_eq C 30 (by decide) dX0_sizeOf_19 (fun hc => absurd hc (by decide +kernel)) (fun hc => ?_)
      refine tj_aload_n C 0 rfl rfl dX0_sizeOf_22 ?_
      refine tj_castA C 19 a0 hk2 (by decide) (by decide) rfl h_a0.1 q626 dX0_sizeOf_23 ?_
      refine tj_astore_n C (by rw [hR]; decide) [(1, .ref (xad Γ a0)), (0, .ref (xad Γ a0))] rfl rfl dX0_sizeOf_26 ?_
      refine tj_aload_n C 0 rfl rfl dX0_sizeOf_27 ?_
      refine tj_alend C 19 a0 (by decide) (by decide) hk2 h_a0.1 dX0_sizeOf_28 ?_
      exact r _ _ _ _ dX0_sizeOf_29 hf
    · replace hf := hf.2 hk2
      refine tj_instN C 19 a0 h_a0.2.1 h_a0.2.2 (by decide) hk2 rfl h_a0.1 q626 dX0_sizeOf_16 ?_
      refine tj_if_eq C 30 (by decide) dX0_sizeOf_19 (fun hc => ?_) (fun hc => absurd hc (by decide +kernel))
      refine tj_aload_n C 0 rfl rfl dX0_sizeOf_30 ?_
      by_cases hk3 : a0 % 32 = 16
      · replace hf := hf.1 hk3
        refine tj_instY C 16 a0 hk3 (by decide) (by decide) rfl h_a0.1 q627 dX0_sizeOf_31 ?_
        refine tj_if_eq C 47 (by decide) dX0_sizeOf_34 (fun hc => absurd hc (by decide +kernel)) (fun hc => ?_)
        refine tj_aload_n C 0 rfl rfl dX0_sizeOf_37 ?_
        refine tj_castA C 16 a0 hk3 (by decide) (by decide) rfl h_a0.1 q627 dX0_sizeOf_38 ?_
        refine tj_astore_n C (by rw [hR]; decide) [(1, .ref (xad Γ a0)), (0, .ref (xad Γ a0))] rfl rfl dX0_sizeOf_41 ?_
        refine tj_aload_n C 0 rfl rfl dX0_sizeOf_42 ?_
        refine tj_alend C 16 a0 (by decide) (by decide) hk3 h_a0.1 dX0_sizeOf_43 ?_
        refine tj_goto C 52 (by decide) dX0_sizeOf_44 ?_
        exact r _ _ _ _ dX0_sizeOf_52 hf
      · replace hf := hf.2 hk3
        refine tj_instN C 16 a0 h_a0.2.1 h_a0.2.2 (by decide) hk3 rfl h_a0.1 q627 dX0_sizeOf_31 ?_
        refine tj_if_eq C 47 (by decide) dX0_sizeOf_34 (fun hc => ?_) (fun hc => absurd hc (by decide +kernel))
        refine tj_aload_n C 0 rfl rfl dX0_sizeOf_47 ?_
        have hk4 : a0 % 32 = 17 := by have := h_a0.2; omega
        refine tj_castA C 17 a0 hk4 (by decide) (by decide) rfl h_a0.1 q628 dX0_sizeOf_48 ?_
        refine tj_alend C 17 a0 (by decide) (by decide) hk4 h_a0.1 dX0_sizeOf_51 ?_
        exact r _ _ _ _ dX0_sizeOf_52 hf
theorem c_X_sizeOf {l : Launch} {G : tG} {ad : Nat → Nat} {A : Nat → Prop} {S : tS} {K : Int32 → tS → Prop} {a0 : Nat} (h_a0 : gN S a0 ≠ 0 ∧ (16 ≤ a0 % 32 ∧ a0 % 32 ≤ 19)) (hf : X_sizeOf a0 S K) : Met l yX0_sizeOf (ws_ yX0_sizeOf cX0_sizeOf 2 (some .int)) (tRm 0 0) (va_Pc [.ref (ad a0)] (tPre G ad A S)) (va_Qi K (tB G ad A (gN S)) A) 0 0 A :=
  tj_met_i [(0, .ref (ad a0))] pn_X0 rfl (Nat.le_of_ble_eq_true rfl) (fun p e R s m args below meth c Q C hw r => w_X_sizeOf_b0 C hw rfl r h_a0 hf)
theorem w_X_number_b0 {Γ : tX} {N0 : Nat → Nat} {K : Int64 → tS → Prop} (C : TC Γ cX0_number RX0 0 0) (hw : tWf N0) (hR : xnL Γ = 3) (r : TRl Γ N0 cX0_number K) {a0 : Nat} {a1 : Int32} (h_a0 : N0 a0 ≠ 0 ∧ (16 ≤ a0 % 32 ∧ a0 % 32 ≤ 19)) {S : tS} (hf : X_number a0 a1 S K) : TJ Γ N0 0 0 0 [(0, .ref (xad Γ a0)), (1, .int a1)] [] S := by
  unfold X_number at hf
  refine tj_aload_n C 0 rfl rfl dX0_number_0 ?_
  by_cases hk1 : a0 % 32 = 18
  · replace hf := hf.1 hk1
    refine tj_instY C 18 a0 hk1 (by decide) (by decide) rfl h_a0.1 q625 dX0_number_1 ?_
    refine tj_if_eq C 17 (by decide) dX0_number_4 (fun hc => absurd hc (by decide +kernel)) (fun hc => ?_)
    refine tj_aload_n C 0 rfl rfl dX0_number_7 ?_
    refine tj_castA C 18 a0 hk1 (by decide) (by decide) rfl h_a0.1 q625 dX0_number_8 ?_
    refine tj_astore_n C (by rw [hR]; decide) [(2, .ref (xad Γ a0)), (0, .ref (xad Γ a0)), (1, .int a1)] rfl rfl dX0_number_11 ?_
    refine tj_aload_n C 0 rfl rfl dX0_number_12 ?_
    refine tj_iload_n C 2 rfl rfl dX0_number_13 ?_
    refine tj_baldd C a0 hk1 h_a0.1 _ rfl hf.1 dX0_number_14 ?_
    replace hf := hf.2
    refine tj_i2l C dX0_number_15 ?_
    exact r _ _ _ _ dX0_number_16 hf
  · replace hf := hf.2 hk1
    refine tj_instN C 18 a0 h_a0.2.1 h_a0.2.2 (by decide) hk1 rfl h_a0.1 q625 dX0_number_1 ?_
    refine tj_if_eq C 17 (by decide) dX0_number_4 (fun hc => ?_) (fun hc => absurd hc (by decide +kernel))
    refine tj_aload_n C 0 rfl rfl dX0_number_17 ?_
    by_cases hk2 : a0 % 32 = 19
    · replace hf := hf.1 hk2
      refine tj_instY C 19 a0 hk2 (by decide) (by decide) rfl h_a0.1 q626 dX0_number_18 ?_
      refine tj_if_eq C 34 (by decide) dX0_number_21 (fun hc => absurd hc (by decide +kernel)) (fun hc => ?_)
      refine tj_aload_n C 0 rfl rfl dX0_number_24 ?_
      refine tj_castA C 19 a0 hk2 (by decide) (by decide) rfl h_a0.1 q626 dX0_number_25 ?_
      refine tj_astore_n C (by rw [hR]; decide) [(2, .ref (xad Γ a0)), (0, .ref (xad Γ a0)), (1, .int a1)] rfl rfl dX0_number_28 ?_
      refine tj_aload_n C 0 rfl rfl dX0_number_29 ?_
      refine tj_iload_n C 2 rfl rfl dX0_number_30 ?_
      refine tj_saldd C a0 hk2 h_a0.1 _ rfl hf.1 dX0_number_31 ?_
      replace hf := hf.2
      refine tj_i2l C dX0_number_32 ?_
      exact r _ _ _ _ dX0_number_33 hf
    · replace hf := hf.2 hk2
      refine tj_instN C 19 a0 h_a0.2.1 h_a0.2.2 (by decide) hk2 rfl h_a0.1 q626 dX0_number_18 ?_
      refine tj_if_eq C 34 (by decide) dX0_number_21 (fun hc => ?_) (fun hc => absurd hc (by decide +kernel))
      refine tj_aload_n C 0 rfl rfl dX0_number_34 ?_
      by_cases hk3 : a0 % 32 = 16
      · replace hf := hf.1 hk3
        refine tj_instY C 16 a0 hk3 (by decide) (by decide) rfl h_a0.1 q627 dX0_number_35 ?_
        refine tj_if_eq C 53 (by decide) dX0_number_38 (fun hc => absurd hc (by decide +kernel)) (fun hc => ?_)
        refine tj_aload_n C 0 rfl rfl dX0_number_41 ?_
        refine tj_castA C 16 a0 hk3 (by decide) (by decide) rfl h_a0.1 q627 dX0_number_42 ?_
        refine tj_astore_n C (by rw [hR]; decide) [(2, .ref (xad Γ a0)), (0, .ref (xad Γ a0)), (1, .int a1)] rfl rfl dX0_number_45 ?_
        refine tj_aload_n C 0 rfl rfl dX0_number_46 ?_
        refine tj_iload_n C 2 rfl rfl dX0_number_47 ?_
        refine tj_ialdd C a0 hk3 h_a0.1 _ rfl hf.1 dX0_number_48 ?_
        replace hf := hf.2
        refine tj_i2l C dX0_number_49 ?_
        refine tj_goto C 59 (by decide) dX0_number_50 ?_
        exact r _ _ _ _ dX0_number_59 hf
      · replace hf := hf.2 hk3
        refine tj_instN C 16 a0 h_a0.2.1 h_a0.2.2 (by decide) hk3 rfl h_a0.1 q627 dX0_number_35 ?_
        refine tj_if_eq C 53 (by decide) dX0_number_38 (fun hc => ?_) (fun hc => absurd hc (by decide +kernel))
        refine tj_aload_n C 0 rfl rfl dX0_number_53 ?_
        have hk4 : a0 % 32 = 17 := by have := h_a0.2; omega
        refine tj_castA C 17 a0 hk4 (by decide) (by decide) rfl h_a0.1 q628 dX0_number_54 ?_
        refine tj_iload_n C 1 rfl rfl dX0_number_57 ?_
        refine tj_laldd C a0 hk4 h_a0.1 _ rfl hf.1 dX0_number_58 ?_
        replace hf := hf.2
        exact r _ _ _ _ dX0_number_59 hf
theorem c_X_number {l : Launch} {G : tG} {ad : Nat → Nat} {A : Nat → Prop} {S : tS} {K : Int64 → tS → Prop} {a0 : Nat} {a1 : Int32} (h_a0 : gN S a0 ≠ 0 ∧ (16 ≤ a0 % 32 ∧ a0 % 32 ≤ 19)) (hf : X_number a0 a1 S K) : Met l yX0_number (ws_ yX0_number cX0_number 3 (some .long)) (tRm 0 0) (va_Pc [.ref (ad a0), .int a1] (tPre G ad A S)) (va_Ql K (tB G ad A (gN S)) A) 0 0 A :=
  tj_met_l [(0, .ref (ad a0)), (1, .int a1)] pn_X0 rfl (Nat.le_of_ble_eq_true rfl) (fun p e R s m args below meth c Q C hw r => w_X_number_b0 C hw rfl r h_a0 hf)
theorem w_X_compares_b0 {Γ : tX} {N0 : Nat → Nat} {K : Int32 → tS → Prop} (C : TC Γ cX0_compares RX0 0 0) (hw : tWf N0) (hR : xnL Γ = 3) (r : TRz Γ N0 cX0_compares K) {a0 : Int32} {a1 : Int32} {a2 : Int32} {S : tS} (hf : X_compares a0 a1 a2 S K) : TJ Γ N0 0 0 0 [(0, .int a0), (1, .int a1), (2, .int a2)] [] S := by
  unfold X_compares at hf
  refine tj_iload_n C 1 rfl rfl dX0_compares_0 ?_
  refine tj_bipush C kb_60 dX0_compares_1 ?_
  refine tj_icmp_ne C 19 (by decide) dX0_compares_3 (fun hc => ?_) (fun hc => ?_)
  · replace hf := hf.2 hc
    refine tj_iload_n C 1 rfl rfl dX0_compares_19 ?_
    refine tj_bipush C kb_62 dX0_compares_20 ?_
    refine tj_icmp_ne C 38 (by decide) dX0_compares_22 (fun hc => ?_) (fun hc => ?_)
    · replace hf := hf.2 hc
      refine tj_iload_n C 0 rfl rfl dX0_compares_38 ?_
      refine tj_iload_n C 2 rfl rfl dX0_compares_39 ?_
      refine tj_icmp_ne C 47 (by decide) dX0_compares_40 (fun hc => ?_) (fun hc => ?_)
      · replace hf := hf.2 hc
        refine tj_iconst C kc_0 dX0_compares_47 ?_
        exact r _ _ _ _ dX0_compares_48 zb0 hf
      · replace hf := hf.1 hc
        refine tj_iconst C kc_1 dX0_compares_43 ?_
        refine tj_goto C 48 (by decide) dX0_compares_44 ?_
        exact r _ _ _ _ dX0_compares_48 zb1 hf
    · replace hf := hf.1 hc
      refine tj_iload_n C 0 rfl rfl dX0_compares_25 ?_
      refine tj_iload_n C 2 rfl rfl dX0_compares_26 ?_
      refine tj_icmp_le C 34 (by decide) dX0_compares_27 (fun hc => ?_) (fun hc => ?_)
      · replace hf := hf.1 hc
        refine tj_iconst C kc_0 dX0_compares_34 ?_
        refine tj_goto C 48 (by decide) dX0_compares_35 ?_
        exact r _ _ _ _ dX0_compares_48 zb0 hf
      · replace hf := hf.2 hc
        refine tj_iconst C kc_1 dX0_compares_30 ?_
        refine tj_goto C 48 (by decide) dX0_compares_31 ?_
        exact r _ _ _ _ dX0_compares_48 zb1 hf
  · replace hf := hf.1 hc
    refine tj_iload_n C 0 rfl rfl dX0_compares_6 ?_
    refine tj_iload_n C 2 rfl rfl dX0_compares_7 ?_
    refine tj_icmp_ge C 15 (by decide) dX0_compares_8 (fun hc => ?_) (fun hc => ?_)
    · replace hf := hf.1 hc
      refine tj_iconst C kc_0 dX0_compares_15 ?_
      refine tj_goto C 48 (by decide) dX0_compares_16 ?_
      exact r _ _ _ _ dX0_compares_48 zb0 hf
    · replace hf := hf.2 hc
      refine tj_iconst C kc_1 dX0_compares_11 ?_
      refine tj_goto C 48 (by decide) dX0_compares_12 ?_
      exact r _ _ _ _ dX0_compares_48 zb1 hf
theorem c_X_compares {l : Launch} {G : tG} {ad : Nat → Nat} {A : Nat → Prop} {S : tS} {K : Int32 → tS → Prop} {a0 : Int32} {a1 : Int32} {a2 : Int32} (hf : X_compares a0 a1 a2 S K) : Met l yX0_compares (ws_ yX0_compares cX0_compares 3 (some .boolean)) (tRm 0 0) (va_Pc [.int a0, .int a1, .int a2] (tPre G ad A S)) (va_Qi (fun r u => r &&& 1 = r ∧ K r u) (tB G ad A (gN S)) A) 0 0 A :=
  tj_met_z [(0, .int a0), (1, .int a1), (2, .int a2)] pn_X0 rfl (Nat.le_of_ble_eq_true rfl) (fun p e R s m args below meth c Q C hw r => w_X_compares_b0 C hw rfl r hf)
theorem w_X_has_b0 {Γ : tX} {N0 : Nat → Nat} {K : Int32 → tS → Prop} (C : TC Γ cX0_has RX0 0 0) (hw : tWf N0) (hR : xnL Γ = 2) (r : TRz Γ N0 cX0_has K) {a0 : Int32} {a1 : Int32} {S : tS} (hf : X_has a0 a1 S K) : TJ Γ N0 0 0 0 [(0, .int a0), (1, .int a1)] [] S := by
  unfold X_has at hf
  refine tj_iload_n C 0 rfl rfl dX0_has_0 ?_
  refine tj_iload_n C 1 rfl rfl dX0_has_1 ?_
  refine tj_ishr C dX0_has_2 ?_
  refine tj_iconst C kc_1 dX0_has_3 ?_
  refine tj_iand C dX0_has_4 ?_
  refine tj_iconst C kc_1 dX0_has_5 ?_
  refine tj_icmp_ne C 13 (by decide) dX0_has_6 (fun hc => ?_) (fun hc => ?_)
  · replace hf := hf.2 hc
    refine tj_iconst C kc_0 dX0_has_13 ?_
    exact r _ _ _ _ dX0_has_14 zb0 hf
  · replace hf := hf.1 hc
    refine tj_iconst C kc_1 dX0_has_9 ?_
    refine tj_goto C 14 (by decide) dX0_has_10 ?_
    exact r _ _ _ _ dX0_has_14 zb1 hf
theorem c_X_has {l : Launch} {G : tG} {ad : Nat → Nat} {A : Nat → Prop} {S : tS} {K : Int32 → tS → Prop} {a0 : Int32} {a1 : Int32} (hf : X_has a0 a1 S K) : Met l yX0_has (ws_ yX0_has cX0_has 2 (some .boolean)) (tRm 0 0) (va_Pc [.int a0, .int a1] (tPre G ad A S)) (va_Qi (fun r u => r &&& 1 = r ∧ K r u) (tB G ad A (gN S)) A) 0 0 A :=
  tj_met_z [(0, .int a0), (1, .int a1)] pn_X0 rfl (Nat.le_of_ble_eq_true rfl) (fun p e R s m args below meth c Q C hw r => w_X_has_b0 C hw rfl r hf)
theorem w_Ru_bears_b93 {Γ : tX} {N0 : Nat → Nat} {K : Int32 → tS → Prop} (C : TC Γ cX8_bears RX8 1 22) (hw : tWf N0) (hR : xnL Γ = 5) (r : TRz Γ N0 cX8_bears K) {t0 : Nat} {a1 : Int32} {a2 : Int32} {a3 : Int32} {a4 : Int32} (h_t0 : N0 t0 ≠ 0 ∧ t0 % 32 = 7) {S : tS} (hf : Ru_bears_b93 t0 a1 a2 a3 a4 K  S) : TJ Γ N0 0 0 93 [] [] S := by
  unfold Ru_bears_b93 at hf
  refine tj_iconst C kc_1 dX8_bears_93 ?_
  refine tj_goto C 98 (by decide) dX8_bears_94 ?_
  exact r _ _ _ _ dX8_bears_98 zb1 hf
theorem w_Ru_bears_b74 {Γ : tX} {N0 : Nat → Nat} {K : Int32 → tS → Prop} (C : TC Γ cX8_bears RX8 1 22) (hw : tWf N0) (hR : xnL Γ = 5) (r : TRz Γ N0 cX8_bears K) {t0 : Nat} {a1 : Int32} {a2 : Int32} {a3 : Int32} {a4 : Int32} (h_t0 : N0 t0 ≠ 0 ∧ t0 % 32 = 7) {S : tS} (hf : Ru_bears_b74 t0 a1 a2 a3 a4 K  S) : TJ Γ N0 0 0 74 [(0, .ref (xad Γ t0)), (4, .int a4)] [] S := by
  unfold Ru_bears_b74 at hf
  refine tj_aload_n C 0 rfl rfl dX8_bears_74 ?_
  refine gf_X8_30 C h_t0.2 h_t0.1 dX8_bears_75 ?_
  refine tj_if_lt C 93 (by decide) dX8_bears_78 (fun hc => ?_) (fun hc => ?_)
  · replace hf := hf.1 hc
    exact tj_sub [] (w_Ru_bears_b93 C hw hR r h_t0 hf) rfl
  · replace hf := hf.2 hc
    refine tj_iload C 1 rfl dX8_bears_81 ?_
    refine tj_aload_n C 0 rfl rfl dX8_bears_83 ?_
    refine gf_X8_30 C h_t0.2 h_t0.1 dX8_bears_84 ?_
    refine tj_callSNz C [.int a4, .int (gI S t0 6)] [] (fun hN => c_X_has hf) (lw_meth q881) q1168 q167 q880 ty_X0_has rfl (Nat.le_of_ble_eq_true rfl) (Nat.le_of_ble_eq_true rfl) (Nat.le_of_ble_eq_true rfl) rfl dX8_bears_87 (fun r6 S5 hf => ?_)
    have hz_r6 := hf.1
    replace hf := hf.2
    refine tj_if_eq C 97 (by decide) dX8_bears_90 (fun hc => ?_) (fun hc => ?_)
    · replace hf := hf.1 hc
      refine tj_iconst C kc_0 dX8_bears_97 ?_
      exact r _ _ _ _ dX8_bears_98 zb0 hf
    · replace hf := hf.2 hc
      exact tj_sub [] (w_Ru_bears_b93 C hw hR r h_t0 hf) rfl
theorem w_Ru_bears_b50 {Γ : tX} {N0 : Nat → Nat} {K : Int32 → tS → Prop} (C : TC Γ cX8_bears RX8 1 22) (hw : tWf N0) (hR : xnL Γ = 5) (r : TRz Γ N0 cX8_bears K) {t0 : Nat} {a1 : Int32} {a2 : Int32} {a3 : Int32} {a4 : Int32} (h_t0 : N0 t0 ≠ 0 ∧ t0 % 32 = 7) {S : tS} (hf : Ru_bears_b50 t0 a1 a2 a3 a4 K  S) : TJ Γ N0 0 0 50 [(0, .ref (xad Γ t0)), (3, .int a3), (4, .int a4)] [] S := by
  unfold Ru_bears_b50 at hf
  refine tj_aload_n C 0 rfl rfl dX8_bears_50 ?_
  refine gf_X8_24 C h_t0.2 h_t0.1 dX8_bears_51 ?_
  refine tj_if_eq C 74 (by decide) dX8_bears_54 (fun hc => ?_) (fun hc => ?_)
  · replace hf := hf.1 hc
    exact tj_sub [0, 2] (w_Ru_bears_b74 C hw hR r h_t0 hf) rfl
  · replace hf := hf.2 hc
    refine tj_iload_n C 1 rfl rfl dX8_bears_57 ?_
    refine tj_aload_n C 0 rfl rfl dX8_bears_58 ?_
    refine gf_X8_24 C h_t0.2 h_t0.1 dX8_bears_59 ?_
    refine tj_aload_n C 0 rfl rfl dX8_bears_62 ?_
    refine gf_X8_27 C h_t0.2 h_t0.1 dX8_bears_63 ?_
    refine tj_callSNz C [.int a3, .int (gI S t0 4), .int (gI S t0 5)] [] (fun hN => c_X_compares hf) (lw_meth q1167) q1165 q167 q1166 ty_X0_compares rfl (Nat.le_of_ble_eq_true rfl) (Nat.le_of_ble_eq_true rfl) (Nat.le_of_ble_eq_true rfl) rfl dX8_bears_66 (fun r4 S3 hf => ?_)
    have hz_r4 := hf.1
    replace hf := hf.2
    refine tj_if_ne C 74 (by decide) dX8_bears_69 (fun hc => ?_) (fun hc => ?_)
    · replace hf := hf.2 hc
      exact tj_sub [0, 2] (w_Ru_bears_b74 C hw hR r h_t0 hf) rfl
    · replace hf := hf.1 hc
      refine tj_iconst C kc_0 dX8_bears_72 ?_
      exact r _ _ _ _ dX8_bears_73 zb0 hf
theorem w_Ru_bears_b26 {Γ : tX} {N0 : Nat → Nat} {K : Int32 → tS → Prop} (C : TC Γ cX8_bears RX8 1 22) (hw : tWf N0) (hR : xnL Γ = 5) (r : TRz Γ N0 cX8_bears K) {t0 : Nat} {a1 : Int32} {a2 : Int32} {a3 : Int32} {a4 : Int32} (h_t0 : N0 t0 ≠ 0 ∧ t0 % 32 = 7) {S : tS} (hf : Ru_bears_b26 t0 a1 a2 a3 a4 K  S) : TJ Γ N0 0 0 26 [(0, .ref (xad Γ t0)), (2, .int a2), (3, .int a3), (4, .int a4)] [] S := by
  unfold Ru_bears_b26 at hf
  refine tj_aload_n C 0 rfl rfl dX8_bears_26 ?_
  refine gf_X8_18 C h_t0.2 h_t0.1 dX8_bears_27 ?_
  refine tj_if_eq C 50 (by decide) dX8_bears_30 (fun hc => ?_) (fun hc => ?_)
  · replace hf := hf.1 hc
    exact tj_sub [0, 2, 3] (w_Ru_bears_b50 C hw hR r h_t0 hf) rfl
  · replace hf := hf.2 hc
    refine tj_iload_n C 1 rfl rfl dX8_bears_33 ?_
    refine tj_aload_n C 0 rfl rfl dX8_bears_34 ?_
    refine gf_X8_18 C h_t0.2 h_t0.1 dX8_bears_35 ?_
    refine tj_aload_n C 0 rfl rfl dX8_bears_38 ?_
    refine gf_X8_21 C h_t0.2 h_t0.1 dX8_bears_39 ?_
    refine tj_callSNz C [.int a2, .int (gI S t0 2), .int (gI S t0 3)] [] (fun hN => c_X_compares hf) (lw_meth q1167) q1165 q167 q1166 ty_X0_compares rfl (Nat.le_of_ble_eq_true rfl) (Nat.le_of_ble_eq_true rfl) (Nat.le_of_ble_eq_true rfl) rfl dX8_bears_42 (fun r2 S1 hf => ?_)
    have hz_r2 := hf.1
    replace hf := hf.2
    refine tj_if_ne C 50 (by decide) dX8_bears_45 (fun hc => ?_) (fun hc => ?_)
    · replace hf := hf.2 hc
      exact tj_sub [0, 2, 3] (w_Ru_bears_b50 C hw hR r h_t0 hf) rfl
    · replace hf := hf.1 hc
      refine tj_iconst C kc_0 dX8_bears_48 ?_
      exact r _ _ _ _ dX8_bears_49 zb0 hf
theorem w_Ru_bears_b20 {Γ : tX} {N0 : Nat → Nat} {K : Int32 → tS → Prop} (C : TC Γ cX8_bears RX8 1 22) (hw : tWf N0) (hR : xnL Γ = 5) (r : TRz Γ N0 cX8_bears K) {t0 : Nat} {a1 : Int32} {a2 : Int32} {a3 : Int32} {a4 : Int32} (h_t0 : N0 t0 ≠ 0 ∧ t0 % 32 = 7) {s0 : Int32} {S : tS} (hf : Ru_bears_b20 t0 a1 a2 a3 a4 K s0 S) : TJ Γ N0 0 0 20 [(0, .ref (xad Γ t0)), (1, .int a1), (2, .int a2), (3, .int a3), (4, .int a4)] [.int s0] S := by
  unfold Ru_bears_b20 at hf
  refine tj_iload_n C 1 rfl rfl dX8_bears_20 ?_
  refine tj_icmp_eq C 26 (by decide) dX8_bears_21 (fun hc => ?_) (fun hc => ?_)
  · replace hf := hf.1 hc
    exact tj_sub [0, 2, 3, 4] (w_Ru_bears_b26 C hw hR r h_t0 hf) rfl
  · replace hf := hf.2 hc
    refine tj_iconst C kc_0 dX8_bears_24 ?_
    exact r _ _ _ _ dX8_bears_25 zb0 hf
theorem w_Ru_bears_b0 {Γ : tX} {N0 : Nat → Nat} {K : Int32 → tS → Prop} (C : TC Γ cX8_bears RX8 1 22) (hw : tWf N0) (hR : xnL Γ = 5) (r : TRz Γ N0 cX8_bears K) {t0 : Nat} {a1 : Int32} {a2 : Int32} {a3 : Int32} {a4 : Int32} (h_t0 : N0 t0 ≠ 0 ∧ t0 % 32 = 7) {S : tS} (hf : Ru_bears t0 a1 a2 a3 a4 S K) : TJ Γ N0 0 0 0 [(0, .ref (xad Γ t0)), (1, .int a1), (2, .int a2), (3, .int a3), (4, .int a4)] [] S := by
  unfold Ru_bears at hf
  refine tj_aload_n C 0 rfl rfl dX8_bears_0 ?_
  refine gf_X8_15 C h_t0.2 h_t0.1 dX8_bears_1 ?_
  refine tj_if_eq C 26 (by decide) dX8_bears_4 (fun hc => ?_) (fun hc => ?_)
  · replace hf := hf.1 hc
    exact tj_sub [0, 2, 3, 4] (w_Ru_bears_b26 C hw hR r h_t0 hf) rfl
  · replace hf := hf.2 hc
    refine tj_aload_n C 0 rfl rfl dX8_bears_7 ?_
    refine gf_X8_15 C h_t0.2 h_t0.1 dX8_bears_8 ?_
    refine tj_iconst C kc_1 dX8_bears_11 ?_
    refine tj_icmp_ne C 19 (by decide) dX8_bears_12 (fun hc => ?_) (fun hc => ?_)
    · replace hf := hf.2 hc
      refine tj_iconst C kc_0 dX8_bears_19 ?_
      exact w_Ru_bears_b20 C hw hR r h_t0 hf
    · replace hf := hf.1 hc
      refine tj_iconst C kc_1 dX8_bears_15 ?_
      refine tj_goto C 20 (by decide) dX8_bears_16 ?_
      exact w_Ru_bears_b20 C hw hR r h_t0 hf
theorem c_Ru_bears {l : Launch} {G : tG} {ad : Nat → Nat} {A : Nat → Prop} {S : tS} {K : Int32 → tS → Prop} {t0 : Nat} {a1 : Int32} {a2 : Int32} {a3 : Int32} {a4 : Int32} (h_t0 : gN S t0 ≠ 0 ∧ t0 % 32 = 7) (hf : Ru_bears t0 a1 a2 a3 a4 S K) : Met l yX8_bears (ws_ yX8_bears cX8_bears 5 (some .boolean)) (tRm 1 22) (va_Pc [.ref (ad t0), .int a1, .int a2, .int a3, .int a4] (tPre G ad A S)) (va_Qi (fun r u => r &&& 1 = r ∧ K r u) (tB G ad A (gN S)) A) 0 0 A :=
  tj_met_z [(0, .ref (ad t0)), (1, .int a1), (2, .int a2), (3, .int a3), (4, .int a4)] pn_X8 rfl (Nat.le_of_ble_eq_true rfl) (fun p e R s m args below meth c Q C hw r => w_Ru_bears_b0 C hw rfl r h_t0 hf)
theorem w_Co_first_l3 {Γ : tX} {N0 : Nat → Nat} {K : Int32 → tS → Prop} (C : TC Γ cX5_first RX5 2 46) (hw : tWf N0) (hR : xnL Γ = 6) (r : TRi Γ N0 cX5_first K) {t0 : Nat} {a1 : Int32} {a2 : Int32} {a3 : Int32} {a4 : Int32} (h_t0 : N0 t0 ≠ 0 ∧ t0 % 32 = 6) : ∀ (n : Nat) (a5 : Int32) (S : tS), Co_first_l3 t0 a1 a2 a3 a4 K n a5 S → TJ Γ N0 0 0 3 [(0, .ref (xad Γ t0)), (1, .int a1), (2, .int a2), (3, .int a3), (4, .int a4), (5, .int a5)] [] S := by
  intro n
  induction n with
  | zero => intro a5 S hf; exact hf.elim
  | succ n ih =>
    intro a5 S hf
    unfold Co_first_l3 at hf
    refine tj_iload C 5 rfl dX5_first_3 ?_
    refine tj_aload_n C 0 rfl rfl dX5_first_5 ?_
    refine gf_X5_68 C h_t0.2 h_t0.1 dX5_first_6 ?_
    refine tj_icmp_ge C 39 (by decide) dX5_first_9 (fun hc => ?_) (fun hc => ?_)
    · replace hf := hf.1 hc
      refine tj_iconst C kc_m1 dX5_first_39 ?_
      exact r _ _ _ _ dX5_first_40 hf
    · replace hf := hf.2 hc
      refine tj_aload_n C 0 rfl rfl dX5_first_12 ?_
      refine gf_X5_57 C h_t0.2 h_t0.1 dX5_first_13 ?_
      refine tj_iload C 5 rfl dX5_first_16 ?_
      refine tj_aald23 C (t0 + 497) 8 (by have := h_t0.2; omega) (lnc_497 hw h_t0.2 h_t0.1) _ rfl hf.1 dX5_first_18 ?_
      replace hf := hf.2
      refine tj_hN (fun hN => ?_)
      obtain ⟨t1, he, h_t1, hf⟩ := hf
      rw [hN] at h_t1
      refine tj_some he ?_
      refine tj_iload_n C 1 rfl rfl dX5_first_19 ?_
      refine tj_iload_n C 2 rfl rfl dX5_first_20 ?_
      refine tj_iload_n C 3 rfl rfl dX5_first_21 ?_
      refine tj_iload C 4 rfl dX5_first_22 ?_
      refine tj_callVz C (k := 7) [.int a1, .int a2, .int a3, .int a4] [] (fun hN => c_Ru_bears (by rw [hN]; exact ⟨h_t1.1, h_t1.2⟩) hf) lk_X5_100 ty_X8_bears rfl (Nat.le_of_ble_eq_true rfl) (Nat.le_of_ble_eq_true rfl) (Nat.le_of_ble_eq_true rfl) h_t1.1 h_t1.2 (by decide) rfl rfl dX5_first_24 (fun r3 S2 hf => ?_)
      have hz_r3 := hf.1
      replace hf := hf.2
      refine tj_if_eq C 33 (by decide) dX5_first_27 (fun hc => ?_) (fun hc => ?_)
      · replace hf := hf.1 hc
        obtain ⟨x4, ex⟩ : ∃ y : Int32, y = a5 + nI 1 := ⟨_, rfl⟩
        refine tj_iinc C (by rw [hR]; decide) 5 [(5, .int x4), (0, .ref (xad Γ t0)), (1, .int a1), (2, .int a2), (3, .int a3), (4, .int a4)] rfl (by rw [ex]; exact ki_1 _) rfl dX5_first_33 ?_
        replace hf := hf x4 ex
        refine tj_goto C 3 (by decide) dX5_first_36 ?_
        exact tj_sub [1, 2, 3, 4, 5, 0] (ih _ _ hf) rfl
      · replace hf := hf.2 hc
        refine tj_iload C 5 rfl dX5_first_30 ?_
        exact r _ _ _ _ dX5_first_32 hf
theorem w_Co_first_b0 {Γ : tX} {N0 : Nat → Nat} {K : Int32 → tS → Prop} (C : TC Γ cX5_first RX5 2 46) (hw : tWf N0) (hR : xnL Γ = 6) (r : TRi Γ N0 cX5_first K) {t0 : Nat} {a1 : Int32} {a2 : Int32} {a3 : Int32} {a4 : Int32} (h_t0 : N0 t0 ≠ 0 ∧ t0 % 32 = 6) {S : tS} (hf : Co_first t0 a1 a2 a3 a4 S K) : TJ Γ N0 0 0 0 [(0, .ref (xad Γ t0)), (1, .int a1), (2, .int a2), (3, .int a3), (4, .int a4)] [] S := by
  unfold Co_first at hf
  refine tj_iconst C kc_0 dX5_first_0 ?_
  refine tj_istore C (by rw [hR]; decide) [(5, .int (nI 0)), (0, .ref (xad Γ t0)), (1, .int a1), (2, .int a2), (3, .int a3), (4, .int a4)] rfl dX5_first_1 ?_
  exact tj_sub [1, 2, 3, 4, 5, 0] (hf.elim fun k hf => w_Co_first_l3 C hw hR r h_t0 k _ _ hf) rfl
theorem c_Co_first {l : Launch} {G : tG} {ad : Nat → Nat} {A : Nat → Prop} {S : tS} {K : Int32 → tS → Prop} {t0 : Nat} {a1 : Int32} {a2 : Int32} {a3 : Int32} {a4 : Int32} (h_t0 : gN S t0 ≠ 0 ∧ t0 % 32 = 6) (hf : Co_first t0 a1 a2 a3 a4 S K) : Met l yX5_first (ws_ yX5_first cX5_first 6 (some .int)) (tRm 2 46) (va_Pc [.ref (ad t0), .int a1, .int a2, .int a3, .int a4] (tPre G ad A S)) (va_Qi K (tB G ad A (gN S)) A) 0 0 A :=
  tj_met_i [(0, .ref (ad t0)), (1, .int a1), (2, .int a2), (3, .int a3), (4, .int a4)] pn_X5 rfl (Nat.le_of_ble_eq_true rfl) (fun p e R s m args below meth c Q C hw r => w_Co_first_b0 C hw rfl r h_t0 hf)
theorem w_Co_shows_b0 {Γ : tX} {N0 : Nat → Nat} {K : Int32 → tS → Prop} (C : TC Γ cX5_shows RX5 3 71) (hw : tWf N0) (hR : xnL Γ = 6) (r : TRi Γ N0 cX5_shows K) {t0 : Nat} {a1 : Int32} {a2 : Int32} {a3 : Int32} {a4 : Int32} (h_t0 : N0 t0 ≠ 0 ∧ t0 % 32 = 6) {S : tS} (hf : Co_shows t0 a1 a2 a3 a4 S K) : TJ Γ N0 0 0 0 [(0, .ref (xad Γ t0)), (1, .int a1), (2, .int a2), (3, .int a3), (4, .int a4)] [] S := by
  unfold Co_shows at hf
  refine tj_aload_n C 0 rfl rfl dX5_shows_0 ?_
  refine tj_iload_n C 1 rfl rfl dX5_shows_1 ?_
  refine tj_iload_n C 2 rfl rfl dX5_shows_2 ?_
  refine tj_iload_n C 3 rfl rfl dX5_shows_3 ?_
  refine tj_iload C 4 rfl dX5_shows_4 ?_
  refine tj_callVi C (k := 6) [.int a1, .int a2, .int a3, .int a4] [] (fun hN => c_Co_first (by rw [hN]; exact ⟨h_t0.1, h_t0.2⟩) hf) lk_X5_104 ty_X5_first rfl (Nat.le_of_ble_eq_true rfl) (Nat.le_of_ble_eq_true rfl) (Nat.le_of_ble_eq_true rfl) h_t0.1 h_t0.2 (by decide) rfl rfl dX5_shows_6 (fun r2 S1 hf => ?_)
  refine tj_istore C (by rw [hR]; decide) [(5, .int r2), (0, .ref (xad Γ t0)), (1, .int a1), (2, .int a2), (3, .int a3), (4, .int a4)] rfl dX5_shows_9 ?_
  refine tj_iload C 0 rfl dX5_shows_11 ?_
  refine tj_if_ge C 23 (by decide) dX5_shows_13 (fun hc => ?_) (fun hc => ?_)
  · replace hf := hf.1 hc
    refine tj_aload_n C 1 rfl rfl dX5_shows_23 ?_
    refine gf_X5_57 C h_t0.2 h_t0.1 dX5_shows_24 ?_
    refine tj_iload C 0 rfl dX5_shows_27 ?_
    refine tj_aald23 C (t0 + 497) 8 (by have := h_t0.2; omega) (lnc_497 hw h_t0.2 h_t0.1) _ rfl hf.1 dX5_shows_29 ?_
    replace hf := hf.2
    refine tj_hN (fun hN => ?_)
    obtain ⟨t3, he, h_t3, hf⟩ := hf
    rw [hN] at h_t3
    refine tj_some he ?_
    refine gf_X5_108 C h_t3.2 h_t3.1 dX5_shows_30 ?_
    exact r _ _ _ _ dX5_shows_33 hf
  · replace hf := hf.2 hc
    refine tj_aload_n C 1 rfl rfl dX5_shows_16 ?_
    refine gf_X5_65 C h_t0.2 h_t0.1 dX5_shows_17 ?_
    refine tj_goto C 33 (by decide) dX5_shows_20 ?_
    exact r _ _ _ _ dX5_shows_33 hf
theorem c_Co_shows {l : Launch} {G : tG} {ad : Nat → Nat} {A : Nat → Prop} {S : tS} {K : Int32 → tS → Prop} {t0 : Nat} {a1 : Int32} {a2 : Int32} {a3 : Int32} {a4 : Int32} (h_t0 : gN S t0 ≠ 0 ∧ t0 % 32 = 6) (hf : Co_shows t0 a1 a2 a3 a4 S K) : Met l yX5_shows (ws_ yX5_shows cX5_shows 6 (some .int)) (tRm 3 71) (va_Pc [.ref (ad t0), .int a1, .int a2, .int a3, .int a4] (tPre G ad A S)) (va_Qi K (tB G ad A (gN S)) A) 0 0 A :=
  tj_met_i [(0, .ref (ad t0)), (1, .int a1), (2, .int a2), (3, .int a3), (4, .int a4)] pn_X5 rfl (Nat.le_of_ble_eq_true rfl) (fun p e R s m args below meth c Q C hw r => w_Co_shows_b0 C hw rfl r h_t0 hf)
theorem w_X_shownIf_b14 {Γ : tX} {N0 : Nat → Nat} {K : Int32 → tS → Prop} (C : TC Γ cX0_shownIf RX0 4 96) (hw : tWf N0) (hR : xnL Γ = 4) (r : TRi Γ N0 cX0_shownIf K) {a1 : Int32} {a2 : Int32} {a3 : Int32} (hX : N0 1025 ≠ 0) {s1 : Int32} {S : tS} (hf : X_shownIf_b14 a1 a2 a3 K s1 S) : TJ Γ N0 0 0 14 [(0, .ref (xad Γ 1025)), (1, .int a1), (3, .int a3)] [.int s1, .ref (xad Γ 1222)] S := by
  unfold X_shownIf_b14 at hf
  refine tj_aload_n C 0 rfl rfl dX0_shownIf_14 ?_
  refine tj_callVa C (k := 1) [] [.int s1, .ref (xad Γ 1222)] (fun hN => c_X_at (by rw [hN]; exact hX) hf) lk_X0_168 ty_X0_at rfl (Nat.le_of_ble_eq_true rfl) (Nat.le_of_ble_eq_true rfl) (Nat.le_of_ble_eq_true rfl) hX rfl (by decide) rfl rfl dX0_shownIf_15 (fun S2 hf => ?_)
  refine gf_X0_308 C rfl (ne0 (ln_1222 hw hX)) dX0_shownIf_18 ?_
  refine tj_iload_n C 1 rfl rfl dX0_shownIf_21 ?_
  refine tj_iald C 1424 6 rfl (ln_1424 hw hX) _ rfl hf.1 dX0_shownIf_22 ?_
  replace hf := hf.2
  refine tj_iload_n C 2 rfl rfl dX0_shownIf_23 ?_
  refine tj_aload_n C 0 rfl rfl dX0_shownIf_24 ?_
  refine tj_callVa C (k := 1) [] [.int a3, .int (gI S2 1424 (a1.toNatClampNeg)), .int s1, .ref (xad Γ 1222)] (fun hN => c_X_at (by rw [hN]; exact hX) hf) lk_X0_168 ty_X0_at rfl (Nat.le_of_ble_eq_true rfl) (Nat.le_of_ble_eq_true rfl) (Nat.le_of_ble_eq_true rfl) hX rfl (by decide) rfl rfl dX0_shownIf_25 (fun S3 hf => ?_)
  refine gf_X0_311 C rfl (ne0 (ln_1222 hw hX)) dX0_shownIf_28 ?_
  refine tj_iload_n C 1 rfl rfl dX0_shownIf_31 ?_
  refine tj_iald C 1456 6 rfl (ln_1456 hw hX) _ rfl hf.1 dX0_shownIf_32 ?_
  replace hf := hf.2
  refine tj_callVi C (k := 6) [.int s1, .int (gI S2 1424 (a1.toNatClampNeg)), .int a3, .int (gI S3 1456 (a1.toNatClampNeg))] [] (fun hN => c_Co_shows (by rw [hN]; exact ⟨(ne0 (ln_1222 hw hX)), rfl⟩) hf) lk_X0_397 ty_X5_shows rfl (Nat.le_of_ble_eq_true rfl) (Nat.le_of_ble_eq_true rfl) (Nat.le_of_ble_eq_true rfl) (ne0 (ln_1222 hw hX)) rfl (by decide) rfl rfl dX0_shownIf_33 (fun r5 S4 hf => ?_)
  exact r _ _ _ _ dX0_shownIf_36 hf
theorem w_X_shownIf_b0 {Γ : tX} {N0 : Nat → Nat} {K : Int32 → tS → Prop} (C : TC Γ cX0_shownIf RX0 4 96) (hw : tWf N0) (hR : xnL Γ = 4) (r : TRi Γ N0 cX0_shownIf K) {a1 : Int32} {a2 : Int32} {a3 : Int32} (hX : N0 1025 ≠ 0) {S : tS} (hf : X_shownIf a1 a2 a3 S K) : TJ Γ N0 0 0 0 [(0, .ref (xad Γ 1025)), (1, .int a1), (2, .int a2), (3, .int a3)] [] S := by
  unfold X_shownIf at hf
  refine tj_aload_n C 0 rfl rfl dX0_shownIf_0 ?_
  refine tj_callVa C (k := 1) [] [] (fun hN => c_X_at (by rw [hN]; exact hX) hf) lk_X0_168 ty_X0_at rfl (Nat.le_of_ble_eq_true rfl) (Nat.le_of_ble_eq_true rfl) (Nat.le_of_ble_eq_true rfl) hX rfl (by decide) rfl rfl dX0_shownIf_1 (fun S1 hf => ?_)
  refine tj_iload_n C 2 rfl rfl dX0_shownIf_4 ?_
  refine tj_iconst C kc_1 dX0_shownIf_5 ?_
  refine tj_icmp_ne C 13 (by decide) dX0_shownIf_6 (fun hc => ?_) (fun hc => ?_)
  · replace hf := hf.2 hc
    refine tj_iconst C kc_0 dX0_shownIf_13 ?_
    exact tj_sub [0, 1, 3] (w_X_shownIf_b14 C hw hR r hX hf) rfl
  · replace hf := hf.1 hc
    refine tj_iconst C kc_1 dX0_shownIf_9 ?_
    refine tj_goto C 14 (by decide) dX0_shownIf_10 ?_
    exact tj_sub [0, 1, 3] (w_X_shownIf_b14 C hw hR r hX hf) rfl
theorem c_X_shownIf {l : Launch} {G : tG} {ad : Nat → Nat} {A : Nat → Prop} {S : tS} {K : Int32 → tS → Prop} {a1 : Int32} {a2 : Int32} {a3 : Int32} (hX : gN S 1025 ≠ 0) (hf : X_shownIf a1 a2 a3 S K) : Met l yX0_shownIf (ws_ yX0_shownIf cX0_shownIf 4 (some .int)) (tRm 4 96) (va_Pc [.ref (ad 1025), .int a1, .int a2, .int a3] (tPre G ad A S)) (va_Qi K (tB G ad A (gN S)) A) 0 0 A :=
  tj_met_i [(0, .ref (ad 1025)), (1, .int a1), (2, .int a2), (3, .int a3)] pn_X0 rfl (Nat.le_of_ble_eq_true rfl) (fun p e R s m args below meth c Q C hw r => w_X_shownIf_b0 C hw rfl r hX hf)
theorem w_X_laysFits_b248 {Γ : tX} {N0 : Nat → Nat} {K : tS → Prop} (C : TC Γ cX0_laysFits RX0 5 119) (hw : tWf N0) (hR : xnL Γ = 7) (r : TRv Γ N0 cX0_laysFits K) {a1 : Int32} {a2 : Int32} (hX : N0 1025 ≠ 0) {KX : tS → Prop} (rx : TRX Γ N0 RX3 1156 KX) {κ172 : Nat → Int32 → tS → Prop} (hκ172 : ∀ (a3 : Nat) (a4 : Int32) (S : tS), (N0 a3 ≠ 0 ∧ (16 ≤ a3 % 32 ∧ a3 % 32 ≤ 19)) → κ172 a3 a4 S → TJ Γ N0 0 0 172 [(0, .ref (xad Γ 1025)), (2, .int a2), (3, .ref (xad Γ a3)), (4, .int a4)] [] S) {κ192 : Nat → Int32 → Int32 → Int32 → tS → Prop} (hκ192 : ∀ (a3 : Nat) (a4 : Int32) (a5 : Int32) (a6 : Int32) (S : tS), (N0 a3 ≠ 0 ∧ (16 ≤ a3 % 32 ∧ a3 % 32 ≤ 19)) → κ192 a3 a4 a5 a6 S → TJ Γ N0 0 0 192 [(0, .ref (xad Γ 1025)), (2, .int a2), (3, .ref (xad Γ a3)), (4, .int a4), (5, .int a5), (6, .int a6)] [] S) {a3 : Nat} {a4 : Int32} {a5 : Int32} {a6 : Int32} (h_a3 : N0 a3 ≠ 0 ∧ (16 ≤ a3 % 32 ∧ a3 % 32 ≤ 19)) {S : tS} (hf : X_laysFits_b248 a1 a2 K KX κ172 κ192 a3 a4 a5 a6 S) : TJ Γ N0 0 0 248 [(0, .ref (xad Γ 1025)), (2, .int a2), (3, .ref (xad Γ a3)), (4, .int a4), (5, .int a5), (6, .int a6)] [] S := by
  unfold X_laysFits_b248 at hf
  obtain ⟨x43, ex⟩ : ∃ y : Int32, y = a6 + nI 1 := ⟨_, rfl⟩
  refine tj_iinc C (by rw [hR]; decide) 5 [(6, .int x43), (0, .ref (xad Γ 1025)), (2, .int a2), (3, .ref (xad Γ a3)), (4, .int a4), (5, .int a5)] rfl (by rw [ex]; exact ki_1 _) rfl dX0_laysFits_248 ?_
  replace hf := hf x43 ex
  refine tj_goto C 192 (by decide) dX0_laysFits_251 ?_
  exact tj_sub [1, 2, 3, 4, 5, 0] (hκ192 _ _ _ _ _ ⟨h_a3.1, h_a3.2⟩ hf) rfl
theorem w_X_laysFits_l192 {Γ : tX} {N0 : Nat → Nat} {K : tS → Prop} (C : TC Γ cX0_laysFits RX0 5 119) (hw : tWf N0) (hR : xnL Γ = 7) (r : TRv Γ N0 cX0_laysFits K) {a1 : Int32} {a2 : Int32} (hX : N0 1025 ≠ 0) {KX : tS → Prop} (rx : TRX Γ N0 RX3 1156 KX) {κ172 : Nat → Int32 → tS → Prop} (hκ172 : ∀ (a3 : Nat) (a4 : Int32) (S : tS), (N0 a3 ≠ 0 ∧ (16 ≤ a3 % 32 ∧ a3 % 32 ≤ 19)) → κ172 a3 a4 S → TJ Γ N0 0 0 172 [(0, .ref (xad Γ 1025)), (2, .int a2), (3, .ref (xad Γ a3)), (4, .int a4)] [] S) : ∀ (n : Nat) (a3 : Nat) (a4 : Int32) (a5 : Int32) (a6 : Int32) (S : tS), (N0 a3 ≠ 0 ∧ (16 ≤ a3 % 32 ∧ a3 % 32 ≤ 19)) → X_laysFits_l192 a1 a2 K KX κ172 n a3 a4 a5 a6 S → TJ Γ N0 0 0 192 [(0, .ref (xad Γ 1025)), (2, .int a2), (3, .ref (xad Γ a3)), (4, .int a4), (5, .int a5), (6, .int a6)] [] S := by
  intro n
  induction n with
  | zero => intro a3 a4 a5 a6 S h_a3 hf; exact hf.elim
  | succ n ih =>
    intro a3 a4 a5 a6 S h_a3 hf
    unfold X_laysFits_l192 at hf
    refine tj_iload C 5 rfl dX0_laysFits_192 ?_
    refine tj_iconst C kc_2 dX0_laysFits_194 ?_
    refine tj_icmp_ge C 254 (by decide) dX0_laysFits_195 (fun hc => ?_) (fun hc => ?_)
    · replace hf := hf.1 hc
      obtain ⟨x35, ex⟩ : ∃ y : Int32, y = a4 + nI 1 := ⟨_, rfl⟩
      refine tj_iinc C (by rw [hR]; decide) 3 [(4, .int x35), (0, .ref (xad Γ 1025)), (2, .int a2), (3, .ref (xad Γ a3)), (5, .int a5), (6, .int a6)] rfl (by rw [ex]; exact ki_1 _) rfl dX0_laysFits_254 ?_
      replace hf := hf x35 ex
      refine tj_goto C 172 (by decide) dX0_laysFits_257 ?_
      exact tj_sub [1, 2, 3, 0] (hκ172 _ _ _ ⟨h_a3.1, h_a3.2⟩ hf) rfl
    · replace hf := hf.2 hc
      refine tj_aload_n C 0 rfl rfl dX0_laysFits_198 ?_
      refine tj_iload C 4 rfl dX0_laysFits_199 ?_
      refine tj_iload C 5 rfl dX0_laysFits_201 ?_
      refine tj_aload_n C 2 rfl rfl dX0_laysFits_203 ?_
      refine tj_iconst C kc_3 dX0_laysFits_204 ?_
      refine tj_iload C 3 rfl dX0_laysFits_205 ?_
      refine tj_imul C dX0_laysFits_207 ?_
      refine tj_iconst C kc_1 dX0_laysFits_208 ?_
      refine tj_iadd C dX0_laysFits_209 ?_
      refine tj_callSl C [.ref (xad Γ a3), .int (((nI 3) * a4) + (nI 1))] [.int a6, .int a5, .ref (xad Γ 1025)] (fun hN => c_X_number (by rw [hN]; exact ⟨h_a3.1, h_a3.2⟩) hf) lk_X0_143 ty_X0_number rfl (Nat.le_of_ble_eq_true rfl) (Nat.le_of_ble_eq_true rfl) (Nat.le_of_ble_eq_true rfl) rfl dX0_laysFits_210 (fun r37 S36 hf => ?_)
      refine tj_l2i C dX0_laysFits_213 ?_
      refine tj_callVi C (k := 1) [.int a5, .int a6, .int (r37.toInt32)] [] (fun hN => c_X_shownIf (by rw [hN]; exact hX) hf) lk_X0_393 ty_X0_shownIf rfl (Nat.le_of_ble_eq_true rfl) (Nat.le_of_ble_eq_true rfl) (Nat.le_of_ble_eq_true rfl) hX rfl (by decide) rfl rfl dX0_laysFits_214 (fun r39 S38 hf => ?_)
      refine tj_i2l C dX0_laysFits_217 ?_
      refine tj_aload_n C 2 rfl rfl dX0_laysFits_218 ?_
      refine tj_iconst C kc_3 dX0_laysFits_219 ?_
      refine tj_iload C 3 rfl dX0_laysFits_220 ?_
      refine tj_imul C dX0_laysFits_222 ?_
      refine tj_iconst C kc_2 dX0_laysFits_223 ?_
      refine tj_iadd C dX0_laysFits_224 ?_
      refine tj_callSl C [.ref (xad Γ a3), .int (((nI 3) * a4) + (nI 2))] [.long (r39.toInt64)] (fun hN => c_X_number (by rw [hN]; exact ⟨h_a3.1, h_a3.2⟩) hf) lk_X0_143 ty_X0_number rfl (Nat.le_of_ble_eq_true rfl) (Nat.le_of_ble_eq_true rfl) (Nat.le_of_ble_eq_true rfl) rfl dX0_laysFits_225 (fun r41 S40 hf => ?_)
      refine tj_lcmp C dX0_laysFits_228 ?_
      refine tj_if_eq C 248 (by decide) dX0_laysFits_229 (fun hc => ?_) (fun hc => ?_)
      · replace hf := hf.1 hc
        exact w_X_laysFits_b248 C hw hR r hX rx hκ172 ih ⟨h_a3.1, h_a3.2⟩ hf
      · replace hf := hf.2 hc
        refine tj_aload_n C 0 rfl rfl dX0_laysFits_232 ?_
        refine gf_X0_70 C hX dX0_laysFits_233 ?_
        refine tj_iload C 4 rfl dX0_laysFits_236 ?_
        refine tj_dup2 C rfl rfl dX0_laysFits_238 ?_
        refine tj_iald C 2288 6 rfl (ln_2288 hw hX) _ rfl hf.1 dX0_laysFits_239 ?_
        replace hf := hf.2
        refine tj_iconst C kc_1 dX0_laysFits_240 ?_
        refine tj_iload C 5 rfl dX0_laysFits_241 ?_
        refine tj_ishl C dX0_laysFits_243 ?_
        refine tj_iconst C kc_m1 dX0_laysFits_244 ?_
        refine tj_ixor C dX0_laysFits_245 ?_
        refine tj_iand C dX0_laysFits_246 ?_
        refine tj_iast C 2288 6 rfl (ln_2288 hw hX) _ rfl hf.1 dX0_laysFits_247 ?_
        replace hf := hf.2
        refine tj_topS (fun S42 eS => ?_)
        replace hf := hf S42 eS
        exact w_X_laysFits_b248 C hw hR r hX rx hκ172 ih ⟨h_a3.1, h_a3.2⟩ hf
theorem w_X_laysFits_l172 {Γ : tX} {N0 : Nat → Nat} {K : tS → Prop} (C : TC Γ cX0_laysFits RX0 5 119) (hw : tWf N0) (hR : xnL Γ = 7) (r : TRv Γ N0 cX0_laysFits K) {a1 : Int32} {a2 : Int32} (hX : N0 1025 ≠ 0) {KX : tS → Prop} (rx : TRX Γ N0 RX3 1156 KX) : ∀ (n : Nat) (a3 : Nat) (a4 : Int32) (S : tS), (N0 a3 ≠ 0 ∧ (16 ≤ a3 % 32 ∧ a3 % 32 ≤ 19)) → X_laysFits_l172 a1 a2 K KX n a3 a4 S → TJ Γ N0 0 0 172 [(0, .ref (xad Γ 1025)), (2, .int a2), (3, .ref (xad Γ a3)), (4, .int a4)] [] S := by
  intro n
  induction n with
  | zero => intro a3 a4 S h_a3 hf; exact hf.elim
  | succ n ih =>
    intro a3 a4 S h_a3 hf
    unfold X_laysFits_l172 at hf
    refine tj_iload C 3 rfl dX0_laysFits_172 ?_
    refine tj_iload_n C 1 rfl rfl dX0_laysFits_174 ?_
    refine tj_icmp_ge C 260 (by decide) dX0_laysFits_175 (fun hc => ?_) (fun hc => ?_)
    · replace hf := hf.1 hc
      exact r _ _ _ dX0_laysFits_260 hf
    · replace hf := hf.2 hc
      refine tj_aload_n C 2 rfl rfl dX0_laysFits_178 ?_
      refine tj_iconst C kc_3 dX0_laysFits_179 ?_
      refine tj_iload C 3 rfl dX0_laysFits_180 ?_
      refine tj_imul C dX0_laysFits_182 ?_
      refine tj_callSl C [.ref (xad Γ a3), .int ((nI 3) * a4)] [] (fun hN => c_X_number (by rw [hN]; exact ⟨h_a3.1, h_a3.2⟩) hf) lk_X0_143 ty_X0_number rfl (Nat.le_of_ble_eq_true rfl) (Nat.le_of_ble_eq_true rfl) (Nat.le_of_ble_eq_true rfl) rfl dX0_laysFits_183 (fun r33 S32 hf => ?_)
      refine tj_l2i C dX0_laysFits_186 ?_
      refine tj_topi (fun x34 ex => ?_)
      replace hf := hf x34 ex
      refine tj_istore C (by rw [hR]; decide) [(5, .int x34), (0, .ref (xad Γ 1025)), (2, .int a2), (3, .ref (xad Γ a3)), (4, .int a4)] rfl dX0_laysFits_187 ?_
      refine tj_iconst C kc_0 dX0_laysFits_189 ?_
      refine tj_istore C (by rw [hR]; decide) [(6, .int (nI 0)), (5, .int x34), (0, .ref (xad Γ 1025)), (2, .int a2), (3, .ref (xad Γ a3)), (4, .int a4)] rfl dX0_laysFits_190 ?_
      exact tj_sub [2, 3, 4, 5, 1, 0] (hf.elim fun k hf => w_X_laysFits_l192 C hw hR r hX rx ih k _ _ _ _ _ ⟨h_a3.1, h_a3.2⟩ hf) rfl
theorem w_X_laysFits_l148 {Γ : tX} {N0 : Nat → Nat} {K : tS → Prop} (C : TC Γ cX0_laysFits RX0 5 119) (hw : tWf N0) (hR : xnL Γ = 7) (r : TRv Γ N0 cX0_laysFits K) {a1 : Int32} {a2 : Int32} (hX : N0 1025 ≠ 0) {KX : tS → Prop} (rx : TRX Γ N0 RX3 1156 KX) : ∀ (n : Nat) (a3 : Nat) (a4 : Int32) (S : tS), (N0 a3 ≠ 0 ∧ (16 ≤ a3 % 32 ∧ a3 % 32 ≤ 19)) → X_laysFits_l148 a1 a2 K KX n a3 a4 S → TJ Γ N0 0 0 148 [(0, .ref (xad Γ 1025)), (2, .int a2), (3, .ref (xad Γ a3)), (4, .int a4)] [] S := by
  intro n
  induction n with
  | zero => intro a3 a4 S h_a3 hf; exact hf.elim
  | succ n ih =>
    intro a3 a4 S h_a3 hf
    unfold X_laysFits_l148 at hf
    refine tj_iload C 3 rfl dX0_laysFits_148 ?_
    refine tj_bipush C kb_6 dX0_laysFits_150 ?_
    refine tj_icmp_ge C 169 (by decide) dX0_laysFits_152 (fun hc => ?_) (fun hc => ?_)
    · replace hf := hf.1 hc
      refine tj_iconst C kc_0 dX0_laysFits_169 ?_
      refine tj_istore C (by rw [hR]; decide) [(4, .int (nI 0)), (0, .ref (xad Γ 1025)), (2, .int a2), (3, .ref (xad Γ a3))] rfl dX0_laysFits_170 ?_
      exact tj_sub [1, 2, 3, 0] (hf.elim fun k hf => w_X_laysFits_l172 C hw hR r hX rx k _ _ _ ⟨h_a3.1, h_a3.2⟩ hf) rfl
    · replace hf := hf.2 hc
      refine tj_aload_n C 0 rfl rfl dX0_laysFits_155 ?_
      refine gf_X0_70 C hX dX0_laysFits_156 ?_
      refine tj_iload C 3 rfl dX0_laysFits_159 ?_
      refine tj_iconst C kc_3 dX0_laysFits_161 ?_
      refine tj_iast C 2288 6 rfl (ln_2288 hw hX) _ rfl hf.1 dX0_laysFits_162 ?_
      replace hf := hf.2
      refine tj_topS (fun S27 eS => ?_)
      replace hf := hf S27 eS
      obtain ⟨x28, ex⟩ : ∃ y : Int32, y = a4 + nI 1 := ⟨_, rfl⟩
      refine tj_iinc C (by rw [hR]; decide) 3 [(4, .int x28), (0, .ref (xad Γ 1025)), (2, .int a2), (3, .ref (xad Γ a3))] rfl (by rw [ex]; exact ki_1 _) rfl dX0_laysFits_163 ?_
      replace hf := hf x28 ex
      refine tj_goto C 148 (by decide) dX0_laysFits_166 ?_
      exact tj_sub [1, 2, 3, 0] (ih _ _ _ ⟨h_a3.1, h_a3.2⟩ hf) rfl
theorem w_X_laysFits_b135 {Γ : tX} {N0 : Nat → Nat} {K : tS → Prop} (C : TC Γ cX0_laysFits RX0 5 119) (hw : tWf N0) (hR : xnL Γ = 7) (r : TRv Γ N0 cX0_laysFits K) {a1 : Int32} {a2 : Int32} (hX : N0 1025 ≠ 0) {KX : tS → Prop} (rx : TRX Γ N0 RX3 1156 KX) {κ63 : Nat → Int32 → tS → Prop} (hκ63 : ∀ (a3 : Nat) (a4 : Int32) (S : tS), (N0 a3 ≠ 0 ∧ (16 ≤ a3 % 32 ∧ a3 % 32 ≤ 19)) → κ63 a3 a4 S → TJ Γ N0 0 0 63 [(0, .ref (xad Γ 1025)), (2, .int a2), (3, .ref (xad Γ a3)), (4, .int a4)] [] S) {a3 : Nat} {a4 : Int32} {s1 : Int32} (h_a3 : N0 a3 ≠ 0 ∧ (16 ≤ a3 % 32 ∧ a3 % 32 ≤ 19)) {S : tS} (hf : X_laysFits_b135 a1 a2 K KX κ63 a3 a4 s1 S) : TJ Γ N0 0 0 135 [(0, .ref (xad Γ 1025)), (2, .int a2), (3, .ref (xad Γ a3)), (4, .int a4)] [.int s1, .ref (xad Γ 1025)] S := by
  unfold X_laysFits_b135 at hf
  refine tj_iconst C kc_5 dX0_laysFits_135 ?_
  refine tj_xVv C (k := 1) [.int s1, .int (nI 5)] [] (fun hN => c_X_want (by rw [hN]; exact hX) hf) lk_X0_116 ty_X0_want rfl (Nat.le_of_ble_eq_true rfl) (Nat.le_of_ble_eq_true rfl) (Nat.le_of_ble_eq_true rfl) hX rfl (by decide) rfl rfl dX0_laysFits_136 (fun S30 hf => ?_) (fun S29 hf => ?_)
  · exact rx _ _ _ hf
  · obtain ⟨x31, ex⟩ : ∃ y : Int32, y = a4 + nI 1 := ⟨_, rfl⟩
    refine tj_iinc C (by rw [hR]; decide) 3 [(4, .int x31), (0, .ref (xad Γ 1025)), (2, .int a2), (3, .ref (xad Γ a3))] rfl (by rw [ex]; exact ki_1 _) rfl dX0_laysFits_139 ?_
    replace hf := hf x31 ex
    refine tj_goto C 63 (by decide) dX0_laysFits_142 ?_
    exact tj_sub [1, 2, 3, 0] (hκ63 _ _ _ ⟨h_a3.1, h_a3.2⟩ hf) rfl
theorem w_X_laysFits_b134 {Γ : tX} {N0 : Nat → Nat} {K : tS → Prop} (C : TC Γ cX0_laysFits RX0 5 119) (hw : tWf N0) (hR : xnL Γ = 7) (r : TRv Γ N0 cX0_laysFits K) {a1 : Int32} {a2 : Int32} (hX : N0 1025 ≠ 0) {KX : tS → Prop} (rx : TRX Γ N0 RX3 1156 KX) {κ63 : Nat → Int32 → tS → Prop} (hκ63 : ∀ (a3 : Nat) (a4 : Int32) (S : tS), (N0 a3 ≠ 0 ∧ (16 ≤ a3 % 32 ∧ a3 % 32 ≤ 19)) → κ63 a3 a4 S → TJ Γ N0 0 0 63 [(0, .ref (xad Γ 1025)), (2, .int a2), (3, .ref (xad Γ a3)), (4, .int a4)] [] S) {a3 : Nat} {a4 : Int32} (h_a3 : N0 a3 ≠ 0 ∧ (16 ≤ a3 % 32 ∧ a3 % 32 ≤ 19)) {S : tS} (hf : X_laysFits_b134 a1 a2 K KX κ63 a3 a4 S) : TJ Γ N0 0 0 134 [(0, .ref (xad Γ 1025)), (2, .int a2), (3, .ref (xad Γ a3)), (4, .int a4)] [.ref (xad Γ 1025)] S := by
  unfold X_laysFits_b134 at hf
  refine tj_iconst C kc_0 dX0_laysFits_134 ?_
  exact w_X_laysFits_b135 C hw hR r hX rx hκ63 ⟨h_a3.1, h_a3.2⟩ hf
theorem w_X_laysFits_l63 {Γ : tX} {N0 : Nat → Nat} {K : tS → Prop} (C : TC Γ cX0_laysFits RX0 5 119) (hw : tWf N0) (hR : xnL Γ = 7) (r : TRv Γ N0 cX0_laysFits K) {a1 : Int32} {a2 : Int32} (hX : N0 1025 ≠ 0) {KX : tS → Prop} (rx : TRX Γ N0 RX3 1156 KX) : ∀ (n : Nat) (a3 : Nat) (a4 : Int32) (S : tS), (N0 a3 ≠ 0 ∧ (16 ≤ a3 % 32 ∧ a3 % 32 ≤ 19)) → X_laysFits_l63 a1 a2 K KX n a3 a4 S → TJ Γ N0 0 0 63 [(0, .ref (xad Γ 1025)), (2, .int a2), (3, .ref (xad Γ a3)), (4, .int a4)] [] S := by
  intro n
  induction n with
  | zero => intro a3 a4 S h_a3 hf; exact hf.elim
  | succ n ih =>
    intro a3 a4 S h_a3 hf
    unfold X_laysFits_l63 at hf
    refine tj_iload C 3 rfl dX0_laysFits_63 ?_
    refine tj_iload_n C 1 rfl rfl dX0_laysFits_65 ?_
    refine tj_icmp_ge C 145 (by decide) dX0_laysFits_66 (fun hc => ?_) (fun hc => ?_)
    · replace hf := hf.1 hc
      refine tj_iconst C kc_0 dX0_laysFits_145 ?_
      refine tj_istore C (by rw [hR]; decide) [(4, .int (nI 0)), (0, .ref (xad Γ 1025)), (2, .int a2), (3, .ref (xad Γ a3))] rfl dX0_laysFits_146 ?_
      exact tj_sub [1, 2, 3, 0] (hf.elim fun k hf => w_X_laysFits_l148 C hw hR r hX rx k _ _ _ ⟨h_a3.1, h_a3.2⟩ hf) rfl
    · replace hf := hf.2 hc
      refine tj_aload_n C 0 rfl rfl dX0_laysFits_69 ?_
      refine tj_aload_n C 0 rfl rfl dX0_laysFits_70 ?_
      refine tj_aload_n C 2 rfl rfl dX0_laysFits_71 ?_
      refine tj_iconst C kc_3 dX0_laysFits_72 ?_
      refine tj_iload C 3 rfl dX0_laysFits_73 ?_
      refine tj_imul C dX0_laysFits_75 ?_
      refine tj_callSl C [.ref (xad Γ a3), .int ((nI 3) * a4)] [.ref (xad Γ 1025), .ref (xad Γ 1025)] (fun hN => c_X_number (by rw [hN]; exact ⟨h_a3.1, h_a3.2⟩) hf) lk_X0_143 ty_X0_number rfl (Nat.le_of_ble_eq_true rfl) (Nat.le_of_ble_eq_true rfl) (Nat.le_of_ble_eq_true rfl) rfl dX0_laysFits_76 (fun r15 S14 hf => ?_)
      refine tj_callVz C (k := 1) [.long r15] [.ref (xad Γ 1025)] (fun hN => c_X_isPerson (by rw [hN]; exact hX) hf) lk_X0_304 ty_X0_isPerson rfl (Nat.le_of_ble_eq_true rfl) (Nat.le_of_ble_eq_true rfl) (Nat.le_of_ble_eq_true rfl) hX rfl (by decide) rfl rfl dX0_laysFits_79 (fun r17 S16 hf => ?_)
      have hz_r17 := hf.1
      replace hf := hf.2
      refine tj_if_eq C 134 (by decide) dX0_laysFits_82 (fun hc => ?_) (fun hc => ?_)
      · replace hf := hf.1 hc
        exact w_X_laysFits_b134 C hw hR r hX rx ih ⟨h_a3.1, h_a3.2⟩ hf
      · replace hf := hf.2 hc
        refine tj_aload_n C 2 rfl rfl dX0_laysFits_85 ?_
        refine tj_iconst C kc_3 dX0_laysFits_86 ?_
        refine tj_iload C 3 rfl dX0_laysFits_87 ?_
        refine tj_imul C dX0_laysFits_89 ?_
        refine tj_iconst C kc_1 dX0_laysFits_90 ?_
        refine tj_iadd C dX0_laysFits_91 ?_
        refine tj_callSl C [.ref (xad Γ a3), .int (((nI 3) * a4) + (nI 1))] [.ref (xad Γ 1025)] (fun hN => c_X_number (by rw [hN]; exact ⟨h_a3.1, h_a3.2⟩) hf) lk_X0_143 ty_X0_number rfl (Nat.le_of_ble_eq_true rfl) (Nat.le_of_ble_eq_true rfl) (Nat.le_of_ble_eq_true rfl) rfl dX0_laysFits_92 (fun r19 S18 hf => ?_)
        refine tj_lconst C (v := lN 0) rfl dX0_laysFits_95 ?_
        refine tj_ldc2 C kl_X0_370 dX0_laysFits_96 ?_
        refine tj_callSz C [.long r19, .long (lN 0), .long (lN 9)] [.ref (xad Γ 1025)] (fun hN => c_X_isIn hf) lk_X0_175 ty_X0_isIn rfl (Nat.le_of_ble_eq_true rfl) (Nat.le_of_ble_eq_true rfl) (Nat.le_of_ble_eq_true rfl) rfl dX0_laysFits_99 (fun r21 S20 hf => ?_)
        have hz_r21 := hf.1
        replace hf := hf.2
        refine tj_if_eq C 134 (by decide) dX0_laysFits_102 (fun hc => ?_) (fun hc => ?_)
        · replace hf := hf.1 hc
          exact w_X_laysFits_b134 C hw hR r hX rx ih ⟨h_a3.1, h_a3.2⟩ hf
        · replace hf := hf.2 hc
          refine tj_aload_n C 2 rfl rfl dX0_laysFits_105 ?_
          refine tj_iconst C kc_3 dX0_laysFits_106 ?_
          refine tj_iload C 3 rfl dX0_laysFits_107 ?_
          refine tj_imul C dX0_laysFits_109 ?_
          refine tj_iconst C kc_2 dX0_laysFits_110 ?_
          refine tj_iadd C dX0_laysFits_111 ?_
          refine tj_callSl C [.ref (xad Γ a3), .int (((nI 3) * a4) + (nI 2))] [.ref (xad Γ 1025)] (fun hN => c_X_number (by rw [hN]; exact ⟨h_a3.1, h_a3.2⟩) hf) lk_X0_143 ty_X0_number rfl (Nat.le_of_ble_eq_true rfl) (Nat.le_of_ble_eq_true rfl) (Nat.le_of_ble_eq_true rfl) rfl dX0_laysFits_112 (fun r23 S22 hf => ?_)
          refine tj_lconst C (v := lN 0) rfl dX0_laysFits_115 ?_
          refine tj_aload_n C 0 rfl rfl dX0_laysFits_116 ?_
          refine tj_callVa C (k := 1) [] [.long (lN 0), .long r23, .ref (xad Γ 1025)] (fun hN => c_X_at (by rw [hN]; exact hX) hf) lk_X0_168 ty_X0_at rfl (Nat.le_of_ble_eq_true rfl) (Nat.le_of_ble_eq_true rfl) (Nat.le_of_ble_eq_true rfl) hX rfl (by decide) rfl rfl dX0_laysFits_117 (fun S24 hf => ?_)
          refine gf_X0_179 C rfl (ne0 (ln_1222 hw hX)) dX0_laysFits_120 ?_
          refine tj_i2l C dX0_laysFits_123 ?_
          refine tj_callSz C [.long r23, .long (lN 0), .long ((gI S24 1222 1).toInt64)] [.ref (xad Γ 1025)] (fun hN => c_X_isIn hf) lk_X0_175 ty_X0_isIn rfl (Nat.le_of_ble_eq_true rfl) (Nat.le_of_ble_eq_true rfl) (Nat.le_of_ble_eq_true rfl) rfl dX0_laysFits_124 (fun r26 S25 hf => ?_)
          have hz_r26 := hf.1
          replace hf := hf.2
          refine tj_if_eq C 134 (by decide) dX0_laysFits_127 (fun hc => ?_) (fun hc => ?_)
          · replace hf := hf.1 hc
            exact w_X_laysFits_b134 C hw hR r hX rx ih ⟨h_a3.1, h_a3.2⟩ hf
          · replace hf := hf.2 hc
            refine tj_iconst C kc_1 dX0_laysFits_130 ?_
            refine tj_goto C 135 (by decide) dX0_laysFits_131 ?_
            exact w_X_laysFits_b135 C hw hR r hX rx ih ⟨h_a3.1, h_a3.2⟩ hf
theorem w_X_laysFits_b56 {Γ : tX} {N0 : Nat → Nat} {K : tS → Prop} (C : TC Γ cX0_laysFits RX0 5 119) (hw : tWf N0) (hR : xnL Γ = 7) (r : TRv Γ N0 cX0_laysFits K) {a1 : Int32} {a2 : Int32} (hX : N0 1025 ≠ 0) {KX : tS → Prop} (rx : TRX Γ N0 RX3 1156 KX) {a3 : Nat} {s1 : Int32} (h_a3 : N0 a3 ≠ 0 ∧ (16 ≤ a3 % 32 ∧ a3 % 32 ≤ 19)) {S : tS} (hf : X_laysFits_b56 a1 a2 K KX a3 s1 S) : TJ Γ N0 0 0 56 [(0, .ref (xad Γ 1025)), (2, .int a2), (3, .ref (xad Γ a3))] [.int s1, .ref (xad Γ 1025)] S := by
  unfold X_laysFits_b56 at hf
  refine tj_iconst C kc_3 dX0_laysFits_56 ?_
  refine tj_xVv C (k := 1) [.int s1, .int (nI 3)] [] (fun hN => c_X_want (by rw [hN]; exact hX) hf) lk_X0_116 ty_X0_want rfl (Nat.le_of_ble_eq_true rfl) (Nat.le_of_ble_eq_true rfl) (Nat.le_of_ble_eq_true rfl) hX rfl (by decide) rfl rfl dX0_laysFits_57 (fun S13 hf => ?_) (fun S12 hf => ?_)
  · exact rx _ _ _ hf
  · refine tj_iconst C kc_0 dX0_laysFits_60 ?_
    refine tj_istore C (by rw [hR]; decide) [(4, .int (nI 0)), (0, .ref (xad Γ 1025)), (2, .int a2), (3, .ref (xad Γ a3))] rfl dX0_laysFits_61 ?_
    exact tj_sub [1, 2, 3, 0] (hf.elim fun k hf => w_X_laysFits_l63 C hw hR r hX rx k _ _ _ ⟨h_a3.1, h_a3.2⟩ hf) rfl
theorem w_X_laysFits_b30 {Γ : tX} {N0 : Nat → Nat} {K : tS → Prop} (C : TC Γ cX0_laysFits RX0 5 119) (hw : tWf N0) (hR : xnL Γ = 7) (r : TRv Γ N0 cX0_laysFits K) {a1 : Int32} {a2 : Int32} (hX : N0 1025 ≠ 0) {KX : tS → Prop} (rx : TRX Γ N0 RX3 1156 KX) {s1 : Int32} {S : tS} (hf : X_laysFits_b30 a1 a2 K KX s1 S) : TJ Γ N0 0 0 30 [(0, .ref (xad Γ 1025)), (1, .int a1), (2, .int a2)] [.int s1, .ref (xad Γ 1025)] S := by
  unfold X_laysFits_b30 at hf
  refine tj_iconst C kc_1 dX0_laysFits_30 ?_
  refine tj_xVv C (k := 1) [.int s1, .int (nI 1)] [] (fun hN => c_X_want (by rw [hN]; exact hX) hf) lk_X0_116 ty_X0_want rfl (Nat.le_of_ble_eq_true rfl) (Nat.le_of_ble_eq_true rfl) (Nat.le_of_ble_eq_true rfl) hX rfl (by decide) rfl rfl dX0_laysFits_31 (fun S6 hf => ?_) (fun S5 hf => ?_)
  · exact rx _ _ _ hf
  · refine tj_aload_n C 0 rfl rfl dX0_laysFits_34 ?_
    refine tj_iload_n C 1 rfl rfl dX0_laysFits_35 ?_
    refine tj_xVa C (k := 1) [.int a1] [] (fun hN => c_X_on (by rw [hN]; exact hX) hf) lk_X0_133 ty_X0_on rfl (Nat.le_of_ble_eq_true rfl) (Nat.le_of_ble_eq_true rfl) (Nat.le_of_ble_eq_true rfl) hX rfl (by decide) rfl rfl dX0_laysFits_36 (fun S8 hf => ?_) (fun t9 S7 hf hN => ?_)
    · exact rx _ _ _ hf
    · have h_t9 := hf.1
      rw [hN] at h_t9
      replace hf := hf.2
      refine tj_astore_n C (by rw [hR]; decide) [(3, .ref (xad Γ t9)), (0, .ref (xad Γ 1025)), (1, .int a1), (2, .int a2)] rfl rfl dX0_laysFits_39 ?_
      refine tj_aload_n C 1 rfl rfl dX0_laysFits_40 ?_
      refine tj_aload_n C 0 rfl rfl dX0_laysFits_41 ?_
      refine tj_callSi C [.ref (xad Γ t9)] [.ref (xad Γ 1025)] (fun hN => c_X_sizeOf (by rw [hN]; exact ⟨h_t9.1, h_t9.2⟩) hf) lk_X0_390 ty_X0_sizeOf rfl (Nat.le_of_ble_eq_true rfl) (Nat.le_of_ble_eq_true rfl) (Nat.le_of_ble_eq_true rfl) rfl dX0_laysFits_42 (fun r11 S10 hf => ?_)
      refine tj_iconst C kc_3 dX0_laysFits_45 ?_
      refine tj_iload_n C 3 rfl rfl dX0_laysFits_46 ?_
      refine tj_imul C dX0_laysFits_47 ?_
      refine tj_icmp_lt C 55 (by decide) dX0_laysFits_48 (fun hc => ?_) (fun hc => ?_)
      · replace hf := hf.1 hc
        refine tj_iconst C kc_0 dX0_laysFits_55 ?_
        exact tj_sub [1, 3, 0] (w_X_laysFits_b56 C hw hR r hX rx ⟨h_t9.1, h_t9.2⟩ hf) rfl
      · replace hf := hf.2 hc
        refine tj_iconst C kc_1 dX0_laysFits_51 ?_
        refine tj_goto C 56 (by decide) dX0_laysFits_52 ?_
        exact tj_sub [1, 3, 0] (w_X_laysFits_b56 C hw hR r hX rx ⟨h_t9.1, h_t9.2⟩ hf) rfl
theorem w_X_laysFits_b29 {Γ : tX} {N0 : Nat → Nat} {K : tS → Prop} (C : TC Γ cX0_laysFits RX0 5 119) (hw : tWf N0) (hR : xnL Γ = 7) (r : TRv Γ N0 cX0_laysFits K) {a1 : Int32} {a2 : Int32} (hX : N0 1025 ≠ 0) {KX : tS → Prop} (rx : TRX Γ N0 RX3 1156 KX) {S : tS} (hf : X_laysFits_b29 a1 a2 K KX  S) : TJ Γ N0 0 0 29 [(0, .ref (xad Γ 1025)), (1, .int a1), (2, .int a2)] [.ref (xad Γ 1025)] S := by
  unfold X_laysFits_b29 at hf
  refine tj_iconst C kc_0 dX0_laysFits_29 ?_
  exact w_X_laysFits_b30 C hw hR r hX rx hf
theorem w_X_laysFits_b0 {Γ : tX} {N0 : Nat → Nat} {K : tS → Prop} (C : TC Γ cX0_laysFits RX0 5 119) (hw : tWf N0) (hR : xnL Γ = 7) (r : TRv Γ N0 cX0_laysFits K) {a1 : Int32} {a2 : Int32} (hX : N0 1025 ≠ 0) {KX : tS → Prop} (rx : TRX Γ N0 RX3 1156 KX) {S : tS} (hf : X_laysFits a1 a2 S K KX) : TJ Γ N0 0 0 0 [(0, .ref (xad Γ 1025)), (1, .int a1), (2, .int a2)] [] S := by
  unfold X_laysFits at hf
  refine tj_aload_n C 0 rfl rfl dX0_laysFits_0 ?_
  refine tj_iload_n C 2 rfl rfl dX0_laysFits_1 ?_
  refine tj_i2l C dX0_laysFits_2 ?_
  refine tj_lconst C (v := lN 0) rfl dX0_laysFits_3 ?_
  refine tj_ldc2 C kl_X0_386 dX0_laysFits_4 ?_
  refine tj_callSz C [.long (a2.toInt64), .long (lN 0), .long (lN 20)] [.ref (xad Γ 1025)] (fun hN => c_X_isIn hf) lk_X0_175 ty_X0_isIn rfl (Nat.le_of_ble_eq_true rfl) (Nat.le_of_ble_eq_true rfl) (Nat.le_of_ble_eq_true rfl) rfl dX0_laysFits_7 (fun r2 S1 hf => ?_)
  have hz_r2 := hf.1
  replace hf := hf.2
  refine tj_if_eq C 29 (by decide) dX0_laysFits_10 (fun hc => ?_) (fun hc => ?_)
  · replace hf := hf.1 hc
    exact w_X_laysFits_b29 C hw hR r hX rx hf
  · replace hf := hf.2 hc
    refine tj_iload_n C 1 rfl rfl dX0_laysFits_13 ?_
    refine tj_i2l C dX0_laysFits_14 ?_
    refine tj_lconst C (v := lN 0) rfl dX0_laysFits_15 ?_
    refine tj_ldc2 C kl_X0_388 dX0_laysFits_16 ?_
    refine tj_callSz C [.long (a1.toInt64), .long (lN 0), .long (lN 3)] [.ref (xad Γ 1025)] (fun hN => c_X_isIn hf) lk_X0_175 ty_X0_isIn rfl (Nat.le_of_ble_eq_true rfl) (Nat.le_of_ble_eq_true rfl) (Nat.le_of_ble_eq_true rfl) rfl dX0_laysFits_19 (fun r4 S3 hf => ?_)
    have hz_r4 := hf.1
    replace hf := hf.2
    refine tj_if_eq C 29 (by decide) dX0_laysFits_22 (fun hc => ?_) (fun hc => ?_)
    · replace hf := hf.1 hc
      exact w_X_laysFits_b29 C hw hR r hX rx hf
    · replace hf := hf.2 hc
      refine tj_iconst C kc_1 dX0_laysFits_25 ?_
      refine tj_goto C 30 (by decide) dX0_laysFits_26 ?_
      exact w_X_laysFits_b30 C hw hR r hX rx hf
theorem c_X_laysFits {l : Launch} {G : tG} {ad : Nat → Nat} {A : Nat → Prop} {S : tS} {K : tS → Prop} {KX : tS → Prop} {a1 : Int32} {a2 : Int32} (hX : gN S 1025 ≠ 0) (hf : X_laysFits a1 a2 S K KX) : vx_Met l yX0_laysFits (ws_ yX0_laysFits cX0_laysFits 7 (none)) (tRm 5 119) (va_Pc [.ref (ad 1025), .int a1, .int a2] (tPre G ad A S)) (va_Qv K (tB G ad A (gN S)) A) (vx_X KX (tBX G ad A (gN S) RX3 1156) A) 0 0 A :=
  tj_xmet_v [(0, .ref (ad 1025)), (1, .int a1), (2, .int a2)] pn_X0 rfl (Nat.le_of_ble_eq_true rfl) (fun p e R s m args below meth c Q C hw r rx => w_X_laysFits_b0 C hw rfl r hX rx hf)
theorem w_X_ways_l4 {Γ : tX} {N0 : Nat → Nat} {K : Int32 → tS → Prop} (C : TC Γ cX0_ways RX0 1 20) (hw : tWf N0) (hR : xnL Γ = 3) (r : TRi Γ N0 cX0_ways K) (hX : N0 1025 ≠ 0) : ∀ (n : Nat) (a1 : Int32) (a2 : Int32) (S : tS), X_ways_l4 K n a1 a2 S → TJ Γ N0 0 0 4 [(0, .ref (xad Γ 1025)), (1, .int a1), (2, .int a2)] [] S := by
  intro n
  induction n with
  | zero => intro a1 a2 S hf; exact hf.elim
  | succ n ih =>
    intro a1 a2 S hf
    unfold X_ways_l4 at hf
    refine tj_iload_n C 2 rfl rfl dX0_ways_4 ?_
    refine tj_aload_n C 0 rfl rfl dX0_ways_5 ?_
    refine tj_callVa C (k := 1) [] [.int a2] (fun hN => c_X_at (by rw [hN]; exact hX) hf) lk_X0_168 ty_X0_at rfl (Nat.le_of_ble_eq_true rfl) (Nat.le_of_ble_eq_true rfl) (Nat.le_of_ble_eq_true rfl) hX rfl (by decide) rfl rfl dX0_ways_6 (fun S1 hf => ?_)
    refine gf_X0_185 C rfl (ne0 (ln_1222 hw hX)) dX0_ways_9 ?_
    refine tj_icmp_ge C 33 (by decide) dX0_ways_12 (fun hc => ?_) (fun hc => ?_)
    · replace hf := hf.1 hc
      refine tj_iload_n C 1 rfl rfl dX0_ways_33 ?_
      exact r _ _ _ _ dX0_ways_34 hf
    · replace hf := hf.2 hc
      refine tj_iload_n C 1 rfl rfl dX0_ways_15 ?_
      refine tj_aload_n C 0 rfl rfl dX0_ways_16 ?_
      refine gf_X0_70 C hX dX0_ways_17 ?_
      refine tj_iload_n C 2 rfl rfl dX0_ways_20 ?_
      refine tj_iald C 2288 6 rfl (ln_2288 hw hX) _ rfl hf.1 dX0_ways_21 ?_
      replace hf := hf.2
      refine tj_callSi C [.int (gI S1 2288 (a2.toNatClampNeg))] [.int a1] (fun hN => c_In_bitCount hf) lk_X0_338 ty_J11_bitCount rfl (Nat.le_of_ble_eq_true rfl) (Nat.le_of_ble_eq_true rfl) (Nat.le_of_ble_eq_true rfl) rfl dX0_ways_22 (fun r3 S2 hf => ?_)
      refine tj_imul C dX0_ways_25 ?_
      refine tj_topi (fun x4 ex => ?_)
      replace hf := hf x4 ex
      refine tj_istore_n C (by rw [hR]; decide) [(1, .int x4), (0, .ref (xad Γ 1025)), (2, .int a2)] rfl rfl dX0_ways_26 ?_
      obtain ⟨x5, ex⟩ : ∃ y : Int32, y = a2 + nI 1 := ⟨_, rfl⟩
      refine tj_iinc C (by rw [hR]; decide) 2 [(2, .int x5), (1, .int x4), (0, .ref (xad Γ 1025))] rfl (by rw [ex]; exact ki_1 _) rfl dX0_ways_27 ?_
      replace hf := hf x5 ex
      refine tj_goto C 4 (by decide) dX0_ways_30 ?_
      exact tj_sub [2, 1, 0] (ih _ _ _ hf) rfl
theorem w_X_ways_b0 {Γ : tX} {N0 : Nat → Nat} {K : Int32 → tS → Prop} (C : TC Γ cX0_ways RX0 1 20) (hw : tWf N0) (hR : xnL Γ = 3) (r : TRi Γ N0 cX0_ways K) (hX : N0 1025 ≠ 0) {S : tS} (hf : X_ways S K) : TJ Γ N0 0 0 0 [(0, .ref (xad Γ 1025))] [] S := by
  unfold X_ways at hf
  refine tj_iconst C kc_1 dX0_ways_0 ?_
  refine tj_istore_n C (by rw [hR]; decide) [(1, .int (nI 1)), (0, .ref (xad Γ 1025))] rfl rfl dX0_ways_1 ?_
  refine tj_iconst C kc_0 dX0_ways_2 ?_
  refine tj_istore_n C (by rw [hR]; decide) [(2, .int (nI 0)), (1, .int (nI 1)), (0, .ref (xad Γ 1025))] rfl rfl dX0_ways_3 ?_
  exact tj_sub [2, 1, 0] (hf.elim fun k hf => w_X_ways_l4 C hw hR r hX k _ _ _ hf) rfl
theorem c_X_ways {l : Launch} {G : tG} {ad : Nat → Nat} {A : Nat → Prop} {S : tS} {K : Int32 → tS → Prop} (hX : gN S 1025 ≠ 0) (hf : X_ways S K) : Met l yX0_ways (ws_ yX0_ways cX0_ways 3 (some .int)) (tRm 1 20) (va_Pc [.ref (ad 1025)] (tPre G ad A S)) (va_Qi K (tB G ad A (gN S)) A) 0 0 A :=
  tj_met_i [(0, .ref (ad 1025))] pn_X0 rfl (Nat.le_of_ble_eq_true rfl) (fun p e R s m args below meth c Q C hw r => w_X_ways_b0 C hw rfl r hX hf)
theorem w_X_none_b0 {Γ : tX} {N0 : Nat → Nat} {K : Int32 → tS → Prop} (C : TC Γ cX0_none RX0 0 0) (hw : tWf N0) (hR : xnL Γ = 2) (r : TRi Γ N0 cX0_none K) (hX : N0 1025 ≠ 0) {S : tS} (hf : X_none S K) : TJ Γ N0 0 0 0 [(0, .ref (xad Γ 1025)), (1, .ref (xad Γ 1156))] [] S := by
  unfold X_none at hf
  refine tj_aload_n C 0 rfl rfl dX0_none_0 ?_
  refine tj_aload_n C 1 rfl rfl dX0_none_1 ?_
  refine gf_X0_101 C (ne0 (ln_1156 hw hX)) dX0_none_2 ?_
  refine pf_X0_91 C hX dX0_none_5 ?_
  refine tj_topS (fun S1 eS => ?_)
  replace hf := hf S1 eS
  refine tj_iconst C kc_m1 dX0_none_8 ?_
  exact r _ _ _ _ dX0_none_9 hf
theorem c_X_none {l : Launch} {G : tG} {ad : Nat → Nat} {A : Nat → Prop} {S : tS} {K : Int32 → tS → Prop} (hX : gN S 1025 ≠ 0) (hf : X_none S K) : Met l yX0_none (ws_ yX0_none cX0_none 2 (some .int)) (tRm 0 0) (va_Pc [.ref (ad 1025), .ref (ad 1156)] (tPre G ad A S)) (va_Qi K (tB G ad A (gN S)) A) 0 0 A :=
  tj_met_i [(0, .ref (ad 1025)), (1, .ref (ad 1156))] pn_X0 rfl (Nat.le_of_ble_eq_true rfl) (fun p e R s m args below meth c Q C hw r => w_X_none_b0 C hw rfl r hX hf)
theorem w_X_ask_b125 {Γ : tX} {N0 : Nat → Nat} {K : Int32 → tS → Prop} (C : TC Γ cX0_ask RX0 6 145) (hw : tWf N0) (hR : xnL Γ = 6) (r : TRi Γ N0 cX0_ask K) {a1 : Int32} {a2 : Int32} {a3 : Int32} (hX : N0 1025 ≠ 0) (hT : (xc Γ).exceptionTable.toList = tableOf [(5, 110, 125, 41), (111, 124, 125, 41)]) {S : tS} (hf : X_ask_b125 a1 a2 a3 K  S) : TJ Γ N0 0 0 125 [(0, .ref (xad Γ 1025))] [.ref (xad Γ 1156)] S := by
  unfold X_ask_b125 at hf
  refine tj_astore C (by rw [hR]; decide) [(4, .ref (xad Γ 1156)), (0, .ref (xad Γ 1025))] rfl dX0_ask_125 ?_
  refine tj_aload_n C 1 rfl rfl dX0_ask_127 ?_
  refine tj_aload C 0 rfl dX0_ask_128 ?_
  refine tj_callVi C (k := 1) [.ref (xad Γ 1156)] [] (fun hN => c_X_none (by rw [hN]; exact hX) hf) lk_X0_149 ty_X0_none rfl (Nat.le_of_ble_eq_true rfl) (Nat.le_of_ble_eq_true rfl) (Nat.le_of_ble_eq_true rfl) hX rfl (by decide) rfl rfl dX0_ask_130 (fun r11 S10 hf => ?_)
  exact r _ _ _ _ dX0_ask_133 hf
theorem w_X_ask_b111 {Γ : tX} {N0 : Nat → Nat} {K : Int32 → tS → Prop} (C : TC Γ cX0_ask RX0 6 145) (hw : tWf N0) (hR : xnL Γ = 6) (r : TRi Γ N0 cX0_ask K) {a1 : Int32} {a2 : Int32} {a3 : Int32} (hX : N0 1025 ≠ 0) (hT : (xc Γ).exceptionTable.toList = tableOf [(5, 110, 125, 41), (111, 124, 125, 41)]) {κ45 : Int32 → tS → Prop} (hκ45 : ∀ (a4 : Int32) (S : tS), κ45 a4 S → TJ Γ N0 0 0 45 [(0, .ref (xad Γ 1025)), (3, .int a3), (4, .int a4)] [] S) {κ60 : Int32 → Int32 → tS → Prop} (hκ60 : ∀ (a4 : Int32) (a5 : Int32) (S : tS), κ60 a4 a5 S → TJ Γ N0 0 0 60 [(0, .ref (xad Γ 1025)), (3, .int a3), (4, .int a4), (5, .int a5)] [] S) {a4 : Int32} {a5 : Int32} {S : tS} (hf : X_ask_b111 a1 a2 a3 K κ45 κ60 a4 a5 S) : TJ Γ N0 0 0 111 [(0, .ref (xad Γ 1025)), (3, .int a3), (4, .int a4), (5, .int a5)] [] S := by
  unfold X_ask_b111 at hf
  obtain ⟨x20, ex⟩ : ∃ y : Int32, y = a5 + nI 1 := ⟨_, rfl⟩
  refine tj_iinc C (by rw [hR]; decide) 3 [(5, .int x20), (0, .ref (xad Γ 1025)), (3, .int a3), (4, .int a4)] rfl (by rw [ex]; exact ki_1 _) rfl dX0_ask_111 ?_
  replace hf := hf x20 ex
  refine tj_goto C 60 (by decide) dX0_ask_114 ?_
  exact tj_sub [1, 2, 3, 0] (hκ60 _ _ _ hf) rfl
theorem w_X_ask_l60 {Γ : tX} {N0 : Nat → Nat} {K : Int32 → tS → Prop} (C : TC Γ cX0_ask RX0 6 145) (hw : tWf N0) (hR : xnL Γ = 6) (r : TRi Γ N0 cX0_ask K) {a1 : Int32} {a2 : Int32} {a3 : Int32} (hX : N0 1025 ≠ 0) (hT : (xc Γ).exceptionTable.toList = tableOf [(5, 110, 125, 41), (111, 124, 125, 41)]) {κ45 : Int32 → tS → Prop} (hκ45 : ∀ (a4 : Int32) (S : tS), κ45 a4 S → TJ Γ N0 0 0 45 [(0, .ref (xad Γ 1025)), (3, .int a3), (4, .int a4)] [] S) : ∀ (n : Nat) (a4 : Int32) (a5 : Int32) (S : tS), X_ask_l60 a1 a2 a3 K κ45 n a4 a5 S → TJ Γ N0 0 0 60 [(0, .ref (xad Γ 1025)), (3, .int a3), (4, .int a4), (5, .int a5)] [] S := by
  intro n
  induction n with
  | zero => intro a4 a5 S hf; exact hf.elim
  | succ n ih =>
    intro a4 a5 S hf
    unfold X_ask_l60 at hf
    refine tj_iload C 3 rfl dX0_ask_60 ?_
    refine tj_bipush C kb_9 dX0_ask_62 ?_
    refine tj_icmp_gt C 117 (by decide) dX0_ask_64 (fun hc => ?_) (fun hc => ?_)
    · replace hf := hf.1 hc
      obtain ⟨x15, ex⟩ : ∃ y : Int32, y = a4 + nI 1 := ⟨_, rfl⟩
      refine tj_iinc C (by rw [hR]; decide) 2 [(4, .int x15), (0, .ref (xad Γ 1025)), (3, .int a3), (5, .int a5)] rfl (by rw [ex]; exact ki_1 _) rfl dX0_ask_117 ?_
      replace hf := hf x15 ex
      refine tj_goto C 45 (by decide) dX0_ask_120 ?_
      exact tj_sub [1, 2, 0] (hκ45 _ _ hf) rfl
    · replace hf := hf.2 hc
      refine tj_aload_n C 0 rfl rfl dX0_ask_67 ?_
      refine gf_X0_70 C hX dX0_ask_68 ?_
      refine tj_iload C 2 rfl dX0_ask_71 ?_
      refine tj_iald C 2288 6 rfl (ln_2288 hw hX) _ rfl hf.1 dX0_ask_73 ?_
      replace hf := hf.2
      refine tj_iconst C kc_3 dX0_ask_74 ?_
      refine tj_icmp_ne C 111 (by decide) dX0_ask_75 (fun hc => ?_) (fun hc => ?_)
      · replace hf := hf.2 hc
        exact w_X_ask_b111 C hw hR r hX hT hκ45 ih hf
      · replace hf := hf.1 hc
        refine tj_aload_n C 0 rfl rfl dX0_ask_78 ?_
        refine tj_iload C 2 rfl dX0_ask_79 ?_
        refine tj_iconst C kc_0 dX0_ask_81 ?_
        refine tj_iload C 3 rfl dX0_ask_82 ?_
        refine tj_callVi C (k := 1) [.int a4, .int (nI 0), .int a5] [] (fun hN => c_X_shownIf (by rw [hN]; exact hX) hf) lk_X0_393 ty_X0_shownIf rfl (Nat.le_of_ble_eq_true rfl) (Nat.le_of_ble_eq_true rfl) (Nat.le_of_ble_eq_true rfl) hX rfl (by decide) rfl rfl dX0_ask_84 (fun r17 S16 hf => ?_)
        refine tj_aload_n C 0 rfl rfl dX0_ask_87 ?_
        refine tj_iload C 2 rfl dX0_ask_88 ?_
        refine tj_iconst C kc_1 dX0_ask_90 ?_
        refine tj_iload C 3 rfl dX0_ask_91 ?_
        refine tj_callVi C (k := 1) [.int a4, .int (nI 1), .int a5] [.int r17] (fun hN => c_X_shownIf (by rw [hN]; exact hX) hf) lk_X0_393 ty_X0_shownIf rfl (Nat.le_of_ble_eq_true rfl) (Nat.le_of_ble_eq_true rfl) (Nat.le_of_ble_eq_true rfl) hX rfl (by decide) rfl rfl dX0_ask_93 (fun r19 S18 hf => ?_)
        refine tj_icmp_eq C 111 (by decide) dX0_ask_96 (fun hc => ?_) (fun hc => ?_)
        · replace hf := hf.1 hc
          exact w_X_ask_b111 C hw hR r hX hT hκ45 ih hf
        · replace hf := hf.2 hc
          refine tj_iload_n C 1 rfl rfl dX0_ask_99 ?_
          refine tj_if_ne C 108 (by decide) dX0_ask_100 (fun hc => ?_) (fun hc => ?_)
          · replace hf := hf.2 hc
            refine tj_iload C 3 rfl dX0_ask_108 ?_
            exact r _ _ _ _ dX0_ask_110 hf
          · replace hf := hf.1 hc
            refine tj_iload C 2 rfl dX0_ask_103 ?_
            refine tj_goto C 110 (by decide) dX0_ask_105 ?_
            exact r _ _ _ _ dX0_ask_110 hf
theorem w_X_ask_l45 {Γ : tX} {N0 : Nat → Nat} {K : Int32 → tS → Prop} (C : TC Γ cX0_ask RX0 6 145) (hw : tWf N0) (hR : xnL Γ = 6) (r : TRi Γ N0 cX0_ask K) {a1 : Int32} {a2 : Int32} {a3 : Int32} (hX : N0 1025 ≠ 0) (hT : (xc Γ).exceptionTable.toList = tableOf [(5, 110, 125, 41), (111, 124, 125, 41)]) : ∀ (n : Nat) (a4 : Int32) (S : tS), X_ask_l45 a1 a2 a3 K n a4 S → TJ Γ N0 0 0 45 [(0, .ref (xad Γ 1025)), (3, .int a3), (4, .int a4)] [] S := by
  intro n
  induction n with
  | zero => intro a4 S hf; exact hf.elim
  | succ n ih =>
    intro a4 S hf
    unfold X_ask_l45 at hf
    refine tj_iload C 2 rfl dX0_ask_45 ?_
    refine tj_aload_n C 0 rfl rfl dX0_ask_47 ?_
    refine tj_callVa C (k := 1) [] [.int a4] (fun hN => c_X_at (by rw [hN]; exact hX) hf) lk_X0_168 ty_X0_at rfl (Nat.le_of_ble_eq_true rfl) (Nat.le_of_ble_eq_true rfl) (Nat.le_of_ble_eq_true rfl) hX rfl (by decide) rfl rfl dX0_ask_48 (fun S14 hf => ?_)
    refine gf_X0_185 C rfl (ne0 (ln_1222 hw hX)) dX0_ask_51 ?_
    refine tj_icmp_ge C 123 (by decide) dX0_ask_54 (fun hc => ?_) (fun hc => ?_)
    · replace hf := hf.1 hc
      refine tj_iconst C kc_0 dX0_ask_123 ?_
      exact r _ _ _ _ dX0_ask_124 hf
    · replace hf := hf.2 hc
      refine tj_iconst C kc_0 dX0_ask_57 ?_
      refine tj_istore C (by rw [hR]; decide) [(5, .int (nI 0)), (0, .ref (xad Γ 1025)), (3, .int a3), (4, .int a4)] rfl dX0_ask_58 ?_
      exact tj_sub [1, 2, 3, 0] (hf.elim fun k hf => w_X_ask_l60 C hw hR r hX hT ih k _ _ _ hf) rfl
theorem w_X_ask_b37 {Γ : tX} {N0 : Nat → Nat} {K : Int32 → tS → Prop} (C : TC Γ cX0_ask RX0 6 145) (hw : tWf N0) (hR : xnL Γ = 6) (r : TRi Γ N0 cX0_ask K) {a1 : Int32} {a2 : Int32} {a3 : Int32} (hX : N0 1025 ≠ 0) (hT : (xc Γ).exceptionTable.toList = tableOf [(5, 110, 125, 41), (111, 124, 125, 41)]) {s1 : Int32} {S : tS} (hf : X_ask_b37 a1 a2 a3 K s1 S) : TJ Γ N0 0 0 37 [(0, .ref (xad Γ 1025)), (3, .int a3)] [.int s1, .ref (xad Γ 1025)] S := by
  unfold X_ask_b37 at hf
  refine tj_bipush C kb_6 dX0_ask_37 ?_
  refine tj_xVv C (k := 1) [.int s1, .int (nI 6)] [] (fun hN => c_X_want (by rw [hN]; exact hX) hf) lk_X0_116 ty_X0_want rfl (Nat.le_of_ble_eq_true rfl) (Nat.le_of_ble_eq_true rfl) (Nat.le_of_ble_eq_true rfl) hX rfl (by decide) rfl rfl dX0_ask_39 (fun S13 hf => ?_) (fun S12 hf => ?_)
  · refine tj_catch C [] ⟨5, 110, 125, 41⟩ [⟨111, 124, 125, 41⟩] hT (fun z hz => nomatch hz) (by decide) (by decide) q287 q289 ?_
    exact tj_sub [0] (w_X_ask_b125 C hw hR r hX hT hf) rfl
  · refine tj_iconst C kc_0 dX0_ask_42 ?_
    refine tj_istore C (by rw [hR]; decide) [(4, .int (nI 0)), (0, .ref (xad Γ 1025)), (3, .int a3)] rfl dX0_ask_43 ?_
    exact tj_sub [1, 2, 0] (hf.elim fun k hf => w_X_ask_l45 C hw hR r hX hT k _ _ hf) rfl
theorem w_X_ask_b0 {Γ : tX} {N0 : Nat → Nat} {K : Int32 → tS → Prop} (C : TC Γ cX0_ask RX0 6 145) (hw : tWf N0) (hR : xnL Γ = 6) (r : TRi Γ N0 cX0_ask K) {a1 : Int32} {a2 : Int32} {a3 : Int32} (hX : N0 1025 ≠ 0) (hT : (xc Γ).exceptionTable.toList = tableOf [(5, 110, 125, 41), (111, 124, 125, 41)]) {S : tS} (hf : X_ask a1 a2 a3 S K) : TJ Γ N0 0 0 0 [(0, .ref (xad Γ 1025)), (1, .int a1), (2, .int a2), (3, .int a3)] [] S := by
  unfold X_ask at hf
  refine tj_aload_n C 0 rfl rfl dX0_ask_0 ?_
  refine tj_iconst C kc_0 dX0_ask_1 ?_
  refine pf_X0_91 C hX dX0_ask_2 ?_
  refine tj_topS (fun S1 eS => ?_)
  replace hf := hf S1 eS
  refine tj_aload_n C 0 rfl rfl dX0_ask_5 ?_
  refine tj_iload_n C 3 rfl rfl dX0_ask_6 ?_
  refine tj_i2l C dX0_ask_7 ?_
  refine tj_lconst C (v := lN 0) rfl dX0_ask_8 ?_
  refine tj_lconst C (v := lN 1) rfl dX0_ask_9 ?_
  refine tj_callSz C [.long (a3.toInt64), .long (lN 0), .long (lN 1)] [.ref (xad Γ 1025)] (fun hN => c_X_isIn hf) lk_X0_175 ty_X0_isIn rfl (Nat.le_of_ble_eq_true rfl) (Nat.le_of_ble_eq_true rfl) (Nat.le_of_ble_eq_true rfl) rfl dX0_ask_10 (fun r3 S2 hf => ?_)
  have hz_r3 := hf.1
  replace hf := hf.2
  refine tj_iconst C kc_1 dX0_ask_13 ?_
  refine tj_xVv C (k := 1) [.int r3, .int (nI 1)] [] (fun hN => c_X_want (by rw [hN]; exact hX) hf) lk_X0_116 ty_X0_want rfl (Nat.le_of_ble_eq_true rfl) (Nat.le_of_ble_eq_true rfl) (Nat.le_of_ble_eq_true rfl) hX rfl (by decide) rfl rfl dX0_ask_14 (fun S5 hf => ?_) (fun S4 hf => ?_)
  · refine tj_catch C [] ⟨5, 110, 125, 41⟩ [⟨111, 124, 125, 41⟩] hT (fun z hz => nomatch hz) (by decide) (by decide) q287 q289 ?_
    exact tj_sub [0] (w_X_ask_b125 C hw hR r hX hT hf) rfl
  · refine tj_aload_n C 0 rfl rfl dX0_ask_17 ?_
    refine tj_iload_n C 1 rfl rfl dX0_ask_18 ?_
    refine tj_iload_n C 2 rfl rfl dX0_ask_19 ?_
    refine tj_xVv C (k := 1) [.int a1, .int a2] [] (fun hN => c_X_laysFits (by rw [hN]; exact hX) hf) lk_X0_399 ty_X0_laysFits rfl (Nat.le_of_ble_eq_true rfl) (Nat.le_of_ble_eq_true rfl) (Nat.le_of_ble_eq_true rfl) hX rfl (by decide) rfl rfl dX0_ask_20 (fun S7 hf => ?_) (fun S6 hf => ?_)
    · refine tj_catch C [] ⟨5, 110, 125, 41⟩ [⟨111, 124, 125, 41⟩] hT (fun z hz => nomatch hz) (by decide) (by decide) q287 q289 ?_
      exact tj_sub [0] (w_X_ask_b125 C hw hR r hX hT hf) rfl
    · refine tj_aload_n C 0 rfl rfl dX0_ask_23 ?_
      refine tj_aload_n C 0 rfl rfl dX0_ask_24 ?_
      refine tj_callVi C (k := 1) [] [.ref (xad Γ 1025)] (fun hN => c_X_ways (by rw [hN]; exact hX) hf) lk_X0_403 ty_X0_ways rfl (Nat.le_of_ble_eq_true rfl) (Nat.le_of_ble_eq_true rfl) (Nat.le_of_ble_eq_true rfl) hX rfl (by decide) rfl rfl dX0_ask_25 (fun r9 S8 hf => ?_)
      refine tj_iconst C kc_1 dX0_ask_28 ?_
      refine tj_icmp_le C 36 (by decide) dX0_ask_29 (fun hc => ?_) (fun hc => ?_)
      · replace hf := hf.1 hc
        refine tj_iconst C kc_0 dX0_ask_36 ?_
        exact tj_sub [0, 3] (w_X_ask_b37 C hw hR r hX hT hf) rfl
      · replace hf := hf.2 hc
        refine tj_iconst C kc_1 dX0_ask_32 ?_
        refine tj_goto C 37 (by decide) dX0_ask_33 ?_
        exact tj_sub [0, 3] (w_X_ask_b37 C hw hR r hX hT hf) rfl
theorem c_X_ask {l : Launch} {G : tG} {ad : Nat → Nat} {A : Nat → Prop} {S : tS} {K : Int32 → tS → Prop} {a1 : Int32} {a2 : Int32} {a3 : Int32} (hX : gN S 1025 ≠ 0) (hf : X_ask a1 a2 a3 S K) : vx_Met l yX0_ask (wsW_ yX0_ask cX0_ask 6 (some .int) [(5, 110, 125, 41), (111, 124, 125, 41)]) (tRm 6 145) (va_Pc [.ref (ad 1025), .int a1, .int a2, .int a3] (tPre G ad A S)) (va_Qi K (tB G ad A (gN S)) A) (vx_X (fun _ => False) (tBX G ad A (gN S) RX3 1156) A) 0 0 A :=
  tj_xmetW_i [(0, .ref (ad 1025)), (1, .int a1), (2, .int a2), (3, .int a3)] pn_X0 rfl (Nat.le_of_ble_eq_true rfl) (fun p e R s m args below meth c Q C hw hT r => w_X_ask_b0 C hw rfl r hX hT hf)
theorem w_X_bearing_b108 {Γ : tX} {N0 : Nat → Nat} {K : Int32 → tS → Prop} (C : TC Γ cX0_bearing RX0 2 47) (hw : tWf N0) (hR : xnL Γ = 4) (r : TRi Γ N0 cX0_bearing K) {a1 : Int32} (hX : N0 1025 ≠ 0) {κ31 : Int32 → Int32 → tS → Prop} (hκ31 : ∀ (a2 : Int32) (a3 : Int32) (S : tS), κ31 a2 a3 S → TJ Γ N0 0 0 31 [(0, .ref (xad Γ 1025)), (1, .int a1), (2, .int a2), (3, .int a3)] [] S) {a3 : Int32} {s0 : Int32} {s1 : Int32} {S : tS} (hf : X_bearing_b108 a1 K κ31 a3 s0 s1 S) : TJ Γ N0 0 0 108 [(0, .ref (xad Γ 1025)), (1, .int a1), (3, .int a3)] [.int s1, .int s0] S := by
  unfold X_bearing_b108 at hf
  refine tj_ior C dX0_bearing_108 ?_
  refine tj_topi (fun x13 ex => ?_)
  replace hf := hf x13 ex
  refine tj_istore_n C (by rw [hR]; decide) [(2, .int x13), (0, .ref (xad Γ 1025)), (1, .int a1), (3, .int a3)] rfl rfl dX0_bearing_109 ?_
  obtain ⟨x14, ex⟩ : ∃ y : Int32, y = a3 + nI 1 := ⟨_, rfl⟩
  refine tj_iinc C (by rw [hR]; decide) 3 [(3, .int x14), (2, .int x13), (0, .ref (xad Γ 1025)), (1, .int a1)] rfl (by rw [ex]; exact ki_1 _) rfl dX0_bearing_110 ?_
  replace hf := hf x14 ex
  refine tj_goto C 31 (by decide) dX0_bearing_113 ?_
  exact tj_sub [2, 3, 1, 0] (hκ31 _ _ _ hf) rfl
theorem w_X_bearing_b70 {Γ : tX} {N0 : Nat → Nat} {K : Int32 → tS → Prop} (C : TC Γ cX0_bearing RX0 2 47) (hw : tWf N0) (hR : xnL Γ = 4) (r : TRi Γ N0 cX0_bearing K) {a1 : Int32} (hX : N0 1025 ≠ 0) {κ31 : Int32 → Int32 → tS → Prop} (hκ31 : ∀ (a2 : Int32) (a3 : Int32) (S : tS), κ31 a2 a3 S → TJ Γ N0 0 0 31 [(0, .ref (xad Γ 1025)), (1, .int a1), (2, .int a2), (3, .int a3)] [] S) {a3 : Int32} {s0 : Int32} {s1 : Nat} {s2 : Int32} (h_s1 : N0 s1 ≠ 0 ∧ s1 % 32 = 7) {S : tS} (hf : X_bearing_b70 a1 K κ31 a3 s0 s1 s2 S) : TJ Γ N0 0 0 70 [(0, .ref (xad Γ 1025)), (1, .int a1), (3, .int a3)] [.int s2, .ref (xad Γ s1), .int s0] S := by
  unfold X_bearing_b70 at hf
  refine tj_aload_n C 0 rfl rfl dX0_bearing_70 ?_
  refine tj_callVa C (k := 1) [] [.int s2, .ref (xad Γ s1), .int s0] (fun hN => c_X_at (by rw [hN]; exact hX) hf) lk_X0_168 ty_X0_at rfl (Nat.le_of_ble_eq_true rfl) (Nat.le_of_ble_eq_true rfl) (Nat.le_of_ble_eq_true rfl) hX rfl (by decide) rfl rfl dX0_bearing_71 (fun S8 hf => ?_)
  refine gf_X0_308 C rfl (ne0 (ln_1222 hw hX)) dX0_bearing_74 ?_
  refine tj_iload_n C 1 rfl rfl dX0_bearing_77 ?_
  refine tj_iald C 1424 6 rfl (ln_1424 hw hX) _ rfl hf.1 dX0_bearing_78 ?_
  replace hf := hf.2
  refine tj_aload_n C 0 rfl rfl dX0_bearing_79 ?_
  refine tj_callVa C (k := 1) [] [.int (gI S8 1424 (a1.toNatClampNeg)), .int s2, .ref (xad Γ s1), .int s0] (fun hN => c_X_at (by rw [hN]; exact hX) hf) lk_X0_168 ty_X0_at rfl (Nat.le_of_ble_eq_true rfl) (Nat.le_of_ble_eq_true rfl) (Nat.le_of_ble_eq_true rfl) hX rfl (by decide) rfl rfl dX0_bearing_80 (fun S9 hf => ?_)
  refine gf_X0_245 C rfl (ne0 (ln_1222 hw hX)) dX0_bearing_83 ?_
  refine tj_aload_n C 0 rfl rfl dX0_bearing_86 ?_
  refine tj_callVa C (k := 1) [] [.int (gI S9 1222 6), .int (gI S8 1424 (a1.toNatClampNeg)), .int s2, .ref (xad Γ s1), .int s0] (fun hN => c_X_at (by rw [hN]; exact hX) hf) lk_X0_168 ty_X0_at rfl (Nat.le_of_ble_eq_true rfl) (Nat.le_of_ble_eq_true rfl) (Nat.le_of_ble_eq_true rfl) hX rfl (by decide) rfl rfl dX0_bearing_87 (fun S10 hf => ?_)
  refine gf_X0_311 C rfl (ne0 (ln_1222 hw hX)) dX0_bearing_90 ?_
  refine tj_iload_n C 1 rfl rfl dX0_bearing_93 ?_
  refine tj_iald C 1456 6 rfl (ln_1456 hw hX) _ rfl hf.1 dX0_bearing_94 ?_
  replace hf := hf.2
  refine tj_callVz C (k := 7) [.int s2, .int (gI S8 1424 (a1.toNatClampNeg)), .int (gI S9 1222 6), .int (gI S10 1456 (a1.toNatClampNeg))] [.int s0] (fun hN => c_Ru_bears (by rw [hN]; exact ⟨h_s1.1, h_s1.2⟩) hf) lk_X0_380 ty_X8_bears rfl (Nat.le_of_ble_eq_true rfl) (Nat.le_of_ble_eq_true rfl) (Nat.le_of_ble_eq_true rfl) h_s1.1 h_s1.2 (by decide) rfl rfl dX0_bearing_95 (fun r12 S11 hf => ?_)
  have hz_r12 := hf.1
  replace hf := hf.2
  refine tj_if_eq C 107 (by decide) dX0_bearing_98 (fun hc => ?_) (fun hc => ?_)
  · replace hf := hf.1 hc
    refine tj_iconst C kc_0 dX0_bearing_107 ?_
    exact w_X_bearing_b108 C hw hR r hX hκ31 hf
  · replace hf := hf.2 hc
    refine tj_iconst C kc_1 dX0_bearing_101 ?_
    refine tj_iload_n C 2 rfl rfl dX0_bearing_102 ?_
    refine tj_ishl C dX0_bearing_103 ?_
    refine tj_goto C 108 (by decide) dX0_bearing_104 ?_
    exact w_X_bearing_b108 C hw hR r hX hκ31 hf
theorem w_X_bearing_l31 {Γ : tX} {N0 : Nat → Nat} {K : Int32 → tS → Prop} (C : TC Γ cX0_bearing RX0 2 47) (hw : tWf N0) (hR : xnL Γ = 4) (r : TRi Γ N0 cX0_bearing K) {a1 : Int32} (hX : N0 1025 ≠ 0) : ∀ (n : Nat) (a2 : Int32) (a3 : Int32) (S : tS), X_bearing_l31 a1 K n a2 a3 S → TJ Γ N0 0 0 31 [(0, .ref (xad Γ 1025)), (1, .int a1), (2, .int a2), (3, .int a3)] [] S := by
  intro n
  induction n with
  | zero => intro a2 a3 S hf; exact hf.elim
  | succ n ih =>
    intro a2 a3 S hf
    unfold X_bearing_l31 at hf
    refine tj_iload_n C 3 rfl rfl dX0_bearing_31 ?_
    refine tj_aload_n C 0 rfl rfl dX0_bearing_32 ?_
    refine tj_callVa C (k := 1) [] [.int a3] (fun hN => c_X_at (by rw [hN]; exact hX) hf) lk_X0_168 ty_X0_at rfl (Nat.le_of_ble_eq_true rfl) (Nat.le_of_ble_eq_true rfl) (Nat.le_of_ble_eq_true rfl) hX rfl (by decide) rfl rfl dX0_bearing_33 (fun S4 hf => ?_)
    refine gf_X0_182 C rfl (ne0 (ln_1222 hw hX)) dX0_bearing_36 ?_
    refine tj_icmp_ge C 116 (by decide) dX0_bearing_39 (fun hc => ?_) (fun hc => ?_)
    · replace hf := hf.1 hc
      refine tj_iload_n C 2 rfl rfl dX0_bearing_116 ?_
      exact r _ _ _ _ dX0_bearing_117 hf
    · replace hf := hf.2 hc
      refine tj_iload_n C 2 rfl rfl dX0_bearing_42 ?_
      refine tj_aload_n C 0 rfl rfl dX0_bearing_43 ?_
      refine tj_callVa C (k := 1) [] [.int a2] (fun hN => c_X_at (by rw [hN]; exact hX) hf) lk_X0_168 ty_X0_at rfl (Nat.le_of_ble_eq_true rfl) (Nat.le_of_ble_eq_true rfl) (Nat.le_of_ble_eq_true rfl) hX rfl (by decide) rfl rfl dX0_bearing_44 (fun S5 hf => ?_)
      refine gf_X0_274 C rfl (ne0 (ln_1222 hw hX)) dX0_bearing_47 ?_
      refine tj_iload_n C 3 rfl rfl dX0_bearing_50 ?_
      refine tj_aald23 C 1719 8 rfl (ln_1719 hw hX) _ rfl hf.1 dX0_bearing_51 ?_
      replace hf := hf.2
      refine tj_hN (fun hN => ?_)
      obtain ⟨t6, he, h_t6, hf⟩ := hf
      rw [hN] at h_t6
      refine tj_some he ?_
      refine tj_aload_n C 0 rfl rfl dX0_bearing_52 ?_
      refine tj_callVa C (k := 1) [] [.ref (xad Γ t6), .int a2] (fun hN => c_X_at (by rw [hN]; exact hX) hf) lk_X0_168 ty_X0_at rfl (Nat.le_of_ble_eq_true rfl) (Nat.le_of_ble_eq_true rfl) (Nat.le_of_ble_eq_true rfl) hX rfl (by decide) rfl rfl dX0_bearing_53 (fun S7 hf => ?_)
      refine gf_X0_237 C rfl (ne0 (ln_1222 hw hX)) dX0_bearing_56 ?_
      refine tj_iload_n C 1 rfl rfl dX0_bearing_59 ?_
      refine tj_iald C 1520 6 rfl (ln_1520 hw hX) _ rfl hf.1 dX0_bearing_60 ?_
      replace hf := hf.2
      refine tj_iconst C kc_1 dX0_bearing_61 ?_
      refine tj_icmp_ne C 69 (by decide) dX0_bearing_62 (fun hc => ?_) (fun hc => ?_)
      · replace hf := hf.2 hc
        refine tj_iconst C kc_0 dX0_bearing_69 ?_
        exact tj_sub [0, 1, 3] (w_X_bearing_b70 C hw hR r hX ih ⟨h_t6.1, h_t6.2⟩ hf) rfl
      · replace hf := hf.1 hc
        refine tj_iconst C kc_1 dX0_bearing_65 ?_
        refine tj_goto C 70 (by decide) dX0_bearing_66 ?_
        exact tj_sub [0, 1, 3] (w_X_bearing_b70 C hw hR r hX ih ⟨h_t6.1, h_t6.2⟩ hf) rfl
theorem w_X_bearing_b15 {Γ : tX} {N0 : Nat → Nat} {K : Int32 → tS → Prop} (C : TC Γ cX0_bearing RX0 2 47) (hw : tWf N0) (hR : xnL Γ = 4) (r : TRi Γ N0 cX0_bearing K) {a1 : Int32} (hX : N0 1025 ≠ 0) {s1 : Int32} {S : tS} (hf : X_bearing_b15 a1 K s1 S) : TJ Γ N0 0 0 15 [(0, .ref (xad Γ 1025)), (1, .int a1)] [.int s1, .ref (xad Γ 1025)] S := by
  unfold X_bearing_b15 at hf
  refine pf_X0_91 C hX dX0_bearing_15 ?_
  refine tj_topS (fun S3 eS => ?_)
  replace hf := hf S3 eS
  refine tj_aload_n C 0 rfl rfl dX0_bearing_18 ?_
  refine gf_X0_91 C hX dX0_bearing_19 ?_
  refine tj_if_le C 27 (by decide) dX0_bearing_22 (fun hc => ?_) (fun hc => ?_)
  · replace hf := hf.1 hc
    refine tj_iconst C kc_0 dX0_bearing_27 ?_
    refine tj_istore_n C (by rw [hR]; decide) [(2, .int (nI 0)), (0, .ref (xad Γ 1025)), (1, .int a1)] rfl rfl dX0_bearing_28 ?_
    refine tj_iconst C kc_0 dX0_bearing_29 ?_
    refine tj_istore_n C (by rw [hR]; decide) [(3, .int (nI 0)), (2, .int (nI 0)), (0, .ref (xad Γ 1025)), (1, .int a1)] rfl rfl dX0_bearing_30 ?_
    exact tj_sub [2, 3, 1, 0] (hf.elim fun k hf => w_X_bearing_l31 C hw hR r hX k _ _ _ hf) rfl
  · replace hf := hf.2 hc
    refine tj_iconst C kc_m1 dX0_bearing_25 ?_
    exact r _ _ _ _ dX0_bearing_26 hf
theorem w_X_bearing_b0 {Γ : tX} {N0 : Nat → Nat} {K : Int32 → tS → Prop} (C : TC Γ cX0_bearing RX0 2 47) (hw : tWf N0) (hR : xnL Γ = 4) (r : TRi Γ N0 cX0_bearing K) {a1 : Int32} (hX : N0 1025 ≠ 0) {S : tS} (hf : X_bearing a1 S K) : TJ Γ N0 0 0 0 [(0, .ref (xad Γ 1025)), (1, .int a1)] [] S := by
  unfold X_bearing at hf
  refine tj_aload_n C 0 rfl rfl dX0_bearing_0 ?_
  refine tj_aload_n C 0 rfl rfl dX0_bearing_1 ?_
  refine tj_iload_n C 1 rfl rfl dX0_bearing_2 ?_
  refine tj_i2l C dX0_bearing_3 ?_
  refine tj_callVz C (k := 1) [.long (a1.toInt64)] [.ref (xad Γ 1025)] (fun hN => c_X_isPerson (by rw [hN]; exact hX) hf) lk_X0_304 ty_X0_isPerson rfl (Nat.le_of_ble_eq_true rfl) (Nat.le_of_ble_eq_true rfl) (Nat.le_of_ble_eq_true rfl) hX rfl (by decide) rfl rfl dX0_bearing_4 (fun r2 S1 hf => ?_)
  have hz_r2 := hf.1
  replace hf := hf.2
  refine tj_if_eq C 14 (by decide) dX0_bearing_7 (fun hc => ?_) (fun hc => ?_)
  · replace hf := hf.1 hc
    refine tj_iconst C kc_1 dX0_bearing_14 ?_
    exact w_X_bearing_b15 C hw hR r hX hf
  · replace hf := hf.2 hc
    refine tj_iconst C kc_0 dX0_bearing_10 ?_
    refine tj_goto C 15 (by decide) dX0_bearing_11 ?_
    exact w_X_bearing_b15 C hw hR r hX hf
theorem c_X_bearing {l : Launch} {G : tG} {ad : Nat → Nat} {A : Nat → Prop} {S : tS} {K : Int32 → tS → Prop} {a1 : Int32} (hX : gN S 1025 ≠ 0) (hf : X_bearing a1 S K) : Met l yX0_bearing (ws_ yX0_bearing cX0_bearing 4 (some .int)) (tRm 2 47) (va_Pc [.ref (ad 1025), .int a1] (tPre G ad A S)) (va_Qi K (tB G ad A (gN S)) A) 0 0 A :=
  tj_met_i [(0, .ref (ad 1025)), (1, .int a1)] pn_X0 rfl (Nat.le_of_ble_eq_true rfl) (fun p e R s m args below meth c Q C hw r => w_X_bearing_b0 C hw rfl r hX hf)
theorem w_X_bears_b52 {Γ : tX} {N0 : Nat → Nat} {K : Int32 → tS → Prop} (C : TC Γ cX0_bears RX0 3 71) (hw : tWf N0) (hR : xnL Γ = 2) (r : TRi Γ N0 cX0_bears K) {a1 : Int32} (hX : N0 1025 ≠ 0) {s2 : Int32} {S : tS} (hf : X_bears_b52 a1 K s2 S) : TJ Γ N0 0 0 52 [(0, .ref (xad Γ 1025)), (1, .int a1)] [.int s2, .ref (xad Γ 1222), .ref (xad Γ 1025)] S := by
  unfold X_bears_b52 at hf
  refine tj_aload_n C 0 rfl rfl dX0_bears_52 ?_
  refine tj_callVa C (k := 1) [] [.int s2, .ref (xad Γ 1222), .ref (xad Γ 1025)] (fun hN => c_X_at (by rw [hN]; exact hX) hf) lk_X0_168 ty_X0_at rfl (Nat.le_of_ble_eq_true rfl) (Nat.le_of_ble_eq_true rfl) (Nat.le_of_ble_eq_true rfl) hX rfl (by decide) rfl rfl dX0_bears_53 (fun S6 hf => ?_)
  refine gf_X0_308 C rfl (ne0 (ln_1222 hw hX)) dX0_bears_56 ?_
  refine tj_iload_n C 1 rfl rfl dX0_bears_59 ?_
  refine tj_iald C 1424 6 rfl (ln_1424 hw hX) _ rfl hf.1 dX0_bears_60 ?_
  replace hf := hf.2
  refine tj_aload_n C 0 rfl rfl dX0_bears_61 ?_
  refine tj_callVa C (k := 1) [] [.int (gI S6 1424 (a1.toNatClampNeg)), .int s2, .ref (xad Γ 1222), .ref (xad Γ 1025)] (fun hN => c_X_at (by rw [hN]; exact hX) hf) lk_X0_168 ty_X0_at rfl (Nat.le_of_ble_eq_true rfl) (Nat.le_of_ble_eq_true rfl) (Nat.le_of_ble_eq_true rfl) hX rfl (by decide) rfl rfl dX0_bears_62 (fun S7 hf => ?_)
  refine gf_X0_245 C rfl (ne0 (ln_1222 hw hX)) dX0_bears_65 ?_
  refine tj_aload_n C 0 rfl rfl dX0_bears_68 ?_
  refine tj_callVa C (k := 1) [] [.int (gI S7 1222 6), .int (gI S6 1424 (a1.toNatClampNeg)), .int s2, .ref (xad Γ 1222), .ref (xad Γ 1025)] (fun hN => c_X_at (by rw [hN]; exact hX) hf) lk_X0_168 ty_X0_at rfl (Nat.le_of_ble_eq_true rfl) (Nat.le_of_ble_eq_true rfl) (Nat.le_of_ble_eq_true rfl) hX rfl (by decide) rfl rfl dX0_bears_69 (fun S8 hf => ?_)
  refine gf_X0_311 C rfl (ne0 (ln_1222 hw hX)) dX0_bears_72 ?_
  refine tj_iload_n C 1 rfl rfl dX0_bears_75 ?_
  refine tj_iald C 1456 6 rfl (ln_1456 hw hX) _ rfl hf.1 dX0_bears_76 ?_
  replace hf := hf.2
  refine tj_callVi C (k := 6) [.int s2, .int (gI S6 1424 (a1.toNatClampNeg)), .int (gI S7 1222 6), .int (gI S8 1456 (a1.toNatClampNeg))] [.ref (xad Γ 1025)] (fun hN => c_Co_first (by rw [hN]; exact ⟨(ne0 (ln_1222 hw hX)), rfl⟩) hf) lk_X0_376 ty_X5_first rfl (Nat.le_of_ble_eq_true rfl) (Nat.le_of_ble_eq_true rfl) (Nat.le_of_ble_eq_true rfl) (ne0 (ln_1222 hw hX)) rfl (by decide) rfl rfl dX0_bears_77 (fun r10 S9 hf => ?_)
  refine tj_callVi C (k := 1) [.int r10] [] (fun hN => c_X_answer (by rw [hN]; exact hX) hf) lk_X0_292 ty_X0_answer rfl (Nat.le_of_ble_eq_true rfl) (Nat.le_of_ble_eq_true rfl) (Nat.le_of_ble_eq_true rfl) hX rfl (by decide) rfl rfl dX0_bears_80 (fun r12 S11 hf => ?_)
  exact r _ _ _ _ dX0_bears_83 hf
theorem w_X_bears_b15 {Γ : tX} {N0 : Nat → Nat} {K : Int32 → tS → Prop} (C : TC Γ cX0_bears RX0 3 71) (hw : tWf N0) (hR : xnL Γ = 2) (r : TRi Γ N0 cX0_bears K) {a1 : Int32} (hX : N0 1025 ≠ 0) {s1 : Int32} {S : tS} (hf : X_bears_b15 a1 K s1 S) : TJ Γ N0 0 0 15 [(0, .ref (xad Γ 1025)), (1, .int a1)] [.int s1, .ref (xad Γ 1025)] S := by
  unfold X_bears_b15 at hf
  refine pf_X0_91 C hX dX0_bears_15 ?_
  refine tj_topS (fun S3 eS => ?_)
  replace hf := hf S3 eS
  refine tj_aload_n C 0 rfl rfl dX0_bears_18 ?_
  refine gf_X0_91 C hX dX0_bears_19 ?_
  refine tj_if_le C 29 (by decide) dX0_bears_22 (fun hc => ?_) (fun hc => ?_)
  · replace hf := hf.1 hc
    refine tj_aload_n C 0 rfl rfl dX0_bears_29 ?_
    refine tj_aload_n C 0 rfl rfl dX0_bears_30 ?_
    refine tj_callVa C (k := 1) [] [.ref (xad Γ 1025)] (fun hN => c_X_at (by rw [hN]; exact hX) hf) lk_X0_168 ty_X0_at rfl (Nat.le_of_ble_eq_true rfl) (Nat.le_of_ble_eq_true rfl) (Nat.le_of_ble_eq_true rfl) hX rfl (by decide) rfl rfl dX0_bears_31 (fun S4 hf => ?_)
    refine tj_aload_n C 0 rfl rfl dX0_bears_34 ?_
    refine tj_callVa C (k := 1) [] [.ref (xad Γ 1222), .ref (xad Γ 1025)] (fun hN => c_X_at (by rw [hN]; exact hX) hf) lk_X0_168 ty_X0_at rfl (Nat.le_of_ble_eq_true rfl) (Nat.le_of_ble_eq_true rfl) (Nat.le_of_ble_eq_true rfl) hX rfl (by decide) rfl rfl dX0_bears_35 (fun S5 hf => ?_)
    refine gf_X0_237 C rfl (ne0 (ln_1222 hw hX)) dX0_bears_38 ?_
    refine tj_iload_n C 1 rfl rfl dX0_bears_41 ?_
    refine tj_iald C 1520 6 rfl (ln_1520 hw hX) _ rfl hf.1 dX0_bears_42 ?_
    replace hf := hf.2
    refine tj_iconst C kc_1 dX0_bears_43 ?_
    refine tj_icmp_ne C 51 (by decide) dX0_bears_44 (fun hc => ?_) (fun hc => ?_)
    · replace hf := hf.2 hc
      refine tj_iconst C kc_0 dX0_bears_51 ?_
      exact w_X_bears_b52 C hw hR r hX hf
    · replace hf := hf.1 hc
      refine tj_iconst C kc_1 dX0_bears_47 ?_
      refine tj_goto C 52 (by decide) dX0_bears_48 ?_
      exact w_X_bears_b52 C hw hR r hX hf
  · replace hf := hf.2 hc
    refine tj_iconst C kc_m1 dX0_bears_25 ?_
    refine tj_goto C 83 (by decide) dX0_bears_26 ?_
    exact r _ _ _ _ dX0_bears_83 hf
theorem w_X_bears_b0 {Γ : tX} {N0 : Nat → Nat} {K : Int32 → tS → Prop} (C : TC Γ cX0_bears RX0 3 71) (hw : tWf N0) (hR : xnL Γ = 2) (r : TRi Γ N0 cX0_bears K) {a1 : Int32} (hX : N0 1025 ≠ 0) {S : tS} (hf : X_bears a1 S K) : TJ Γ N0 0 0 0 [(0, .ref (xad Γ 1025)), (1, .int a1)] [] S := by
  unfold X_bears at hf
  refine tj_aload_n C 0 rfl rfl dX0_bears_0 ?_
  refine tj_aload_n C 0 rfl rfl dX0_bears_1 ?_
  refine tj_iload_n C 1 rfl rfl dX0_bears_2 ?_
  refine tj_i2l C dX0_bears_3 ?_
  refine tj_callVz C (k := 1) [.long (a1.toInt64)] [.ref (xad Γ 1025)] (fun hN => c_X_isPerson (by rw [hN]; exact hX) hf) lk_X0_304 ty_X0_isPerson rfl (Nat.le_of_ble_eq_true rfl) (Nat.le_of_ble_eq_true rfl) (Nat.le_of_ble_eq_true rfl) hX rfl (by decide) rfl rfl dX0_bears_4 (fun r2 S1 hf => ?_)
  have hz_r2 := hf.1
  replace hf := hf.2
  refine tj_if_eq C 14 (by decide) dX0_bears_7 (fun hc => ?_) (fun hc => ?_)
  · replace hf := hf.1 hc
    refine tj_iconst C kc_1 dX0_bears_14 ?_
    exact w_X_bears_b15 C hw hR r hX hf
  · replace hf := hf.2 hc
    refine tj_iconst C kc_0 dX0_bears_10 ?_
    refine tj_goto C 15 (by decide) dX0_bears_11 ?_
    exact w_X_bears_b15 C hw hR r hX hf
theorem c_X_bears {l : Launch} {G : tG} {ad : Nat → Nat} {A : Nat → Prop} {S : tS} {K : Int32 → tS → Prop} {a1 : Int32} (hX : gN S 1025 ≠ 0) (hf : X_bears a1 S K) : Met l yX0_bears (ws_ yX0_bears cX0_bears 2 (some .int)) (tRm 3 71) (va_Pc [.ref (ad 1025), .int a1] (tPre G ad A S)) (va_Qi K (tB G ad A (gN S)) A) 0 0 A :=
  tj_met_i [(0, .ref (ad 1025)), (1, .int a1)] pn_X0 rfl (Nat.le_of_ble_eq_true rfl) (fun p e R s m args below meth c Q C hw r => w_X_bears_b0 C hw rfl r hX hf)
theorem w_Co_are_b30 {Γ : tX} {N0 : Nat → Nat} {K : Int32 → tS → Prop} (C : TC Γ cX5_are RX5 0 0) (hw : tWf N0) (hR : xnL Γ = 4) (r : TRi Γ N0 cX5_are K) {t0 : Nat} {a1 : Int32} (h_t0 : N0 t0 ≠ 0 ∧ t0 % 32 = 6) {κ4 : Int32 → Int32 → tS → Prop} (hκ4 : ∀ (a2 : Int32) (a3 : Int32) (S : tS), κ4 a2 a3 S → TJ Γ N0 0 0 4 [(0, .ref (xad Γ t0)), (1, .int a1), (2, .int a2), (3, .int a3)] [] S) {a3 : Int32} {s0 : Int32} {s1 : Int32} {S : tS} (hf : Co_are_b30 t0 a1 K κ4 a3 s0 s1 S) : TJ Γ N0 0 0 30 [(0, .ref (xad Γ t0)), (1, .int a1), (3, .int a3)] [.int s1, .int s0] S := by
  unfold Co_are_b30 at hf
  refine tj_ior C dX5_are_30 ?_
  refine tj_topi (fun x1 ex => ?_)
  replace hf := hf x1 ex
  refine tj_istore_n C (by rw [hR]; decide) [(2, .int x1), (0, .ref (xad Γ t0)), (1, .int a1), (3, .int a3)] rfl rfl dX5_are_31 ?_
  obtain ⟨x2, ex⟩ : ∃ y : Int32, y = a3 + nI 1 := ⟨_, rfl⟩
  refine tj_iinc C (by rw [hR]; decide) 3 [(3, .int x2), (2, .int x1), (0, .ref (xad Γ t0)), (1, .int a1)] rfl (by rw [ex]; exact ki_1 _) rfl dX5_are_32 ?_
  replace hf := hf x2 ex
  refine tj_goto C 4 (by decide) dX5_are_35 ?_
  exact tj_sub [2, 3, 1, 0] (hκ4 _ _ _ hf) rfl
theorem w_Co_are_l4 {Γ : tX} {N0 : Nat → Nat} {K : Int32 → tS → Prop} (C : TC Γ cX5_are RX5 0 0) (hw : tWf N0) (hR : xnL Γ = 4) (r : TRi Γ N0 cX5_are K) {t0 : Nat} {a1 : Int32} (h_t0 : N0 t0 ≠ 0 ∧ t0 % 32 = 6) : ∀ (n : Nat) (a2 : Int32) (a3 : Int32) (S : tS), Co_are_l4 t0 a1 K n a2 a3 S → TJ Γ N0 0 0 4 [(0, .ref (xad Γ t0)), (1, .int a1), (2, .int a2), (3, .int a3)] [] S := by
  intro n
  induction n with
  | zero => intro a2 a3 S hf; exact hf.elim
  | succ n ih =>
    intro a2 a3 S hf
    unfold Co_are_l4 at hf
    refine tj_iload_n C 3 rfl rfl dX5_are_4 ?_
    refine tj_aload_n C 0 rfl rfl dX5_are_5 ?_
    refine gf_X5_71 C h_t0.2 h_t0.1 dX5_are_6 ?_
    refine tj_icmp_ge C 38 (by decide) dX5_are_9 (fun hc => ?_) (fun hc => ?_)
    · replace hf := hf.1 hc
      refine tj_iload_n C 2 rfl rfl dX5_are_38 ?_
      exact r _ _ _ _ dX5_are_39 hf
    · replace hf := hf.2 hc
      refine tj_iload_n C 2 rfl rfl dX5_are_12 ?_
      refine tj_aload_n C 0 rfl rfl dX5_are_13 ?_
      refine gf_X5_34 C h_t0.2 h_t0.1 dX5_are_14 ?_
      refine tj_iload_n C 3 rfl rfl dX5_are_17 ?_
      refine tj_iald C (t0 + 266) 6 (by have := h_t0.2; omega) (lnc_266 hw h_t0.2 h_t0.1) _ rfl hf.1 dX5_are_18 ?_
      replace hf := hf.2
      refine tj_iload_n C 1 rfl rfl dX5_are_19 ?_
      refine tj_icmp_ne C 29 (by decide) dX5_are_20 (fun hc => ?_) (fun hc => ?_)
      · replace hf := hf.2 hc
        refine tj_iconst C kc_0 dX5_are_29 ?_
        exact tj_sub [0, 1, 3] (w_Co_are_b30 C hw hR r h_t0 ih hf) rfl
      · replace hf := hf.1 hc
        refine tj_iconst C kc_1 dX5_are_23 ?_
        refine tj_iload_n C 3 rfl rfl dX5_are_24 ?_
        refine tj_ishl C dX5_are_25 ?_
        refine tj_goto C 30 (by decide) dX5_are_26 ?_
        exact tj_sub [0, 1, 3] (w_Co_are_b30 C hw hR r h_t0 ih hf) rfl
theorem w_Co_are_b0 {Γ : tX} {N0 : Nat → Nat} {K : Int32 → tS → Prop} (C : TC Γ cX5_are RX5 0 0) (hw : tWf N0) (hR : xnL Γ = 4) (r : TRi Γ N0 cX5_are K) {t0 : Nat} {a1 : Int32} (h_t0 : N0 t0 ≠ 0 ∧ t0 % 32 = 6) {S : tS} (hf : Co_are t0 a1 S K) : TJ Γ N0 0 0 0 [(0, .ref (xad Γ t0)), (1, .int a1)] [] S := by
  unfold Co_are at hf
  refine tj_iconst C kc_0 dX5_are_0 ?_
  refine tj_istore_n C (by rw [hR]; decide) [(2, .int (nI 0)), (0, .ref (xad Γ t0)), (1, .int a1)] rfl rfl dX5_are_1 ?_
  refine tj_iconst C kc_0 dX5_are_2 ?_
  refine tj_istore_n C (by rw [hR]; decide) [(3, .int (nI 0)), (2, .int (nI 0)), (0, .ref (xad Γ t0)), (1, .int a1)] rfl rfl dX5_are_3 ?_
  exact tj_sub [2, 3, 1, 0] (hf.elim fun k hf => w_Co_are_l4 C hw hR r h_t0 k _ _ _ hf) rfl
theorem c_Co_are {l : Launch} {G : tG} {ad : Nat → Nat} {A : Nat → Prop} {S : tS} {K : Int32 → tS → Prop} {t0 : Nat} {a1 : Int32} (h_t0 : gN S t0 ≠ 0 ∧ t0 % 32 = 6) (hf : Co_are t0 a1 S K) : Met l yX5_are (ws_ yX5_are cX5_are 4 (some .int)) (tRm 0 0) (va_Pc [.ref (ad t0), .int a1] (tPre G ad A S)) (va_Qi K (tB G ad A (gN S)) A) 0 0 A :=
  tj_met_i [(0, .ref (ad t0)), (1, .int a1)] pn_X5 rfl (Nat.le_of_ble_eq_true rfl) (fun p e R s m args below meth c Q C hw r => w_Co_are_b0 C hw rfl r h_t0 hf)
theorem w_Co_showsAt_b16 {Γ : tX} {N0 : Nat → Nat} {K : Int32 → tS → Prop} (C : TC Γ cX5_showsAt RX5 4 96) (hw : tWf N0) (hR : xnL Γ = 3) (r : TRi Γ N0 cX5_showsAt K) {t0 : Nat} {a1 : Int32} {a2 : Int32} (h_t0 : N0 t0 ≠ 0 ∧ t0 % 32 = 6) {s1 : Int32} {S : tS} (hf : Co_showsAt_b16 t0 a1 a2 K s1 S) : TJ Γ N0 0 0 16 [(0, .ref (xad Γ t0)), (1, .int a1), (2, .int a2)] [.int s1, .ref (xad Γ t0)] S := by
  unfold Co_showsAt_b16 at hf
  refine tj_aload_n C 0 rfl rfl dX5_showsAt_16 ?_
  refine gf_X5_28 C h_t0.2 h_t0.1 dX5_showsAt_17 ?_
  refine tj_iload_n C 1 rfl rfl dX5_showsAt_20 ?_
  refine tj_iald C (t0 + 202) 6 (by have := h_t0.2; omega) (lnc_202 hw h_t0.2 h_t0.1) _ rfl hf.1 dX5_showsAt_21 ?_
  replace hf := hf.2
  refine tj_iload_n C 2 rfl rfl dX5_showsAt_22 ?_
  refine tj_aload_n C 0 rfl rfl dX5_showsAt_23 ?_
  refine gf_X5_31 C h_t0.2 h_t0.1 dX5_showsAt_24 ?_
  refine tj_iload_n C 1 rfl rfl dX5_showsAt_27 ?_
  refine tj_iald C (t0 + 234) 6 (by have := h_t0.2; omega) (lnc_234 hw h_t0.2 h_t0.1) _ rfl hf.1 dX5_showsAt_28 ?_
  replace hf := hf.2
  refine tj_callVi C (k := 6) [.int s1, .int (gI S (t0 + 202) (a1.toNatClampNeg)), .int a2, .int (gI S (t0 + 234) (a1.toNatClampNeg))] [] (fun hN => c_Co_shows (by rw [hN]; exact ⟨h_t0.1, h_t0.2⟩) hf) lk_X5_111 ty_X5_shows rfl (Nat.le_of_ble_eq_true rfl) (Nat.le_of_ble_eq_true rfl) (Nat.le_of_ble_eq_true rfl) h_t0.1 h_t0.2 (by decide) rfl rfl dX5_showsAt_29 (fun r2 S1 hf => ?_)
  exact r _ _ _ _ dX5_showsAt_32 hf
theorem w_Co_showsAt_b0 {Γ : tX} {N0 : Nat → Nat} {K : Int32 → tS → Prop} (C : TC Γ cX5_showsAt RX5 4 96) (hw : tWf N0) (hR : xnL Γ = 3) (r : TRi Γ N0 cX5_showsAt K) {t0 : Nat} {a1 : Int32} {a2 : Int32} (h_t0 : N0 t0 ≠ 0 ∧ t0 % 32 = 6) {S : tS} (hf : Co_showsAt t0 a1 a2 S K) : TJ Γ N0 0 0 0 [(0, .ref (xad Γ t0)), (1, .int a1), (2, .int a2)] [] S := by
  unfold Co_showsAt at hf
  refine tj_aload_n C 0 rfl rfl dX5_showsAt_0 ?_
  refine tj_aload_n C 0 rfl rfl dX5_showsAt_1 ?_
  refine gf_X5_37 C h_t0.2 h_t0.1 dX5_showsAt_2 ?_
  refine tj_iload_n C 1 rfl rfl dX5_showsAt_5 ?_
  refine tj_iald C (t0 + 298) 6 (by have := h_t0.2; omega) (lnc_298 hw h_t0.2 h_t0.1) _ rfl hf.1 dX5_showsAt_6 ?_
  replace hf := hf.2
  refine tj_iconst C kc_1 dX5_showsAt_7 ?_
  refine tj_icmp_ne C 15 (by decide) dX5_showsAt_8 (fun hc => ?_) (fun hc => ?_)
  · replace hf := hf.2 hc
    refine tj_iconst C kc_0 dX5_showsAt_15 ?_
    exact w_Co_showsAt_b16 C hw hR r h_t0 hf
  · replace hf := hf.1 hc
    refine tj_iconst C kc_1 dX5_showsAt_11 ?_
    refine tj_goto C 16 (by decide) dX5_showsAt_12 ?_
    exact w_Co_showsAt_b16 C hw hR r h_t0 hf
theorem c_Co_showsAt {l : Launch} {G : tG} {ad : Nat → Nat} {A : Nat → Prop} {S : tS} {K : Int32 → tS → Prop} {t0 : Nat} {a1 : Int32} {a2 : Int32} (h_t0 : gN S t0 ≠ 0 ∧ t0 % 32 = 6) (hf : Co_showsAt t0 a1 a2 S K) : Met l yX5_showsAt (ws_ yX5_showsAt cX5_showsAt 3 (some .int)) (tRm 4 96) (va_Pc [.ref (ad t0), .int a1, .int a2] (tPre G ad A S)) (va_Qi K (tB G ad A (gN S)) A) 0 0 A :=
  tj_met_i [(0, .ref (ad t0)), (1, .int a1), (2, .int a2)] pn_X5 rfl (Nat.le_of_ble_eq_true rfl) (fun p e R s m args below meth c Q C hw r => w_Co_showsAt_b0 C hw rfl r h_t0 hf)
theorem w_Co_senseOf_b0 {Γ : tX} {N0 : Nat → Nat} {K : Int32 → tS → Prop} (C : TC Γ cX5_senseOf RX5 0 0) (hw : tWf N0) (hR : xnL Γ = 2) (r : TRi Γ N0 cX5_senseOf K) {t0 : Nat} {a1 : Int32} (h_t0 : N0 t0 ≠ 0 ∧ t0 % 32 = 6) {S : tS} (hf : Co_senseOf t0 a1 S K) : TJ Γ N0 0 0 0 [(0, .ref (xad Γ t0)), (1, .int a1)] [] S := by
  unfold Co_senseOf at hf
  refine tj_iload_n C 1 rfl rfl dX5_senseOf_0 ?_
  refine tj_aload_n C 0 rfl rfl dX5_senseOf_1 ?_
  refine gf_X5_65 C h_t0.2 h_t0.1 dX5_senseOf_2 ?_
  refine tj_icmp_ne C 12 (by decide) dX5_senseOf_5 (fun hc => ?_) (fun hc => ?_)
  · replace hf := hf.2 hc
    refine tj_aload_n C 0 rfl rfl dX5_senseOf_12 ?_
    refine gf_X5_24 C h_t0.2 h_t0.1 dX5_senseOf_13 ?_
    refine tj_iload_n C 1 rfl rfl dX5_senseOf_16 ?_
    refine tj_iald C (t0 + 170) 6 (by have := h_t0.2; omega) (lnc_170 hw h_t0.2 h_t0.1) _ rfl hf.1 dX5_senseOf_17 ?_
    replace hf := hf.2
    exact r _ _ _ _ dX5_senseOf_18 hf
  · replace hf := hf.1 hc
    refine tj_iconst C kc_0 dX5_senseOf_8 ?_
    refine tj_goto C 18 (by decide) dX5_senseOf_9 ?_
    exact r _ _ _ _ dX5_senseOf_18 hf
theorem c_Co_senseOf {l : Launch} {G : tG} {ad : Nat → Nat} {A : Nat → Prop} {S : tS} {K : Int32 → tS → Prop} {t0 : Nat} {a1 : Int32} (h_t0 : gN S t0 ≠ 0 ∧ t0 % 32 = 6) (hf : Co_senseOf t0 a1 S K) : Met l yX5_senseOf (ws_ yX5_senseOf cX5_senseOf 2 (some .int)) (tRm 0 0) (va_Pc [.ref (ad t0), .int a1] (tPre G ad A S)) (va_Qi K (tB G ad A (gN S)) A) 0 0 A :=
  tj_met_i [(0, .ref (ad t0)), (1, .int a1)] pn_X5 rfl (Nat.le_of_ble_eq_true rfl) (fun p e R s m args below meth c Q C hw r => w_Co_senseOf_b0 C hw rfl r h_t0 hf)
theorem w_X_sitsInOrder_b137 {Γ : tX} {d : Nat} {N0 : Nat → Nat} {K : tS → Prop} (C : TC Γ cX0_sitsInOrder RX0 (5 + (d + 1)) (118 + (d + 1) * 25)) (hw : tWf N0) (hR : xnL Γ = 6) (r : TRv Γ N0 cX0_sitsInOrder K) {a1 : Int32} {a2 : Int32} {a3 : Int32} (hX : N0 1025 ≠ 0) {ρ : Int32 → Int32 → Int32 → tS → (tS → Prop) → Prop} (hρ : ∀ (a1 : Int32) (a2 : Int32) (a3 : Int32) (S : tS) (K : tS → Prop), (gN S 1025 ≠ 0) → ρ a1 a2 a3 S K → Met (xl Γ) yX0_sitsInOrder (ws_ yX0_sitsInOrder cX0_sitsInOrder 6 (none)) (tRm (5 + d) (118 + d * 25)) (va_Pc [.ref (xad Γ 1025), .int a1, .int a2, .int a3] (tPre (xG Γ) (xad Γ) (xA Γ) S)) (va_Qv K (tB (xG Γ) (xad Γ) (xA Γ) (gN S)) (xA Γ)) 0 0 (xA Γ)) {κ37 : Int32 → tS → Prop} (hκ37 : ∀ (a4 : Int32) (S : tS), κ37 a4 S → TJ Γ N0 0 0 37 [(0, .ref (xad Γ 1025)), (1, .int a1), (2, .int a2), (3, .int a3), (4, .int a4)] [] S) {a4 : Int32} {S : tS} (hf : X_sitsInOrder_b137 a1 a2 a3 ρ K κ37 a4 S) : TJ Γ N0 0 0 137 [(0, .ref (xad Γ 1025)), (1, .int a1), (2, .int a2), (3, .int a3), (4, .int a4)] [] S := by
  unfold X_sitsInOrder_b137 at hf
  obtain ⟨x14, ex⟩ : ∃ y : Int32, y = a4 + nI 1 := ⟨_, rfl⟩
  refine tj_iinc C (by rw [hR]; decide) 4 [(4, .int x14), (0, .ref (xad Γ 1025)), (1, .int a1), (2, .int a2), (3, .int a3)] rfl (by rw [ex]; exact ki_1 _) rfl dX0_sitsInOrder_137 ?_
  replace hf := hf x14 ex
  refine tj_goto C 37 (by decide) dX0_sitsInOrder_140 ?_
  exact tj_sub [1, 2, 3, 4, 0] (hκ37 _ _ hf) rfl
theorem w_X_sitsInOrder_b133 {Γ : tX} {d : Nat} {N0 : Nat → Nat} {K : tS → Prop} (C : TC Γ cX0_sitsInOrder RX0 (5 + (d + 1)) (118 + (d + 1) * 25)) (hw : tWf N0) (hR : xnL Γ = 6) (r : TRv Γ N0 cX0_sitsInOrder K) {a1 : Int32} {a2 : Int32} {a3 : Int32} (hX : N0 1025 ≠ 0) {ρ : Int32 → Int32 → Int32 → tS → (tS → Prop) → Prop} (hρ : ∀ (a1 : Int32) (a2 : Int32) (a3 : Int32) (S : tS) (K : tS → Prop), (gN S 1025 ≠ 0) → ρ a1 a2 a3 S K → Met (xl Γ) yX0_sitsInOrder (ws_ yX0_sitsInOrder cX0_sitsInOrder 6 (none)) (tRm (5 + d) (118 + d * 25)) (va_Pc [.ref (xad Γ 1025), .int a1, .int a2, .int a3] (tPre (xG Γ) (xad Γ) (xA Γ) S)) (va_Qv K (tB (xG Γ) (xad Γ) (xA Γ) (gN S)) (xA Γ)) 0 0 (xA Γ)) {κ37 : Int32 → tS → Prop} (hκ37 : ∀ (a4 : Int32) (S : tS), κ37 a4 S → TJ Γ N0 0 0 37 [(0, .ref (xad Γ 1025)), (1, .int a1), (2, .int a2), (3, .int a3), (4, .int a4)] [] S) {a4 : Int32} {s1 : Int32} {s2 : Int32} {s3 : Int32} {s4 : Int32} {S : tS} (hf : X_sitsInOrder_b133 a1 a2 a3 ρ K κ37 a4 s1 s2 s3 s4 S) : TJ Γ N0 0 0 133 [(0, .ref (xad Γ 1025)), (1, .int a1), (2, .int a2), (3, .int a3), (4, .int a4)] [.int s4, .int s3, .int s2, .int s1, .ref (xad Γ 1025)] S := by
  unfold X_sitsInOrder_b133 at hf
  refine tj_iadd C dX0_sitsInOrder_133 ?_
  refine tj_callVv C (k := 1) [.int s1, .int s2, .int (s3 + s4)] [] (fun hN => hρ _ _ _ _ _ (by rw [hN]; exact hX) hf) lk_X0_473 ty_X0_sitsInOrder rfl (by omega) (by omega) (Nat.le_of_ble_eq_true rfl) hX rfl (by decide) rfl rfl dX0_sitsInOrder_134 (fun S15 hf => ?_)
  exact w_X_sitsInOrder_b137 C hw hR r hX hρ hκ37 hf
theorem w_X_sitsInOrder_b108 {Γ : tX} {d : Nat} {N0 : Nat → Nat} {K : tS → Prop} (C : TC Γ cX0_sitsInOrder RX0 (5 + (d + 1)) (118 + (d + 1) * 25)) (hw : tWf N0) (hR : xnL Γ = 6) (r : TRv Γ N0 cX0_sitsInOrder K) {a1 : Int32} {a2 : Int32} {a3 : Int32} (hX : N0 1025 ≠ 0) {ρ : Int32 → Int32 → Int32 → tS → (tS → Prop) → Prop} (hρ : ∀ (a1 : Int32) (a2 : Int32) (a3 : Int32) (S : tS) (K : tS → Prop), (gN S 1025 ≠ 0) → ρ a1 a2 a3 S K → Met (xl Γ) yX0_sitsInOrder (ws_ yX0_sitsInOrder cX0_sitsInOrder 6 (none)) (tRm (5 + d) (118 + d * 25)) (va_Pc [.ref (xad Γ 1025), .int a1, .int a2, .int a3] (tPre (xG Γ) (xad Γ) (xA Γ) S)) (va_Qv K (tB (xG Γ) (xad Γ) (xA Γ) (gN S)) (xA Γ)) 0 0 (xA Γ)) {κ37 : Int32 → tS → Prop} (hκ37 : ∀ (a4 : Int32) (S : tS), κ37 a4 S → TJ Γ N0 0 0 37 [(0, .ref (xad Γ 1025)), (1, .int a1), (2, .int a2), (3, .int a3), (4, .int a4)] [] S) {a4 : Int32} {s0 : Int32} {S : tS} (hf : X_sitsInOrder_b108 a1 a2 a3 ρ K κ37 a4 s0 S) : TJ Γ N0 0 0 108 [(0, .ref (xad Γ 1025)), (1, .int a1), (2, .int a2), (3, .int a3), (4, .int a4)] [.int s0] S := by
  unfold X_sitsInOrder_b108 at hf
  refine tj_istore C (by rw [hR]; decide) [(5, .int s0), (0, .ref (xad Γ 1025)), (1, .int a1), (2, .int a2), (3, .int a3), (4, .int a4)] rfl dX0_sitsInOrder_108 ?_
  refine tj_aload_n C 1 rfl rfl dX0_sitsInOrder_110 ?_
  refine tj_iload_n C 2 rfl rfl dX0_sitsInOrder_111 ?_
  refine tj_iconst C kc_1 dX0_sitsInOrder_112 ?_
  refine tj_iadd C dX0_sitsInOrder_113 ?_
  refine tj_iload_n C 3 rfl rfl dX0_sitsInOrder_114 ?_
  refine tj_iconst C kc_1 dX0_sitsInOrder_115 ?_
  refine tj_iload C 5 rfl dX0_sitsInOrder_116 ?_
  refine tj_ishl C dX0_sitsInOrder_118 ?_
  refine tj_iconst C kc_m1 dX0_sitsInOrder_119 ?_
  refine tj_ixor C dX0_sitsInOrder_120 ?_
  refine tj_iand C dX0_sitsInOrder_121 ?_
  refine tj_iload_n C 4 rfl rfl dX0_sitsInOrder_122 ?_
  refine tj_iload C 0 rfl dX0_sitsInOrder_123 ?_
  refine tj_if_eq C 132 (by decide) dX0_sitsInOrder_125 (fun hc => ?_) (fun hc => ?_)
  · replace hf := hf.1 hc
    refine tj_iconst C kc_0 dX0_sitsInOrder_132 ?_
    exact tj_sub [1, 2, 3, 4, 5] (w_X_sitsInOrder_b133 C hw hR r hX hρ hκ37 hf) rfl
  · replace hf := hf.2 hc
    refine tj_iconst C kc_1 dX0_sitsInOrder_128 ?_
    refine tj_goto C 133 (by decide) dX0_sitsInOrder_129 ?_
    exact tj_sub [1, 2, 3, 4, 5] (w_X_sitsInOrder_b133 C hw hR r hX hρ hκ37 hf) rfl
theorem w_X_sitsInOrder_l37 {Γ : tX} {d : Nat} {N0 : Nat → Nat} {K : tS → Prop} (C : TC Γ cX0_sitsInOrder RX0 (5 + (d + 1)) (118 + (d + 1) * 25)) (hw : tWf N0) (hR : xnL Γ = 6) (r : TRv Γ N0 cX0_sitsInOrder K) {a1 : Int32} {a2 : Int32} {a3 : Int32} (hX : N0 1025 ≠ 0) {ρ : Int32 → Int32 → Int32 → tS → (tS → Prop) → Prop} (hρ : ∀ (a1 : Int32) (a2 : Int32) (a3 : Int32) (S : tS) (K : tS → Prop), (gN S 1025 ≠ 0) → ρ a1 a2 a3 S K → Met (xl Γ) yX0_sitsInOrder (ws_ yX0_sitsInOrder cX0_sitsInOrder 6 (none)) (tRm (5 + d) (118 + d * 25)) (va_Pc [.ref (xad Γ 1025), .int a1, .int a2, .int a3] (tPre (xG Γ) (xad Γ) (xA Γ) S)) (va_Qv K (tB (xG Γ) (xad Γ) (xA Γ) (gN S)) (xA Γ)) 0 0 (xA Γ)) : ∀ (n : Nat) (a4 : Int32) (S : tS), X_sitsInOrder_l37 a1 a2 a3 ρ K n a4 S → TJ Γ N0 0 0 37 [(0, .ref (xad Γ 1025)), (1, .int a1), (2, .int a2), (3, .int a3), (4, .int a4)] [] S := by
  intro n
  induction n with
  | zero => intro a4 S hf; exact hf.elim
  | succ n ih =>
    intro a4 S hf
    unfold X_sitsInOrder_l37 at hf
    refine tj_iload C 4 rfl dX0_sitsInOrder_37 ?_
    refine tj_aload_n C 0 rfl rfl dX0_sitsInOrder_39 ?_
    refine tj_callVa C (k := 1) [] [.int a4] (fun hN => c_X_at (by rw [hN]; exact hX) hf) lk_X0_168 ty_X0_at rfl (by omega) (by omega) (Nat.le_of_ble_eq_true rfl) hX rfl (by decide) rfl rfl dX0_sitsInOrder_40 (fun S3 hf => ?_)
    refine gf_X0_185 C rfl (ne0 (ln_1222 hw hX)) dX0_sitsInOrder_43 ?_
    refine tj_icmp_ge C 143 (by decide) dX0_sitsInOrder_46 (fun hc => ?_) (fun hc => ?_)
    · replace hf := hf.1 hc
      exact r _ _ _ dX0_sitsInOrder_143 hf
    · replace hf := hf.2 hc
      refine tj_iload_n C 2 rfl rfl dX0_sitsInOrder_49 ?_
      refine tj_iload C 4 rfl dX0_sitsInOrder_50 ?_
      refine tj_callSz C [.int a2, .int a4] [] (fun hN => c_X_has hf) lk_X0_431 ty_X0_has rfl (by omega) (by omega) (Nat.le_of_ble_eq_true rfl) rfl dX0_sitsInOrder_52 (fun r5 S4 hf => ?_)
      have hz_r5 := hf.1
      replace hf := hf.2
      refine tj_if_ne C 61 (by decide) dX0_sitsInOrder_55 (fun hc => ?_) (fun hc => ?_)
      · replace hf := hf.2 hc
        refine tj_aload_n C 0 rfl rfl dX0_sitsInOrder_61 ?_
        refine gf_X0_82 C hX dX0_sitsInOrder_62 ?_
        refine tj_iload_n C 1 rfl rfl dX0_sitsInOrder_65 ?_
        refine tj_iload C 4 rfl dX0_sitsInOrder_66 ?_
        refine tj_iast C 2416 6 rfl (ln_2416 hw hX) _ rfl hf.1 dX0_sitsInOrder_68 ?_
        replace hf := hf.2
        refine tj_topS (fun S6 eS => ?_)
        replace hf := hf S6 eS
        refine tj_aload_n C 0 rfl rfl dX0_sitsInOrder_69 ?_
        refine tj_callVa C (k := 1) [] [] (fun hN => c_X_at (by rw [hN]; exact hX) hf) lk_X0_168 ty_X0_at rfl (by omega) (by omega) (Nat.le_of_ble_eq_true rfl) hX rfl (by decide) rfl rfl dX0_sitsInOrder_70 (fun S7 hf => ?_)
        refine tj_aload_n C 0 rfl rfl dX0_sitsInOrder_73 ?_
        refine tj_callVa C (k := 1) [] [.ref (xad Γ 1222)] (fun hN => c_X_at (by rw [hN]; exact hX) hf) lk_X0_168 ty_X0_at rfl (by omega) (by omega) (Nat.le_of_ble_eq_true rfl) hX rfl (by decide) rfl rfl dX0_sitsInOrder_74 (fun S8 hf => ?_)
        refine tj_iload C 4 rfl dX0_sitsInOrder_77 ?_
        refine tj_bipush C kb_9 dX0_sitsInOrder_79 ?_
        refine tj_aload_n C 0 rfl rfl dX0_sitsInOrder_81 ?_
        refine tj_callVa C (k := 1) [] [.int (nI 9), .int a4, .ref (xad Γ 1222), .ref (xad Γ 1222)] (fun hN => c_X_at (by rw [hN]; exact hX) hf) lk_X0_168 ty_X0_at rfl (by omega) (by omega) (Nat.le_of_ble_eq_true rfl) hX rfl (by decide) rfl rfl dX0_sitsInOrder_82 (fun S9 hf => ?_)
        refine gf_X0_245 C rfl (ne0 (ln_1222 hw hX)) dX0_sitsInOrder_85 ?_
        refine tj_iload_n C 1 rfl rfl dX0_sitsInOrder_88 ?_
        refine tj_iadd C dX0_sitsInOrder_89 ?_
        refine tj_mmin C q1439 (by omega) (by omega) (Nat.le_of_ble_eq_true rfl) dX0_sitsInOrder_90 ?_
        refine tj_callVi C (k := 6) [.int a4, .int (jmin (nI 9) ((gI S9 1222 6) + a1))] [.ref (xad Γ 1222)] (fun hN => c_Co_showsAt (by rw [hN]; exact ⟨(ne0 (ln_1222 hw hX)), rfl⟩) hf) lk_X0_372 ty_X5_showsAt rfl (by omega) (by omega) (Nat.le_of_ble_eq_true rfl) (ne0 (ln_1222 hw hX)) rfl (by decide) rfl rfl dX0_sitsInOrder_93 (fun r11 S10 hf => ?_)
        refine tj_callVi C (k := 6) [.int r11] [] (fun hN => c_Co_senseOf (by rw [hN]; exact ⟨(ne0 (ln_1222 hw hX)), rfl⟩) hf) lk_X0_452 ty_X5_senseOf rfl (by omega) (by omega) (Nat.le_of_ble_eq_true rfl) (ne0 (ln_1222 hw hX)) rfl (by decide) rfl rfl dX0_sitsInOrder_96 (fun r13 S12 hf => ?_)
        refine tj_iconst C kc_2 dX0_sitsInOrder_99 ?_
        refine tj_icmp_ne C 107 (by decide) dX0_sitsInOrder_100 (fun hc => ?_) (fun hc => ?_)
        · replace hf := hf.2 hc
          refine tj_iconst C kc_0 dX0_sitsInOrder_107 ?_
          exact w_X_sitsInOrder_b108 C hw hR r hX hρ ih hf
        · replace hf := hf.1 hc
          refine tj_iconst C kc_1 dX0_sitsInOrder_103 ?_
          refine tj_goto C 108 (by decide) dX0_sitsInOrder_104 ?_
          exact w_X_sitsInOrder_b108 C hw hR r hX hρ ih hf
      · replace hf := hf.1 hc
        refine tj_goto C 137 (by decide) dX0_sitsInOrder_58 ?_
        exact w_X_sitsInOrder_b137 C hw hR r hX hρ ih hf
theorem w_X_sitsInOrder_b0 {Γ : tX} {d : Nat} {N0 : Nat → Nat} {K : tS → Prop} (C : TC Γ cX0_sitsInOrder RX0 (5 + (d + 1)) (118 + (d + 1) * 25)) (hw : tWf N0) (hR : xnL Γ = 6) (r : TRv Γ N0 cX0_sitsInOrder K) {a1 : Int32} {a2 : Int32} {a3 : Int32} (hX : N0 1025 ≠ 0) (hρ : ∀ (a1 : Int32) (a2 : Int32) (a3 : Int32) (S : tS) (K : tS → Prop), (gN S 1025 ≠ 0) → X_sitsInOrder d a1 a2 a3 S K → Met (xl Γ) yX0_sitsInOrder (ws_ yX0_sitsInOrder cX0_sitsInOrder 6 (none)) (tRm (5 + d) (118 + d * 25)) (va_Pc [.ref (xad Γ 1025), .int a1, .int a2, .int a3] (tPre (xG Γ) (xad Γ) (xA Γ) S)) (va_Qv K (tB (xG Γ) (xad Γ) (xA Γ) (gN S)) (xA Γ)) 0 0 (xA Γ)) {S : tS} (hf : X_sitsInOrder (d + 1) a1 a2 a3 S K) : TJ Γ N0 0 0 0 [(0, .ref (xad Γ 1025)), (1, .int a1), (2, .int a2), (3, .int a3)] [] S := by
  unfold X_sitsInOrder at hf
  refine tj_iload_n C 2 rfl rfl dX0_sitsInOrder_0 ?_
  refine tj_if_ne C 34 (by decide) dX0_sitsInOrder_1 (fun hc => ?_) (fun hc => ?_)
  · replace hf := hf.2 hc
    refine tj_iconst C kc_0 dX0_sitsInOrder_34 ?_
    refine tj_istore C (by rw [hR]; decide) [(4, .int (nI 0)), (0, .ref (xad Γ 1025)), (1, .int a1), (2, .int a2), (3, .int a3)] rfl dX0_sitsInOrder_35 ?_
    exact tj_sub [1, 2, 3, 4, 0] (hf.elim fun k hf => w_X_sitsInOrder_l37 C hw hR r hX hρ k _ _ hf) rfl
  · replace hf := hf.1 hc
    refine tj_iload_n C 3 rfl rfl dX0_sitsInOrder_4 ?_
    refine tj_aload_n C 0 rfl rfl dX0_sitsInOrder_5 ?_
    refine gf_X0_467 C hX dX0_sitsInOrder_6 ?_
    refine tj_icmp_gt C 13 (by decide) dX0_sitsInOrder_9 (fun hc => ?_) (fun hc => ?_)
    · replace hf := hf.1 hc
      refine tj_aload_n C 0 rfl rfl dX0_sitsInOrder_13 ?_
      refine tj_iload_n C 3 rfl rfl dX0_sitsInOrder_14 ?_
      refine pf_X0_467 C hX dX0_sitsInOrder_15 ?_
      refine tj_topS (fun S1 eS => ?_)
      replace hf := hf S1 eS
      refine tj_aload_n C 0 rfl rfl dX0_sitsInOrder_18 ?_
      refine gf_X0_82 C hX dX0_sitsInOrder_19 ?_
      refine tj_iconst C kc_0 dX0_sitsInOrder_22 ?_
      refine tj_aload_n C 0 rfl rfl dX0_sitsInOrder_23 ?_
      refine gf_X0_85 C hX dX0_sitsInOrder_24 ?_
      refine tj_iconst C kc_0 dX0_sitsInOrder_27 ?_
      refine tj_bipush C kb_6 dX0_sitsInOrder_28 ?_
      refine tj_hN (fun hN => tj_copy16 C 2416 2448 6 6 rfl rfl (by rw [hN]; exact (ln_2416 hw hX)) (by rw [hN]; exact (ln_2448 hw hX)) q649 hf.1 (by omega) (by omega) (Nat.le_of_ble_eq_true rfl) dX0_sitsInOrder_30 ?_)
      replace hf := hf.2
      refine tj_topS (fun S2 eS => ?_)
      replace hf := hf S2 eS
      exact r _ _ _ dX0_sitsInOrder_33 hf
    · replace hf := hf.2 hc
      exact r _ _ _ dX0_sitsInOrder_12 hf
theorem c_X_sitsInOrder {l : Launch} {G : tG} {ad : Nat → Nat} {A : Nat → Prop} : ∀ (d : Nat) (a1 : Int32) (a2 : Int32) (a3 : Int32) (S : tS) (K : tS → Prop), (gN S 1025 ≠ 0) → X_sitsInOrder d a1 a2 a3 S K → Met l yX0_sitsInOrder (ws_ yX0_sitsInOrder cX0_sitsInOrder 6 (none)) (tRm (5 + d) (118 + d * 25)) (va_Pc [.ref (ad 1025), .int a1, .int a2, .int a3] (tPre G ad A S)) (va_Qv K (tB G ad A (gN S)) A) 0 0 A := by
  intro d
  induction d with
  | zero => intro a1 a2 a3 S K hX hf; exact hf.elim
  | succ d ih =>
    intro a1 a2 a3 S K hX hf
    exact tj_met_v [(0, .ref (ad 1025)), (1, .int a1), (2, .int a2), (3, .int a3)] pn_X0 rfl (Nat.le_of_ble_eq_true rfl) (fun p e R s m args below meth c Q C hw r => w_X_sitsInOrder_b0 C hw rfl r hX ih hf)
theorem w_X_laysOrder_b0 {Γ : tX} {N0 : Nat → Nat} {K : tS → Prop} (C : TC Γ cX0_laysOrder RX0 14 343) (hw : tWf N0) (hR : xnL Γ = 1) (r : TRv Γ N0 cX0_laysOrder K) (hX : N0 1025 ≠ 0) {S : tS} (hf : X_laysOrder S K) : TJ Γ N0 0 0 0 [(0, .ref (xad Γ 1025))] [] S := by
  unfold X_laysOrder at hf
  refine tj_aload_n C 0 rfl rfl dX0_laysOrder_0 ?_
  refine tj_iconst C kc_m1 dX0_laysOrder_1 ?_
  refine pf_X0_467 C hX dX0_laysOrder_2 ?_
  refine tj_topS (fun S1 eS => ?_)
  replace hf := hf S1 eS
  refine tj_aload_n C 0 rfl rfl dX0_laysOrder_5 ?_
  refine tj_iconst C kc_0 dX0_laysOrder_6 ?_
  refine tj_aload_n C 0 rfl rfl dX0_laysOrder_7 ?_
  refine tj_callVa C (k := 1) [] [.int (nI 0), .ref (xad Γ 1025)] (fun hN => c_X_at (by rw [hN]; exact hX) hf) lk_X0_168 ty_X0_at rfl (Nat.le_of_ble_eq_true rfl) (Nat.le_of_ble_eq_true rfl) (Nat.le_of_ble_eq_true rfl) hX rfl (by decide) rfl rfl dX0_laysOrder_8 (fun S2 hf => ?_)
  refine tj_iconst C kc_0 dX0_laysOrder_11 ?_
  refine tj_callVi C (k := 6) [.int (nI 0)] [.int (nI 0), .ref (xad Γ 1025)] (fun hN => c_Co_are (by rw [hN]; exact ⟨(ne0 (ln_1222 hw hX)), rfl⟩) hf) lk_X0_258 ty_X5_are rfl (Nat.le_of_ble_eq_true rfl) (Nat.le_of_ble_eq_true rfl) (Nat.le_of_ble_eq_true rfl) (ne0 (ln_1222 hw hX)) rfl (by decide) rfl rfl dX0_laysOrder_12 (fun r4 S3 hf => ?_)
  refine tj_iconst C kc_0 dX0_laysOrder_15 ?_
  obtain ⟨d, hd8, hf⟩ := hf
  refine tj_callVv C (k := 1) [.int (nI 0), .int r4, .int (nI 0)] [] (fun hN => c_X_sitsInOrder d _ _ _ _ _ (by rw [hN]; exact hX) hf) lk_X0_473 ty_X0_sitsInOrder rfl (by omega) (by omega) (Nat.le_of_ble_eq_true rfl) hX rfl (by decide) rfl rfl dX0_laysOrder_16 (fun S5 hf => ?_)
  exact r _ _ _ dX0_laysOrder_19 hf
theorem c_X_laysOrder {l : Launch} {G : tG} {ad : Nat → Nat} {A : Nat → Prop} {S : tS} {K : tS → Prop} (hX : gN S 1025 ≠ 0) (hf : X_laysOrder S K) : Met l yX0_laysOrder (ws_ yX0_laysOrder cX0_laysOrder 1 (none)) (tRm 14 343) (va_Pc [.ref (ad 1025)] (tPre G ad A S)) (va_Qv K (tB G ad A (gN S)) A) 0 0 A :=
  tj_met_v [(0, .ref (ad 1025))] pn_X0 rfl (Nat.le_of_ble_eq_true rfl) (fun p e R s m args below meth c Q C hw r => w_X_laysOrder_b0 C hw rfl r hX hf)
theorem w_X_best_b0 {Γ : tX} {N0 : Nat → Nat} {K : Int32 → tS → Prop} (C : TC Γ cX0_best RX0 15 363) (hw : tWf N0) (hR : xnL Γ = 1) (r : TRi Γ N0 cX0_best K) (hX : N0 1025 ≠ 0) {S : tS} (hf : X_best S K) : TJ Γ N0 0 0 0 [(0, .ref (xad Γ 1025))] [] S := by
  unfold X_best at hf
  refine tj_aload_n C 0 rfl rfl dX0_best_0 ?_
  refine tj_iconst C kc_0 dX0_best_1 ?_
  refine pf_X0_91 C hX dX0_best_2 ?_
  refine tj_topS (fun S1 eS => ?_)
  replace hf := hf S1 eS
  refine tj_aload_n C 0 rfl rfl dX0_best_5 ?_
  refine tj_callVv C (k := 1) [] [] (fun hN => c_X_laysOrder (by rw [hN]; exact hX) hf) lk_X0_477 ty_X0_laysOrder rfl (Nat.le_of_ble_eq_true rfl) (Nat.le_of_ble_eq_true rfl) (Nat.le_of_ble_eq_true rfl) hX rfl (by decide) rfl rfl dX0_best_6 (fun S2 hf => ?_)
  refine tj_aload_n C 0 rfl rfl dX0_best_9 ?_
  refine gf_X0_467 C hX dX0_best_10 ?_
  exact r _ _ _ _ dX0_best_13 hf
theorem c_X_best {l : Launch} {G : tG} {ad : Nat → Nat} {A : Nat → Prop} {S : tS} {K : Int32 → tS → Prop} (hX : gN S 1025 ≠ 0) (hf : X_best S K) : Met l yX0_best (ws_ yX0_best cX0_best 1 (some .int)) (tRm 15 363) (va_Pc [.ref (ad 1025)] (tPre G ad A S)) (va_Qi K (tB G ad A (gN S)) A) 0 0 A :=
  tj_met_i [(0, .ref (ad 1025))] pn_X0 rfl (Nat.le_of_ble_eq_true rfl) (fun p e R s m args below meth c Q C hw r => w_X_best_b0 C hw rfl r hX hf)
theorem w_X_bestAt_b30 {Γ : tX} {N0 : Nat → Nat} {K : Int32 → tS → Prop} (C : TC Γ cX0_bestAt RX0 15 363) (hw : tWf N0) (hR : xnL Γ = 2) (r : TRi Γ N0 cX0_bestAt K) {a1 : Int32} (hX : N0 1025 ≠ 0) {s1 : Int32} {S : tS} (hf : X_bestAt_b30 a1 K s1 S) : TJ Γ N0 0 0 30 [(0, .ref (xad Γ 1025)), (1, .int a1)] [.int s1, .ref (xad Γ 1025)] S := by
  unfold X_bestAt_b30 at hf
  refine pf_X0_91 C hX dX0_bestAt_30 ?_
  refine tj_topS (fun S6 eS => ?_)
  replace hf := hf S6 eS
  refine tj_aload_n C 0 rfl rfl dX0_bestAt_33 ?_
  refine gf_X0_91 C hX dX0_bestAt_34 ?_
  refine tj_if_le C 42 (by decide) dX0_bestAt_37 (fun hc => ?_) (fun hc => ?_)
  · replace hf := hf.1 hc
    refine tj_aload_n C 0 rfl rfl dX0_bestAt_42 ?_
    refine tj_callVv C (k := 1) [] [] (fun hN => c_X_laysOrder (by rw [hN]; exact hX) hf) lk_X0_477 ty_X0_laysOrder rfl (Nat.le_of_ble_eq_true rfl) (Nat.le_of_ble_eq_true rfl) (Nat.le_of_ble_eq_true rfl) hX rfl (by decide) rfl rfl dX0_bestAt_43 (fun S7 hf => ?_)
    refine tj_aload_n C 0 rfl rfl dX0_bestAt_46 ?_
    refine gf_X0_85 C hX dX0_bestAt_47 ?_
    refine tj_iload_n C 1 rfl rfl dX0_bestAt_50 ?_
    refine tj_iald C 2448 6 rfl (ln_2448 hw hX) _ rfl hf.1 dX0_bestAt_51 ?_
    replace hf := hf.2
    exact r _ _ _ _ dX0_bestAt_52 hf
  · replace hf := hf.2 hc
    refine tj_iconst C kc_m1 dX0_bestAt_40 ?_
    exact r _ _ _ _ dX0_bestAt_41 hf
theorem w_X_bestAt_b0 {Γ : tX} {N0 : Nat → Nat} {K : Int32 → tS → Prop} (C : TC Γ cX0_bestAt RX0 15 363) (hw : tWf N0) (hR : xnL Γ = 2) (r : TRi Γ N0 cX0_bestAt K) {a1 : Int32} (hX : N0 1025 ≠ 0) {S : tS} (hf : X_bestAt a1 S K) : TJ Γ N0 0 0 0 [(0, .ref (xad Γ 1025)), (1, .int a1)] [] S := by
  unfold X_bestAt at hf
  refine tj_aload_n C 0 rfl rfl dX0_bestAt_0 ?_
  refine tj_iload_n C 1 rfl rfl dX0_bestAt_1 ?_
  refine tj_if_ge C 9 (by decide) dX0_bestAt_2 (fun hc => ?_) (fun hc => ?_)
  · replace hf := hf.1 hc
    refine tj_iload_n C 1 rfl rfl dX0_bestAt_9 ?_
    refine tj_aload_n C 0 rfl rfl dX0_bestAt_10 ?_
    refine tj_callVa C (k := 1) [] [.int a1, .ref (xad Γ 1025)] (fun hN => c_X_at (by rw [hN]; exact hX) hf) lk_X0_168 ty_X0_at rfl (Nat.le_of_ble_eq_true rfl) (Nat.le_of_ble_eq_true rfl) (Nat.le_of_ble_eq_true rfl) hX rfl (by decide) rfl rfl dX0_bestAt_11 (fun S1 hf => ?_)
    refine tj_iconst C kc_0 dX0_bestAt_14 ?_
    refine tj_callVi C (k := 6) [.int (nI 0)] [.int a1, .ref (xad Γ 1025)] (fun hN => c_Co_are (by rw [hN]; exact ⟨(ne0 (ln_1222 hw hX)), rfl⟩) hf) lk_X0_258 ty_X5_are rfl (Nat.le_of_ble_eq_true rfl) (Nat.le_of_ble_eq_true rfl) (Nat.le_of_ble_eq_true rfl) (ne0 (ln_1222 hw hX)) rfl (by decide) rfl rfl dX0_bestAt_15 (fun r3 S2 hf => ?_)
    refine tj_callSi C [.int r3] [.int a1, .ref (xad Γ 1025)] (fun hN => c_In_bitCount hf) lk_X0_338 ty_J11_bitCount rfl (Nat.le_of_ble_eq_true rfl) (Nat.le_of_ble_eq_true rfl) (Nat.le_of_ble_eq_true rfl) rfl dX0_bestAt_18 (fun r5 S4 hf => ?_)
    refine tj_icmp_ge C 28 (by decide) dX0_bestAt_21 (fun hc => ?_) (fun hc => ?_)
    · replace hf := hf.1 hc
      refine tj_bipush C kb_6 dX0_bestAt_28 ?_
      exact w_X_bestAt_b30 C hw hR r hX hf
    · replace hf := hf.2 hc
      refine tj_iconst C kc_0 dX0_bestAt_24 ?_
      refine tj_goto C 30 (by decide) dX0_bestAt_25 ?_
      exact w_X_bestAt_b30 C hw hR r hX hf
  · replace hf := hf.2 hc
    refine tj_iconst C kc_1 dX0_bestAt_5 ?_
    refine tj_goto C 30 (by decide) dX0_bestAt_6 ?_
    exact w_X_bestAt_b30 C hw hR r hX hf
theorem c_X_bestAt {l : Launch} {G : tG} {ad : Nat → Nat} {A : Nat → Prop} {S : tS} {K : Int32 → tS → Prop} {a1 : Int32} (hX : gN S 1025 ≠ 0) (hf : X_bestAt a1 S K) : Met l yX0_bestAt (ws_ yX0_bestAt cX0_bestAt 2 (some .int)) (tRm 15 363) (va_Pc [.ref (ad 1025), .int a1] (tPre G ad A S)) (va_Qi K (tB G ad A (gN S)) A) 0 0 A :=
  tj_met_i [(0, .ref (ad 1025)), (1, .int a1)] pn_X0 rfl (Nat.le_of_ble_eq_true rfl) (fun p e R s m args below meth c Q C hw r => w_X_bestAt_b0 C hw rfl r hX hf)
