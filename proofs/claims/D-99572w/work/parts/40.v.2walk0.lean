set_option maxRecDepth 100000
theorem w_XV_put_b0 {Γ : tX} {Nb : Nat → Nat} {K : tS → Prop} {KX : tS → Prop} {mc ms : Nat} (C : TC Γ cX0_put RX0 12 10260) (hE : tDyn (xad Γ)) (hB : mc ≤ (xR Γ).cells ∧ ms ≤ (xR Γ).slots) (hR : xnL Γ = 7) (r : TEv Γ Nb mc ms cX0_put K) (hst : (xl Γ).stackTraces = false) (rx : TEXV Γ Nb mc ms tz_AIO KX) (N0 : Nat → Nat) (hx : tExt Nb N0) (hw : tWf N0) {a0 : Nat} {a1 : Int32} {a2 : Int64} (h_a0 : N0 a0 ≠ 0 ∧ (16 ≤ a0 % 32 ∧ a0 % 32 ≤ 19)) {S : tS} (hf : XV_put a0 a1 a2 mc ms S K KX) : TJ Γ N0 0 0 0 [(0, .ref (xad Γ a0)), (1, .int a1), (2, .long a2)] [] S := by
  unfold XV_put at hf
  refine tj_aload_n C 0 rfl rfl dX0_put_0 ?_
  by_cases hk1 : a0 % 32 = 18
  · replace hf := hf.1 hk1
    refine tj_instY C 18 a0 hk1 (by decide) (by decide) rfl h_a0.1 q625 dX0_put_1 ?_
    refine tj_if_eq C 23 (by decide) dX0_put_4 (fun hc => absurd hc (by decide +kernel)) (fun hc => ?_)
    refine tj_aload_n C 0 rfl rfl dX0_put_7 ?_
    refine tj_castA C 18 a0 hk1 (by decide) (by decide) rfl h_a0.1 q625 dX0_put_8 ?_
    refine tj_astore C (by rw [hR]; decide) [(4, .ref (xad Γ a0)), (0, .ref (xad Γ a0)), (1, .int a1), (2, .long a2)] rfl dX0_put_11 ?_
    refine tj_aload C 0 rfl dX0_put_13 ?_
    refine tj_iload_n C 2 rfl rfl dX0_put_15 ?_
    refine tj_lload_n C 3 rfl rfl dX0_put_16 ?_
    refine tj_l2i C dX0_put_17 ?_
    refine tj_i2b C dX0_put_18 ?_
    by_cases hv : vp_in a1 (gN S a0 - 1)
    · replace hf := hf.1 hv
      refine tj_bastd C a0 hk1 h_a0.1 _ rfl hv dX0_put_19 ?_
      refine tj_topS (fun S2 eS => ?_)
      replace hf := hf S2 eS
      refine tj_goto C 75 (by decide) dX0_put_20 ?_
      exact tj_up mc ms hB hf.1 (r _ _ _ _ hx dX0_put_75 hf.2)
    · replace hf := hf.2 hv
      exact tj_bastV C hst a0 hk1 h_a0.1 hv hf.1 (Nat.le_of_ble_eq_true rfl) (Nat.le_of_ble_eq_true rfl) (Nat.le_of_ble_eq_true rfl) ⟨Nat.le_trans hf.2.1.1 hB.1, Nat.le_trans hf.2.1.2 hB.2⟩ dX0_put_19 (fun q => txj_up mc ms hB hf.2.1 (rx _ _ _ _ q hx hf.2.2))
  · replace hf := hf.2 hk1
    refine tj_instN C 18 a0 h_a0.2.1 h_a0.2.2 (by decide) hk1 rfl h_a0.1 q625 dX0_put_1 ?_
    refine tj_if_eq C 23 (by decide) dX0_put_4 (fun hc => ?_) (fun hc => absurd hc (by decide +kernel))
    refine tj_aload_n C 0 rfl rfl dX0_put_23 ?_
    by_cases hk3 : a0 % 32 = 19
    · replace hf := hf.1 hk3
      refine tj_instY C 19 a0 hk3 (by decide) (by decide) rfl h_a0.1 q626 dX0_put_24 ?_
      refine tj_if_eq C 46 (by decide) dX0_put_27 (fun hc => absurd hc (by decide +kernel)) (fun hc => ?_)
      refine tj_aload_n C 0 rfl rfl dX0_put_30 ?_
      refine tj_castA C 19 a0 hk3 (by decide) (by decide) rfl h_a0.1 q626 dX0_put_31 ?_
      refine tj_astore C (by rw [hR]; decide) [(5, .ref (xad Γ a0)), (0, .ref (xad Γ a0)), (1, .int a1), (2, .long a2)] rfl dX0_put_34 ?_
      refine tj_aload C 0 rfl dX0_put_36 ?_
      refine tj_iload_n C 2 rfl rfl dX0_put_38 ?_
      refine tj_lload_n C 3 rfl rfl dX0_put_39 ?_
      refine tj_l2i C dX0_put_40 ?_
      refine tj_i2s C dX0_put_41 ?_
      by_cases hv : vp_in a1 (gN S a0 - 1)
      · replace hf := hf.1 hv
        refine tj_sastd C a0 hk3 h_a0.1 _ rfl hv dX0_put_42 ?_
        refine tj_topS (fun S4 eS => ?_)
        replace hf := hf S4 eS
        refine tj_goto C 75 (by decide) dX0_put_43 ?_
        exact tj_up mc ms hB hf.1 (r _ _ _ _ hx dX0_put_75 hf.2)
      · replace hf := hf.2 hv
        exact tj_sastV C hst a0 hk3 h_a0.1 hv hf.1 (Nat.le_of_ble_eq_true rfl) (Nat.le_of_ble_eq_true rfl) (Nat.le_of_ble_eq_true rfl) ⟨Nat.le_trans hf.2.1.1 hB.1, Nat.le_trans hf.2.1.2 hB.2⟩ dX0_put_42 (fun q => txj_up mc ms hB hf.2.1 (rx _ _ _ _ q hx hf.2.2))
    · replace hf := hf.2 hk3
      refine tj_instN C 19 a0 h_a0.2.1 h_a0.2.2 (by decide) hk3 rfl h_a0.1 q626 dX0_put_24 ?_
      refine tj_if_eq C 46 (by decide) dX0_put_27 (fun hc => ?_) (fun hc => absurd hc (by decide +kernel))
      refine tj_aload_n C 0 rfl rfl dX0_put_46 ?_
      by_cases hk5 : a0 % 32 = 16
      · replace hf := hf.1 hk5
        refine tj_instY C 16 a0 hk5 (by decide) (by decide) rfl h_a0.1 q627 dX0_put_47 ?_
        refine tj_if_eq C 68 (by decide) dX0_put_50 (fun hc => absurd hc (by decide +kernel)) (fun hc => ?_)
        refine tj_aload_n C 0 rfl rfl dX0_put_53 ?_
        refine tj_castA C 16 a0 hk5 (by decide) (by decide) rfl h_a0.1 q627 dX0_put_54 ?_
        refine tj_astore C (by rw [hR]; decide) [(6, .ref (xad Γ a0)), (0, .ref (xad Γ a0)), (1, .int a1), (2, .long a2)] rfl dX0_put_57 ?_
        refine tj_aload C 0 rfl dX0_put_59 ?_
        refine tj_iload_n C 2 rfl rfl dX0_put_61 ?_
        refine tj_lload_n C 3 rfl rfl dX0_put_62 ?_
        refine tj_l2i C dX0_put_63 ?_
        by_cases hv : vp_in a1 (gN S a0 - 1)
        · replace hf := hf.1 hv
          refine tj_iastd C a0 hk5 h_a0.1 _ rfl hv dX0_put_64 ?_
          refine tj_topS (fun S6 eS => ?_)
          replace hf := hf S6 eS
          refine tj_goto C 75 (by decide) dX0_put_65 ?_
          exact tj_up mc ms hB hf.1 (r _ _ _ _ hx dX0_put_75 hf.2)
        · replace hf := hf.2 hv
          exact tj_iastV C hst a0 hk5 h_a0.1 hv hf.1 (Nat.le_of_ble_eq_true rfl) (Nat.le_of_ble_eq_true rfl) (Nat.le_of_ble_eq_true rfl) ⟨Nat.le_trans hf.2.1.1 hB.1, Nat.le_trans hf.2.1.2 hB.2⟩ dX0_put_64 (fun q => txj_up mc ms hB hf.2.1 (rx _ _ _ _ q hx hf.2.2))
      · replace hf := hf.2 hk5
        refine tj_instN C 16 a0 h_a0.2.1 h_a0.2.2 (by decide) hk5 rfl h_a0.1 q627 dX0_put_47 ?_
        refine tj_if_eq C 68 (by decide) dX0_put_50 (fun hc => ?_) (fun hc => absurd hc (by decide +kernel))
        refine tj_aload_n C 0 rfl rfl dX0_put_68 ?_
        have hk7 : a0 % 32 = 17 := by have := h_a0.2; omega
        refine tj_castA C 17 a0 hk7 (by decide) (by decide) rfl h_a0.1 q628 dX0_put_69 ?_
        refine tj_iload_n C 1 rfl rfl dX0_put_72 ?_
        refine tj_lload_n C 2 rfl rfl dX0_put_73 ?_
        by_cases hv : vp_in a1 (gN S a0 - 1)
        · replace hf := hf.1 hv
          refine tj_lastd C a0 hk7 h_a0.1 _ rfl hv dX0_put_74 ?_
          refine tj_topS (fun S8 eS => ?_)
          replace hf := hf S8 eS
          exact tj_up mc ms hB hf.1 (r _ _ _ _ hx dX0_put_75 hf.2)
        · replace hf := hf.2 hv
          exact tj_lastV C hst a0 hk7 h_a0.1 hv hf.1 (Nat.le_of_ble_eq_true rfl) (Nat.le_of_ble_eq_true rfl) (Nat.le_of_ble_eq_true rfl) ⟨Nat.le_trans hf.2.1.1 hB.1, Nat.le_trans hf.2.1.2 hB.2⟩ dX0_put_74 (fun q => txj_up mc ms hB hf.2.1 (rx _ _ _ _ q hx hf.2.2))
theorem c_XV_put {l : Launch} {G : tG} {ad : Nat → Nat} {A : Nat → Prop} {S : tS} {K : tS → Prop} {KX : tS → Prop} {mc ms : Nat} {a0 : Nat} {a1 : Int32} {a2 : Int64} (h_a0 : gN S a0 ≠ 0 ∧ (16 ≤ a0 % 32 ∧ a0 % 32 ≤ 19)) (hE : tDyn ad) (hst : l.stackTraces = false) (hf : XV_put a0 a1 a2 mc ms S K KX) : vx_Met l yX0_put (ws_ yX0_put cX0_put 7 (none)) (tRe 12 10260 mc ms) (va_Pc [.ref (ad a0), .int a1, .long a2] (tPre G ad A S)) (va_Qv K (tBE G ad A (gN S)) A) (vx_X KX (tBXV G ad A (gN S) tz_AIO) A) mc ms A :=
  te_xmetV_v [(0, .ref (ad a0)), (1, .int a1), (2, .long a2)] pn_X0 rfl (Nat.le_of_ble_eq_true rfl) (fun p e R s m args below meth c Q C hw hB r rx => w_XV_put_b0 C hE hB rfl r hst rx _ tExt.rf hw h_a0 hf)
theorem w_XV_number_b0 {Γ : tX} {Nb : Nat → Nat} {K : Int64 → tS → Prop} {KX : tS → Prop} {mc ms : Nat} (C : TC Γ cX0_number RX0 12 10260) (hE : tDyn (xad Γ)) (hB : mc ≤ (xR Γ).cells ∧ ms ≤ (xR Γ).slots) (hR : xnL Γ = 3) (r : TEl Γ Nb mc ms cX0_number K) (hst : (xl Γ).stackTraces = false) (rx : TEXV Γ Nb mc ms tz_AIO KX) (N0 : Nat → Nat) (hx : tExt Nb N0) (hw : tWf N0) {a0 : Nat} {a1 : Int32} (h_a0 : N0 a0 ≠ 0 ∧ (16 ≤ a0 % 32 ∧ a0 % 32 ≤ 19)) {S : tS} (hf : XV_number a0 a1 mc ms S K KX) : TJ Γ N0 0 0 0 [(0, .ref (xad Γ a0)), (1, .int a1)] [] S := by
  unfold XV_number at hf
  refine tj_aload_n C 0 rfl rfl dX0_number_0 ?_
  by_cases hk1 : a0 % 32 = 18
  · replace hf := hf.1 hk1
    refine tj_instY C 18 a0 hk1 (by decide) (by decide) rfl h_a0.1 q625 dX0_number_1 ?_
    refine tj_if_eq C 17 (by decide) dX0_number_4 (fun hc => absurd hc (by decide +kernel)) (fun hc => ?_)
    refine tj_aload_n C 0 rfl rfl dX0_number_7 ?_
    refine tj_castA C 18 a0 hk1 (by decide) (by decide) rfl h_a0.1 q625 dX0_number_8 ?_
    refine tj_astore_n C (by rw [hR]; decide) [(2, .ref (xad Γ a0)), (0, .ref (xad Γ a0)), (1, .int a1)] rfl rfl dX0_number_11 ?_
    refine tj_aload_n C 0 rfl rfl dX0_number_12 ?_
    refine tj_iload_n C 2 rfl rfl dX0_number_13 ?_
    by_cases hv : vp_in a1 (gN S a0 - 1)
    · replace hf := hf.1 hv
      refine tj_baldd C a0 hk1 h_a0.1 _ rfl hv dX0_number_14 ?_
      refine tj_i2l C dX0_number_15 ?_
      exact tj_up mc ms hB hf.1 (r _ _ _ _ _ hx dX0_number_16 hf.2)
    · replace hf := hf.2 hv
      exact tj_baldV C hst a0 hk1 h_a0.1 hv hf.1 (Nat.le_of_ble_eq_true rfl) (Nat.le_of_ble_eq_true rfl) (Nat.le_of_ble_eq_true rfl) ⟨Nat.le_trans hf.2.1.1 hB.1, Nat.le_trans hf.2.1.2 hB.2⟩ dX0_number_14 (fun q => txj_up mc ms hB hf.2.1 (rx _ _ _ _ q hx hf.2.2))
  · replace hf := hf.2 hk1
    refine tj_instN C 18 a0 h_a0.2.1 h_a0.2.2 (by decide) hk1 rfl h_a0.1 q625 dX0_number_1 ?_
    refine tj_if_eq C 17 (by decide) dX0_number_4 (fun hc => ?_) (fun hc => absurd hc (by decide +kernel))
    refine tj_aload_n C 0 rfl rfl dX0_number_17 ?_
    by_cases hk2 : a0 % 32 = 19
    · replace hf := hf.1 hk2
      refine tj_instY C 19 a0 hk2 (by decide) (by decide) rfl h_a0.1 q626 dX0_number_18 ?_
      refine tj_if_eq C 34 (by decide) dX0_number_21 (fun hc => absurd hc (by decide +kernel)) (fun hc => ?_)
      refine tj_aload_n C 0 rfl rfl dX0_number_24 ?_
      refine tj_castA C 19 a0 hk2 (by decide) (by decide) rfl h_a0.1 q626 dX0_number_25 ?_
      refine tj_astore_n C (by rw [hR]; decide) [(2, .ref (xad Γ a0)), (0, .ref (xad Γ a0)), (1, .int a1)] rfl rfl dX0_number_28 ?_
      refine tj_aload_n C 0 rfl rfl dX0_number_29 ?_
      refine tj_iload_n C 2 rfl rfl dX0_number_30 ?_
      by_cases hv : vp_in a1 (gN S a0 - 1)
      · replace hf := hf.1 hv
        refine tj_saldd C a0 hk2 h_a0.1 _ rfl hv dX0_number_31 ?_
        refine tj_i2l C dX0_number_32 ?_
        exact tj_up mc ms hB hf.1 (r _ _ _ _ _ hx dX0_number_33 hf.2)
      · replace hf := hf.2 hv
        exact tj_saldV C hst a0 hk2 h_a0.1 hv hf.1 (Nat.le_of_ble_eq_true rfl) (Nat.le_of_ble_eq_true rfl) (Nat.le_of_ble_eq_true rfl) ⟨Nat.le_trans hf.2.1.1 hB.1, Nat.le_trans hf.2.1.2 hB.2⟩ dX0_number_31 (fun q => txj_up mc ms hB hf.2.1 (rx _ _ _ _ q hx hf.2.2))
    · replace hf := hf.2 hk2
      refine tj_instN C 19 a0 h_a0.2.1 h_a0.2.2 (by decide) hk2 rfl h_a0.1 q626 dX0_number_18 ?_
      refine tj_if_eq C 34 (by decide) dX0_number_21 (fun hc => ?_) (fun hc => absurd hc (by decide +kernel))
      refine tj_aload_n C 0 rfl rfl dX0_number_34 ?_
      by_cases hk3 : a0 % 32 = 16
      · replace hf := hf.1 hk3
        refine tj_instY C 16 a0 hk3 (by decide) (by decide) rfl h_a0.1 q627 dX0_number_35 ?_
        refine tj_if_eq C 53 (by decide) dX0_number_38 (fun hc => absurd hc (by decide +kernel)) (fun hc => ?_)
        refine tj_aload_n C 0 rfl rfl dX0_number_41 ?_
        refine tj_castA C 16 a0 hk3 (by decide) (by decide) rfl h_a0.1 q627 dX0_number_42 ?_
        refine tj_astore_n C (by rw [hR]; decide) [(2, .ref (xad Γ a0)), (0, .ref (xad Γ a0)), (1, .int a1)] rfl rfl dX0_number_45 ?_
        refine tj_aload_n C 0 rfl rfl dX0_number_46 ?_
        refine tj_iload_n C 2 rfl rfl dX0_number_47 ?_
        by_cases hv : vp_in a1 (gN S a0 - 1)
        · replace hf := hf.1 hv
          refine tj_ialdd C a0 hk3 h_a0.1 _ rfl hv dX0_number_48 ?_
          refine tj_i2l C dX0_number_49 ?_
          refine tj_goto C 59 (by decide) dX0_number_50 ?_
          exact tj_up mc ms hB hf.1 (r _ _ _ _ _ hx dX0_number_59 hf.2)
        · replace hf := hf.2 hv
          exact tj_ialdV C hst a0 hk3 h_a0.1 hv hf.1 (Nat.le_of_ble_eq_true rfl) (Nat.le_of_ble_eq_true rfl) (Nat.le_of_ble_eq_true rfl) ⟨Nat.le_trans hf.2.1.1 hB.1, Nat.le_trans hf.2.1.2 hB.2⟩ dX0_number_48 (fun q => txj_up mc ms hB hf.2.1 (rx _ _ _ _ q hx hf.2.2))
      · replace hf := hf.2 hk3
        refine tj_instN C 16 a0 h_a0.2.1 h_a0.2.2 (by decide) hk3 rfl h_a0.1 q627 dX0_number_35 ?_
        refine tj_if_eq C 53 (by decide) dX0_number_38 (fun hc => ?_) (fun hc => absurd hc (by decide +kernel))
        refine tj_aload_n C 0 rfl rfl dX0_number_53 ?_
        have hk4 : a0 % 32 = 17 := by have := h_a0.2; omega
        refine tj_castA C 17 a0 hk4 (by decide) (by decide) rfl h_a0.1 q628 dX0_number_54 ?_
        refine tj_iload_n C 1 rfl rfl dX0_number_57 ?_
        by_cases hv : vp_in a1 (gN S a0 - 1)
        · replace hf := hf.1 hv
          refine tj_laldd C a0 hk4 h_a0.1 _ rfl hv dX0_number_58 ?_
          exact tj_up mc ms hB hf.1 (r _ _ _ _ _ hx dX0_number_59 hf.2)
        · replace hf := hf.2 hv
          exact tj_laldV C hst a0 hk4 h_a0.1 hv hf.1 (Nat.le_of_ble_eq_true rfl) (Nat.le_of_ble_eq_true rfl) (Nat.le_of_ble_eq_true rfl) ⟨Nat.le_trans hf.2.1.1 hB.1, Nat.le_trans hf.2.1.2 hB.2⟩ dX0_number_58 (fun q => txj_up mc ms hB hf.2.1 (rx _ _ _ _ q hx hf.2.2))
theorem c_XV_number {l : Launch} {G : tG} {ad : Nat → Nat} {A : Nat → Prop} {S : tS} {K : Int64 → tS → Prop} {KX : tS → Prop} {mc ms : Nat} {a0 : Nat} {a1 : Int32} (h_a0 : gN S a0 ≠ 0 ∧ (16 ≤ a0 % 32 ∧ a0 % 32 ≤ 19)) (hE : tDyn ad) (hst : l.stackTraces = false) (hf : XV_number a0 a1 mc ms S K KX) : vx_Met l yX0_number (ws_ yX0_number cX0_number 3 (some .long)) (tRe 12 10260 mc ms) (va_Pc [.ref (ad a0), .int a1] (tPre G ad A S)) (va_Ql K (tBE G ad A (gN S)) A) (vx_X KX (tBXV G ad A (gN S) tz_AIO) A) mc ms A :=
  te_xmetV_l [(0, .ref (ad a0)), (1, .int a1)] pn_X0 rfl (Nat.le_of_ble_eq_true rfl) (fun p e R s m args below meth c Q C hw hB r rx => w_XV_number_b0 C hE hB rfl r hst rx _ tExt.rf hw h_a0 hf)
theorem w_XV_row_b0 {Γ : tX} {Nb : Nat → Nat} {K : Nat → tS → Prop} {KX : tS → Prop} {mc ms : Nat} (C : TC Γ cX0_row RX0 12 10260) (hE : tDyn (xad Γ)) (hB : mc ≤ (xR Γ).cells ∧ ms ≤ (xR Γ).slots) (hR : xnL Γ = 2) (r : TEr Γ Nb mc ms cX0_row (tKk (fun t => (16 ≤ t % 32 ∧ t % 32 ≤ 19)) K)) (hst : (xl Γ).stackTraces = false) (rx : TEXV Γ Nb mc ms tz_NAS KX) (N0 : Nat → Nat) (hx : tExt Nb N0) (hw : tWf N0) {a0 : Int32} {a1 : Int32} {S : tS} (hf : XV_row a0 a1 mc ms S K KX) : TJ Γ N0 0 0 0 [(0, .int a0), (1, .int a1)] [] S := by
  unfold XV_row at hf
  refine tj_iload_n C 0 rfl rfl dX0_row_0 ?_
  refine tj_if_ne C 10 (by decide) dX0_row_1 (fun hc => ?_) (fun hc => ?_)
  · replace hf := hf.2 hc
    refine tj_iload_n C 0 rfl rfl dX0_row_10 ?_
    refine tj_iconst C kc_1 dX0_row_11 ?_
    refine tj_icmp_ne C 21 (by decide) dX0_row_12 (fun hc => ?_) (fun hc => ?_)
    · replace hf := hf.2 hc
      refine tj_iload_n C 0 rfl rfl dX0_row_21 ?_
      refine tj_iconst C kc_2 dX0_row_22 ?_
      refine tj_icmp_ne C 32 (by decide) dX0_row_23 (fun hc => ?_) (fun hc => ?_)
      · replace hf := hf.2 hc
        refine tj_iload_n C 1 rfl rfl dX0_row_32 ?_
        by_cases hv : a1 < nI 0
        · replace hf := hf.1 hv
          exact tj_newarrV C hst hv (Nat.le_of_ble_eq_true rfl) (Nat.le_of_ble_eq_true rfl) (Nat.le_of_ble_eq_true rfl) ⟨Nat.le_trans hf.1.1 hB.1, Nat.le_trans hf.1.2 hB.2⟩ dX0_row_33 (fun q => txj_up mc ms hB hf.1 (rx _ _ _ _ q hx hf.2))
        · replace hf := hf.2 hv
          refine tj_hN (fun hN => ?_)
          refine tj_newlong C hE q433 hv hf.1 ⟨Nat.le_trans hf.2.1.1 hB.1, Nat.le_trans hf.2.1.2 hB.2⟩ dX0_row_33 (fun t1 N1 hN1 hx1 hw1 _ h_t1 h32 hz => ?_)
          refine tj_topS (fun S2 eS => ?_)
          replace hf := hf.2.2 t1 S2 (by rw [hN]; exact hz) h32 h_t1.2 eS
          have hw := hw1
          have hx := hx.tr hx1
          exact tj_hN (fun hN => tj_up mc ms hB hf.1 (r _ _ _ _ _ hx dX0_row_35 ⟨⟨by rw [hN]; exact h_t1.1, (by have hk9 := h_t1.2; omega)⟩, hf.2⟩))
      · replace hf := hf.1 hc
        refine tj_iload_n C 1 rfl rfl dX0_row_26 ?_
        by_cases hv : a1 < nI 0
        · replace hf := hf.1 hv
          exact tj_newarrV C hst hv (Nat.le_of_ble_eq_true rfl) (Nat.le_of_ble_eq_true rfl) (Nat.le_of_ble_eq_true rfl) ⟨Nat.le_trans hf.1.1 hB.1, Nat.le_trans hf.1.2 hB.2⟩ dX0_row_27 (fun q => txj_up mc ms hB hf.1 (rx _ _ _ _ q hx hf.2))
        · replace hf := hf.2 hv
          refine tj_hN (fun hN => ?_)
          refine tj_newarr C hE 16 (by decide) (atype := .int) (ty := .int) rfl q434 (fun _ => rfl) rfl (fun _ _ h => h) hv hf.1 ⟨Nat.le_trans hf.2.1.1 hB.1, Nat.le_trans hf.2.1.2 hB.2⟩ dX0_row_27 (fun t3 N3 hN3 hx3 hw3 _ h_t3 h32 hz => ?_)
          refine tj_topS (fun S4 eS => ?_)
          replace hf := hf.2.2 t3 S4 (by rw [hN]; exact hz) h32 h_t3.2 eS
          have hw := hw3
          have hx := hx.tr hx3
          refine tj_goto C 35 (by decide) dX0_row_29 ?_
          exact tj_hN (fun hN => tj_up mc ms hB hf.1 (r _ _ _ _ _ hx dX0_row_35 ⟨⟨by rw [hN]; exact h_t3.1, (by have hk9 := h_t3.2; omega)⟩, hf.2⟩))
    · replace hf := hf.1 hc
      refine tj_iload_n C 1 rfl rfl dX0_row_15 ?_
      by_cases hv : a1 < nI 0
      · replace hf := hf.1 hv
        exact tj_newarrV C hst hv (Nat.le_of_ble_eq_true rfl) (Nat.le_of_ble_eq_true rfl) (Nat.le_of_ble_eq_true rfl) ⟨Nat.le_trans hf.1.1 hB.1, Nat.le_trans hf.1.2 hB.2⟩ dX0_row_16 (fun q => txj_up mc ms hB hf.1 (rx _ _ _ _ q hx hf.2))
      · replace hf := hf.2 hv
        refine tj_hN (fun hN => ?_)
        refine tj_newarr C hE 19 (by decide) (atype := .short) (ty := .short) rfl q594 (fun _ => rfl) rfl (fun _ _ h => h) hv hf.1 ⟨Nat.le_trans hf.2.1.1 hB.1, Nat.le_trans hf.2.1.2 hB.2⟩ dX0_row_16 (fun t5 N5 hN5 hx5 hw5 _ h_t5 h32 hz => ?_)
        refine tj_topS (fun S6 eS => ?_)
        replace hf := hf.2.2 t5 S6 (by rw [hN]; exact hz) h32 h_t5.2 eS
        have hw := hw5
        have hx := hx.tr hx5
        refine tj_goto C 35 (by decide) dX0_row_18 ?_
        exact tj_hN (fun hN => tj_up mc ms hB hf.1 (r _ _ _ _ _ hx dX0_row_35 ⟨⟨by rw [hN]; exact h_t5.1, (by have hk9 := h_t5.2; omega)⟩, hf.2⟩))
  · replace hf := hf.1 hc
    refine tj_iload_n C 1 rfl rfl dX0_row_4 ?_
    by_cases hv : a1 < nI 0
    · replace hf := hf.1 hv
      exact tj_newarrV C hst hv (Nat.le_of_ble_eq_true rfl) (Nat.le_of_ble_eq_true rfl) (Nat.le_of_ble_eq_true rfl) ⟨Nat.le_trans hf.1.1 hB.1, Nat.le_trans hf.1.2 hB.2⟩ dX0_row_5 (fun q => txj_up mc ms hB hf.1 (rx _ _ _ _ q hx hf.2))
    · replace hf := hf.2 hv
      refine tj_hN (fun hN => ?_)
      refine tj_newarr C hE 18 (by decide) (atype := .byte) (ty := .byte) rfl q286 (fun _ => rfl) rfl (fun _ _ h => h) hv hf.1 ⟨Nat.le_trans hf.2.1.1 hB.1, Nat.le_trans hf.2.1.2 hB.2⟩ dX0_row_5 (fun t7 N7 hN7 hx7 hw7 _ h_t7 h32 hz => ?_)
      refine tj_topS (fun S8 eS => ?_)
      replace hf := hf.2.2 t7 S8 (by rw [hN]; exact hz) h32 h_t7.2 eS
      have hw := hw7
      have hx := hx.tr hx7
      refine tj_goto C 35 (by decide) dX0_row_7 ?_
      exact tj_hN (fun hN => tj_up mc ms hB hf.1 (r _ _ _ _ _ hx dX0_row_35 ⟨⟨by rw [hN]; exact h_t7.1, (by have hk9 := h_t7.2; omega)⟩, hf.2⟩))
theorem c_XV_row {l : Launch} {G : tG} {ad : Nat → Nat} {A : Nat → Prop} {S : tS} {K : Nat → tS → Prop} {KX : tS → Prop} {mc ms : Nat} {a0 : Int32} {a1 : Int32} (hE : tDyn ad) (hst : l.stackTraces = false) (hf : XV_row a0 a1 mc ms S K KX) : vx_Met l yX0_row (ws_ yX0_row cX0_row 2 (some (.object "java/lang/Object"))) (tRe 12 10260 mc ms) (va_Pc [.int a0, .int a1] (tPre G ad A S)) (va_Qq (fun r (u : tS × Nat) => r = some (ad u.2) ∧ (tKk (fun t => (16 ≤ t % 32 ∧ t % 32 ≤ 19)) K) u.2 u.1) (fun u t => tBE G ad A (gN S) u.1 t) A) (vx_X KX (tBXV G ad A (gN S) tz_NAS) A) mc ms A :=
  te_xmetV_r [(0, .int a0), (1, .int a1)] pn_X0 rfl (Nat.le_of_ble_eq_true rfl) (fun p e R s m args below meth c Q C hw hB r rx => w_XV_row_b0 C hE hB rfl r hst rx _ tExt.rf hw hf)
theorem w_XV_write_b26 {Γ : tX} {Nb : Nat → Nat} {K : Int32 → tS → Prop} {mc ms : Nat} (C : TC Γ cX0_write RX0 13 10286) (hE : tDyn (xad Γ)) (hB : mc ≤ (xR Γ).cells ∧ ms ≤ (xR Γ).slots) (hR : xnL Γ = 6) (r : TEz Γ Nb mc ms cX0_write K) (hst : (xl Γ).stackTraces = false) (hT : (xc Γ).exceptionTable.toList = tableOf [(5, 16, 17, 141), (5, 16, 26, 41)]) {a1 : Int32} {a2 : Int32} {a3 : Int64} : ∀ (N0 : Nat → Nat) (hx : tExt Nb N0) (hw : tWf N0) (hX : N0 1025 ≠ 0) (uc : Nat) (us : Nat) (S : tS), XV_write_b26 a1 a2 a3 mc ms K uc us S → TJ Γ N0 uc us 26 [(0, .ref (xad Γ 1025))] [.ref (xad Γ 1156)] S := by
  intro N0 hx hw hX uc us S hf
  unfold XV_write_b26 at hf
  refine tj_astore C (by rw [hR]; decide) [(5, .ref (xad Γ 1156)), (0, .ref (xad Γ 1025))] rfl dX0_write_26 ?_
  refine tj_aload_n C 1 rfl rfl dX0_write_28 ?_
  refine tj_aload C 0 rfl dX0_write_29 ?_
  refine tj_callVz C (k := 1) [.ref (xad Γ 1156)] [] (fun hN => c_X_no (by rw [hN]; exact hX) hf) lk_X0_129 ty_X0_no rfl (Nat.le_of_ble_eq_true rfl) (Nat.le_of_ble_eq_true rfl) (Nat.le_of_ble_eq_true rfl) hX rfl (by decide) rfl rfl dX0_write_31 (fun r10 S9 hf => ?_)
  have hz_r10 := hf.1
  replace hf := hf.2
  exact tj_up mc ms hB hf.1 (r _ _ _ _ _ hx dX0_write_34 hz_r10 hf.2)
theorem w_XV_write_b17 {Γ : tX} {Nb : Nat → Nat} {K : Int32 → tS → Prop} {mc ms : Nat} (C : TC Γ cX0_write RX0 13 10286) (hE : tDyn (xad Γ)) (hB : mc ≤ (xR Γ).cells ∧ ms ≤ (xR Γ).slots) (hR : xnL Γ = 6) (r : TEz Γ Nb mc ms cX0_write K) (hst : (xl Γ).stackTraces = false) (hT : (xc Γ).exceptionTable.toList = tableOf [(5, 16, 17, 141), (5, 16, 26, 41)]) {a1 : Int32} {a2 : Int32} {a3 : Int64} : ∀ (N0 : Nat → Nat) (hx : tExt Nb N0) (hw : tWf N0) (hX : N0 1025 ≠ 0) (uc : Nat) (us : Nat) (s0 : Nat) (S : tS), XV_write_b17 a1 a2 a3 mc ms K uc us S → TJ Γ N0 uc us 17 [(0, .ref (xad Γ 1025))] [.ref s0] S := by
  intro N0 hx hw hX uc us s0 S hf
  unfold XV_write_b17 at hf
  refine tj_astore C (by rw [hR]; decide) [(5, .ref s0), (0, .ref (xad Γ 1025))] rfl dX0_write_17 ?_
  refine tj_aload_n C 1 rfl rfl dX0_write_19 ?_
  refine tj_iconst C kc_3 dX0_write_20 ?_
  refine pf_X0_91 C hX dX0_write_21 ?_
  refine tj_topS (fun S11 eS => ?_)
  replace hf := hf S11 eS
  refine tj_iconst C kc_0 dX0_write_24 ?_
  exact tj_up mc ms hB hf.1 (r _ _ _ _ _ hx dX0_write_25 zb0 hf.2)
theorem w_XV_write_b0 {Γ : tX} {Nb : Nat → Nat} {K : Int32 → tS → Prop} {mc ms : Nat} (C : TC Γ cX0_write RX0 13 10286) (hE : tDyn (xad Γ)) (hB : mc ≤ (xR Γ).cells ∧ ms ≤ (xR Γ).slots) (hR : xnL Γ = 6) (r : TEz Γ Nb mc ms cX0_write K) (hst : (xl Γ).stackTraces = false) (hT : (xc Γ).exceptionTable.toList = tableOf [(5, 16, 17, 141), (5, 16, 26, 41)]) (N0 : Nat → Nat) (hx : tExt Nb N0) (hw : tWf N0) {a1 : Int32} {a2 : Int32} {a3 : Int64} (hX : N0 1025 ≠ 0) {S : tS} (hf : XV_write a1 a2 a3 mc ms S K) : TJ Γ N0 0 0 0 [(0, .ref (xad Γ 1025)), (1, .int a1), (2, .int a2), (3, .long a3)] [] S := by
  unfold XV_write at hf
  refine tj_aload_n C 0 rfl rfl dX0_write_0 ?_
  refine tj_iconst C kc_0 dX0_write_1 ?_
  refine pf_X0_91 C hX dX0_write_2 ?_
  refine tj_topS (fun S1 eS => ?_)
  replace hf := hf S1 eS
  refine tj_aload_n C 0 rfl rfl dX0_write_5 ?_
  refine tj_iload_n C 1 rfl rfl dX0_write_6 ?_
  refine tj_xVa C (k := 1) [.int a1] [] (fun hN => c_X_on (by rw [hN]; exact hX) hf) lk_X0_133 ty_X0_on rfl (Nat.le_of_ble_eq_true rfl) (Nat.le_of_ble_eq_true rfl) (Nat.le_of_ble_eq_true rfl) hX rfl (by decide) rfl rfl dX0_write_7 (fun S3 hf => ?_) (fun t4 S2 hf hN => ?_)
  · refine tj_catch C [⟨5, 16, 17, 141⟩] ⟨5, 16, 26, 41⟩ [] hT (fun z hz => by rw [List.mem_singleton.mp hz]; exact Or.inr ⟨by decide, _, q599, C.K.2.2.1 ("CatWitness$Refused", "java/lang/ArrayIndexOutOfBoundsException") (by decide)⟩) (by decide) (by decide) q287 q289 ?_
    exact tj_sub [0] (w_XV_write_b26 C hE hB hR r hst hT _ hx hw hX _ _ _ hf) rfl
  · have h_t4 := hf.1
    rw [hN] at h_t4
    replace hf := hf.2
    refine tj_iload_n C 2 rfl rfl dX0_write_10 ?_
    refine tj_lload_n C 3 rfl rfl dX0_write_11 ?_
    obtain ⟨c6, s7, hu6, hf⟩ := hf
    refine te_xSvV C [.ref (xad Γ t4), .int a2, .long a3] [] (fun hN => c_XV_put (by rw [hN]; exact ⟨h_t4.1, h_t4.2⟩) hE hst hf) lk_X0_137 ty_X0_put rfl (Nat.le_of_ble_eq_true rfl) (Nat.le_of_ble_eq_true rfl) ⟨Nat.le_trans hu6.1 hB.1, Nat.le_trans hu6.2 hB.2⟩ (Nat.le_of_ble_eq_true rfl) rfl dX0_write_12 (fun q9 S8 _ hf _ hx6 hw6 => ?_) (fun S5 _ hf _ hx6 hw6 => ?_)
    · have hw := hw6
      have hX := hx6.ne hX
      have h_t4 := hx6.kd h_t4
      have hx := hx.tr hx6
      refine tj_catch C [] ⟨5, 16, 17, 141⟩ [⟨5, 16, 26, 41⟩] hT (fun z hz => nomatch hz) (by decide) (by decide) q599 q614 ?_
      exact tj_sub [0] (w_XV_write_b17 C hE hB hR r hst hT _ hx hw hX _ _ _ _ hf) rfl
    · have hw := hw6
      have hX := hx6.ne hX
      have h_t4 := hx6.kd h_t4
      have hx := hx.tr hx6
      refine tj_iconst C kc_1 dX0_write_15 ?_
      exact tj_up mc ms hB hf.1 (r _ _ _ _ _ hx dX0_write_16 zb1 hf.2)
theorem c_XV_write {l : Launch} {G : tG} {ad : Nat → Nat} {A : Nat → Prop} {S : tS} {K : Int32 → tS → Prop} {mc ms : Nat} {a1 : Int32} {a2 : Int32} {a3 : Int64} (hX : gN S 1025 ≠ 0) (hE : tDyn ad) (hst : l.stackTraces = false) (hf : XV_write a1 a2 a3 mc ms S K) : vx_Met l yX0_write (wsW_ yX0_write cX0_write 6 (some .boolean) [(5, 16, 17, 141), (5, 16, 26, 41)]) (tRe 13 10286 mc ms) (va_Pc [.ref (ad 1025), .int a1, .int a2, .long a3] (tPre G ad A S)) (va_Qi (fun r u => r &&& 1 = r ∧ K r u) (tBE G ad A (gN S)) A) (vx_X (fun _ => False) (tBXE G ad A (gN S) RX2 1123) A) mc ms A :=
  te_xmetW_z [(0, .ref (ad 1025)), (1, .int a1), (2, .int a2), (3, .long a3)] pn_X0 rfl (Nat.le_of_ble_eq_true rfl) (fun p e R s m args below meth c Q C hw hB hT r => w_XV_write_b0 C hE hB rfl r hst hT _ tExt.rf hw hX hf)
theorem w_XV_read_b25 {Γ : tX} {Nb : Nat → Nat} {K : Int64 → tS → Prop} {mc ms : Nat} (C : TC Γ cX0_read RX0 13 10282) (hE : tDyn (xad Γ)) (hB : mc ≤ (xR Γ).cells ∧ ms ≤ (xR Γ).slots) (hR : xnL Γ = 4) (r : TEl Γ Nb mc ms cX0_read K) (hst : (xl Γ).stackTraces = false) (hT : (xc Γ).exceptionTable.toList = tableOf [(5, 14, 15, 141), (5, 14, 25, 41)]) {a1 : Int32} {a2 : Int32} : ∀ (N0 : Nat → Nat) (hx : tExt Nb N0) (hw : tWf N0) (hX : N0 1025 ≠ 0) (uc : Nat) (us : Nat) (S : tS), XV_read_b25 a1 a2 mc ms K uc us S → TJ Γ N0 uc us 25 [(0, .ref (xad Γ 1025))] [.ref (xad Γ 1156)] S := by
  intro N0 hx hw hX uc us S hf
  unfold XV_read_b25 at hf
  refine tj_astore_n C (by rw [hR]; decide) [(3, .ref (xad Γ 1156)), (0, .ref (xad Γ 1025))] rfl rfl dX0_read_25 ?_
  refine tj_aload_n C 1 rfl rfl dX0_read_26 ?_
  refine tj_aload_n C 0 rfl rfl dX0_read_27 ?_
  refine tj_callVi C (k := 1) [.ref (xad Γ 1156)] [] (fun hN => c_X_none (by rw [hN]; exact hX) hf) lk_X0_149 ty_X0_none rfl (Nat.le_of_ble_eq_true rfl) (Nat.le_of_ble_eq_true rfl) (Nat.le_of_ble_eq_true rfl) hX rfl (by decide) rfl rfl dX0_read_28 (fun r11 S10 hf => ?_)
  refine tj_i2l C dX0_read_31 ?_
  exact tj_up mc ms hB hf.1 (r _ _ _ _ _ hx dX0_read_32 hf.2)
theorem w_XV_read_b15 {Γ : tX} {Nb : Nat → Nat} {K : Int64 → tS → Prop} {mc ms : Nat} (C : TC Γ cX0_read RX0 13 10282) (hE : tDyn (xad Γ)) (hB : mc ≤ (xR Γ).cells ∧ ms ≤ (xR Γ).slots) (hR : xnL Γ = 4) (r : TEl Γ Nb mc ms cX0_read K) (hst : (xl Γ).stackTraces = false) (hT : (xc Γ).exceptionTable.toList = tableOf [(5, 14, 15, 141), (5, 14, 25, 41)]) {a1 : Int32} {a2 : Int32} : ∀ (N0 : Nat → Nat) (hx : tExt Nb N0) (hw : tWf N0) (hX : N0 1025 ≠ 0) (uc : Nat) (us : Nat) (s0 : Nat) (S : tS), XV_read_b15 a1 a2 mc ms K uc us S → TJ Γ N0 uc us 15 [(0, .ref (xad Γ 1025))] [.ref s0] S := by
  intro N0 hx hw hX uc us s0 S hf
  unfold XV_read_b15 at hf
  refine tj_astore_n C (by rw [hR]; decide) [(3, .ref s0), (0, .ref (xad Γ 1025))] rfl rfl dX0_read_15 ?_
  refine tj_aload_n C 1 rfl rfl dX0_read_16 ?_
  refine tj_iconst C kc_3 dX0_read_17 ?_
  refine pf_X0_91 C hX dX0_read_18 ?_
  refine tj_topS (fun S12 eS => ?_)
  replace hf := hf S12 eS
  refine tj_ldc2 C kl_X0_147 dX0_read_21 ?_
  exact tj_up mc ms hB hf.1 (r _ _ _ _ _ hx dX0_read_24 hf.2)
theorem w_XV_read_b0 {Γ : tX} {Nb : Nat → Nat} {K : Int64 → tS → Prop} {mc ms : Nat} (C : TC Γ cX0_read RX0 13 10282) (hE : tDyn (xad Γ)) (hB : mc ≤ (xR Γ).cells ∧ ms ≤ (xR Γ).slots) (hR : xnL Γ = 4) (r : TEl Γ Nb mc ms cX0_read K) (hst : (xl Γ).stackTraces = false) (hT : (xc Γ).exceptionTable.toList = tableOf [(5, 14, 15, 141), (5, 14, 25, 41)]) (N0 : Nat → Nat) (hx : tExt Nb N0) (hw : tWf N0) {a1 : Int32} {a2 : Int32} (hX : N0 1025 ≠ 0) {S : tS} (hf : XV_read a1 a2 mc ms S K) : TJ Γ N0 0 0 0 [(0, .ref (xad Γ 1025)), (1, .int a1), (2, .int a2)] [] S := by
  unfold XV_read at hf
  refine tj_aload_n C 0 rfl rfl dX0_read_0 ?_
  refine tj_iconst C kc_0 dX0_read_1 ?_
  refine pf_X0_91 C hX dX0_read_2 ?_
  refine tj_topS (fun S1 eS => ?_)
  replace hf := hf S1 eS
  refine tj_aload_n C 0 rfl rfl dX0_read_5 ?_
  refine tj_iload_n C 1 rfl rfl dX0_read_6 ?_
  refine tj_xVa C (k := 1) [.int a1] [] (fun hN => c_X_on (by rw [hN]; exact hX) hf) lk_X0_133 ty_X0_on rfl (Nat.le_of_ble_eq_true rfl) (Nat.le_of_ble_eq_true rfl) (Nat.le_of_ble_eq_true rfl) hX rfl (by decide) rfl rfl dX0_read_7 (fun S3 hf => ?_) (fun t4 S2 hf hN => ?_)
  · refine tj_catch C [⟨5, 14, 15, 141⟩] ⟨5, 14, 25, 41⟩ [] hT (fun z hz => by rw [List.mem_singleton.mp hz]; exact Or.inr ⟨by decide, _, q599, C.K.2.2.1 ("CatWitness$Refused", "java/lang/ArrayIndexOutOfBoundsException") (by decide)⟩) (by decide) (by decide) q287 q289 ?_
    exact tj_sub [0] (w_XV_read_b25 C hE hB hR r hst hT _ hx hw hX _ _ _ hf) rfl
  · have h_t4 := hf.1
    rw [hN] at h_t4
    replace hf := hf.2
    refine tj_iload_n C 2 rfl rfl dX0_read_10 ?_
    obtain ⟨c6, s7, hu6, hf⟩ := hf
    refine te_xSlV C [.ref (xad Γ t4), .int a2] [] (fun hN => c_XV_number (by rw [hN]; exact ⟨h_t4.1, h_t4.2⟩) hE hst hf) lk_X0_143 ty_X0_number rfl (Nat.le_of_ble_eq_true rfl) (Nat.le_of_ble_eq_true rfl) ⟨Nat.le_trans hu6.1 hB.1, Nat.le_trans hu6.2 hB.2⟩ (Nat.le_of_ble_eq_true rfl) rfl dX0_read_11 (fun q9 S8 _ hf _ hx6 hw6 => ?_) (fun r9 S5 _ hf _ hx6 hw6 => ?_)
    · have hw := hw6
      have hX := hx6.ne hX
      have h_t4 := hx6.kd h_t4
      have hx := hx.tr hx6
      refine tj_catch C [] ⟨5, 14, 15, 141⟩ [⟨5, 14, 25, 41⟩] hT (fun z hz => nomatch hz) (by decide) (by decide) q599 q614 ?_
      exact tj_sub [0] (w_XV_read_b15 C hE hB hR r hst hT _ hx hw hX _ _ _ _ hf) rfl
    · have hw := hw6
      have hX := hx6.ne hX
      have h_t4 := hx6.kd h_t4
      have hx := hx.tr hx6
      exact tj_up mc ms hB hf.1 (r _ _ _ _ _ hx dX0_read_14 hf.2)
theorem c_XV_read {l : Launch} {G : tG} {ad : Nat → Nat} {A : Nat → Prop} {S : tS} {K : Int64 → tS → Prop} {mc ms : Nat} {a1 : Int32} {a2 : Int32} (hX : gN S 1025 ≠ 0) (hE : tDyn ad) (hst : l.stackTraces = false) (hf : XV_read a1 a2 mc ms S K) : vx_Met l yX0_read (wsW_ yX0_read cX0_read 4 (some .long) [(5, 14, 15, 141), (5, 14, 25, 41)]) (tRe 13 10282 mc ms) (va_Pc [.ref (ad 1025), .int a1, .int a2] (tPre G ad A S)) (va_Ql K (tBE G ad A (gN S)) A) (vx_X (fun _ => False) (tBXE G ad A (gN S) RX2 1123) A) mc ms A :=
  te_xmetW_l [(0, .ref (ad 1025)), (1, .int a1), (2, .int a2)] pn_X0 rfl (Nat.le_of_ble_eq_true rfl) (fun p e R s m args below meth c Q C hw hB hT r => w_XV_read_b0 C hE hB rfl r hst hT _ tExt.rf hw hX hf)
theorem w_XV_tray_b64 {Γ : tX} {Nb : Nat → Nat} {K : Int32 → tS → Prop} {mc ms : Nat} (C : TC Γ cX0_tray RX0 13 10281) (hE : tDyn (xad Γ)) (hB : mc ≤ (xR Γ).cells ∧ ms ≤ (xR Γ).slots) (hR : xnL Γ = 5) (r : TEz Γ Nb mc ms cX0_tray K) (hst : (xl Γ).stackTraces = false) (hT : (xc Γ).exceptionTable.toList = tableOf [(5, 54, 55, 127), (5, 54, 64, 41)]) {a1 : Int32} {a2 : Int32} {a3 : Int32} : ∀ (N0 : Nat → Nat) (hx : tExt Nb N0) (hw : tWf N0) (hX : N0 1025 ≠ 0) (uc : Nat) (us : Nat) (S : tS), XV_tray_b64 a1 a2 a3 mc ms K uc us S → TJ Γ N0 uc us 64 [(0, .ref (xad Γ 1025))] [.ref (xad Γ 1156)] S := by
  intro N0 hx hw hX uc us S hf
  unfold XV_tray_b64 at hf
  refine tj_astore C (by rw [hR]; decide) [(4, .ref (xad Γ 1156)), (0, .ref (xad Γ 1025))] rfl dX0_tray_64 ?_
  refine tj_aload_n C 1 rfl rfl dX0_tray_66 ?_
  refine tj_aload C 0 rfl dX0_tray_67 ?_
  refine tj_callVz C (k := 1) [.ref (xad Γ 1156)] [] (fun hN => c_X_no (by rw [hN]; exact hX) hf) lk_X0_129 ty_X0_no rfl (Nat.le_of_ble_eq_true rfl) (Nat.le_of_ble_eq_true rfl) (Nat.le_of_ble_eq_true rfl) hX rfl (by decide) rfl rfl dX0_tray_69 (fun r12 S11 hf => ?_)
  have hz_r12 := hf.1
  replace hf := hf.2
  exact tj_up mc ms hB hf.1 (r _ _ _ _ _ hx dX0_tray_72 hz_r12 hf.2)
theorem w_XV_tray_b55 {Γ : tX} {Nb : Nat → Nat} {K : Int32 → tS → Prop} {mc ms : Nat} (C : TC Γ cX0_tray RX0 13 10281) (hE : tDyn (xad Γ)) (hB : mc ≤ (xR Γ).cells ∧ ms ≤ (xR Γ).slots) (hR : xnL Γ = 5) (r : TEz Γ Nb mc ms cX0_tray K) (hst : (xl Γ).stackTraces = false) (hT : (xc Γ).exceptionTable.toList = tableOf [(5, 54, 55, 127), (5, 54, 64, 41)]) {a1 : Int32} {a2 : Int32} {a3 : Int32} : ∀ (N0 : Nat → Nat) (hx : tExt Nb N0) (hw : tWf N0) (hX : N0 1025 ≠ 0) (uc : Nat) (us : Nat) (s0 : Nat) (S : tS), XV_tray_b55 a1 a2 a3 mc ms K uc us S → TJ Γ N0 uc us 55 [(0, .ref (xad Γ 1025))] [.ref s0] S := by
  intro N0 hx hw hX uc us s0 S hf
  unfold XV_tray_b55 at hf
  refine tj_astore C (by rw [hR]; decide) [(4, .ref s0), (0, .ref (xad Γ 1025))] rfl dX0_tray_55 ?_
  refine tj_aload_n C 1 rfl rfl dX0_tray_57 ?_
  refine tj_iconst C kc_1 dX0_tray_58 ?_
  refine pf_X0_91 C hX dX0_tray_59 ?_
  refine tj_topS (fun S13 eS => ?_)
  replace hf := hf S13 eS
  refine tj_iconst C kc_0 dX0_tray_62 ?_
  exact tj_up mc ms hB hf.1 (r _ _ _ _ _ hx dX0_tray_63 zb0 hf.2)
theorem w_XV_tray_b35 {Γ : tX} {Nb : Nat → Nat} {K : Int32 → tS → Prop} {mc ms : Nat} (C : TC Γ cX0_tray RX0 13 10281) (hE : tDyn (xad Γ)) (hB : mc ≤ (xR Γ).cells ∧ ms ≤ (xR Γ).slots) (hR : xnL Γ = 5) (r : TEz Γ Nb mc ms cX0_tray K) (hst : (xl Γ).stackTraces = false) (hT : (xc Γ).exceptionTable.toList = tableOf [(5, 54, 55, 127), (5, 54, 64, 41)]) {a1 : Int32} {a2 : Int32} {a3 : Int32} : ∀ (N0 : Nat → Nat) (hx : tExt Nb N0) (hw : tWf N0) (hX : N0 1025 ≠ 0) (uc : Nat) (us : Nat) (s1 : Int32) (S : tS), XV_tray_b35 a1 a2 a3 mc ms K uc us s1 S → TJ Γ N0 uc us 35 [(0, .ref (xad Γ 1025)), (1, .int a1), (2, .int a2), (3, .int a3)] [.int s1, .ref (xad Γ 1025)] S := by
  intro N0 hx hw hX uc us s1 S hf
  unfold XV_tray_b35 at hf
  refine tj_iconst C kc_1 dX0_tray_35 ?_
  refine tj_xVv C (k := 1) [.int s1, .int (nI 1)] [] (fun hN => c_X_want (by rw [hN]; exact hX) hf) lk_X0_116 ty_X0_want rfl (Nat.le_of_ble_eq_true rfl) (Nat.le_of_ble_eq_true rfl) (Nat.le_of_ble_eq_true rfl) hX rfl (by decide) rfl rfl dX0_tray_36 (fun S3 hf => ?_) (fun S2 hf => ?_)
  · refine tj_catch C [⟨5, 54, 55, 127⟩] ⟨5, 54, 64, 41⟩ [] hT (fun z hz => by rw [List.mem_singleton.mp hz]; exact Or.inr ⟨by decide, _, q550, C.K.2.2.1 ("CatWitness$Refused", "java/lang/NegativeArraySizeException") (by decide)⟩) (by decide) (by decide) q287 q289 ?_
    exact tj_sub [0] (w_XV_tray_b64 C hE hB hR r hst hT _ hx hw hX _ _ _ hf) rfl
  · refine tj_aload_n C 0 rfl rfl dX0_tray_39 ?_
    refine gf_X0_18 C hX dX0_tray_40 ?_
    refine tj_iload_n C 1 rfl rfl dX0_tray_43 ?_
    refine tj_aald21 C 1077 4 rfl (ln_1077 hw hX) _ rfl hf.1 dX0_tray_44 ?_
    replace hf := hf.2
    refine tj_hN (fun hN => ?_)
    obtain ⟨t4, he, h_t4, hf⟩ := hf
    rw [hN] at h_t4
    refine tj_some he ?_
    refine tj_iload_n C 2 rfl rfl dX0_tray_45 ?_
    refine tj_iload_n C 3 rfl rfl dX0_tray_46 ?_
    obtain ⟨c6, s7, hu6, hf⟩ := hf
    refine te_xSaV C [.int a2, .int a3] [.ref (xad Γ t4)] (fun hN => c_XV_row hE hst hf) lk_X0_124 ty_X0_row rfl (Nat.le_of_ble_eq_true rfl) (Nat.le_of_ble_eq_true rfl) ⟨Nat.le_trans hu6.1 hB.1, Nat.le_trans hu6.2 hB.2⟩ (Nat.le_of_ble_eq_true rfl) rfl dX0_tray_47 (fun q9 S8 _ hf _ hx6 hw6 => ?_) (fun t9 S5 _ hf hN6 hx6 hw6 => ?_)
    · have hw := hw6
      have hX := hx6.ne hX
      have h_t4 := hx6.kd h_t4
      have hx := hx.tr hx6
      refine tj_catch C [] ⟨5, 54, 55, 127⟩ [⟨5, 54, 64, 41⟩] hT (fun z hz => nomatch hz) (by decide) (by decide) q550 q570 ?_
      exact tj_sub [0] (w_XV_tray_b55 C hE hB hR r hst hT _ hx hw hX _ _ _ _ hf) rfl
    · have h_t9 := hf.1
      rw [hN6] at h_t9
      have hw := hw6
      have hX := hx6.ne hX
      have h_t4 := hx6.kd h_t4
      have hx := hx.tr hx6
      replace hf := hf.2
      refine pf_X0_120 C (x := some t9) h_t4.2 h_t4.1 dX0_tray_50 ?_
      refine tj_topS (fun S10 eS => ?_)
      replace hf := hf S10 eS
      refine tj_iconst C kc_1 dX0_tray_53 ?_
      exact tj_up mc ms hB hf.1 (r _ _ _ _ _ hx dX0_tray_54 zb1 hf.2)
theorem w_XV_tray_b34 {Γ : tX} {Nb : Nat → Nat} {K : Int32 → tS → Prop} {mc ms : Nat} (C : TC Γ cX0_tray RX0 13 10281) (hE : tDyn (xad Γ)) (hB : mc ≤ (xR Γ).cells ∧ ms ≤ (xR Γ).slots) (hR : xnL Γ = 5) (r : TEz Γ Nb mc ms cX0_tray K) (hst : (xl Γ).stackTraces = false) (hT : (xc Γ).exceptionTable.toList = tableOf [(5, 54, 55, 127), (5, 54, 64, 41)]) {a1 : Int32} {a2 : Int32} {a3 : Int32} : ∀ (N0 : Nat → Nat) (hx : tExt Nb N0) (hw : tWf N0) (hX : N0 1025 ≠ 0) (uc : Nat) (us : Nat) (S : tS), XV_tray_b34 a1 a2 a3 mc ms K uc us S → TJ Γ N0 uc us 34 [(0, .ref (xad Γ 1025)), (1, .int a1), (2, .int a2), (3, .int a3)] [.ref (xad Γ 1025)] S := by
  intro N0 hx hw hX uc us S hf
  unfold XV_tray_b34 at hf
  refine tj_iconst C kc_0 dX0_tray_34 ?_
  exact w_XV_tray_b35 C hE hB hR r hst hT _ hx hw hX _ _ _ _ hf
theorem w_XV_tray_b0 {Γ : tX} {Nb : Nat → Nat} {K : Int32 → tS → Prop} {mc ms : Nat} (C : TC Γ cX0_tray RX0 13 10281) (hE : tDyn (xad Γ)) (hB : mc ≤ (xR Γ).cells ∧ ms ≤ (xR Γ).slots) (hR : xnL Γ = 5) (r : TEz Γ Nb mc ms cX0_tray K) (hst : (xl Γ).stackTraces = false) (hT : (xc Γ).exceptionTable.toList = tableOf [(5, 54, 55, 127), (5, 54, 64, 41)]) (N0 : Nat → Nat) (hx : tExt Nb N0) (hw : tWf N0) {a1 : Int32} {a2 : Int32} {a3 : Int32} (hX : N0 1025 ≠ 0) {S : tS} (hf : XV_tray a1 a2 a3 mc ms S K) : TJ Γ N0 0 0 0 [(0, .ref (xad Γ 1025)), (1, .int a1), (2, .int a2), (3, .int a3)] [] S := by
  unfold XV_tray at hf
  refine tj_aload_n C 0 rfl rfl dX0_tray_0 ?_
  refine tj_iconst C kc_0 dX0_tray_1 ?_
  refine pf_X0_91 C hX dX0_tray_2 ?_
  refine tj_topS (fun S1 eS => ?_)
  replace hf := hf S1 eS
  refine tj_aload_n C 0 rfl rfl dX0_tray_5 ?_
  refine tj_iload_n C 1 rfl rfl dX0_tray_6 ?_
  refine tj_if_lt C 34 (by decide) dX0_tray_7 (fun hc => ?_) (fun hc => ?_)
  · replace hf := hf.1 hc
    exact w_XV_tray_b34 C hE hB hR r hst hT _ hx hw hX _ _ _ hf
  · replace hf := hf.2 hc
    refine tj_iload_n C 1 rfl rfl dX0_tray_10 ?_
    refine tj_iconst C kc_4 dX0_tray_11 ?_
    refine tj_icmp_ge C 34 (by decide) dX0_tray_12 (fun hc => ?_) (fun hc => ?_)
    · replace hf := hf.1 hc
      exact w_XV_tray_b34 C hE hB hR r hst hT _ hx hw hX _ _ _ hf
    · replace hf := hf.2 hc
      refine tj_iload_n C 2 rfl rfl dX0_tray_15 ?_
      refine tj_if_lt C 34 (by decide) dX0_tray_16 (fun hc => ?_) (fun hc => ?_)
      · replace hf := hf.1 hc
        exact w_XV_tray_b34 C hE hB hR r hst hT _ hx hw hX _ _ _ hf
      · replace hf := hf.2 hc
        refine tj_iload_n C 2 rfl rfl dX0_tray_19 ?_
        refine tj_iconst C kc_3 dX0_tray_20 ?_
        refine tj_icmp_gt C 34 (by decide) dX0_tray_21 (fun hc => ?_) (fun hc => ?_)
        · replace hf := hf.1 hc
          exact w_XV_tray_b34 C hE hB hR r hst hT _ hx hw hX _ _ _ hf
        · replace hf := hf.2 hc
          refine tj_iload_n C 3 rfl rfl dX0_tray_24 ?_
          refine tj_bipush C kb_60 dX0_tray_25 ?_
          refine tj_icmp_gt C 34 (by decide) dX0_tray_27 (fun hc => ?_) (fun hc => ?_)
          · replace hf := hf.1 hc
            exact w_XV_tray_b34 C hE hB hR r hst hT _ hx hw hX _ _ _ hf
          · replace hf := hf.2 hc
            refine tj_iconst C kc_1 dX0_tray_30 ?_
            refine tj_goto C 35 (by decide) dX0_tray_31 ?_
            exact w_XV_tray_b35 C hE hB hR r hst hT _ hx hw hX _ _ _ _ hf
theorem c_XV_tray {l : Launch} {G : tG} {ad : Nat → Nat} {A : Nat → Prop} {S : tS} {K : Int32 → tS → Prop} {mc ms : Nat} {a1 : Int32} {a2 : Int32} {a3 : Int32} (hX : gN S 1025 ≠ 0) (hE : tDyn ad) (hst : l.stackTraces = false) (hf : XV_tray a1 a2 a3 mc ms S K) : vx_Met l yX0_tray (wsW_ yX0_tray cX0_tray 5 (some .boolean) [(5, 54, 55, 127), (5, 54, 64, 41)]) (tRe 13 10281 mc ms) (va_Pc [.ref (ad 1025), .int a1, .int a2, .int a3] (tPre G ad A S)) (va_Qi (fun r u => r &&& 1 = r ∧ K r u) (tBE G ad A (gN S)) A) (vx_X (fun _ => False) (tBXE G ad A (gN S) RX2 1123) A) mc ms A :=
  te_xmetW_z [(0, .ref (ad 1025)), (1, .int a1), (2, .int a2), (3, .int a3)] pn_X0 rfl (Nat.le_of_ble_eq_true rfl) (fun p e R s m args below meth c Q C hw hB hT r => w_XV_tray_b0 C hE hB rfl r hst hT _ tExt.rf hw hX hf)
