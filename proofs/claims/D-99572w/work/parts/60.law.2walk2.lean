set_option maxRecDepth 100000
theorem w_Lw_law_b856 {Γ : tX} {Nb : Nat → Nat} {K : Int32 → tS → Prop} {mc ms b sl : Nat} {sc : Nat → Int32} (C : TC Γ cL_law RL 79 10311) (hE : tDyn (xad Γ)) (hB : mc ≤ (xR Γ).cells ∧ ms ≤ (xR Γ).slots) (hR : xnL Γ = 4) (r : TEz Γ Nb mc ms cL_law K) (hst : (xl Γ).stackTraces = false) (hG : lawG Γ b sl sc) {κ18 : Nat → Nat → Int32 → tS → Prop} (hκ18 : ∀ (N0 : Nat → Nat) (hx : tExt Nb N0) (hw : tWf N0) (hM : N0 0 ≠ 0) (hX : N0 1025 ≠ 0) (uc : Nat) (us : Nat) (a3 : Int32) (S : tS), κ18 uc us a3 S → TJ Γ N0 uc us 18 [(0, .ref b), (1, .ref (xad Γ 1025)), (2, .ref (xad Γ 0)), (3, .int a3)] [] S) : ∀ (N0 : Nat → Nat) (hx : tExt Nb N0) (hw : tWf N0) (hM : N0 0 ≠ 0) (hX : N0 1025 ≠ 0) (uc : Nat) (us : Nat) (a3 : Int32) (S : tS), Lw_law_b856 sl sc mc ms K κ18 uc us a3 S → TJ Γ N0 uc us 856 [(0, .ref b), (1, .ref (xad Γ 1025)), (2, .ref (xad Γ 0)), (3, .int a3)] [] S := by
  intro N0 hx hw hM hX uc us a3 S hf
  unfold Lw_law_b856 at hf
  refine tj_aload_n C 1 rfl rfl dL_law_856 ?_
  refine tj_aload_n C 0 rfl rfl dL_law_857 ?_
  refine tj_iload_n C 3 rfl rfl dL_law_858 ?_
  refine tj_iconst C kc_1 dL_law_859 ?_
  refine tj_iadd C dL_law_860 ?_
  refine tj_sld C hG hf.1 dL_law_861 ?_
  replace hf := hf.2
  refine tj_callVi C (k := 1) [.int (sc (a3 + (nI 1)).toNatClampNeg)] [] (fun hN => c_X_sit (by rw [hN]; exact hX) hf) lk_L_92 ty_X0_sit rfl (Nat.le_of_ble_eq_true rfl) (Nat.le_of_ble_eq_true rfl) (Nat.le_of_ble_eq_true rfl) hX rfl (by decide) rfl rfl dL_law_862 (fun r82 S81 hf => ?_)
  refine tj_aload_n C 2 rfl rfl dL_law_865 ?_
  refine tj_aload_n C 0 rfl rfl dL_law_866 ?_
  refine tj_iload_n C 3 rfl rfl dL_law_867 ?_
  refine tj_iconst C kc_1 dL_law_868 ?_
  refine tj_iadd C dL_law_869 ?_
  refine tj_sld C hG hf.1 dL_law_870 ?_
  replace hf := hf.2
  refine tj_callVi C (k := 0) [.int (sc (a3 + (nI 1)).toNatClampNeg)] [.int r82] (fun hN => c_M_sit (by rw [hN]; exact hM) hf) lk_L_95 ty_X6_sit rfl (Nat.le_of_ble_eq_true rfl) (Nat.le_of_ble_eq_true rfl) (Nat.le_of_ble_eq_true rfl) hM rfl (by decide) rfl rfl dL_law_871 (fun r84 S83 hf => ?_)
  refine tj_icmp_eq C 2010 (by decide) dL_law_874 (fun hc => ?_) (fun hc => ?_)
  · replace hf := hf.1 hc
    exact w_Lw_law_b2010 C hE hB hR r hst hG hκ18 _ hx hw hM hX _ _ _ _ hf
  · replace hf := hf.2 hc
    refine tj_iconst C kc_0 dL_law_877 ?_
    exact tj_up mc ms hB hf.1 (r _ _ _ _ _ hx dL_law_878 zb0 hf.2)
theorem w_Lw_law_b823 {Γ : tX} {Nb : Nat → Nat} {K : Int32 → tS → Prop} {mc ms b sl : Nat} {sc : Nat → Int32} (C : TC Γ cL_law RL 79 10311) (hE : tDyn (xad Γ)) (hB : mc ≤ (xR Γ).cells ∧ ms ≤ (xR Γ).slots) (hR : xnL Γ = 4) (r : TEz Γ Nb mc ms cL_law K) (hst : (xl Γ).stackTraces = false) (hG : lawG Γ b sl sc) {κ18 : Nat → Nat → Int32 → tS → Prop} (hκ18 : ∀ (N0 : Nat → Nat) (hx : tExt Nb N0) (hw : tWf N0) (hM : N0 0 ≠ 0) (hX : N0 1025 ≠ 0) (uc : Nat) (us : Nat) (a3 : Int32) (S : tS), κ18 uc us a3 S → TJ Γ N0 uc us 18 [(0, .ref b), (1, .ref (xad Γ 1025)), (2, .ref (xad Γ 0)), (3, .int a3)] [] S) : ∀ (N0 : Nat → Nat) (hx : tExt Nb N0) (hw : tWf N0) (hM : N0 0 ≠ 0) (hX : N0 1025 ≠ 0) (uc : Nat) (us : Nat) (a3 : Int32) (S : tS), Lw_law_b823 sl sc mc ms K κ18 uc us a3 S → TJ Γ N0 uc us 823 [(0, .ref b), (1, .ref (xad Γ 1025)), (2, .ref (xad Γ 0)), (3, .int a3)] [] S := by
  intro N0 hx hw hM hX uc us a3 S hf
  unfold Lw_law_b823 at hf
  refine tj_aload_n C 1 rfl rfl dL_law_823 ?_
  refine tj_aload_n C 0 rfl rfl dL_law_824 ?_
  refine tj_iload_n C 3 rfl rfl dL_law_825 ?_
  refine tj_iconst C kc_1 dL_law_826 ?_
  refine tj_iadd C dL_law_827 ?_
  refine tj_sld C hG hf.1 dL_law_828 ?_
  replace hf := hf.2
  refine tj_aload_n C 0 rfl rfl dL_law_829 ?_
  refine tj_iload_n C 3 rfl rfl dL_law_830 ?_
  refine tj_iconst C kc_2 dL_law_831 ?_
  refine tj_iadd C dL_law_832 ?_
  refine tj_sld C hG hf.1 dL_law_833 ?_
  replace hf := hf.2
  refine tj_callVi C (k := 1) [.int (sc (a3 + (nI 1)).toNatClampNeg), .int (sc (a3 + (nI 2)).toNatClampNeg)] [] (fun hN => c_X_word (by rw [hN]; exact hX) hf) lk_L_88 ty_X0_word rfl (Nat.le_of_ble_eq_true rfl) (Nat.le_of_ble_eq_true rfl) (Nat.le_of_ble_eq_true rfl) hX rfl (by decide) rfl rfl dL_law_834 (fun r78 S77 hf => ?_)
  refine tj_aload_n C 2 rfl rfl dL_law_837 ?_
  refine tj_aload_n C 0 rfl rfl dL_law_838 ?_
  refine tj_iload_n C 3 rfl rfl dL_law_839 ?_
  refine tj_iconst C kc_1 dL_law_840 ?_
  refine tj_iadd C dL_law_841 ?_
  refine tj_sld C hG hf.1 dL_law_842 ?_
  replace hf := hf.2
  refine tj_aload_n C 0 rfl rfl dL_law_843 ?_
  refine tj_iload_n C 3 rfl rfl dL_law_844 ?_
  refine tj_iconst C kc_2 dL_law_845 ?_
  refine tj_iadd C dL_law_846 ?_
  refine tj_sld C hG hf.1 dL_law_847 ?_
  replace hf := hf.2
  refine tj_callVi C (k := 0) [.int (sc (a3 + (nI 1)).toNatClampNeg), .int (sc (a3 + (nI 2)).toNatClampNeg)] [.int r78] (fun hN => c_M_word (by rw [hN]; exact hM) hf) lk_L_91 ty_X6_word rfl (Nat.le_of_ble_eq_true rfl) (Nat.le_of_ble_eq_true rfl) (Nat.le_of_ble_eq_true rfl) hM rfl (by decide) rfl rfl dL_law_848 (fun r80 S79 hf => ?_)
  refine tj_icmp_eq C 2010 (by decide) dL_law_851 (fun hc => ?_) (fun hc => ?_)
  · replace hf := hf.1 hc
    exact w_Lw_law_b2010 C hE hB hR r hst hG hκ18 _ hx hw hM hX _ _ _ _ hf
  · replace hf := hf.2 hc
    refine tj_iconst C kc_0 dL_law_854 ?_
    exact tj_up mc ms hB hf.1 (r _ _ _ _ _ hx dL_law_855 zb0 hf.2)
theorem w_Lw_law_b790 {Γ : tX} {Nb : Nat → Nat} {K : Int32 → tS → Prop} {mc ms b sl : Nat} {sc : Nat → Int32} (C : TC Γ cL_law RL 79 10311) (hE : tDyn (xad Γ)) (hB : mc ≤ (xR Γ).cells ∧ ms ≤ (xR Γ).slots) (hR : xnL Γ = 4) (r : TEz Γ Nb mc ms cL_law K) (hst : (xl Γ).stackTraces = false) (hG : lawG Γ b sl sc) {κ18 : Nat → Nat → Int32 → tS → Prop} (hκ18 : ∀ (N0 : Nat → Nat) (hx : tExt Nb N0) (hw : tWf N0) (hM : N0 0 ≠ 0) (hX : N0 1025 ≠ 0) (uc : Nat) (us : Nat) (a3 : Int32) (S : tS), κ18 uc us a3 S → TJ Γ N0 uc us 18 [(0, .ref b), (1, .ref (xad Γ 1025)), (2, .ref (xad Γ 0)), (3, .int a3)] [] S) : ∀ (N0 : Nat → Nat) (hx : tExt Nb N0) (hw : tWf N0) (hM : N0 0 ≠ 0) (hX : N0 1025 ≠ 0) (uc : Nat) (us : Nat) (a3 : Int32) (S : tS), Lw_law_b790 sl sc mc ms K κ18 uc us a3 S → TJ Γ N0 uc us 790 [(0, .ref b), (1, .ref (xad Γ 1025)), (2, .ref (xad Γ 0)), (3, .int a3)] [] S := by
  intro N0 hx hw hM hX uc us a3 S hf
  unfold Lw_law_b790 at hf
  refine tj_aload_n C 1 rfl rfl dL_law_790 ?_
  refine tj_aload_n C 0 rfl rfl dL_law_791 ?_
  refine tj_iload_n C 3 rfl rfl dL_law_792 ?_
  refine tj_iconst C kc_1 dL_law_793 ?_
  refine tj_iadd C dL_law_794 ?_
  refine tj_sld C hG hf.1 dL_law_795 ?_
  replace hf := hf.2
  refine tj_aload_n C 0 rfl rfl dL_law_796 ?_
  refine tj_iload_n C 3 rfl rfl dL_law_797 ?_
  refine tj_iconst C kc_2 dL_law_798 ?_
  refine tj_iadd C dL_law_799 ?_
  refine tj_sld C hG hf.1 dL_law_800 ?_
  replace hf := hf.2
  refine tj_callVi C (k := 1) [.int (sc (a3 + (nI 1)).toNatClampNeg), .int (sc (a3 + (nI 2)).toNatClampNeg)] [] (fun hN => c_X_reader (by rw [hN]; exact hX) hf) lk_L_84 ty_X0_reader rfl (Nat.le_of_ble_eq_true rfl) (Nat.le_of_ble_eq_true rfl) (Nat.le_of_ble_eq_true rfl) hX rfl (by decide) rfl rfl dL_law_801 (fun r74 S73 hf => ?_)
  refine tj_aload_n C 2 rfl rfl dL_law_804 ?_
  refine tj_aload_n C 0 rfl rfl dL_law_805 ?_
  refine tj_iload_n C 3 rfl rfl dL_law_806 ?_
  refine tj_iconst C kc_1 dL_law_807 ?_
  refine tj_iadd C dL_law_808 ?_
  refine tj_sld C hG hf.1 dL_law_809 ?_
  replace hf := hf.2
  refine tj_aload_n C 0 rfl rfl dL_law_810 ?_
  refine tj_iload_n C 3 rfl rfl dL_law_811 ?_
  refine tj_iconst C kc_2 dL_law_812 ?_
  refine tj_iadd C dL_law_813 ?_
  refine tj_sld C hG hf.1 dL_law_814 ?_
  replace hf := hf.2
  refine tj_callVi C (k := 0) [.int (sc (a3 + (nI 1)).toNatClampNeg), .int (sc (a3 + (nI 2)).toNatClampNeg)] [.int r74] (fun hN => c_M_reader (by rw [hN]; exact hM) hf) lk_L_87 ty_X6_reader rfl (Nat.le_of_ble_eq_true rfl) (Nat.le_of_ble_eq_true rfl) (Nat.le_of_ble_eq_true rfl) hM rfl (by decide) rfl rfl dL_law_815 (fun r76 S75 hf => ?_)
  refine tj_icmp_eq C 2010 (by decide) dL_law_818 (fun hc => ?_) (fun hc => ?_)
  · replace hf := hf.1 hc
    exact w_Lw_law_b2010 C hE hB hR r hst hG hκ18 _ hx hw hM hX _ _ _ _ hf
  · replace hf := hf.2 hc
    refine tj_iconst C kc_0 dL_law_821 ?_
    exact tj_up mc ms hB hf.1 (r _ _ _ _ _ hx dL_law_822 zb0 hf.2)
theorem w_Lw_law_b757 {Γ : tX} {Nb : Nat → Nat} {K : Int32 → tS → Prop} {mc ms b sl : Nat} {sc : Nat → Int32} (C : TC Γ cL_law RL 79 10311) (hE : tDyn (xad Γ)) (hB : mc ≤ (xR Γ).cells ∧ ms ≤ (xR Γ).slots) (hR : xnL Γ = 4) (r : TEz Γ Nb mc ms cL_law K) (hst : (xl Γ).stackTraces = false) (hG : lawG Γ b sl sc) {κ18 : Nat → Nat → Int32 → tS → Prop} (hκ18 : ∀ (N0 : Nat → Nat) (hx : tExt Nb N0) (hw : tWf N0) (hM : N0 0 ≠ 0) (hX : N0 1025 ≠ 0) (uc : Nat) (us : Nat) (a3 : Int32) (S : tS), κ18 uc us a3 S → TJ Γ N0 uc us 18 [(0, .ref b), (1, .ref (xad Γ 1025)), (2, .ref (xad Γ 0)), (3, .int a3)] [] S) : ∀ (N0 : Nat → Nat) (hx : tExt Nb N0) (hw : tWf N0) (hM : N0 0 ≠ 0) (hX : N0 1025 ≠ 0) (uc : Nat) (us : Nat) (a3 : Int32) (S : tS), Lw_law_b757 sl sc mc ms K κ18 uc us a3 S → TJ Γ N0 uc us 757 [(0, .ref b), (1, .ref (xad Γ 1025)), (2, .ref (xad Γ 0)), (3, .int a3)] [] S := by
  intro N0 hx hw hM hX uc us a3 S hf
  unfold Lw_law_b757 at hf
  refine tj_aload_n C 1 rfl rfl dL_law_757 ?_
  refine tj_aload_n C 0 rfl rfl dL_law_758 ?_
  refine tj_iload_n C 3 rfl rfl dL_law_759 ?_
  refine tj_iconst C kc_1 dL_law_760 ?_
  refine tj_iadd C dL_law_761 ?_
  refine tj_sld C hG hf.1 dL_law_762 ?_
  replace hf := hf.2
  refine tj_aload_n C 0 rfl rfl dL_law_763 ?_
  refine tj_iload_n C 3 rfl rfl dL_law_764 ?_
  refine tj_iconst C kc_2 dL_law_765 ?_
  refine tj_iadd C dL_law_766 ?_
  refine tj_sld C hG hf.1 dL_law_767 ?_
  replace hf := hf.2
  refine tj_callVi C (k := 1) [.int (sc (a3 + (nI 1)).toNatClampNeg), .int (sc (a3 + (nI 2)).toNatClampNeg)] [] (fun hN => c_X_person (by rw [hN]; exact hX) hf) lk_L_80 ty_X0_person rfl (Nat.le_of_ble_eq_true rfl) (Nat.le_of_ble_eq_true rfl) (Nat.le_of_ble_eq_true rfl) hX rfl (by decide) rfl rfl dL_law_768 (fun r70 S69 hf => ?_)
  refine tj_aload_n C 2 rfl rfl dL_law_771 ?_
  refine tj_aload_n C 0 rfl rfl dL_law_772 ?_
  refine tj_iload_n C 3 rfl rfl dL_law_773 ?_
  refine tj_iconst C kc_1 dL_law_774 ?_
  refine tj_iadd C dL_law_775 ?_
  refine tj_sld C hG hf.1 dL_law_776 ?_
  replace hf := hf.2
  refine tj_aload_n C 0 rfl rfl dL_law_777 ?_
  refine tj_iload_n C 3 rfl rfl dL_law_778 ?_
  refine tj_iconst C kc_2 dL_law_779 ?_
  refine tj_iadd C dL_law_780 ?_
  refine tj_sld C hG hf.1 dL_law_781 ?_
  replace hf := hf.2
  refine tj_callVi C (k := 0) [.int (sc (a3 + (nI 1)).toNatClampNeg), .int (sc (a3 + (nI 2)).toNatClampNeg)] [.int r70] (fun hN => c_M_person (by rw [hN]; exact hM) hf) lk_L_83 ty_X6_person rfl (Nat.le_of_ble_eq_true rfl) (Nat.le_of_ble_eq_true rfl) (Nat.le_of_ble_eq_true rfl) hM rfl (by decide) rfl rfl dL_law_782 (fun r72 S71 hf => ?_)
  refine tj_icmp_eq C 2010 (by decide) dL_law_785 (fun hc => ?_) (fun hc => ?_)
  · replace hf := hf.1 hc
    exact w_Lw_law_b2010 C hE hB hR r hst hG hκ18 _ hx hw hM hX _ _ _ _ hf
  · replace hf := hf.2 hc
    refine tj_iconst C kc_0 dL_law_788 ?_
    exact tj_up mc ms hB hf.1 (r _ _ _ _ _ hx dL_law_789 zb0 hf.2)
theorem w_Lw_law_b724 {Γ : tX} {Nb : Nat → Nat} {K : Int32 → tS → Prop} {mc ms b sl : Nat} {sc : Nat → Int32} (C : TC Γ cL_law RL 79 10311) (hE : tDyn (xad Γ)) (hB : mc ≤ (xR Γ).cells ∧ ms ≤ (xR Γ).slots) (hR : xnL Γ = 4) (r : TEz Γ Nb mc ms cL_law K) (hst : (xl Γ).stackTraces = false) (hG : lawG Γ b sl sc) {κ18 : Nat → Nat → Int32 → tS → Prop} (hκ18 : ∀ (N0 : Nat → Nat) (hx : tExt Nb N0) (hw : tWf N0) (hM : N0 0 ≠ 0) (hX : N0 1025 ≠ 0) (uc : Nat) (us : Nat) (a3 : Int32) (S : tS), κ18 uc us a3 S → TJ Γ N0 uc us 18 [(0, .ref b), (1, .ref (xad Γ 1025)), (2, .ref (xad Γ 0)), (3, .int a3)] [] S) : ∀ (N0 : Nat → Nat) (hx : tExt Nb N0) (hw : tWf N0) (hM : N0 0 ≠ 0) (hX : N0 1025 ≠ 0) (uc : Nat) (us : Nat) (a3 : Int32) (S : tS), Lw_law_b724 sl sc mc ms K κ18 uc us a3 S → TJ Γ N0 uc us 724 [(0, .ref b), (1, .ref (xad Γ 1025)), (2, .ref (xad Γ 0)), (3, .int a3)] [] S := by
  intro N0 hx hw hM hX uc us a3 S hf
  unfold Lw_law_b724 at hf
  refine tj_aload_n C 1 rfl rfl dL_law_724 ?_
  refine tj_aload_n C 0 rfl rfl dL_law_725 ?_
  refine tj_iload_n C 3 rfl rfl dL_law_726 ?_
  refine tj_iconst C kc_1 dL_law_727 ?_
  refine tj_iadd C dL_law_728 ?_
  refine tj_sld C hG hf.1 dL_law_729 ?_
  replace hf := hf.2
  refine tj_aload_n C 0 rfl rfl dL_law_730 ?_
  refine tj_iload_n C 3 rfl rfl dL_law_731 ?_
  refine tj_iconst C kc_2 dL_law_732 ?_
  refine tj_iadd C dL_law_733 ?_
  refine tj_sld C hG hf.1 dL_law_734 ?_
  replace hf := hf.2
  refine tj_callVi C (k := 1) [.int (sc (a3 + (nI 1)).toNatClampNeg), .int (sc (a3 + (nI 2)).toNatClampNeg)] [] (fun hN => c_X_rule (by rw [hN]; exact hX) hf) lk_L_75 ty_X0_rule rfl (Nat.le_of_ble_eq_true rfl) (Nat.le_of_ble_eq_true rfl) (Nat.le_of_ble_eq_true rfl) hX rfl (by decide) rfl rfl dL_law_735 (fun r66 S65 hf => ?_)
  refine tj_aload_n C 2 rfl rfl dL_law_738 ?_
  refine tj_aload_n C 0 rfl rfl dL_law_739 ?_
  refine tj_iload_n C 3 rfl rfl dL_law_740 ?_
  refine tj_iconst C kc_1 dL_law_741 ?_
  refine tj_iadd C dL_law_742 ?_
  refine tj_sld C hG hf.1 dL_law_743 ?_
  replace hf := hf.2
  refine tj_aload_n C 0 rfl rfl dL_law_744 ?_
  refine tj_iload_n C 3 rfl rfl dL_law_745 ?_
  refine tj_iconst C kc_2 dL_law_746 ?_
  refine tj_iadd C dL_law_747 ?_
  refine tj_sld C hG hf.1 dL_law_748 ?_
  replace hf := hf.2
  refine tj_callVi C (k := 0) [.int (sc (a3 + (nI 1)).toNatClampNeg), .int (sc (a3 + (nI 2)).toNatClampNeg)] [.int r66] (fun hN => c_M_rule (by rw [hN]; exact hM) hf) lk_L_79 ty_X6_rule rfl (Nat.le_of_ble_eq_true rfl) (Nat.le_of_ble_eq_true rfl) (Nat.le_of_ble_eq_true rfl) hM rfl (by decide) rfl rfl dL_law_749 (fun r68 S67 hf => ?_)
  refine tj_icmp_eq C 2010 (by decide) dL_law_752 (fun hc => ?_) (fun hc => ?_)
  · replace hf := hf.1 hc
    exact w_Lw_law_b2010 C hE hB hR r hst hG hκ18 _ hx hw hM hX _ _ _ _ hf
  · replace hf := hf.2 hc
    refine tj_iconst C kc_0 dL_law_755 ?_
    exact tj_up mc ms hB hf.1 (r _ _ _ _ _ hx dL_law_756 zb0 hf.2)
theorem w_Lw_law_b701 {Γ : tX} {Nb : Nat → Nat} {K : Int32 → tS → Prop} {mc ms b sl : Nat} {sc : Nat → Int32} (C : TC Γ cL_law RL 79 10311) (hE : tDyn (xad Γ)) (hB : mc ≤ (xR Γ).cells ∧ ms ≤ (xR Γ).slots) (hR : xnL Γ = 4) (r : TEz Γ Nb mc ms cL_law K) (hst : (xl Γ).stackTraces = false) (hG : lawG Γ b sl sc) {κ18 : Nat → Nat → Int32 → tS → Prop} (hκ18 : ∀ (N0 : Nat → Nat) (hx : tExt Nb N0) (hw : tWf N0) (hM : N0 0 ≠ 0) (hX : N0 1025 ≠ 0) (uc : Nat) (us : Nat) (a3 : Int32) (S : tS), κ18 uc us a3 S → TJ Γ N0 uc us 18 [(0, .ref b), (1, .ref (xad Γ 1025)), (2, .ref (xad Γ 0)), (3, .int a3)] [] S) : ∀ (N0 : Nat → Nat) (hx : tExt Nb N0) (hw : tWf N0) (hM : N0 0 ≠ 0) (hX : N0 1025 ≠ 0) (uc : Nat) (us : Nat) (a3 : Int32) (S : tS), Lw_law_b701 sl sc mc ms K κ18 uc us a3 S → TJ Γ N0 uc us 701 [(0, .ref b), (1, .ref (xad Γ 1025)), (2, .ref (xad Γ 0)), (3, .int a3)] [] S := by
  intro N0 hx hw hM hX uc us a3 S hf
  unfold Lw_law_b701 at hf
  refine tj_aload_n C 1 rfl rfl dL_law_701 ?_
  refine tj_aload_n C 0 rfl rfl dL_law_702 ?_
  refine tj_iload_n C 3 rfl rfl dL_law_703 ?_
  refine tj_iconst C kc_1 dL_law_704 ?_
  refine tj_iadd C dL_law_705 ?_
  refine tj_sld C hG hf.1 dL_law_706 ?_
  replace hf := hf.2
  refine tj_callVi C (k := 1) [.int (sc (a3 + (nI 1)).toNatClampNeg)] [] (fun hN => c_X_sense (by rw [hN]; exact hX) hf) lk_L_71 ty_X0_sense rfl (Nat.le_of_ble_eq_true rfl) (Nat.le_of_ble_eq_true rfl) (Nat.le_of_ble_eq_true rfl) hX rfl (by decide) rfl rfl dL_law_707 (fun r62 S61 hf => ?_)
  refine tj_aload_n C 2 rfl rfl dL_law_710 ?_
  refine tj_aload_n C 0 rfl rfl dL_law_711 ?_
  refine tj_iload_n C 3 rfl rfl dL_law_712 ?_
  refine tj_iconst C kc_1 dL_law_713 ?_
  refine tj_iadd C dL_law_714 ?_
  refine tj_sld C hG hf.1 dL_law_715 ?_
  replace hf := hf.2
  refine tj_callVi C (k := 0) [.int (sc (a3 + (nI 1)).toNatClampNeg)] [.int r62] (fun hN => c_M_sense (by rw [hN]; exact hM) hf) lk_L_74 ty_X6_sense rfl (Nat.le_of_ble_eq_true rfl) (Nat.le_of_ble_eq_true rfl) (Nat.le_of_ble_eq_true rfl) hM rfl (by decide) rfl rfl dL_law_716 (fun r64 S63 hf => ?_)
  refine tj_icmp_eq C 2010 (by decide) dL_law_719 (fun hc => ?_) (fun hc => ?_)
  · replace hf := hf.1 hc
    exact w_Lw_law_b2010 C hE hB hR r hst hG hκ18 _ hx hw hM hX _ _ _ _ hf
  · replace hf := hf.2 hc
    refine tj_iconst C kc_0 dL_law_722 ?_
    exact tj_up mc ms hB hf.1 (r _ _ _ _ _ hx dL_law_723 zb0 hf.2)
theorem w_Lw_law_b678 {Γ : tX} {Nb : Nat → Nat} {K : Int32 → tS → Prop} {mc ms b sl : Nat} {sc : Nat → Int32} (C : TC Γ cL_law RL 79 10311) (hE : tDyn (xad Γ)) (hB : mc ≤ (xR Γ).cells ∧ ms ≤ (xR Γ).slots) (hR : xnL Γ = 4) (r : TEz Γ Nb mc ms cL_law K) (hst : (xl Γ).stackTraces = false) (hG : lawG Γ b sl sc) {κ18 : Nat → Nat → Int32 → tS → Prop} (hκ18 : ∀ (N0 : Nat → Nat) (hx : tExt Nb N0) (hw : tWf N0) (hM : N0 0 ≠ 0) (hX : N0 1025 ≠ 0) (uc : Nat) (us : Nat) (a3 : Int32) (S : tS), κ18 uc us a3 S → TJ Γ N0 uc us 18 [(0, .ref b), (1, .ref (xad Γ 1025)), (2, .ref (xad Γ 0)), (3, .int a3)] [] S) : ∀ (N0 : Nat → Nat) (hx : tExt Nb N0) (hw : tWf N0) (hM : N0 0 ≠ 0) (hX : N0 1025 ≠ 0) (uc : Nat) (us : Nat) (a3 : Int32) (S : tS), Lw_law_b678 sl sc mc ms K κ18 uc us a3 S → TJ Γ N0 uc us 678 [(0, .ref b), (1, .ref (xad Γ 1025)), (2, .ref (xad Γ 0)), (3, .int a3)] [] S := by
  intro N0 hx hw hM hX uc us a3 S hf
  unfold Lw_law_b678 at hf
  refine tj_aload_n C 1 rfl rfl dL_law_678 ?_
  refine tj_aload_n C 0 rfl rfl dL_law_679 ?_
  refine tj_iload_n C 3 rfl rfl dL_law_680 ?_
  refine tj_iconst C kc_1 dL_law_681 ?_
  refine tj_iadd C dL_law_682 ?_
  refine tj_sld C hG hf.1 dL_law_683 ?_
  replace hf := hf.2
  refine tj_callVi C (k := 1) [.int (sc (a3 + (nI 1)).toNatClampNeg)] [] (fun hN => c_X_told (by rw [hN]; exact hX) hf) lk_L_67 ty_X0_told rfl (Nat.le_of_ble_eq_true rfl) (Nat.le_of_ble_eq_true rfl) (Nat.le_of_ble_eq_true rfl) hX rfl (by decide) rfl rfl dL_law_684 (fun r58 S57 hf => ?_)
  refine tj_aload_n C 2 rfl rfl dL_law_687 ?_
  refine tj_aload_n C 0 rfl rfl dL_law_688 ?_
  refine tj_iload_n C 3 rfl rfl dL_law_689 ?_
  refine tj_iconst C kc_1 dL_law_690 ?_
  refine tj_iadd C dL_law_691 ?_
  refine tj_sld C hG hf.1 dL_law_692 ?_
  replace hf := hf.2
  refine tj_callVi C (k := 0) [.int (sc (a3 + (nI 1)).toNatClampNeg)] [.int r58] (fun hN => c_M_told (by rw [hN]; exact hM) hf) lk_L_70 ty_X6_told rfl (Nat.le_of_ble_eq_true rfl) (Nat.le_of_ble_eq_true rfl) (Nat.le_of_ble_eq_true rfl) hM rfl (by decide) rfl rfl dL_law_693 (fun r60 S59 hf => ?_)
  refine tj_icmp_eq C 2010 (by decide) dL_law_696 (fun hc => ?_) (fun hc => ?_)
  · replace hf := hf.1 hc
    exact w_Lw_law_b2010 C hE hB hR r hst hG hκ18 _ hx hw hM hX _ _ _ _ hf
  · replace hf := hf.2 hc
    refine tj_iconst C kc_0 dL_law_699 ?_
    exact tj_up mc ms hB hf.1 (r _ _ _ _ _ hx dL_law_700 zb0 hf.2)
theorem w_Lw_law_b655 {Γ : tX} {Nb : Nat → Nat} {K : Int32 → tS → Prop} {mc ms b sl : Nat} {sc : Nat → Int32} (C : TC Γ cL_law RL 79 10311) (hE : tDyn (xad Γ)) (hB : mc ≤ (xR Γ).cells ∧ ms ≤ (xR Γ).slots) (hR : xnL Γ = 4) (r : TEz Γ Nb mc ms cL_law K) (hst : (xl Γ).stackTraces = false) (hG : lawG Γ b sl sc) {κ18 : Nat → Nat → Int32 → tS → Prop} (hκ18 : ∀ (N0 : Nat → Nat) (hx : tExt Nb N0) (hw : tWf N0) (hM : N0 0 ≠ 0) (hX : N0 1025 ≠ 0) (uc : Nat) (us : Nat) (a3 : Int32) (S : tS), κ18 uc us a3 S → TJ Γ N0 uc us 18 [(0, .ref b), (1, .ref (xad Γ 1025)), (2, .ref (xad Γ 0)), (3, .int a3)] [] S) : ∀ (N0 : Nat → Nat) (hx : tExt Nb N0) (hw : tWf N0) (hM : N0 0 ≠ 0) (hX : N0 1025 ≠ 0) (uc : Nat) (us : Nat) (a3 : Int32) (S : tS), Lw_law_b655 sl sc mc ms K κ18 uc us a3 S → TJ Γ N0 uc us 655 [(0, .ref b), (1, .ref (xad Γ 1025)), (2, .ref (xad Γ 0)), (3, .int a3)] [] S := by
  intro N0 hx hw hM hX uc us a3 S hf
  unfold Lw_law_b655 at hf
  refine tj_aload_n C 1 rfl rfl dL_law_655 ?_
  refine tj_aload_n C 0 rfl rfl dL_law_656 ?_
  refine tj_iload_n C 3 rfl rfl dL_law_657 ?_
  refine tj_iconst C kc_1 dL_law_658 ?_
  refine tj_iadd C dL_law_659 ?_
  refine tj_sld C hG hf.1 dL_law_660 ?_
  replace hf := hf.2
  refine tj_callVi C (k := 1) [.int (sc (a3 + (nI 1)).toNatClampNeg)] [] (fun hN => c_X_fault (by rw [hN]; exact hX) hf) lk_L_63 ty_X0_fault rfl (Nat.le_of_ble_eq_true rfl) (Nat.le_of_ble_eq_true rfl) (Nat.le_of_ble_eq_true rfl) hX rfl (by decide) rfl rfl dL_law_661 (fun r54 S53 hf => ?_)
  refine tj_aload_n C 2 rfl rfl dL_law_664 ?_
  refine tj_aload_n C 0 rfl rfl dL_law_665 ?_
  refine tj_iload_n C 3 rfl rfl dL_law_666 ?_
  refine tj_iconst C kc_1 dL_law_667 ?_
  refine tj_iadd C dL_law_668 ?_
  refine tj_sld C hG hf.1 dL_law_669 ?_
  replace hf := hf.2
  refine tj_callVi C (k := 0) [.int (sc (a3 + (nI 1)).toNatClampNeg)] [.int r54] (fun hN => c_M_fault (by rw [hN]; exact hM) hf) lk_L_66 ty_X6_fault rfl (Nat.le_of_ble_eq_true rfl) (Nat.le_of_ble_eq_true rfl) (Nat.le_of_ble_eq_true rfl) hM rfl (by decide) rfl rfl dL_law_670 (fun r56 S55 hf => ?_)
  refine tj_icmp_eq C 2010 (by decide) dL_law_673 (fun hc => ?_) (fun hc => ?_)
  · replace hf := hf.1 hc
    exact w_Lw_law_b2010 C hE hB hR r hst hG hκ18 _ hx hw hM hX _ _ _ _ hf
  · replace hf := hf.2 hc
    refine tj_iconst C kc_0 dL_law_676 ?_
    exact tj_up mc ms hB hf.1 (r _ _ _ _ _ hx dL_law_677 zb0 hf.2)
theorem w_Lw_law_b632 {Γ : tX} {Nb : Nat → Nat} {K : Int32 → tS → Prop} {mc ms b sl : Nat} {sc : Nat → Int32} (C : TC Γ cL_law RL 79 10311) (hE : tDyn (xad Γ)) (hB : mc ≤ (xR Γ).cells ∧ ms ≤ (xR Γ).slots) (hR : xnL Γ = 4) (r : TEz Γ Nb mc ms cL_law K) (hst : (xl Γ).stackTraces = false) (hG : lawG Γ b sl sc) {κ18 : Nat → Nat → Int32 → tS → Prop} (hκ18 : ∀ (N0 : Nat → Nat) (hx : tExt Nb N0) (hw : tWf N0) (hM : N0 0 ≠ 0) (hX : N0 1025 ≠ 0) (uc : Nat) (us : Nat) (a3 : Int32) (S : tS), κ18 uc us a3 S → TJ Γ N0 uc us 18 [(0, .ref b), (1, .ref (xad Γ 1025)), (2, .ref (xad Γ 0)), (3, .int a3)] [] S) : ∀ (N0 : Nat → Nat) (hx : tExt Nb N0) (hw : tWf N0) (hM : N0 0 ≠ 0) (hX : N0 1025 ≠ 0) (uc : Nat) (us : Nat) (a3 : Int32) (S : tS), Lw_law_b632 sl sc mc ms K κ18 uc us a3 S → TJ Γ N0 uc us 632 [(0, .ref b), (1, .ref (xad Γ 1025)), (2, .ref (xad Γ 0)), (3, .int a3)] [] S := by
  intro N0 hx hw hM hX uc us a3 S hf
  unfold Lw_law_b632 at hf
  refine tj_aload_n C 1 rfl rfl dL_law_632 ?_
  refine tj_aload_n C 0 rfl rfl dL_law_633 ?_
  refine tj_iload_n C 3 rfl rfl dL_law_634 ?_
  refine tj_iconst C kc_1 dL_law_635 ?_
  refine tj_iadd C dL_law_636 ?_
  refine tj_sld C hG hf.1 dL_law_637 ?_
  replace hf := hf.2
  obtain ⟨c48, s49, hu48, hf⟩ := hf
  refine te_xVWi C (k := 1) [.int (sc (a3 + (nI 1)).toNatClampNeg)] [] (fun hN => c_X_weeks (by rw [hN]; exact hX) hE hf) lk_L_59 ty_X0_weeks rfl (Nat.le_of_ble_eq_true rfl) (Nat.le_of_ble_eq_true rfl) ⟨Nat.le_trans hu48.1 hB.1, Nat.le_trans hu48.2 hB.2⟩ (Nat.le_of_ble_eq_true rfl) hX rfl (by decide) rfl rfl dL_law_638 (fun _ _ hu _ _ _ => hu.elim) (fun r50 S47 _ hf _ hx48 hw48 => ?_)
  have hw := hw48
  have hM := hx48.ne hM
  have hX := hx48.ne hX
  have hx := hx.tr hx48
  refine tj_aload_n C 2 rfl rfl dL_law_641 ?_
  refine tj_aload_n C 0 rfl rfl dL_law_642 ?_
  refine tj_iload_n C 3 rfl rfl dL_law_643 ?_
  refine tj_iconst C kc_1 dL_law_644 ?_
  refine tj_iadd C dL_law_645 ?_
  refine tj_sld C hG hf.1 dL_law_646 ?_
  replace hf := hf.2
  refine tj_callVi C (k := 0) [.int (sc (a3 + (nI 1)).toNatClampNeg)] [.int r50] (fun hN => c_M_weeks (by rw [hN]; exact hM) hf) lk_L_62 ty_X6_weeks rfl (Nat.le_of_ble_eq_true rfl) (Nat.le_of_ble_eq_true rfl) (Nat.le_of_ble_eq_true rfl) hM rfl (by decide) rfl rfl dL_law_647 (fun r52 S51 hf => ?_)
  refine tj_icmp_eq C 2010 (by decide) dL_law_650 (fun hc => ?_) (fun hc => ?_)
  · replace hf := hf.1 hc
    exact w_Lw_law_b2010 C hE hB hR r hst hG hκ18 _ hx hw hM hX _ _ _ _ hf
  · replace hf := hf.2 hc
    refine tj_iconst C kc_0 dL_law_653 ?_
    exact tj_up mc ms hB hf.1 (r _ _ _ _ _ hx dL_law_654 zb0 hf.2)
theorem w_Lw_law_b609 {Γ : tX} {Nb : Nat → Nat} {K : Int32 → tS → Prop} {mc ms b sl : Nat} {sc : Nat → Int32} (C : TC Γ cL_law RL 79 10311) (hE : tDyn (xad Γ)) (hB : mc ≤ (xR Γ).cells ∧ ms ≤ (xR Γ).slots) (hR : xnL Γ = 4) (r : TEz Γ Nb mc ms cL_law K) (hst : (xl Γ).stackTraces = false) (hG : lawG Γ b sl sc) {κ18 : Nat → Nat → Int32 → tS → Prop} (hκ18 : ∀ (N0 : Nat → Nat) (hx : tExt Nb N0) (hw : tWf N0) (hM : N0 0 ≠ 0) (hX : N0 1025 ≠ 0) (uc : Nat) (us : Nat) (a3 : Int32) (S : tS), κ18 uc us a3 S → TJ Γ N0 uc us 18 [(0, .ref b), (1, .ref (xad Γ 1025)), (2, .ref (xad Γ 0)), (3, .int a3)] [] S) : ∀ (N0 : Nat → Nat) (hx : tExt Nb N0) (hw : tWf N0) (hM : N0 0 ≠ 0) (hX : N0 1025 ≠ 0) (uc : Nat) (us : Nat) (a3 : Int32) (S : tS), Lw_law_b609 sl sc mc ms K κ18 uc us a3 S → TJ Γ N0 uc us 609 [(0, .ref b), (1, .ref (xad Γ 1025)), (2, .ref (xad Γ 0)), (3, .int a3)] [] S := by
  intro N0 hx hw hM hX uc us a3 S hf
  unfold Lw_law_b609 at hf
  refine tj_aload_n C 1 rfl rfl dL_law_609 ?_
  refine tj_aload_n C 0 rfl rfl dL_law_610 ?_
  refine tj_iload_n C 3 rfl rfl dL_law_611 ?_
  refine tj_iconst C kc_1 dL_law_612 ?_
  refine tj_iadd C dL_law_613 ?_
  refine tj_sld C hG hf.1 dL_law_614 ?_
  replace hf := hf.2
  obtain ⟨c42, s43, hu42, hf⟩ := hf
  refine te_xVWi C (k := 1) [.int (sc (a3 + (nI 1)).toNatClampNeg)] [] (fun hN => c_X_court (by rw [hN]; exact hX) hE hf) lk_L_54 ty_X0_court rfl (Nat.le_of_ble_eq_true rfl) (Nat.le_of_ble_eq_true rfl) ⟨Nat.le_trans hu42.1 hB.1, Nat.le_trans hu42.2 hB.2⟩ (Nat.le_of_ble_eq_true rfl) hX rfl (by decide) rfl rfl dL_law_615 (fun _ _ hu _ _ _ => hu.elim) (fun r44 S41 _ hf _ hx42 hw42 => ?_)
  have hw := hw42
  have hM := hx42.ne hM
  have hX := hx42.ne hX
  have hx := hx.tr hx42
  refine tj_aload_n C 2 rfl rfl dL_law_618 ?_
  refine tj_aload_n C 0 rfl rfl dL_law_619 ?_
  refine tj_iload_n C 3 rfl rfl dL_law_620 ?_
  refine tj_iconst C kc_1 dL_law_621 ?_
  refine tj_iadd C dL_law_622 ?_
  refine tj_sld C hG hf.1 dL_law_623 ?_
  replace hf := hf.2
  refine tj_callVi C (k := 0) [.int (sc (a3 + (nI 1)).toNatClampNeg)] [.int r44] (fun hN => c_M_court (by rw [hN]; exact hM) hf) lk_L_58 ty_X6_court rfl (Nat.le_of_ble_eq_true rfl) (Nat.le_of_ble_eq_true rfl) (Nat.le_of_ble_eq_true rfl) hM rfl (by decide) rfl rfl dL_law_624 (fun r46 S45 hf => ?_)
  refine tj_icmp_eq C 2010 (by decide) dL_law_627 (fun hc => ?_) (fun hc => ?_)
  · replace hf := hf.1 hc
    exact w_Lw_law_b2010 C hE hB hR r hst hG hκ18 _ hx hw hM hX _ _ _ _ hf
  · replace hf := hf.2 hc
    refine tj_iconst C kc_0 dL_law_630 ?_
    exact tj_up mc ms hB hf.1 (r _ _ _ _ _ hx dL_law_631 zb0 hf.2)
theorem w_Lw_law_b546 {Γ : tX} {Nb : Nat → Nat} {K : Int32 → tS → Prop} {mc ms b sl : Nat} {sc : Nat → Int32} (C : TC Γ cL_law RL 79 10311) (hE : tDyn (xad Γ)) (hB : mc ≤ (xR Γ).cells ∧ ms ≤ (xR Γ).slots) (hR : xnL Γ = 4) (r : TEz Γ Nb mc ms cL_law K) (hst : (xl Γ).stackTraces = false) (hG : lawG Γ b sl sc) {κ18 : Nat → Nat → Int32 → tS → Prop} (hκ18 : ∀ (N0 : Nat → Nat) (hx : tExt Nb N0) (hw : tWf N0) (hM : N0 0 ≠ 0) (hX : N0 1025 ≠ 0) (uc : Nat) (us : Nat) (a3 : Int32) (S : tS), κ18 uc us a3 S → TJ Γ N0 uc us 18 [(0, .ref b), (1, .ref (xad Γ 1025)), (2, .ref (xad Γ 0)), (3, .int a3)] [] S) : ∀ (N0 : Nat → Nat) (hx : tExt Nb N0) (hw : tWf N0) (hM : N0 0 ≠ 0) (hX : N0 1025 ≠ 0) (uc : Nat) (us : Nat) (a3 : Int32) (S : tS), Lw_law_b546 sl sc mc ms K κ18 uc us a3 S → TJ Γ N0 uc us 546 [(0, .ref b), (1, .ref (xad Γ 1025)), (2, .ref (xad Γ 0)), (3, .int a3)] [] S := by
  intro N0 hx hw hM hX uc us a3 S hf
  unfold Lw_law_b546 at hf
  refine tj_aload_n C 1 rfl rfl dL_law_546 ?_
  refine tj_aload_n C 0 rfl rfl dL_law_547 ?_
  refine tj_iload_n C 3 rfl rfl dL_law_548 ?_
  refine tj_iconst C kc_1 dL_law_549 ?_
  refine tj_iadd C dL_law_550 ?_
  refine tj_sld C hG hf.1 dL_law_551 ?_
  replace hf := hf.2
  refine tj_aload_n C 0 rfl rfl dL_law_552 ?_
  refine tj_iload_n C 3 rfl rfl dL_law_553 ?_
  refine tj_iconst C kc_2 dL_law_554 ?_
  refine tj_iadd C dL_law_555 ?_
  refine tj_sld C hG hf.1 dL_law_556 ?_
  replace hf := hf.2
  refine tj_aload_n C 0 rfl rfl dL_law_557 ?_
  refine tj_iload_n C 3 rfl rfl dL_law_558 ?_
  refine tj_iconst C kc_3 dL_law_559 ?_
  refine tj_iadd C dL_law_560 ?_
  refine tj_sld C hG hf.1 dL_law_561 ?_
  replace hf := hf.2
  refine tj_aload_n C 0 rfl rfl dL_law_562 ?_
  refine tj_iload_n C 3 rfl rfl dL_law_563 ?_
  refine tj_iconst C kc_4 dL_law_564 ?_
  refine tj_iadd C dL_law_565 ?_
  refine tj_sld C hG hf.1 dL_law_566 ?_
  replace hf := hf.2
  refine tj_aload_n C 0 rfl rfl dL_law_567 ?_
  refine tj_iload_n C 3 rfl rfl dL_law_568 ?_
  refine tj_iconst C kc_5 dL_law_569 ?_
  refine tj_iadd C dL_law_570 ?_
  refine tj_sld C hG hf.1 dL_law_571 ?_
  replace hf := hf.2
  refine tj_callVi C (k := 1) [.int (sc (a3 + (nI 1)).toNatClampNeg), .int (sc (a3 + (nI 2)).toNatClampNeg), .int (sc (a3 + (nI 3)).toNatClampNeg), .int (sc (a3 + (nI 4)).toNatClampNeg), .int (sc (a3 + (nI 5)).toNatClampNeg)] [] (fun hN => c_X_feed (by rw [hN]; exact hX) hf) lk_L_49 ty_X0_feed rfl (Nat.le_of_ble_eq_true rfl) (Nat.le_of_ble_eq_true rfl) (Nat.le_of_ble_eq_true rfl) hX rfl (by decide) rfl rfl dL_law_572 (fun r38 S37 hf => ?_)
  refine tj_aload_n C 2 rfl rfl dL_law_575 ?_
  refine tj_aload_n C 0 rfl rfl dL_law_576 ?_
  refine tj_iload_n C 3 rfl rfl dL_law_577 ?_
  refine tj_iconst C kc_1 dL_law_578 ?_
  refine tj_iadd C dL_law_579 ?_
  refine tj_sld C hG hf.1 dL_law_580 ?_
  replace hf := hf.2
  refine tj_aload_n C 0 rfl rfl dL_law_581 ?_
  refine tj_iload_n C 3 rfl rfl dL_law_582 ?_
  refine tj_iconst C kc_2 dL_law_583 ?_
  refine tj_iadd C dL_law_584 ?_
  refine tj_sld C hG hf.1 dL_law_585 ?_
  replace hf := hf.2
  refine tj_aload_n C 0 rfl rfl dL_law_586 ?_
  refine tj_iload_n C 3 rfl rfl dL_law_587 ?_
  refine tj_iconst C kc_3 dL_law_588 ?_
  refine tj_iadd C dL_law_589 ?_
  refine tj_sld C hG hf.1 dL_law_590 ?_
  replace hf := hf.2
  refine tj_aload_n C 0 rfl rfl dL_law_591 ?_
  refine tj_iload_n C 3 rfl rfl dL_law_592 ?_
  refine tj_iconst C kc_4 dL_law_593 ?_
  refine tj_iadd C dL_law_594 ?_
  refine tj_sld C hG hf.1 dL_law_595 ?_
  replace hf := hf.2
  refine tj_aload_n C 0 rfl rfl dL_law_596 ?_
  refine tj_iload_n C 3 rfl rfl dL_law_597 ?_
  refine tj_iconst C kc_5 dL_law_598 ?_
  refine tj_iadd C dL_law_599 ?_
  refine tj_sld C hG hf.1 dL_law_600 ?_
  replace hf := hf.2
  refine tj_callVi C (k := 0) [.int (sc (a3 + (nI 1)).toNatClampNeg), .int (sc (a3 + (nI 2)).toNatClampNeg), .int (sc (a3 + (nI 3)).toNatClampNeg), .int (sc (a3 + (nI 4)).toNatClampNeg), .int (sc (a3 + (nI 5)).toNatClampNeg)] [.int r38] (fun hN => c_M_feed (by rw [hN]; exact hM) hf) lk_L_53 ty_X6_feed rfl (Nat.le_of_ble_eq_true rfl) (Nat.le_of_ble_eq_true rfl) (Nat.le_of_ble_eq_true rfl) hM rfl (by decide) rfl rfl dL_law_601 (fun r40 S39 hf => ?_)
  refine tj_icmp_eq C 2010 (by decide) dL_law_604 (fun hc => ?_) (fun hc => ?_)
  · replace hf := hf.1 hc
    exact w_Lw_law_b2010 C hE hB hR r hst hG hκ18 _ hx hw hM hX _ _ _ _ hf
  · replace hf := hf.2 hc
    refine tj_iconst C kc_0 dL_law_607 ?_
    exact tj_up mc ms hB hf.1 (r _ _ _ _ _ hx dL_law_608 zb0 hf.2)
theorem w_Lw_law_b483 {Γ : tX} {Nb : Nat → Nat} {K : Int32 → tS → Prop} {mc ms b sl : Nat} {sc : Nat → Int32} (C : TC Γ cL_law RL 79 10311) (hE : tDyn (xad Γ)) (hB : mc ≤ (xR Γ).cells ∧ ms ≤ (xR Γ).slots) (hR : xnL Γ = 4) (r : TEz Γ Nb mc ms cL_law K) (hst : (xl Γ).stackTraces = false) (hG : lawG Γ b sl sc) {κ18 : Nat → Nat → Int32 → tS → Prop} (hκ18 : ∀ (N0 : Nat → Nat) (hx : tExt Nb N0) (hw : tWf N0) (hM : N0 0 ≠ 0) (hX : N0 1025 ≠ 0) (uc : Nat) (us : Nat) (a3 : Int32) (S : tS), κ18 uc us a3 S → TJ Γ N0 uc us 18 [(0, .ref b), (1, .ref (xad Γ 1025)), (2, .ref (xad Γ 0)), (3, .int a3)] [] S) : ∀ (N0 : Nat → Nat) (hx : tExt Nb N0) (hw : tWf N0) (hM : N0 0 ≠ 0) (hX : N0 1025 ≠ 0) (uc : Nat) (us : Nat) (a3 : Int32) (S : tS), Lw_law_b483 sl sc mc ms K κ18 uc us a3 S → TJ Γ N0 uc us 483 [(0, .ref b), (1, .ref (xad Γ 1025)), (2, .ref (xad Γ 0)), (3, .int a3)] [] S := by
  intro N0 hx hw hM hX uc us a3 S hf
  unfold Lw_law_b483 at hf
  refine tj_aload_n C 1 rfl rfl dL_law_483 ?_
  refine tj_aload_n C 0 rfl rfl dL_law_484 ?_
  refine tj_iload_n C 3 rfl rfl dL_law_485 ?_
  refine tj_iconst C kc_1 dL_law_486 ?_
  refine tj_iadd C dL_law_487 ?_
  refine tj_sld C hG hf.1 dL_law_488 ?_
  replace hf := hf.2
  refine tj_aload_n C 0 rfl rfl dL_law_489 ?_
  refine tj_iload_n C 3 rfl rfl dL_law_490 ?_
  refine tj_iconst C kc_2 dL_law_491 ?_
  refine tj_iadd C dL_law_492 ?_
  refine tj_sld C hG hf.1 dL_law_493 ?_
  replace hf := hf.2
  refine tj_aload_n C 0 rfl rfl dL_law_494 ?_
  refine tj_iload_n C 3 rfl rfl dL_law_495 ?_
  refine tj_iconst C kc_3 dL_law_496 ?_
  refine tj_iadd C dL_law_497 ?_
  refine tj_sld C hG hf.1 dL_law_498 ?_
  replace hf := hf.2
  refine tj_aload_n C 0 rfl rfl dL_law_499 ?_
  refine tj_iload_n C 3 rfl rfl dL_law_500 ?_
  refine tj_iconst C kc_4 dL_law_501 ?_
  refine tj_iadd C dL_law_502 ?_
  refine tj_sld C hG hf.1 dL_law_503 ?_
  replace hf := hf.2
  refine tj_aload_n C 0 rfl rfl dL_law_504 ?_
  refine tj_iload_n C 3 rfl rfl dL_law_505 ?_
  refine tj_iconst C kc_5 dL_law_506 ?_
  refine tj_iadd C dL_law_507 ?_
  refine tj_sld C hG hf.1 dL_law_508 ?_
  replace hf := hf.2
  obtain ⟨c32, s33, hu32, hf⟩ := hf
  refine te_xVWz C (k := 1) [.int (sc (a3 + (nI 1)).toNatClampNeg), .int (sc (a3 + (nI 2)).toNatClampNeg), .int (sc (a3 + (nI 3)).toNatClampNeg), .int (sc (a3 + (nI 4)).toNatClampNeg), .int (sc (a3 + (nI 5)).toNatClampNeg)] [] (fun hN => c_XV_pour (by rw [hN]; exact hX) hE hst hf) lk_L_44 ty_X0_pour rfl (Nat.le_of_ble_eq_true rfl) (Nat.le_of_ble_eq_true rfl) ⟨Nat.le_trans hu32.1 hB.1, Nat.le_trans hu32.2 hB.2⟩ (Nat.le_of_ble_eq_true rfl) hX rfl (by decide) rfl rfl dL_law_509 (fun _ _ hu _ _ _ => hu.elim) (fun r34 S31 _ hf _ hx32 hw32 => ?_)
  have hw := hw32
  have hM := hx32.ne hM
  have hX := hx32.ne hX
  have hx := hx.tr hx32
  have hz_r34 := hf.1
  replace hf := hf.2
  refine tj_aload_n C 2 rfl rfl dL_law_512 ?_
  refine tj_aload_n C 0 rfl rfl dL_law_513 ?_
  refine tj_iload_n C 3 rfl rfl dL_law_514 ?_
  refine tj_iconst C kc_1 dL_law_515 ?_
  refine tj_iadd C dL_law_516 ?_
  refine tj_sld C hG hf.1 dL_law_517 ?_
  replace hf := hf.2
  refine tj_aload_n C 0 rfl rfl dL_law_518 ?_
  refine tj_iload_n C 3 rfl rfl dL_law_519 ?_
  refine tj_iconst C kc_2 dL_law_520 ?_
  refine tj_iadd C dL_law_521 ?_
  refine tj_sld C hG hf.1 dL_law_522 ?_
  replace hf := hf.2
  refine tj_aload_n C 0 rfl rfl dL_law_523 ?_
  refine tj_iload_n C 3 rfl rfl dL_law_524 ?_
  refine tj_iconst C kc_3 dL_law_525 ?_
  refine tj_iadd C dL_law_526 ?_
  refine tj_sld C hG hf.1 dL_law_527 ?_
  replace hf := hf.2
  refine tj_aload_n C 0 rfl rfl dL_law_528 ?_
  refine tj_iload_n C 3 rfl rfl dL_law_529 ?_
  refine tj_iconst C kc_4 dL_law_530 ?_
  refine tj_iadd C dL_law_531 ?_
  refine tj_sld C hG hf.1 dL_law_532 ?_
  replace hf := hf.2
  refine tj_aload_n C 0 rfl rfl dL_law_533 ?_
  refine tj_iload_n C 3 rfl rfl dL_law_534 ?_
  refine tj_iconst C kc_5 dL_law_535 ?_
  refine tj_iadd C dL_law_536 ?_
  refine tj_sld C hG hf.1 dL_law_537 ?_
  replace hf := hf.2
  refine tj_callVz C (k := 0) [.int (sc (a3 + (nI 1)).toNatClampNeg), .int (sc (a3 + (nI 2)).toNatClampNeg), .int (sc (a3 + (nI 3)).toNatClampNeg), .int (sc (a3 + (nI 4)).toNatClampNeg), .int (sc (a3 + (nI 5)).toNatClampNeg)] [.int r34] (fun hN => c_M_pour (by rw [hN]; exact hM) hf) lk_L_48 ty_X6_pour rfl (Nat.le_of_ble_eq_true rfl) (Nat.le_of_ble_eq_true rfl) (Nat.le_of_ble_eq_true rfl) hM rfl (by decide) rfl rfl dL_law_538 (fun r36 S35 hf => ?_)
  have hz_r36 := hf.1
  replace hf := hf.2
  refine tj_icmp_eq C 2010 (by decide) dL_law_541 (fun hc => ?_) (fun hc => ?_)
  · replace hf := hf.1 hc
    exact w_Lw_law_b2010 C hE hB hR r hst hG hκ18 _ hx hw hM hX _ _ _ _ hf
  · replace hf := hf.2 hc
    refine tj_iconst C kc_0 dL_law_544 ?_
    exact tj_up mc ms hB hf.1 (r _ _ _ _ _ hx dL_law_545 zb0 hf.2)
theorem w_Lw_law_b449 {Γ : tX} {Nb : Nat → Nat} {K : Int32 → tS → Prop} {mc ms b sl : Nat} {sc : Nat → Int32} (C : TC Γ cL_law RL 79 10311) (hE : tDyn (xad Γ)) (hB : mc ≤ (xR Γ).cells ∧ ms ≤ (xR Γ).slots) (hR : xnL Γ = 4) (r : TEz Γ Nb mc ms cL_law K) (hst : (xl Γ).stackTraces = false) (hG : lawG Γ b sl sc) {κ18 : Nat → Nat → Int32 → tS → Prop} (hκ18 : ∀ (N0 : Nat → Nat) (hx : tExt Nb N0) (hw : tWf N0) (hM : N0 0 ≠ 0) (hX : N0 1025 ≠ 0) (uc : Nat) (us : Nat) (a3 : Int32) (S : tS), κ18 uc us a3 S → TJ Γ N0 uc us 18 [(0, .ref b), (1, .ref (xad Γ 1025)), (2, .ref (xad Γ 0)), (3, .int a3)] [] S) : ∀ (N0 : Nat → Nat) (hx : tExt Nb N0) (hw : tWf N0) (hM : N0 0 ≠ 0) (hX : N0 1025 ≠ 0) (uc : Nat) (us : Nat) (a3 : Int32) (S : tS), Lw_law_b449 sl sc mc ms K κ18 uc us a3 S → TJ Γ N0 uc us 449 [(0, .ref b), (1, .ref (xad Γ 1025)), (2, .ref (xad Γ 0)), (3, .int a3)] [] S := by
  intro N0 hx hw hM hX uc us a3 S hf
  unfold Lw_law_b449 at hf
  refine tj_aload_n C 1 rfl rfl dL_law_449 ?_
  refine tj_aload_n C 0 rfl rfl dL_law_450 ?_
  refine tj_iload_n C 3 rfl rfl dL_law_451 ?_
  refine tj_iconst C kc_1 dL_law_452 ?_
  refine tj_iadd C dL_law_453 ?_
  refine tj_sld C hG hf.1 dL_law_454 ?_
  replace hf := hf.2
  refine tj_aload_n C 0 rfl rfl dL_law_455 ?_
  refine tj_iload_n C 3 rfl rfl dL_law_456 ?_
  refine tj_iconst C kc_2 dL_law_457 ?_
  refine tj_iadd C dL_law_458 ?_
  refine tj_sld C hG hf.1 dL_law_459 ?_
  replace hf := hf.2
  obtain ⟨c26, s27, hu26, hf⟩ := hf
  refine te_xVWl C (k := 1) [.int (sc (a3 + (nI 1)).toNatClampNeg), .int (sc (a3 + (nI 2)).toNatClampNeg)] [] (fun hN => c_XV_read (by rw [hN]; exact hX) hE hst hf) lk_L_39 ty_X0_read rfl (Nat.le_of_ble_eq_true rfl) (Nat.le_of_ble_eq_true rfl) ⟨Nat.le_trans hu26.1 hB.1, Nat.le_trans hu26.2 hB.2⟩ (Nat.le_of_ble_eq_true rfl) hX rfl (by decide) rfl rfl dL_law_460 (fun _ _ hu _ _ _ => hu.elim) (fun r28 S25 _ hf _ hx26 hw26 => ?_)
  have hw := hw26
  have hM := hx26.ne hM
  have hX := hx26.ne hX
  have hx := hx.tr hx26
  refine tj_aload_n C 2 rfl rfl dL_law_463 ?_
  refine tj_aload_n C 0 rfl rfl dL_law_464 ?_
  refine tj_iload_n C 3 rfl rfl dL_law_465 ?_
  refine tj_iconst C kc_1 dL_law_466 ?_
  refine tj_iadd C dL_law_467 ?_
  refine tj_sld C hG hf.1 dL_law_468 ?_
  replace hf := hf.2
  refine tj_aload_n C 0 rfl rfl dL_law_469 ?_
  refine tj_iload_n C 3 rfl rfl dL_law_470 ?_
  refine tj_iconst C kc_2 dL_law_471 ?_
  refine tj_iadd C dL_law_472 ?_
  refine tj_sld C hG hf.1 dL_law_473 ?_
  replace hf := hf.2
  refine tj_callVl C (k := 0) [.int (sc (a3 + (nI 1)).toNatClampNeg), .int (sc (a3 + (nI 2)).toNatClampNeg)] [.long r28] (fun hN => c_M_read (by rw [hN]; exact hM) hf) lk_L_43 ty_X6_read rfl (Nat.le_of_ble_eq_true rfl) (Nat.le_of_ble_eq_true rfl) (Nat.le_of_ble_eq_true rfl) hM rfl (by decide) rfl rfl dL_law_474 (fun r30 S29 hf => ?_)
  refine tj_lcmp C dL_law_477 ?_
  refine tj_if_eq C 2010 (by decide) dL_law_478 (fun hc => ?_) (fun hc => ?_)
  · replace hf := hf.1 hc
    exact w_Lw_law_b2010 C hE hB hR r hst hG hκ18 _ hx hw hM hX _ _ _ _ hf
  · replace hf := hf.2 hc
    refine tj_iconst C kc_0 dL_law_481 ?_
    exact tj_up mc ms hB hf.1 (r _ _ _ _ _ hx dL_law_482 zb0 hf.2)
theorem w_Lw_law_b376 {Γ : tX} {Nb : Nat → Nat} {K : Int32 → tS → Prop} {mc ms b sl : Nat} {sc : Nat → Int32} (C : TC Γ cL_law RL 79 10311) (hE : tDyn (xad Γ)) (hB : mc ≤ (xR Γ).cells ∧ ms ≤ (xR Γ).slots) (hR : xnL Γ = 4) (r : TEz Γ Nb mc ms cL_law K) (hst : (xl Γ).stackTraces = false) (hG : lawG Γ b sl sc) {κ18 : Nat → Nat → Int32 → tS → Prop} (hκ18 : ∀ (N0 : Nat → Nat) (hx : tExt Nb N0) (hw : tWf N0) (hM : N0 0 ≠ 0) (hX : N0 1025 ≠ 0) (uc : Nat) (us : Nat) (a3 : Int32) (S : tS), κ18 uc us a3 S → TJ Γ N0 uc us 18 [(0, .ref b), (1, .ref (xad Γ 1025)), (2, .ref (xad Γ 0)), (3, .int a3)] [] S) : ∀ (N0 : Nat → Nat) (hx : tExt Nb N0) (hw : tWf N0) (hM : N0 0 ≠ 0) (hX : N0 1025 ≠ 0) (uc : Nat) (us : Nat) (a3 : Int32) (S : tS), Lw_law_b376 sl sc mc ms K κ18 uc us a3 S → TJ Γ N0 uc us 376 [(0, .ref b), (1, .ref (xad Γ 1025)), (2, .ref (xad Γ 0)), (3, .int a3)] [] S := by
  intro N0 hx hw hM hX uc us a3 S hf
  unfold Lw_law_b376 at hf
  refine tj_aload_n C 1 rfl rfl dL_law_376 ?_
  refine tj_aload_n C 0 rfl rfl dL_law_377 ?_
  refine tj_iload_n C 3 rfl rfl dL_law_378 ?_
  refine tj_iconst C kc_1 dL_law_379 ?_
  refine tj_iadd C dL_law_380 ?_
  refine tj_sld C hG hf.1 dL_law_381 ?_
  replace hf := hf.2
  refine tj_aload_n C 0 rfl rfl dL_law_382 ?_
  refine tj_iload_n C 3 rfl rfl dL_law_383 ?_
  refine tj_iconst C kc_2 dL_law_384 ?_
  refine tj_iadd C dL_law_385 ?_
  refine tj_sld C hG hf.1 dL_law_386 ?_
  replace hf := hf.2
  refine tj_aload_n C 0 rfl rfl dL_law_387 ?_
  refine tj_iload_n C 3 rfl rfl dL_law_388 ?_
  refine tj_iconst C kc_3 dL_law_389 ?_
  refine tj_iadd C dL_law_390 ?_
  refine tj_sld C hG hf.1 dL_law_391 ?_
  replace hf := hf.2
  refine tj_i2l C dL_law_392 ?_
  refine tj_bipush C kb_32 dL_law_393 ?_
  refine tj_lshl C dL_law_395 ?_
  refine tj_aload_n C 0 rfl rfl dL_law_396 ?_
  refine tj_iload_n C 3 rfl rfl dL_law_397 ?_
  refine tj_iconst C kc_4 dL_law_398 ?_
  refine tj_iadd C dL_law_399 ?_
  refine tj_sld C hG hf.1 dL_law_400 ?_
  replace hf := hf.2
  refine tj_i2l C dL_law_401 ?_
  refine tj_ldc2 C kl_L_32 dL_law_402 ?_
  refine tj_land C dL_law_405 ?_
  refine tj_lor C dL_law_406 ?_
  obtain ⟨c20, s21, hu20, hf⟩ := hf
  refine te_xVWz C (k := 1) [.int (sc (a3 + (nI 1)).toNatClampNeg), .int (sc (a3 + (nI 2)).toNatClampNeg), .long ((((sc (a3 + (nI 3)).toNatClampNeg).toInt64) <<< ((nI 32).toInt64 &&& 63)) ||| (((sc (a3 + (nI 4)).toNatClampNeg).toInt64) &&& (lN 4294967295)))] [] (fun hN => c_XV_write (by rw [hN]; exact hX) hE hst hf) lk_L_34 ty_X0_write rfl (Nat.le_of_ble_eq_true rfl) (Nat.le_of_ble_eq_true rfl) ⟨Nat.le_trans hu20.1 hB.1, Nat.le_trans hu20.2 hB.2⟩ (Nat.le_of_ble_eq_true rfl) hX rfl (by decide) rfl rfl dL_law_407 (fun _ _ hu _ _ _ => hu.elim) (fun r22 S19 _ hf _ hx20 hw20 => ?_)
  have hw := hw20
  have hM := hx20.ne hM
  have hX := hx20.ne hX
  have hx := hx.tr hx20
  have hz_r22 := hf.1
  replace hf := hf.2
  refine tj_aload_n C 2 rfl rfl dL_law_410 ?_
  refine tj_aload_n C 0 rfl rfl dL_law_411 ?_
  refine tj_iload_n C 3 rfl rfl dL_law_412 ?_
  refine tj_iconst C kc_1 dL_law_413 ?_
  refine tj_iadd C dL_law_414 ?_
  refine tj_sld C hG hf.1 dL_law_415 ?_
  replace hf := hf.2
  refine tj_aload_n C 0 rfl rfl dL_law_416 ?_
  refine tj_iload_n C 3 rfl rfl dL_law_417 ?_
  refine tj_iconst C kc_2 dL_law_418 ?_
  refine tj_iadd C dL_law_419 ?_
  refine tj_sld C hG hf.1 dL_law_420 ?_
  replace hf := hf.2
  refine tj_aload_n C 0 rfl rfl dL_law_421 ?_
  refine tj_iload_n C 3 rfl rfl dL_law_422 ?_
  refine tj_iconst C kc_3 dL_law_423 ?_
  refine tj_iadd C dL_law_424 ?_
  refine tj_sld C hG hf.1 dL_law_425 ?_
  replace hf := hf.2
  refine tj_i2l C dL_law_426 ?_
  refine tj_bipush C kb_32 dL_law_427 ?_
  refine tj_lshl C dL_law_429 ?_
  refine tj_aload_n C 0 rfl rfl dL_law_430 ?_
  refine tj_iload_n C 3 rfl rfl dL_law_431 ?_
  refine tj_iconst C kc_4 dL_law_432 ?_
  refine tj_iadd C dL_law_433 ?_
  refine tj_sld C hG hf.1 dL_law_434 ?_
  replace hf := hf.2
  refine tj_i2l C dL_law_435 ?_
  refine tj_ldc2 C kl_L_32 dL_law_436 ?_
  refine tj_land C dL_law_439 ?_
  refine tj_lor C dL_law_440 ?_
  refine tj_callVz C (k := 0) [.int (sc (a3 + (nI 1)).toNatClampNeg), .int (sc (a3 + (nI 2)).toNatClampNeg), .long ((((sc (a3 + (nI 3)).toNatClampNeg).toInt64) <<< ((nI 32).toInt64 &&& 63)) ||| (((sc (a3 + (nI 4)).toNatClampNeg).toInt64) &&& (lN 4294967295)))] [.int r22] (fun hN => c_M_write (by rw [hN]; exact hM) hf) lk_L_38 ty_X6_write rfl (Nat.le_of_ble_eq_true rfl) (Nat.le_of_ble_eq_true rfl) (Nat.le_of_ble_eq_true rfl) hM rfl (by decide) rfl rfl dL_law_441 (fun r24 S23 hf => ?_)
  have hz_r24 := hf.1
  replace hf := hf.2
  refine tj_icmp_eq C 2010 (by decide) dL_law_444 (fun hc => ?_) (fun hc => ?_)
  · replace hf := hf.1 hc
    exact w_Lw_law_b2010 C hE hB hR r hst hG hκ18 _ hx hw hM hX _ _ _ _ hf
  · replace hf := hf.2 hc
    refine tj_iconst C kc_0 dL_law_447 ?_
    exact tj_up mc ms hB hf.1 (r _ _ _ _ _ hx dL_law_448 zb0 hf.2)
theorem w_Lw_law_b333 {Γ : tX} {Nb : Nat → Nat} {K : Int32 → tS → Prop} {mc ms b sl : Nat} {sc : Nat → Int32} (C : TC Γ cL_law RL 79 10311) (hE : tDyn (xad Γ)) (hB : mc ≤ (xR Γ).cells ∧ ms ≤ (xR Γ).slots) (hR : xnL Γ = 4) (r : TEz Γ Nb mc ms cL_law K) (hst : (xl Γ).stackTraces = false) (hG : lawG Γ b sl sc) {κ18 : Nat → Nat → Int32 → tS → Prop} (hκ18 : ∀ (N0 : Nat → Nat) (hx : tExt Nb N0) (hw : tWf N0) (hM : N0 0 ≠ 0) (hX : N0 1025 ≠ 0) (uc : Nat) (us : Nat) (a3 : Int32) (S : tS), κ18 uc us a3 S → TJ Γ N0 uc us 18 [(0, .ref b), (1, .ref (xad Γ 1025)), (2, .ref (xad Γ 0)), (3, .int a3)] [] S) : ∀ (N0 : Nat → Nat) (hx : tExt Nb N0) (hw : tWf N0) (hM : N0 0 ≠ 0) (hX : N0 1025 ≠ 0) (uc : Nat) (us : Nat) (a3 : Int32) (S : tS), Lw_law_b333 sl sc mc ms K κ18 uc us a3 S → TJ Γ N0 uc us 333 [(0, .ref b), (1, .ref (xad Γ 1025)), (2, .ref (xad Γ 0)), (3, .int a3)] [] S := by
  intro N0 hx hw hM hX uc us a3 S hf
  unfold Lw_law_b333 at hf
  refine tj_aload_n C 1 rfl rfl dL_law_333 ?_
  refine tj_aload_n C 0 rfl rfl dL_law_334 ?_
  refine tj_iload_n C 3 rfl rfl dL_law_335 ?_
  refine tj_iconst C kc_1 dL_law_336 ?_
  refine tj_iadd C dL_law_337 ?_
  refine tj_sld C hG hf.1 dL_law_338 ?_
  replace hf := hf.2
  refine tj_aload_n C 0 rfl rfl dL_law_339 ?_
  refine tj_iload_n C 3 rfl rfl dL_law_340 ?_
  refine tj_iconst C kc_2 dL_law_341 ?_
  refine tj_iadd C dL_law_342 ?_
  refine tj_sld C hG hf.1 dL_law_343 ?_
  replace hf := hf.2
  refine tj_aload_n C 0 rfl rfl dL_law_344 ?_
  refine tj_iload_n C 3 rfl rfl dL_law_345 ?_
  refine tj_iconst C kc_3 dL_law_346 ?_
  refine tj_iadd C dL_law_347 ?_
  refine tj_sld C hG hf.1 dL_law_348 ?_
  replace hf := hf.2
  obtain ⟨c14, s15, hu14, hf⟩ := hf
  refine te_xVWz C (k := 1) [.int (sc (a3 + (nI 1)).toNatClampNeg), .int (sc (a3 + (nI 2)).toNatClampNeg), .int (sc (a3 + (nI 3)).toNatClampNeg)] [] (fun hN => c_XV_tray (by rw [hN]; exact hX) hE hst hf) lk_L_27 ty_X0_tray rfl (Nat.le_of_ble_eq_true rfl) (Nat.le_of_ble_eq_true rfl) ⟨Nat.le_trans hu14.1 hB.1, Nat.le_trans hu14.2 hB.2⟩ (Nat.le_of_ble_eq_true rfl) hX rfl (by decide) rfl rfl dL_law_349 (fun _ _ hu _ _ _ => hu.elim) (fun r16 S13 _ hf _ hx14 hw14 => ?_)
  have hw := hw14
  have hM := hx14.ne hM
  have hX := hx14.ne hX
  have hx := hx.tr hx14
  have hz_r16 := hf.1
  replace hf := hf.2
  refine tj_aload_n C 2 rfl rfl dL_law_352 ?_
  refine tj_aload_n C 0 rfl rfl dL_law_353 ?_
  refine tj_iload_n C 3 rfl rfl dL_law_354 ?_
  refine tj_iconst C kc_1 dL_law_355 ?_
  refine tj_iadd C dL_law_356 ?_
  refine tj_sld C hG hf.1 dL_law_357 ?_
  replace hf := hf.2
  refine tj_aload_n C 0 rfl rfl dL_law_358 ?_
  refine tj_iload_n C 3 rfl rfl dL_law_359 ?_
  refine tj_iconst C kc_2 dL_law_360 ?_
  refine tj_iadd C dL_law_361 ?_
  refine tj_sld C hG hf.1 dL_law_362 ?_
  replace hf := hf.2
  refine tj_aload_n C 0 rfl rfl dL_law_363 ?_
  refine tj_iload_n C 3 rfl rfl dL_law_364 ?_
  refine tj_iconst C kc_3 dL_law_365 ?_
  refine tj_iadd C dL_law_366 ?_
  refine tj_sld C hG hf.1 dL_law_367 ?_
  replace hf := hf.2
  refine tj_callVz C (k := 0) [.int (sc (a3 + (nI 1)).toNatClampNeg), .int (sc (a3 + (nI 2)).toNatClampNeg), .int (sc (a3 + (nI 3)).toNatClampNeg)] [.int r16] (fun hN => c_M_tray (by rw [hN]; exact hM) hf) lk_L_31 ty_X6_tray rfl (Nat.le_of_ble_eq_true rfl) (Nat.le_of_ble_eq_true rfl) (Nat.le_of_ble_eq_true rfl) hM rfl (by decide) rfl rfl dL_law_368 (fun r18 S17 hf => ?_)
  have hz_r18 := hf.1
  replace hf := hf.2
  refine tj_icmp_eq C 2010 (by decide) dL_law_371 (fun hc => ?_) (fun hc => ?_)
  · replace hf := hf.1 hc
    exact w_Lw_law_b2010 C hE hB hR r hst hG hκ18 _ hx hw hM hX _ _ _ _ hf
  · replace hf := hf.2 hc
    refine tj_iconst C kc_0 dL_law_374 ?_
    exact tj_up mc ms hB hf.1 (r _ _ _ _ _ hx dL_law_375 zb0 hf.2)
theorem w_Lw_law_b319 {Γ : tX} {Nb : Nat → Nat} {K : Int32 → tS → Prop} {mc ms b sl : Nat} {sc : Nat → Int32} (C : TC Γ cL_law RL 79 10311) (hE : tDyn (xad Γ)) (hB : mc ≤ (xR Γ).cells ∧ ms ≤ (xR Γ).slots) (hR : xnL Γ = 4) (r : TEz Γ Nb mc ms cL_law K) (hst : (xl Γ).stackTraces = false) (hG : lawG Γ b sl sc) {κ18 : Nat → Nat → Int32 → tS → Prop} (hκ18 : ∀ (N0 : Nat → Nat) (hx : tExt Nb N0) (hw : tWf N0) (hM : N0 0 ≠ 0) (hX : N0 1025 ≠ 0) (uc : Nat) (us : Nat) (a3 : Int32) (S : tS), κ18 uc us a3 S → TJ Γ N0 uc us 18 [(0, .ref b), (1, .ref (xad Γ 1025)), (2, .ref (xad Γ 0)), (3, .int a3)] [] S) : ∀ (N0 : Nat → Nat) (hx : tExt Nb N0) (hw : tWf N0) (hM : N0 0 ≠ 0) (hX : N0 1025 ≠ 0) (uc : Nat) (us : Nat) (a3 : Int32) (S : tS), Lw_law_b319 sl sc mc ms K κ18 uc us a3 S → TJ Γ N0 uc us 319 [(0, .ref b), (1, .ref (xad Γ 1025)), (2, .ref (xad Γ 0)), (3, .int a3)] [] S := by
  intro N0 hx hw hM hX uc us a3 S hf
  unfold Lw_law_b319 at hf
  refine tj_aload_n C 1 rfl rfl dL_law_319 ?_
  refine tj_callVl C (k := 1) [] [] (fun hN => c_X_bottom (by rw [hN]; exact hX) hf) lk_L_23 ty_X0_bottom rfl (Nat.le_of_ble_eq_true rfl) (Nat.le_of_ble_eq_true rfl) (Nat.le_of_ble_eq_true rfl) hX rfl (by decide) rfl rfl dL_law_320 (fun r10 S9 hf => ?_)
  refine tj_aload_n C 2 rfl rfl dL_law_323 ?_
  refine tj_callVl C (k := 0) [] [.long r10] (fun hN => c_M_bottom (by rw [hN]; exact hM) hf) lk_L_26 ty_X6_bottom rfl (Nat.le_of_ble_eq_true rfl) (Nat.le_of_ble_eq_true rfl) (Nat.le_of_ble_eq_true rfl) hM rfl (by decide) rfl rfl dL_law_324 (fun r12 S11 hf => ?_)
  refine tj_lcmp C dL_law_327 ?_
  refine tj_if_eq C 2010 (by decide) dL_law_328 (fun hc => ?_) (fun hc => ?_)
  · replace hf := hf.1 hc
    exact w_Lw_law_b2010 C hE hB hR r hst hG hκ18 _ hx hw hM hX _ _ _ _ hf
  · replace hf := hf.2 hc
    refine tj_iconst C kc_0 dL_law_331 ?_
    exact tj_up mc ms hB hf.1 (r _ _ _ _ _ hx dL_law_332 zb0 hf.2)
theorem w_Lw_law_b305 {Γ : tX} {Nb : Nat → Nat} {K : Int32 → tS → Prop} {mc ms b sl : Nat} {sc : Nat → Int32} (C : TC Γ cL_law RL 79 10311) (hE : tDyn (xad Γ)) (hB : mc ≤ (xR Γ).cells ∧ ms ≤ (xR Γ).slots) (hR : xnL Γ = 4) (r : TEz Γ Nb mc ms cL_law K) (hst : (xl Γ).stackTraces = false) (hG : lawG Γ b sl sc) {κ18 : Nat → Nat → Int32 → tS → Prop} (hκ18 : ∀ (N0 : Nat → Nat) (hx : tExt Nb N0) (hw : tWf N0) (hM : N0 0 ≠ 0) (hX : N0 1025 ≠ 0) (uc : Nat) (us : Nat) (a3 : Int32) (S : tS), κ18 uc us a3 S → TJ Γ N0 uc us 18 [(0, .ref b), (1, .ref (xad Γ 1025)), (2, .ref (xad Γ 0)), (3, .int a3)] [] S) : ∀ (N0 : Nat → Nat) (hx : tExt Nb N0) (hw : tWf N0) (hM : N0 0 ≠ 0) (hX : N0 1025 ≠ 0) (uc : Nat) (us : Nat) (a3 : Int32) (S : tS), Lw_law_b305 sl sc mc ms K κ18 uc us a3 S → TJ Γ N0 uc us 305 [(0, .ref b), (1, .ref (xad Γ 1025)), (2, .ref (xad Γ 0)), (3, .int a3)] [] S := by
  intro N0 hx hw hM hX uc us a3 S hf
  unfold Lw_law_b305 at hf
  refine tj_aload_n C 1 rfl rfl dL_law_305 ?_
  refine tj_callVl C (k := 1) [] [] (fun hN => c_X_top (by rw [hN]; exact hX) hf) lk_L_18 ty_X0_top rfl (Nat.le_of_ble_eq_true rfl) (Nat.le_of_ble_eq_true rfl) (Nat.le_of_ble_eq_true rfl) hX rfl (by decide) rfl rfl dL_law_306 (fun r6 S5 hf => ?_)
  refine tj_aload_n C 2 rfl rfl dL_law_309 ?_
  refine tj_callVl C (k := 0) [] [.long r6] (fun hN => c_M_top (by rw [hN]; exact hM) hf) lk_L_22 ty_X6_top rfl (Nat.le_of_ble_eq_true rfl) (Nat.le_of_ble_eq_true rfl) (Nat.le_of_ble_eq_true rfl) hM rfl (by decide) rfl rfl dL_law_310 (fun r8 S7 hf => ?_)
  refine tj_lcmp C dL_law_313 ?_
  refine tj_if_eq C 2010 (by decide) dL_law_314 (fun hc => ?_) (fun hc => ?_)
  · replace hf := hf.1 hc
    exact w_Lw_law_b2010 C hE hB hR r hst hG hκ18 _ hx hw hM hX _ _ _ _ hf
  · replace hf := hf.2 hc
    refine tj_iconst C kc_0 dL_law_317 ?_
    exact tj_up mc ms hB hf.1 (r _ _ _ _ _ hx dL_law_318 zb0 hf.2)
theorem w_Lw_law_b292 {Γ : tX} {Nb : Nat → Nat} {K : Int32 → tS → Prop} {mc ms b sl : Nat} {sc : Nat → Int32} (C : TC Γ cL_law RL 79 10311) (hE : tDyn (xad Γ)) (hB : mc ≤ (xR Γ).cells ∧ ms ≤ (xR Γ).slots) (hR : xnL Γ = 4) (r : TEz Γ Nb mc ms cL_law K) (hst : (xl Γ).stackTraces = false) (hG : lawG Γ b sl sc) {κ18 : Nat → Nat → Int32 → tS → Prop} (hκ18 : ∀ (N0 : Nat → Nat) (hx : tExt Nb N0) (hw : tWf N0) (hM : N0 0 ≠ 0) (hX : N0 1025 ≠ 0) (uc : Nat) (us : Nat) (a3 : Int32) (S : tS), κ18 uc us a3 S → TJ Γ N0 uc us 18 [(0, .ref b), (1, .ref (xad Γ 1025)), (2, .ref (xad Γ 0)), (3, .int a3)] [] S) : ∀ (N0 : Nat → Nat) (hx : tExt Nb N0) (hw : tWf N0) (hM : N0 0 ≠ 0) (hX : N0 1025 ≠ 0) (uc : Nat) (us : Nat) (a3 : Int32) (S : tS), Lw_law_b292 sl sc mc ms K κ18 uc us a3 S → TJ Γ N0 uc us 292 [(0, .ref b), (1, .ref (xad Γ 1025)), (2, .ref (xad Γ 0)), (3, .int a3)] [] S := by
  intro N0 hx hw hM hX uc us a3 S hf
  unfold Lw_law_b292 at hf
  refine tj_aload_n C 1 rfl rfl dL_law_292 ?_
  refine tj_callVi C (k := 1) [] [] (fun hN => c_X_status (by rw [hN]; exact hX) hf) lk_L_13 ty_X0_status rfl (Nat.le_of_ble_eq_true rfl) (Nat.le_of_ble_eq_true rfl) (Nat.le_of_ble_eq_true rfl) hX rfl (by decide) rfl rfl dL_law_293 (fun r2 S1 hf => ?_)
  refine tj_aload_n C 2 rfl rfl dL_law_296 ?_
  refine tj_callVi C (k := 0) [] [.int r2] (fun hN => c_M_status (by rw [hN]; exact hM) hf) lk_L_17 ty_X6_status rfl (Nat.le_of_ble_eq_true rfl) (Nat.le_of_ble_eq_true rfl) (Nat.le_of_ble_eq_true rfl) hM rfl (by decide) rfl rfl dL_law_297 (fun r4 S3 hf => ?_)
  refine tj_icmp_eq C 2010 (by decide) dL_law_300 (fun hc => ?_) (fun hc => ?_)
  · replace hf := hf.1 hc
    exact w_Lw_law_b2010 C hE hB hR r hst hG hκ18 _ hx hw hM hX _ _ _ _ hf
  · replace hf := hf.2 hc
    refine tj_iconst C kc_0 dL_law_303 ?_
    exact tj_up mc ms hB hf.1 (r _ _ _ _ _ hx dL_law_304 zb0 hf.2)
set_option maxHeartbeats 4000000 in
theorem w_Lw_law_l18 {Γ : tX} {Nb : Nat → Nat} {K : Int32 → tS → Prop} {mc ms b sl : Nat} {sc : Nat → Int32} (C : TC Γ cL_law RL 79 10311) (hE : tDyn (xad Γ)) (hB : mc ≤ (xR Γ).cells ∧ ms ≤ (xR Γ).slots) (hR : xnL Γ = 4) (r : TEz Γ Nb mc ms cL_law K) (hst : (xl Γ).stackTraces = false) (hG : lawG Γ b sl sc) : ∀ (n : Nat) (N0 : Nat → Nat) (hx : tExt Nb N0) (hw : tWf N0) (hM : N0 0 ≠ 0) (hX : N0 1025 ≠ 0) (uc : Nat) (us : Nat) (a3 : Int32) (S : tS), Lw_law_l18 sl sc mc ms K n uc us a3 S → TJ Γ N0 uc us 18 [(0, .ref b), (1, .ref (xad Γ 1025)), (2, .ref (xad Γ 0)), (3, .int a3)] [] S := by
  intro n
  induction n with
  | zero => intro N0 hx hw hM hX uc us a3 S hf; exact hf.elim
  | succ n ih =>
    intro N0 hx hw hM hX uc us a3 S hf
    unfold Lw_law_l18 at hf
    refine tj_iload_n C 3 rfl rfl dL_law_18 ?_
    refine tj_aload_n C 0 rfl rfl dL_law_19 ?_
    refine tj_slen C hG dL_law_20 ?_
    refine tj_bipush C kb_6 dL_law_21 ?_
    refine tj_isub C dL_law_23 ?_
    refine tj_icmp_gt C 2016 (by decide) dL_law_24 (fun hc => ?_) (fun hc => ?_)
    · replace hf := hf.1 hc
      refine tj_iconst C kc_1 dL_law_2016 ?_
      exact tj_up mc ms hB hf.1 (r _ _ _ _ _ hx dL_law_2017 zb1 hf.2)
    · replace hf := hf.2 hc
      refine tj_aload_n C 0 rfl rfl dL_law_27 ?_
      refine tj_iload_n C 3 rfl rfl dL_law_28 ?_
      refine tj_sld C hG hf.1 dL_law_29 ?_
      replace hf := hf.2
      refine tj_bipush C kb_63 dL_law_30 ?_
      refine tj_iand C dL_law_32 ?_
      obtain ⟨k, hk, ex, hf⟩ := hf
      match k, hk, ex, hf with
      | 0, _, ex, hf =>
        refine tj_tswIn C 0 (off := 259) 292 (by decide) ex (by decide) (by decide) (by decide) (by decide) dL_law_33 ?_
        exact w_Lw_law_b292 C hE hB hR r hst hG ih _ hx hw hM hX _ _ _ _ hf
      | 1, _, ex, hf =>
        refine tj_tswIn C 1 (off := 272) 305 (by decide) ex (by decide) (by decide) (by decide) (by decide) dL_law_33 ?_
        exact w_Lw_law_b305 C hE hB hR r hst hG ih _ hx hw hM hX _ _ _ _ hf
      | 2, _, ex, hf =>
        refine tj_tswIn C 2 (off := 286) 319 (by decide) ex (by decide) (by decide) (by decide) (by decide) dL_law_33 ?_
        exact w_Lw_law_b319 C hE hB hR r hst hG ih _ hx hw hM hX _ _ _ _ hf
      | 3, _, ex, hf =>
        refine tj_tswIn C 3 (off := 300) 333 (by decide) ex (by decide) (by decide) (by decide) (by decide) dL_law_33 ?_
        exact w_Lw_law_b333 C hE hB hR r hst hG ih _ hx hw hM hX _ _ _ _ hf
      | 4, _, ex, hf =>
        refine tj_tswIn C 4 (off := 343) 376 (by decide) ex (by decide) (by decide) (by decide) (by decide) dL_law_33 ?_
        exact w_Lw_law_b376 C hE hB hR r hst hG ih _ hx hw hM hX _ _ _ _ hf
      | 5, _, ex, hf =>
        refine tj_tswIn C 5 (off := 416) 449 (by decide) ex (by decide) (by decide) (by decide) (by decide) dL_law_33 ?_
        exact w_Lw_law_b449 C hE hB hR r hst hG ih _ hx hw hM hX _ _ _ _ hf
      | 6, _, ex, hf =>
        refine tj_tswIn C 6 (off := 450) 483 (by decide) ex (by decide) (by decide) (by decide) (by decide) dL_law_33 ?_
        exact w_Lw_law_b483 C hE hB hR r hst hG ih _ hx hw hM hX _ _ _ _ hf
      | 7, _, ex, hf =>
        refine tj_tswIn C 7 (off := 513) 546 (by decide) ex (by decide) (by decide) (by decide) (by decide) dL_law_33 ?_
        exact w_Lw_law_b546 C hE hB hR r hst hG ih _ hx hw hM hX _ _ _ _ hf
      | 8, _, ex, hf =>
        refine tj_tswIn C 8 (off := 576) 609 (by decide) ex (by decide) (by decide) (by decide) (by decide) dL_law_33 ?_
        exact w_Lw_law_b609 C hE hB hR r hst hG ih _ hx hw hM hX _ _ _ _ hf
      | 9, _, ex, hf =>
        refine tj_tswIn C 9 (off := 599) 632 (by decide) ex (by decide) (by decide) (by decide) (by decide) dL_law_33 ?_
        exact w_Lw_law_b632 C hE hB hR r hst hG ih _ hx hw hM hX _ _ _ _ hf
      | 10, _, ex, hf =>
        refine tj_tswIn C 10 (off := 622) 655 (by decide) ex (by decide) (by decide) (by decide) (by decide) dL_law_33 ?_
        exact w_Lw_law_b655 C hE hB hR r hst hG ih _ hx hw hM hX _ _ _ _ hf
      | 11, _, ex, hf =>
        refine tj_tswIn C 11 (off := 645) 678 (by decide) ex (by decide) (by decide) (by decide) (by decide) dL_law_33 ?_
        exact w_Lw_law_b678 C hE hB hR r hst hG ih _ hx hw hM hX _ _ _ _ hf
      | 12, _, ex, hf =>
        refine tj_tswIn C 12 (off := 668) 701 (by decide) ex (by decide) (by decide) (by decide) (by decide) dL_law_33 ?_
        exact w_Lw_law_b701 C hE hB hR r hst hG ih _ hx hw hM hX _ _ _ _ hf
      | 13, _, ex, hf =>
        refine tj_tswIn C 13 (off := 691) 724 (by decide) ex (by decide) (by decide) (by decide) (by decide) dL_law_33 ?_
        exact w_Lw_law_b724 C hE hB hR r hst hG ih _ hx hw hM hX _ _ _ _ hf
      | 14, _, ex, hf =>
        refine tj_tswIn C 14 (off := 724) 757 (by decide) ex (by decide) (by decide) (by decide) (by decide) dL_law_33 ?_
        exact w_Lw_law_b757 C hE hB hR r hst hG ih _ hx hw hM hX _ _ _ _ hf
      | 15, _, ex, hf =>
        refine tj_tswIn C 15 (off := 757) 790 (by decide) ex (by decide) (by decide) (by decide) (by decide) dL_law_33 ?_
        exact w_Lw_law_b790 C hE hB hR r hst hG ih _ hx hw hM hX _ _ _ _ hf
      | 16, _, ex, hf =>
        refine tj_tswIn C 16 (off := 790) 823 (by decide) ex (by decide) (by decide) (by decide) (by decide) dL_law_33 ?_
        exact w_Lw_law_b823 C hE hB hR r hst hG ih _ hx hw hM hX _ _ _ _ hf
      | 17, _, ex, hf =>
        refine tj_tswIn C 17 (off := 823) 856 (by decide) ex (by decide) (by decide) (by decide) (by decide) dL_law_33 ?_
        exact w_Lw_law_b856 C hE hB hR r hst hG ih _ hx hw hM hX _ _ _ _ hf
      | 18, _, ex, hf =>
        refine tj_tswIn C 18 (off := 846) 879 (by decide) ex (by decide) (by decide) (by decide) (by decide) dL_law_33 ?_
        exact w_Lw_law_b879 C hE hB hR r hst hG ih _ hx hw hM hX _ _ _ _ hf
      | 19, _, ex, hf =>
        refine tj_tswIn C 19 (off := 859) 892 (by decide) ex (by decide) (by decide) (by decide) (by decide) dL_law_33 ?_
        exact w_Lw_law_b892 C hE hB hR r hst hG ih _ hx hw hM hX _ _ _ _ hf
      | 20, _, ex, hf =>
        refine tj_tswIn C 20 (off := 892) 925 (by decide) ex (by decide) (by decide) (by decide) (by decide) dL_law_33 ?_
        exact w_Lw_law_b925 C hE hB hR r hst hG ih _ hx hw hM hX _ _ _ _ hf
      | 21, _, ex, hf =>
        refine tj_tswIn C 21 (off := 951) 984 (by decide) ex (by decide) (by decide) (by decide) (by decide) dL_law_33 ?_
        exact w_Lw_law_b984 C hE hB hR r hst hG ih _ hx hw hM hX _ _ _ _ hf
      | 22, _, ex, hf =>
        refine tj_tswIn C 22 (off := 964) 997 (by decide) ex (by decide) (by decide) (by decide) (by decide) dL_law_33 ?_
        exact w_Lw_law_b997 C hE hB hR r hst hG ih _ hx hw hM hX _ _ _ _ hf
      | 23, _, ex, hf =>
        refine tj_tswIn C 23 (off := 987) 1020 (by decide) ex (by decide) (by decide) (by decide) (by decide) dL_law_33 ?_
        exact w_Lw_law_b1020 C hE hB hR r hst hG ih _ hx hw hM hX _ _ _ _ hf
      | 24, _, ex, hf =>
        refine tj_tswIn C 24 (off := 1036) 1069 (by decide) ex (by decide) (by decide) (by decide) (by decide) dL_law_33 ?_
        exact w_Lw_law_b1069 C hE hB hR r hst hG ih _ hx hw hM hX _ _ _ _ hf
      | 25, _, ex, hf =>
        refine tj_tswIn C 25 (off := 1069) 1102 (by decide) ex (by decide) (by decide) (by decide) (by decide) dL_law_33 ?_
        exact w_Lw_law_b1102 C hE hB hR r hst hG ih _ hx hw hM hX _ _ _ _ hf
      | 26, _, ex, hf =>
        refine tj_tswIn C 26 (off := 1112) 1145 (by decide) ex (by decide) (by decide) (by decide) (by decide) dL_law_33 ?_
        exact w_Lw_law_b1145 C hE hB hR r hst hG ih _ hx hw hM hX _ _ _ _ hf
      | 27, _, ex, hf =>
        refine tj_tswIn C 27 (off := 1135) 1168 (by decide) ex (by decide) (by decide) (by decide) (by decide) dL_law_33 ?_
        exact w_Lw_law_b1168 C hE hB hR r hst hG ih _ hx hw hM hX _ _ _ _ hf
      | 28, _, ex, hf =>
        refine tj_tswIn C 28 (off := 1168) 1201 (by decide) ex (by decide) (by decide) (by decide) (by decide) dL_law_33 ?_
        exact w_Lw_law_b1201 C hE hB hR r hst hG ih _ hx hw hM hX _ _ _ _ hf
      | 29, _, ex, hf =>
        refine tj_tswIn C 29 (off := 1191) 1224 (by decide) ex (by decide) (by decide) (by decide) (by decide) dL_law_33 ?_
        exact w_Lw_law_b1224 C hE hB hR r hst hG ih _ hx hw hM hX _ _ _ _ hf
      | 30, _, ex, hf =>
        refine tj_tswIn C 30 (off := 1224) 1257 (by decide) ex (by decide) (by decide) (by decide) (by decide) dL_law_33 ?_
        exact w_Lw_law_b1257 C hE hB hR r hst hG ih _ hx hw hM hX _ _ _ _ hf
      | 31, _, ex, hf =>
        refine tj_tswIn C 31 (off := 1247) 1280 (by decide) ex (by decide) (by decide) (by decide) (by decide) dL_law_33 ?_
        exact w_Lw_law_b1280 C hE hB hR r hst hG ih _ hx hw hM hX _ _ _ _ hf
      | 32, _, ex, hf =>
        refine tj_tswIn C 32 (off := 1270) 1303 (by decide) ex (by decide) (by decide) (by decide) (by decide) dL_law_33 ?_
        exact w_Lw_law_b1303 C hE hB hR r hst hG ih _ hx hw hM hX _ _ _ _ hf
      | 33, _, ex, hf =>
        refine tj_tswIn C 33 (off := 1293) 1326 (by decide) ex (by decide) (by decide) (by decide) (by decide) dL_law_33 ?_
        exact w_Lw_law_b1326 C hE hB hR r hst hG ih _ hx hw hM hX _ _ _ _ hf
      | 34, _, ex, hf =>
        refine tj_tswIn C 34 (off := 1316) 1349 (by decide) ex (by decide) (by decide) (by decide) (by decide) dL_law_33 ?_
        exact w_Lw_law_b1349 C hE hB hR r hst hG ih _ hx hw hM hX _ _ _ _ hf
      | 35, _, ex, hf =>
        refine tj_tswIn C 35 (off := 1339) 1372 (by decide) ex (by decide) (by decide) (by decide) (by decide) dL_law_33 ?_
        exact w_Lw_law_b1372 C hE hB hR r hst hG ih _ hx hw hM hX _ _ _ _ hf
      | 36, _, ex, hf =>
        refine tj_tswIn C 36 (off := 1372) 1405 (by decide) ex (by decide) (by decide) (by decide) (by decide) dL_law_33 ?_
        exact w_Lw_law_b1405 C hE hB hR r hst hG ih _ hx hw hM hX _ _ _ _ hf
      | 37, _, ex, hf =>
        refine tj_tswIn C 37 (off := 1415) 1448 (by decide) ex (by decide) (by decide) (by decide) (by decide) dL_law_33 ?_
        exact w_Lw_law_b1448 C hE hB hR r hst hG ih _ hx hw hM hX _ _ _ _ hf
      | 38, _, ex, hf =>
        refine tj_tswIn C 38 (off := 1458) 1491 (by decide) ex (by decide) (by decide) (by decide) (by decide) dL_law_33 ?_
        exact w_Lw_law_b1491 C hE hB hR r hst hG ih _ hx hw hM hX _ _ _ _ hf
      | 39, _, ex, hf =>
        refine tj_tswIn C 39 (off := 1501) 1534 (by decide) ex (by decide) (by decide) (by decide) (by decide) dL_law_33 ?_
        exact w_Lw_law_b1534 C hE hB hR r hst hG ih _ hx hw hM hX _ _ _ _ hf
      | 40, _, ex, hf =>
        refine tj_tswIn C 40 (off := 1534) 1567 (by decide) ex (by decide) (by decide) (by decide) (by decide) dL_law_33 ?_
        exact w_Lw_law_b1567 C hE hB hR r hst hG ih _ hx hw hM hX _ _ _ _ hf
      | 41, _, ex, hf =>
        refine tj_tswIn C 41 (off := 1577) 1610 (by decide) ex (by decide) (by decide) (by decide) (by decide) dL_law_33 ?_
        exact w_Lw_law_b1610 C hE hB hR r hst hG ih _ hx hw hM hX _ _ _ _ hf
      | 42, _, ex, hf =>
        refine tj_tswIn C 42 (off := 1600) 1633 (by decide) ex (by decide) (by decide) (by decide) (by decide) dL_law_33 ?_
        exact w_Lw_law_b1633 C hE hB hR r hst hG ih _ hx hw hM hX _ _ _ _ hf
      | 43, _, ex, hf =>
        refine tj_tswIn C 43 (off := 1613) 1646 (by decide) ex (by decide) (by decide) (by decide) (by decide) dL_law_33 ?_
        exact w_Lw_law_b1646 C hE hB hR r hst hG ih _ hx hw hM hX _ _ _ _ hf
      | 44, _, ex, hf =>
        refine tj_tswIn C 44 (off := 1636) 1669 (by decide) ex (by decide) (by decide) (by decide) (by decide) dL_law_33 ?_
        exact w_Lw_law_b1669 C hE hB hR r hst hG ih _ hx hw hM hX _ _ _ _ hf
      | 45, _, ex, hf =>
        refine tj_tswIn C 45 (off := 1649) 1682 (by decide) ex (by decide) (by decide) (by decide) (by decide) dL_law_33 ?_
        exact w_Lw_law_b1682 C hE hB hR r hst hG ih _ hx hw hM hX _ _ _ _ hf
      | 46, _, ex, hf =>
        refine tj_tswIn C 46 (off := 1672) 1705 (by decide) ex (by decide) (by decide) (by decide) (by decide) dL_law_33 ?_
        exact w_Lw_law_b1705 C hE hB hR r hst hG ih _ hx hw hM hX _ _ _ _ hf
      | 47, _, ex, hf =>
        refine tj_tswIn C 47 (off := 1695) 1728 (by decide) ex (by decide) (by decide) (by decide) (by decide) dL_law_33 ?_
        exact w_Lw_law_b1728 C hE hB hR r hst hG ih _ hx hw hM hX _ _ _ _ hf
      | 48, _, ex, hf =>
        refine tj_tswIn C 48 (off := 1718) 1751 (by decide) ex (by decide) (by decide) (by decide) (by decide) dL_law_33 ?_
        exact w_Lw_law_b1751 C hE hB hR r hst hG ih _ hx hw hM hX _ _ _ _ hf
      | 49, _, ex, hf =>
        refine tj_tswIn C 49 (off := 1731) 1764 (by decide) ex (by decide) (by decide) (by decide) (by decide) dL_law_33 ?_
        exact w_Lw_law_b1764 C hE hB hR r hst hG ih _ hx hw hM hX _ _ _ _ hf
      | 50, _, ex, hf =>
        refine tj_tswIn C 50 (off := 1744) 1777 (by decide) ex (by decide) (by decide) (by decide) (by decide) dL_law_33 ?_
        exact w_Lw_law_b1777 C hE hB hR r hst hG ih _ hx hw hM hX _ _ _ _ hf
      | 51, _, ex, hf =>
        refine tj_tswIn C 51 (off := 1757) 1790 (by decide) ex (by decide) (by decide) (by decide) (by decide) dL_law_33 ?_
        exact w_Lw_law_b1790 C hE hB hR r hst hG ih _ hx hw hM hX _ _ _ _ hf
      | 52, _, ex, hf =>
        refine tj_tswIn C 52 (off := 1770) 1803 (by decide) ex (by decide) (by decide) (by decide) (by decide) dL_law_33 ?_
        exact w_Lw_law_b1803 C hE hB hR r hst hG ih _ hx hw hM hX _ _ _ _ hf
      | 53, _, ex, hf =>
        refine tj_tswIn C 53 (off := 1793) 1826 (by decide) ex (by decide) (by decide) (by decide) (by decide) dL_law_33 ?_
        exact w_Lw_law_b1826 C hE hB hR r hst hG ih _ hx hw hM hX _ _ _ _ hf
      | 54, _, ex, hf =>
        refine tj_tswIn C 54 (off := 1816) 1849 (by decide) ex (by decide) (by decide) (by decide) (by decide) dL_law_33 ?_
        exact w_Lw_law_b1849 C hE hB hR r hst hG ih _ hx hw hM hX _ _ _ _ hf
      | 55, _, ex, hf =>
        refine tj_tswIn C 55 (off := 1849) 1882 (by decide) ex (by decide) (by decide) (by decide) (by decide) dL_law_33 ?_
        exact w_Lw_law_b1882 C hE hB hR r hst hG ih _ hx hw hM hX _ _ _ _ hf
      | 56, _, ex, hf =>
        refine tj_tswIn C 56 (off := 1872) 1905 (by decide) ex (by decide) (by decide) (by decide) (by decide) dL_law_33 ?_
        exact w_Lw_law_b1905 C hE hB hR r hst hG ih _ hx hw hM hX _ _ _ _ hf
      | 57, _, ex, hf =>
        refine tj_tswIn C 57 (off := 1895) 1928 (by decide) ex (by decide) (by decide) (by decide) (by decide) dL_law_33 ?_
        exact w_Lw_law_b1928 C hE hB hR r hst hG ih _ hx hw hM hX _ _ _ _ hf
      | 58, _, ex, hf =>
        refine tj_tswIn C 58 (off := 1918) 1951 (by decide) ex (by decide) (by decide) (by decide) (by decide) dL_law_33 ?_
        exact w_Lw_law_b1951 C hE hB hR r hst hG ih _ hx hw hM hX _ _ _ _ hf
      | 59, _, ex, hf =>
        refine tj_tswIn C 59 (off := 1951) 1984 (by decide) ex (by decide) (by decide) (by decide) (by decide) dL_law_33 ?_
        exact w_Lw_law_b1984 C hE hB hR r hst hG ih _ hx hw hM hX _ _ _ _ hf
      | 60, _, ex, hf =>
        refine tj_tswIn C 60 (off := 1964) 1997 (by decide) ex (by decide) (by decide) (by decide) (by decide) dL_law_33 ?_
        exact w_Lw_law_b1997 C hE hB hR r hst hG ih _ hx hw hM hX _ _ _ _ hf
      | 61, _, ex, hf =>
        refine tj_tswOut C 0 61 2010 (by decide) (fun k hk h9 => absurd ((nI_eq (by omega) (by omega)).mp (ex.symm.trans h9)) (by omega)) (by decide) (by decide) (by decide) dL_law_33 ?_
        exact w_Lw_law_b2010 C hE hB hR r hst hG ih _ hx hw hM hX _ _ _ _ hf
      | 62, _, ex, hf =>
        refine tj_tswOut C 0 61 2010 (by decide) (fun k hk h9 => absurd ((nI_eq (by omega) (by omega)).mp (ex.symm.trans h9)) (by omega)) (by decide) (by decide) (by decide) dL_law_33 ?_
        exact w_Lw_law_b2010 C hE hB hR r hst hG ih _ hx hw hM hX _ _ _ _ hf
      | 63, _, ex, hf =>
        refine tj_tswOut C 0 61 2010 (by decide) (fun k hk h9 => absurd ((nI_eq (by omega) (by omega)).mp (ex.symm.trans h9)) (by omega)) (by decide) (by decide) (by decide) dL_law_33 ?_
        exact w_Lw_law_b2010 C hE hB hR r hst hG ih _ hx hw hM hX _ _ _ _ hf
      | k + 64, hk, _, _ => exact absurd hk (by omega)
