set_option maxRecDepth 100000
theorem w_Lo_does_l2 {Γ : tX} {d : Nat} {N0 : Nat → Nat} {K : tS → Prop} (C : TC Γ cX11_does RX11 (41 + 3 * d) (6022 + 65 * d)) (hw : tWf N0) (hR : xnL Γ = 3) (r : TRv Γ N0 cX11_does K) {t0 : Nat} {a1 : Nat} (h_t0 : N0 t0 ≠ 0 ∧ t0 % 32 = 9) (h_a1 : N0 a1 ≠ 0 ∧ a1 % 32 = 12) {ρ : Nat → Nat → tS → (tS → Prop) → Prop} (hρ : ∀ (t0 : Nat) (a1 : Nat) (S : tS) (K : tS → Prop), (gN S t0 ≠ 0 ∧ (t0 % 32 = 9 ∨ t0 % 32 = 10)) → (gN S a1 ≠ 0 ∧ a1 % 32 = 12) → ρ t0 a1 S K → Met (xl Γ) yX10_all (ws_ yX10_all cX10_all 3 (none)) (tRm (40 + 3 * d) (6000 + 65 * d)) (va_Pc [.ref (xad Γ t0), .ref (xad Γ a1)] (tPre (xG Γ) (xad Γ) (xA Γ) S)) (va_Qv K (tB (xG Γ) (xad Γ) (xA Γ) (gN S)) (xA Γ)) 0 0 (xA Γ)) : ∀ (n : Nat) (a2 : Int32) (S : tS), Lo_does_l2 t0 a1 ρ K n a2 S → TJ Γ N0 0 0 2 [(0, .ref (xad Γ t0)), (1, .ref (xad Γ a1)), (2, .int a2)] [] S := by
  intro n
  induction n with
  | zero => intro a2 S hf; exact hf.elim
  | succ n ih =>
    intro a2 S hf
    unfold Lo_does_l2 at hf
    refine tj_iload_n C 2 rfl rfl dX11_does_2 ?_
    refine tj_aload_n C 0 rfl rfl dX11_does_3 ?_
    refine gf_X11_7 C h_t0.2 h_t0.1 dX11_does_4 ?_
    refine tj_icmp_ge C 28 (by decide) dX11_does_7 (fun hc => ?_) (fun hc => ?_)
    · replace hf := hf.1 hc
      exact r _ _ _ dX11_does_28 hf
    · replace hf := hf.2 hc
      refine tj_aload_n C 1 rfl rfl dX11_does_10 ?_
      refine gf_X11_13 C h_a1.2 h_a1.1 dX11_does_11 ?_
      refine tj_if_ne C 28 (by decide) dX11_does_14 (fun hc => ?_) (fun hc => ?_)
      · replace hf := hf.2 hc
        exact r _ _ _ dX11_does_28 hf
      · replace hf := hf.1 hc
        refine tj_aload_n C 0 rfl rfl dX11_does_17 ?_
        refine tj_aload_n C 1 rfl rfl dX11_does_18 ?_
        refine tj_callUv C (n := 1) (k := 9) (T := TX11) (N := 3) (Cn := RX11) (owner := "CatWitness$Block") [.ref (xad Γ a1)] [] (fun hN => hρ _ _ _ _ (by rw [hN]; exact ⟨h_t0.1, by have hk9 := h_t0.2; omega⟩) (by rw [hN]; exact ⟨h_a1.1, h_a1.2⟩) hf) (lw_U q1573 q1524 q1526 q1527 q189 q1528) rfl ⟨by decide, by decide, by decide +kernel⟩ rfl (by omega) (by omega) (Nat.le_of_ble_eq_true rfl) h_t0.1 h_t0.2 (by decide) rfl rfl dX11_does_19 (fun S1 hf => ?_)
        obtain ⟨x2, ex⟩ : ∃ y : Int32, y = a2 + nI 1 := ⟨_, rfl⟩
        refine tj_iinc C (by rw [hR]; decide) 2 [(2, .int x2), (0, .ref (xad Γ t0)), (1, .ref (xad Γ a1))] rfl (by rw [ex]; exact ki_1 _) rfl dX11_does_22 ?_
        replace hf := hf x2 ex
        refine tj_goto C 2 (by decide) dX11_does_25 ?_
        exact tj_sub [1, 2, 0] (ih _ _ hf) rfl
theorem w_Lo_does_b0 {Γ : tX} {d : Nat} {N0 : Nat → Nat} {K : tS → Prop} (C : TC Γ cX11_does RX11 (41 + 3 * d) (6022 + 65 * d)) (hw : tWf N0) (hR : xnL Γ = 3) (r : TRv Γ N0 cX11_does K) {t0 : Nat} {a1 : Nat} (h_t0 : N0 t0 ≠ 0 ∧ t0 % 32 = 9) (h_a1 : N0 a1 ≠ 0 ∧ a1 % 32 = 12) {ρ : Nat → Nat → tS → (tS → Prop) → Prop} (hρ : ∀ (t0 : Nat) (a1 : Nat) (S : tS) (K : tS → Prop), (gN S t0 ≠ 0 ∧ (t0 % 32 = 9 ∨ t0 % 32 = 10)) → (gN S a1 ≠ 0 ∧ a1 % 32 = 12) → ρ t0 a1 S K → Met (xl Γ) yX10_all (ws_ yX10_all cX10_all 3 (none)) (tRm (40 + 3 * d) (6000 + 65 * d)) (va_Pc [.ref (xad Γ t0), .ref (xad Γ a1)] (tPre (xG Γ) (xad Γ) (xA Γ) S)) (va_Qv K (tB (xG Γ) (xad Γ) (xA Γ) (gN S)) (xA Γ)) 0 0 (xA Γ)) {S : tS} (hf : Lo_does ρ t0 a1 S K) : TJ Γ N0 0 0 0 [(0, .ref (xad Γ t0)), (1, .ref (xad Γ a1))] [] S := by
  unfold Lo_does at hf
  refine tj_iconst C kc_0 dX11_does_0 ?_
  refine tj_istore_n C (by rw [hR]; decide) [(2, .int (nI 0)), (0, .ref (xad Γ t0)), (1, .ref (xad Γ a1))] rfl rfl dX11_does_1 ?_
  exact tj_sub [1, 2, 0] (hf.elim fun k hf => w_Lo_does_l2 C hw hR r h_t0 h_a1 hρ k _ _ hf) rfl
theorem c_Lo_does {l : Launch} {G : tG} {ad : Nat → Nat} {A : Nat → Prop} {d : Nat} {ρ : Nat → Nat → tS → (tS → Prop) → Prop} {S : tS} {K : tS → Prop} {t0 : Nat} {a1 : Nat} (h_t0 : gN S t0 ≠ 0 ∧ t0 % 32 = 9) (h_a1 : gN S a1 ≠ 0 ∧ a1 % 32 = 12) (hρ : ∀ (t0 : Nat) (a1 : Nat) (S : tS) (K : tS → Prop), (gN S t0 ≠ 0 ∧ (t0 % 32 = 9 ∨ t0 % 32 = 10)) → (gN S a1 ≠ 0 ∧ a1 % 32 = 12) → ρ t0 a1 S K → Met l yX10_all (ws_ yX10_all cX10_all 3 (none)) (tRm (40 + 3 * d) (6000 + 65 * d)) (va_Pc [.ref (ad t0), .ref (ad a1)] (tPre G ad A S)) (va_Qv K (tB G ad A (gN S)) A) 0 0 A) (hf : Lo_does ρ t0 a1 S K) : Met l yX11_does (ws_ yX11_does cX11_does 3 (none)) (tRm (41 + 3 * d) (6022 + 65 * d)) (va_Pc [.ref (ad t0), .ref (ad a1)] (tPre G ad A S)) (va_Qv K (tB G ad A (gN S)) A) 0 0 A :=
  tj_met_v [(0, .ref (ad t0)), (1, .ref (ad a1))] pn_X11 rfl (Nat.le_of_ble_eq_true rfl) (fun p e R s m args below meth c Q C hw r => w_Lo_does_b0 C hw rfl r h_t0 h_a1 hρ hf)
theorem w_Wh_does_b0 {Γ : tX} {d : Nat} {N0 : Nat → Nat} {K : tS → Prop} (C : TC Γ cX12_does RX12 (41 + 3 * d) (6022 + 65 * d)) (hw : tWf N0) (hR : xnL Γ = 2) (r : TRv Γ N0 cX12_does K) {t0 : Nat} {a1 : Nat} (h_t0 : N0 t0 ≠ 0 ∧ t0 % 32 = 10) (h_a1 : N0 a1 ≠ 0 ∧ a1 % 32 = 12) {ρ : Nat → Nat → tS → (tS → Prop) → Prop} (hρ : ∀ (t0 : Nat) (a1 : Nat) (S : tS) (K : tS → Prop), (gN S t0 ≠ 0 ∧ (t0 % 32 = 9 ∨ t0 % 32 = 10)) → (gN S a1 ≠ 0 ∧ a1 % 32 = 12) → ρ t0 a1 S K → Met (xl Γ) yX10_all (ws_ yX10_all cX10_all 3 (none)) (tRm (40 + 3 * d) (6000 + 65 * d)) (va_Pc [.ref (xad Γ t0), .ref (xad Γ a1)] (tPre (xG Γ) (xad Γ) (xA Γ) S)) (va_Qv K (tB (xG Γ) (xad Γ) (xA Γ) (gN S)) (xA Γ)) 0 0 (xA Γ)) {S : tS} (hf : Wh_does ρ t0 a1 S K) : TJ Γ N0 0 0 0 [(0, .ref (xad Γ t0)), (1, .ref (xad Γ a1))] [] S := by
  unfold Wh_does at hf
  refine tj_aload_n C 0 rfl rfl dX12_does_0 ?_
  refine tj_aload_n C 1 rfl rfl dX12_does_1 ?_
  refine gf_X12_41 C h_a1.2 h_a1.1 dX12_does_2 ?_
  refine tj_hN (fun hN => ?_)
  obtain ⟨t1, he, h_t1, hf⟩ := hf
  rw [hN] at h_t1
  refine tj_some he ?_
  refine tj_callVz C (k := 10) [.ref (xad Γ t1)] [] (fun hN => c_Wh_is (by rw [hN]; exact ⟨h_t0.1, h_t0.2⟩) (by rw [hN]; exact ⟨h_t1.1, h_t1.2⟩) hf) lk_X12_47 ty_X12_is rfl (by omega) (by omega) (Nat.le_of_ble_eq_true rfl) h_t0.1 h_t0.2 (by decide) rfl rfl dX12_does_5 (fun r3 S2 hf => ?_)
  have hz_r3 := hf.1
  replace hf := hf.2
  refine tj_if_eq C 16 (by decide) dX12_does_8 (fun hc => ?_) (fun hc => ?_)
  · replace hf := hf.1 hc
    exact r _ _ _ dX12_does_16 hf
  · replace hf := hf.2 hc
    refine tj_aload_n C 0 rfl rfl dX12_does_11 ?_
    refine tj_aload_n C 1 rfl rfl dX12_does_12 ?_
    refine tj_callUv C (n := 1) (k := 10) (T := TX12) (N := 6) (Cn := RX12) (owner := "CatWitness$Block") [.ref (xad Γ a1)] [] (fun hN => hρ _ _ _ _ (by rw [hN]; exact ⟨h_t0.1, by have hk9 := h_t0.2; omega⟩) (by rw [hN]; exact ⟨h_a1.1, h_a1.2⟩) hf) (lw_U q1583 q1584 q1585 q1527 q189 q1528) rfl ⟨by decide, by decide, by decide +kernel⟩ rfl (by omega) (by omega) (Nat.le_of_ble_eq_true rfl) h_t0.1 h_t0.2 (by decide) rfl rfl dX12_does_13 (fun S4 hf => ?_)
    exact r _ _ _ dX12_does_16 hf
theorem c_Wh_does {l : Launch} {G : tG} {ad : Nat → Nat} {A : Nat → Prop} {d : Nat} {ρ : Nat → Nat → tS → (tS → Prop) → Prop} {S : tS} {K : tS → Prop} {t0 : Nat} {a1 : Nat} (h_t0 : gN S t0 ≠ 0 ∧ t0 % 32 = 10) (h_a1 : gN S a1 ≠ 0 ∧ a1 % 32 = 12) (hρ : ∀ (t0 : Nat) (a1 : Nat) (S : tS) (K : tS → Prop), (gN S t0 ≠ 0 ∧ (t0 % 32 = 9 ∨ t0 % 32 = 10)) → (gN S a1 ≠ 0 ∧ a1 % 32 = 12) → ρ t0 a1 S K → Met l yX10_all (ws_ yX10_all cX10_all 3 (none)) (tRm (40 + 3 * d) (6000 + 65 * d)) (va_Pc [.ref (ad t0), .ref (ad a1)] (tPre G ad A S)) (va_Qv K (tB G ad A (gN S)) A) 0 0 A) (hf : Wh_does ρ t0 a1 S K) : Met l yX12_does (ws_ yX12_does cX12_does 2 (none)) (tRm (41 + 3 * d) (6022 + 65 * d)) (va_Pc [.ref (ad t0), .ref (ad a1)] (tPre G ad A S)) (va_Qv K (tB G ad A (gN S)) A) 0 0 A :=
  tj_met_v [(0, .ref (ad t0)), (1, .ref (ad a1))] pn_X12 rfl (Nat.le_of_ble_eq_true rfl) (fun p e R s m args below meth c Q C hw r => w_Wh_does_b0 C hw rfl r h_t0 h_a1 hρ hf)
theorem w_St_go_b0 {Γ : tX} {d : Nat} {N0 : Nat → Nat} {K : tS → Prop} (C : TC Γ cX9_go RX9 (42 + 3 * d) (6044 + 65 * d)) (hw : tWf N0) (hR : xnL Γ = 2) (r : TRv Γ N0 cX9_go K) {t0 : Nat} {a1 : Nat} (h_t0 : N0 t0 ≠ 0 ∧ (t0 % 32 = 8 ∨ t0 % 32 = 9 ∨ t0 % 32 = 10)) (h_a1 : N0 a1 ≠ 0 ∧ a1 % 32 = 12) {ρ : Nat → Nat → tS → (tS → Prop) → Prop} (hρ : ∀ (t0 : Nat) (a1 : Nat) (S : tS) (K : tS → Prop), (gN S t0 ≠ 0 ∧ (t0 % 32 = 9 ∨ t0 % 32 = 10)) → (gN S a1 ≠ 0 ∧ a1 % 32 = 12) → ρ t0 a1 S K → Met (xl Γ) yX10_all (ws_ yX10_all cX10_all 3 (none)) (tRm (40 + 3 * d) (6000 + 65 * d)) (va_Pc [.ref (xad Γ t0), .ref (xad Γ a1)] (tPre (xG Γ) (xad Γ) (xA Γ) S)) (va_Qv K (tB (xG Γ) (xad Γ) (xA Γ) (gN S)) (xA Γ)) 0 0 (xA Γ)) {S : tS} (hf : St_go ρ t0 a1 S K) : TJ Γ N0 0 0 0 [(0, .ref (xad Γ t0)), (1, .ref (xad Γ a1))] [] S := by
  unfold St_go at hf
  refine tj_aload_n C 1 rfl rfl dX9_go_0 ?_
  refine gf_X9_9 C h_a1.2 h_a1.1 dX9_go_1 ?_
  refine tj_sipush C ks_300 dX9_go_4 ?_
  refine tj_icmp_ne C 21 (by decide) dX9_go_7 (fun hc => ?_) (fun hc => ?_)
  · replace hf := hf.2 hc
    refine tj_aload_n C 1 rfl rfl dX9_go_21 ?_
    refine tj_dup C rfl dX9_go_22 ?_
    refine gf_X9_9 C h_a1.2 h_a1.1 dX9_go_23 ?_
    refine tj_iconst C kc_1 dX9_go_26 ?_
    refine tj_iadd C dX9_go_27 ?_
    refine pf_X9_9 C h_a1.2 h_a1.1 dX9_go_28 ?_
    refine tj_topS (fun S1 eS => ?_)
    replace hf := hf S1 eS
    refine tj_aload_n C 0 rfl rfl dX9_go_31 ?_
    refine tj_aload_n C 1 rfl rfl dX9_go_32 ?_
    rcases h_t0.2 with hk9 | hk9 | hk9
    · replace hf := hf.1 hk9
      have h9_t0 : N0 t0 ≠ 0 ∧ t0 % 32 = 8 := ⟨h_t0.1, hk9⟩
      refine tj_callAv C (n := 1) (k := 8) (T := TX13) (N := 3) (Cn := RX13) (owner := "CatWitness$Step") [.ref (xad Γ a1)] [] (fun hN => c_Ac_does (by rw [hN]; exact ⟨h9_t0.1, by have hk9 := h9_t0.2; omega⟩) (by rw [hN]; exact ⟨h_a1.1, h_a1.2⟩) hf) (lw_U q1536 q1538 q1539 q1540 q192 q1541) q1537 ⟨by decide, by decide, by decide +kernel⟩ rfl (by omega) (by omega) (Nat.le_of_ble_eq_true rfl) h_t0.1 hk9 (by decide) rfl rfl dX9_go_33 (fun S2 hf => ?_)
      exact r _ _ _ dX9_go_36 hf
    · replace hf := hf.2.1 hk9
      have h9_t0 : N0 t0 ≠ 0 ∧ t0 % 32 = 9 := ⟨h_t0.1, hk9⟩
      refine tj_callAv C (n := 1) (k := 9) (T := TX11) (N := 3) (Cn := RX11) (owner := "CatWitness$Step") [.ref (xad Γ a1)] [] (fun hN => c_Lo_does (by rw [hN]; exact ⟨h9_t0.1, by have hk9 := h9_t0.2; omega⟩) (by rw [hN]; exact ⟨h_a1.1, h_a1.2⟩) hρ hf) (lw_U q1536 q1538 q1570 q1571 q190 q1572) q1537 ⟨by decide, by decide, by decide +kernel⟩ rfl (by omega) (by omega) (Nat.le_of_ble_eq_true rfl) h_t0.1 hk9 (by decide) rfl rfl dX9_go_33 (fun S2 hf => ?_)
      exact r _ _ _ dX9_go_36 hf
    · replace hf := hf.2.2 hk9
      have h9_t0 : N0 t0 ≠ 0 ∧ t0 % 32 = 10 := ⟨h_t0.1, hk9⟩
      refine tj_callAv C (n := 1) (k := 10) (T := TX12) (N := 6) (Cn := RX12) (owner := "CatWitness$Step") [.ref (xad Γ a1)] [] (fun hN => c_Wh_does (by rw [hN]; exact ⟨h9_t0.1, by have hk9 := h9_t0.2; omega⟩) (by rw [hN]; exact ⟨h_a1.1, h_a1.2⟩) hρ hf) (lw_U q1536 q1538 q1574 q1575 q191 q1576) q1537 ⟨by decide, by decide, by decide +kernel⟩ rfl (by omega) (by omega) (Nat.le_of_ble_eq_true rfl) h_t0.1 hk9 (by decide) rfl rfl dX9_go_33 (fun S2 hf => ?_)
      exact r _ _ _ dX9_go_36 hf
  · replace hf := hf.1 hc
    refine tj_aload_n C 1 rfl rfl dX9_go_10 ?_
    refine tj_iconst C kc_1 dX9_go_11 ?_
    refine pf_X9_15 C h_a1.2 (Or.inr rfl) h_a1.1 dX9_go_12 ?_
    refine tj_topS (fun S3 eS => ?_)
    replace hf := hf S3 eS
    refine tj_aload_n C 1 rfl rfl dX9_go_15 ?_
    refine tj_iconst C kc_1 dX9_go_16 ?_
    refine pf_X9_19 C h_a1.2 (Or.inr rfl) h_a1.1 dX9_go_17 ?_
    refine tj_topS (fun S4 eS => ?_)
    replace hf := hf S4 eS
    exact r _ _ _ dX9_go_20 hf
theorem c_St_go {l : Launch} {G : tG} {ad : Nat → Nat} {A : Nat → Prop} {d : Nat} {ρ : Nat → Nat → tS → (tS → Prop) → Prop} {S : tS} {K : tS → Prop} {t0 : Nat} {a1 : Nat} (h_t0 : gN S t0 ≠ 0 ∧ (t0 % 32 = 8 ∨ t0 % 32 = 9 ∨ t0 % 32 = 10)) (h_a1 : gN S a1 ≠ 0 ∧ a1 % 32 = 12) (hρ : ∀ (t0 : Nat) (a1 : Nat) (S : tS) (K : tS → Prop), (gN S t0 ≠ 0 ∧ (t0 % 32 = 9 ∨ t0 % 32 = 10)) → (gN S a1 ≠ 0 ∧ a1 % 32 = 12) → ρ t0 a1 S K → Met l yX10_all (ws_ yX10_all cX10_all 3 (none)) (tRm (40 + 3 * d) (6000 + 65 * d)) (va_Pc [.ref (ad t0), .ref (ad a1)] (tPre G ad A S)) (va_Qv K (tB G ad A (gN S)) A) 0 0 A) (hf : St_go ρ t0 a1 S K) : Met l yX9_go (ws_ yX9_go cX9_go 2 (none)) (tRm (42 + 3 * d) (6044 + 65 * d)) (va_Pc [.ref (ad t0), .ref (ad a1)] (tPre G ad A S)) (va_Qv K (tB G ad A (gN S)) A) 0 0 A :=
  tj_met_v [(0, .ref (ad t0)), (1, .ref (ad a1))] pn_X9 rfl (Nat.le_of_ble_eq_true rfl) (fun p e R s m args below meth c Q C hw r => w_St_go_b0 C hw rfl r h_t0 h_a1 hρ hf)
theorem w_Bl_all_l2 {Γ : tX} {d : Nat} {N0 : Nat → Nat} {K : tS → Prop} (C : TC Γ cX10_all RX10 (40 + 3 * (d + 1)) (6000 + 65 * (d + 1))) (hw : tWf N0) (hR : xnL Γ = 3) (r : TRv Γ N0 cX10_all K) {t0 : Nat} {a1 : Nat} (h_t0 : N0 t0 ≠ 0 ∧ (t0 % 32 = 9 ∨ t0 % 32 = 10)) (h_a1 : N0 a1 ≠ 0 ∧ a1 % 32 = 12) {ρ : Nat → Nat → tS → (tS → Prop) → Prop} (hρ : ∀ (t0 : Nat) (a1 : Nat) (S : tS) (K : tS → Prop), (gN S t0 ≠ 0 ∧ (t0 % 32 = 9 ∨ t0 % 32 = 10)) → (gN S a1 ≠ 0 ∧ a1 % 32 = 12) → ρ t0 a1 S K → Met (xl Γ) yX10_all (ws_ yX10_all cX10_all 3 (none)) (tRm (40 + 3 * d) (6000 + 65 * d)) (va_Pc [.ref (xad Γ t0), .ref (xad Γ a1)] (tPre (xG Γ) (xad Γ) (xA Γ) S)) (va_Qv K (tB (xG Γ) (xad Γ) (xA Γ) (gN S)) (xA Γ)) 0 0 (xA Γ)) : ∀ (n : Nat) (a2 : Int32) (S : tS), Bl_all_l2 t0 a1 ρ K n a2 S → TJ Γ N0 0 0 2 [(0, .ref (xad Γ t0)), (1, .ref (xad Γ a1)), (2, .int a2)] [] S := by
  intro n
  induction n with
  | zero => intro a2 S hf; exact hf.elim
  | succ n ih =>
    intro a2 S hf
    unfold Bl_all_l2 at hf
    refine tj_iload_n C 2 rfl rfl dX10_all_2 ?_
    refine tj_aload_n C 0 rfl rfl dX10_all_3 ?_
    refine gf_X10_13 C h_t0.2 h_t0.1 dX10_all_4 ?_
    refine tj_icmp_ge C 33 (by decide) dX10_all_7 (fun hc => ?_) (fun hc => ?_)
    · replace hf := hf.1 hc
      exact r _ _ _ dX10_all_33 hf
    · replace hf := hf.2 hc
      refine tj_aload_n C 1 rfl rfl dX10_all_10 ?_
      refine gf_X10_23 C h_a1.2 h_a1.1 dX10_all_11 ?_
      refine tj_if_ne C 33 (by decide) dX10_all_14 (fun hc => ?_) (fun hc => ?_)
      · replace hf := hf.2 hc
        exact r _ _ _ dX10_all_33 hf
      · replace hf := hf.1 hc
        refine tj_aload_n C 0 rfl rfl dX10_all_17 ?_
        refine gf_X10_7 C h_t0.2 h_t0.1 dX10_all_18 ?_
        refine tj_hN (fun hN => ?_)
        obtain ⟨t1, he, h_t1, hf⟩ := hf
        rw [hN] at h_t1
        refine tj_some he ?_
        refine tj_iload_n C 2 rfl rfl dX10_all_21 ?_
        refine tj_aald24d C t1 h_t1.2 h_t1.1 _ rfl hf.1 dX10_all_22 ?_
        replace hf := hf.2
        refine tj_hN (fun hN => ?_)
        obtain ⟨t2, he, h_t2, hf⟩ := hf
        rw [hN] at h_t2
        refine tj_some he ?_
        refine tj_aload_n C 1 rfl rfl dX10_all_23 ?_
        refine tj_callU3v C (n := 1) (owner := "CatWitness$Step") [.ref (xad Γ a1)] [] (fun hN => c_St_go (by rw [hN]; exact ⟨h_t2.1, h_t2.2⟩) (by rw [hN]; exact ⟨h_a1.1, h_a1.2⟩) hρ hf) (lw_U q1529 q1531 q1532 q1530 q188 q1535) (lw_U q1529 q1531 q1533 q1530 q188 q1535) (lw_U q1529 q1531 q1534 q1530 q188 q1535) rfl ⟨by decide, by decide, by decide +kernel⟩ rfl (by omega) (by omega) (Nat.le_of_ble_eq_true rfl) h_t2.1 h_t2.2 rfl dX10_all_24 (fun S3 hf => ?_)
        obtain ⟨x4, ex⟩ : ∃ y : Int32, y = a2 + nI 1 := ⟨_, rfl⟩
        refine tj_iinc C (by rw [hR]; decide) 2 [(2, .int x4), (0, .ref (xad Γ t0)), (1, .ref (xad Γ a1))] rfl (by rw [ex]; exact ki_1 _) rfl dX10_all_27 ?_
        replace hf := hf x4 ex
        refine tj_goto C 2 (by decide) dX10_all_30 ?_
        exact tj_sub [1, 2, 0] (ih _ _ hf) rfl
theorem w_Bl_all_b0 {Γ : tX} {d : Nat} {N0 : Nat → Nat} {K : tS → Prop} (C : TC Γ cX10_all RX10 (40 + 3 * (d + 1)) (6000 + 65 * (d + 1))) (hw : tWf N0) (hR : xnL Γ = 3) (r : TRv Γ N0 cX10_all K) {t0 : Nat} {a1 : Nat} (h_t0 : N0 t0 ≠ 0 ∧ (t0 % 32 = 9 ∨ t0 % 32 = 10)) (h_a1 : N0 a1 ≠ 0 ∧ a1 % 32 = 12) (hρ : ∀ (t0 : Nat) (a1 : Nat) (S : tS) (K : tS → Prop), (gN S t0 ≠ 0 ∧ (t0 % 32 = 9 ∨ t0 % 32 = 10)) → (gN S a1 ≠ 0 ∧ a1 % 32 = 12) → Bl_all d t0 a1 S K → Met (xl Γ) yX10_all (ws_ yX10_all cX10_all 3 (none)) (tRm (40 + 3 * d) (6000 + 65 * d)) (va_Pc [.ref (xad Γ t0), .ref (xad Γ a1)] (tPre (xG Γ) (xad Γ) (xA Γ) S)) (va_Qv K (tB (xG Γ) (xad Γ) (xA Γ) (gN S)) (xA Γ)) 0 0 (xA Γ)) {S : tS} (hf : Bl_all (d + 1) t0 a1 S K) : TJ Γ N0 0 0 0 [(0, .ref (xad Γ t0)), (1, .ref (xad Γ a1))] [] S := by
  unfold Bl_all at hf
  refine tj_iconst C kc_0 dX10_all_0 ?_
  refine tj_istore_n C (by rw [hR]; decide) [(2, .int (nI 0)), (0, .ref (xad Γ t0)), (1, .ref (xad Γ a1))] rfl rfl dX10_all_1 ?_
  exact tj_sub [1, 2, 0] (hf.elim fun k hf => w_Bl_all_l2 C hw hR r h_t0 h_a1 hρ k _ _ hf) rfl
theorem c_Bl_all {l : Launch} {G : tG} {ad : Nat → Nat} {A : Nat → Prop} : ∀ (d : Nat) (t0 : Nat) (a1 : Nat) (S : tS) (K : tS → Prop), (gN S t0 ≠ 0 ∧ (t0 % 32 = 9 ∨ t0 % 32 = 10)) → (gN S a1 ≠ 0 ∧ a1 % 32 = 12) → Bl_all d t0 a1 S K → Met l yX10_all (ws_ yX10_all cX10_all 3 (none)) (tRm (40 + 3 * d) (6000 + 65 * d)) (va_Pc [.ref (ad t0), .ref (ad a1)] (tPre G ad A S)) (va_Qv K (tB G ad A (gN S)) A) 0 0 A := by
  intro d
  induction d with
  | zero => intro t0 a1 S K h_t0 h_a1 hf; exact hf.elim
  | succ d ih =>
    intro t0 a1 S K h_t0 h_a1 hf
    exact tj_met_v [(0, .ref (ad t0)), (1, .ref (ad a1))] pn_X10 rfl (Nat.le_of_ble_eq_true rfl) (fun p e R s m args below meth c Q C hw r => w_Bl_all_b0 C hw rfl r h_t0 h_a1 ih hf)
theorem w_Bl_add_b41 {Γ : tX} {Nb : Nat → Nat} {K : tS → Prop} {mc ms : Nat} (C : TC Γ cX10_add RX10 1 60) (hE : tDyn (xad Γ)) (hB : mc ≤ (xR Γ).cells ∧ ms ≤ (xR Γ).slots) (hR : xnL Γ = 3) (r : TEv Γ Nb mc ms cX10_add K) {t0 : Nat} {a1 : Nat} : ∀ (N0 : Nat → Nat) (hx : tExt Nb N0) (hw : tWf N0) (h_t0 : N0 t0 ≠ 0 ∧ (t0 % 32 = 9 ∨ t0 % 32 = 10)) (h_a1 : N0 a1 ≠ 0 ∧ (a1 % 32 = 8 ∨ a1 % 32 = 9 ∨ a1 % 32 = 10)) (uc : Nat) (us : Nat) (S : tS), Bl_add_b41 t0 a1 mc ms K uc us S → TJ Γ N0 uc us 41 [(0, .ref (xad Γ t0)), (1, .ref (xad Γ a1))] [] S := by
  intro N0 hx hw h_t0 h_a1 uc us S hf
  unfold Bl_add_b41 at hf
  refine tj_aload_n C 0 rfl rfl dX10_add_41 ?_
  refine gf_X10_7 C h_t0.2 h_t0.1 dX10_add_42 ?_
  refine tj_hN (fun hN => ?_)
  obtain ⟨t7, he, h_t7, hf⟩ := hf
  rw [hN] at h_t7
  refine tj_some he ?_
  refine tj_aload_n C 0 rfl rfl dX10_add_45 ?_
  refine gf_X10_13 C h_t0.2 h_t0.1 dX10_add_46 ?_
  refine tj_aload_n C 1 rfl rfl dX10_add_49 ?_
  refine tj_aast24d C t7 a1 h_t7.2 ⟨h_a1.1, h_a1.2⟩ h_t7.1 _ rfl hf.1 dX10_add_50 ?_
  replace hf := hf.2
  refine tj_topS (fun S8 eS => ?_)
  replace hf := hf S8 eS
  refine tj_aload_n C 0 rfl rfl dX10_add_51 ?_
  refine tj_dup C rfl dX10_add_52 ?_
  refine gf_X10_13 C h_t0.2 h_t0.1 dX10_add_53 ?_
  refine tj_iconst C kc_1 dX10_add_56 ?_
  refine tj_iadd C dX10_add_57 ?_
  refine pf_X10_13 C h_t0.2 h_t0.1 dX10_add_58 ?_
  refine tj_topS (fun S9 eS => ?_)
  replace hf := hf S9 eS
  exact tj_up mc ms hB hf.1 (r _ _ _ _ hx dX10_add_61 hf.2)
theorem w_Bl_add_b0 {Γ : tX} {Nb : Nat → Nat} {K : tS → Prop} {mc ms : Nat} (C : TC Γ cX10_add RX10 1 60) (hE : tDyn (xad Γ)) (hB : mc ≤ (xR Γ).cells ∧ ms ≤ (xR Γ).slots) (hR : xnL Γ = 3) (r : TEv Γ Nb mc ms cX10_add K) (N0 : Nat → Nat) (hx : tExt Nb N0) (hw : tWf N0) {t0 : Nat} {a1 : Nat} (h_t0 : N0 t0 ≠ 0 ∧ (t0 % 32 = 9 ∨ t0 % 32 = 10)) (h_a1 : N0 a1 ≠ 0 ∧ (a1 % 32 = 8 ∨ a1 % 32 = 9 ∨ a1 % 32 = 10)) {S : tS} (hf : Bl_add t0 a1 mc ms S K) : TJ Γ N0 0 0 0 [(0, .ref (xad Γ t0)), (1, .ref (xad Γ a1))] [] S := by
  unfold Bl_add at hf
  refine tj_aload_n C 0 rfl rfl dX10_add_0 ?_
  refine gf_X10_13 C h_t0.2 h_t0.1 dX10_add_1 ?_
  refine tj_aload_n C 0 rfl rfl dX10_add_4 ?_
  refine gf_X10_7 C h_t0.2 h_t0.1 dX10_add_5 ?_
  refine tj_hN (fun hN => ?_)
  obtain ⟨t1, he, h_t1, hf⟩ := hf
  rw [hN] at h_t1
  refine tj_some he ?_
  refine tj_alend C 24 t1 (by decide) (by decide) h_t1.2 h_t1.1 dX10_add_8 ?_
  refine tj_icmp_ne C 41 (by decide) dX10_add_9 (fun hc => ?_) (fun hc => ?_)
  · replace hf := hf.2 hc
    exact w_Bl_add_b41 C hE hB hR r _ hx hw h_t0 h_a1 _ _ _ hf
  · replace hf := hf.1 hc
    refine tj_iconst C kc_2 dX10_add_12 ?_
    refine tj_aload_n C 0 rfl rfl dX10_add_13 ?_
    refine gf_X10_13 C h_t0.2 h_t0.1 dX10_add_14 ?_
    refine tj_imul C dX10_add_17 ?_
    refine tj_hN (fun hN => ?_)
    refine tj_newq C hE 24 (by decide) (by decide) q994 q995 (fun _ => rfl) hf.1.1 hf.1.2 ⟨Nat.le_trans hf.2.1.1 hB.1, Nat.le_trans hf.2.1.2 hB.2⟩ dX10_add_18 (fun t2 N2 hN2 hx2 hw2 _ h_t2 h32 hz => ?_)
    refine tj_topS (fun S3 eS => ?_)
    replace hf := hf.2.2 t2 S3 (by rw [hN]; exact hz) h32 h_t2.2 eS
    have hw := hw2
    have h_t0 := hx2.kd h_t0
    have h_a1 := hx2.kd h_a1
    have h_t1 := hx2.kd h_t1
    have hx := hx.tr hx2
    refine tj_astore_n C (by rw [hR]; decide) [(2, .ref (xad Γ t2)), (0, .ref (xad Γ t0)), (1, .ref (xad Γ a1))] rfl rfl dX10_add_21 ?_
    refine tj_aload_n C 1 rfl rfl dX10_add_22 ?_
    refine gf_X10_7 C h_t0.2 h_t0.1 dX10_add_23 ?_
    refine tj_hN (fun hN => ?_)
    obtain ⟨t4, he, h_t4, hf⟩ := hf
    rw [hN] at h_t4
    refine tj_some he ?_
    refine tj_iconst C kc_0 dX10_add_26 ?_
    refine tj_aload_n C 0 rfl rfl dX10_add_27 ?_
    refine tj_iconst C kc_0 dX10_add_28 ?_
    refine tj_aload_n C 1 rfl rfl dX10_add_29 ?_
    refine gf_X10_13 C h_t0.2 h_t0.1 dX10_add_30 ?_
    refine tj_hN (fun hN => tj_copy24 C t4 t2 (gN S3 t4 - 1) (gN S3 t2 - 1) h_t4.2 h_t2.2 (by rw [hN]; exact (Nat.succ_pred h_t4.1).symm) (by rw [hN]; exact (Nat.succ_pred h_t2.1).symm) q1071 hf.1 (Nat.le_of_ble_eq_true rfl) (Nat.le_of_ble_eq_true rfl) (Nat.le_of_ble_eq_true rfl) dX10_add_33 ?_)
    replace hf := hf.2
    refine tj_topS (fun S5 eS => ?_)
    replace hf := hf S5 eS
    refine tj_aload_n C 1 rfl rfl dX10_add_36 ?_
    refine tj_aload_n C 0 rfl rfl dX10_add_37 ?_
    refine pf_X10_7 C (x := some t2) h_t0.2 h_t0.1 dX10_add_38 ?_
    refine tj_topS (fun S6 eS => ?_)
    replace hf := hf S6 eS
    exact tj_sub [1, 2] (w_Bl_add_b41 C hE hB hR r _ hx hw h_t0 h_a1 _ _ _ hf) rfl
theorem c_Bl_add {l : Launch} {G : tG} {ad : Nat → Nat} {A : Nat → Prop} {S : tS} {K : tS → Prop} {mc ms : Nat} {t0 : Nat} {a1 : Nat} (h_t0 : gN S t0 ≠ 0 ∧ (t0 % 32 = 9 ∨ t0 % 32 = 10)) (h_a1 : gN S a1 ≠ 0 ∧ (a1 % 32 = 8 ∨ a1 % 32 = 9 ∨ a1 % 32 = 10)) (hE : tDyn ad) (hf : Bl_add t0 a1 mc ms S K) : Met l yX10_add (ws_ yX10_add cX10_add 3 (none)) (tRe 1 60 mc ms) (va_Pc [.ref (ad t0), .ref (ad a1)] (tPre G ad A S)) (va_Qv K (tBE G ad A (gN S)) A) mc ms A :=
  te_met_v [(0, .ref (ad t0)), (1, .ref (ad a1))] pn_X10 rfl (Nat.le_of_ble_eq_true rfl) (fun p e R s m args below meth c Q C hw hB r => w_Bl_add_b0 C hE hB rfl r _ tExt.rf hw h_t0 h_a1 hf)
theorem w_Rd_newRule_b157 {Γ : tX} {Nb : Nat → Nat} {K : tS → Prop} {KX : tS → Prop} {mc ms : Nat} (C : TC Γ cX7_newRule RX7 9 201) (hE : tDyn (xad Γ)) (hB : mc ≤ (xR Γ).cells ∧ ms ≤ (xR Γ).slots) (hR : xnL Γ = 9) (r : TEv Γ Nb mc ms cX7_newRule K) (rx : TEX Γ Nb mc ms RX2 1123 KX) {t0 : Nat} {a1 : Nat} : ∀ (N0 : Nat → Nat) (hx : tExt Nb N0) (hw : tWf N0) (h_t0 : N0 t0 ≠ 0 ∧ t0 % 32 = 11) (hX : N0 1025 ≠ 0) (h_a1 : N0 a1 ≠ 0 ∧ a1 % 32 = 6) (uc : Nat) (us : Nat) (s1 : Int32) (s2 : Nat) (s3 : Nat) (s4 : Int32) (s5 : Int32) (s6 : Int32) (s7 : Int32) (s8 : Int32) (s9 : Int32) (s10 : Int32) (S : tS), ∀ (h_s2 : N0 s2 ≠ 0 ∧ s2 % 32 = 7), ∀ (h_s3 : N0 s3 ≠ 0 ∧ s3 % 32 = 7), Rd_newRule_b157 t0 a1 mc ms K KX uc us s1 s2 s3 s4 s5 s6 s7 s8 s9 s10 S → TJ Γ N0 uc us 157 [(1, .ref (xad Γ a1))] [.int s10, .int s9, .int s8, .int s7, .int s6, .int s5, .int s4, .ref (xad Γ s3), .ref (xad Γ s2), .int s1, .ref (xad Γ (a1 + 497))] S := by
  intro N0 hx hw h_t0 hX h_a1 uc us s1 s2 s3 s4 s5 s6 s7 s8 s9 s10 S h_s2 h_s3 hf
  unfold Rd_newRule_b157 at hf
  obtain ⟨c35, s36, hu35, hf⟩ := hf
  refine te_callI C [.int s4, .int s5, .int s6, .int s7, .int s8, .int s9, .int s10] [.ref (xad Γ s2), .int s1, .ref (xad Γ (a1 + 497))] (fun hN => c_Ru_init (by rw [hN]; exact ⟨h_s3.1, h_s3.2⟩) hE hf) q906 q186 q904 q905 rfl ty_X8_init rfl (Nat.le_of_ble_eq_true rfl) (Nat.le_of_ble_eq_true rfl) ⟨Nat.le_trans hu35.1 hB.1, Nat.le_trans hu35.2 hB.2⟩ (Nat.le_of_ble_eq_true rfl) rfl dX7_newRule_157 (fun S37 _ hf _ hx35 hw35 => ?_)
  have hw := hw35
  have hX := hx35.ne hX
  have h_t0 := hx35.kd h_t0
  have h_a1 := hx35.kd h_a1
  have h_s2 := hx35.kd h_s2
  have h_s3 := hx35.kd h_s3
  have hx := hx.tr hx35
  refine tj_aast23 C (a1 + 497) 8 s2 (by have := h_a1.2; omega) ⟨h_s2.1, h_s2.2⟩ (lnc_497 hw h_a1.2 h_a1.1) _ rfl hf.1 dX7_newRule_160 ?_
  replace hf := hf.2
  refine tj_topS (fun S38 eS => ?_)
  replace hf := hf S38 eS
  refine tj_aload_n C 0 rfl rfl dX7_newRule_161 ?_
  refine tj_dup C rfl dX7_newRule_162 ?_
  refine gf_X7_232 C h_a1.2 h_a1.1 dX7_newRule_163 ?_
  refine tj_iconst C kc_1 dX7_newRule_166 ?_
  refine tj_iadd C dX7_newRule_167 ?_
  refine pf_X7_232 C h_a1.2 h_a1.1 dX7_newRule_168 ?_
  refine tj_topS (fun S39 eS => ?_)
  replace hf := hf S39 eS
  exact tj_up mc ms hB hf.1 (r _ _ _ _ hx dX7_newRule_171 hf.2)
theorem w_Rd_newRule_b116 {Γ : tX} {Nb : Nat → Nat} {K : tS → Prop} {KX : tS → Prop} {mc ms : Nat} (C : TC Γ cX7_newRule RX7 9 201) (hE : tDyn (xad Γ)) (hB : mc ≤ (xR Γ).cells ∧ ms ≤ (xR Γ).slots) (hR : xnL Γ = 9) (r : TEv Γ Nb mc ms cX7_newRule K) (rx : TEX Γ Nb mc ms RX2 1123 KX) {t0 : Nat} {a1 : Nat} : ∀ (N0 : Nat → Nat) (hx : tExt Nb N0) (hw : tWf N0) (h_t0 : N0 t0 ≠ 0 ∧ t0 % 32 = 11) (hX : N0 1025 ≠ 0) (h_a1 : N0 a1 ≠ 0 ∧ a1 % 32 = 6) (uc : Nat) (us : Nat) (a2 : Int32) (a3 : Int32) (a4 : Int32) (a5 : Int32) (a6 : Int32) (a7 : Int32) (s0 : Int32) (S : tS), Rd_newRule_b116 t0 a1 mc ms K KX uc us a2 a3 a4 a5 a6 a7 s0 S → TJ Γ N0 uc us 116 [(0, .ref (xad Γ t0)), (1, .ref (xad Γ a1)), (2, .int a2), (3, .int a3), (4, .int a4), (5, .int a5), (6, .int a6), (7, .int a7)] [.int s0] S := by
  intro N0 hx hw h_t0 hX h_a1 uc us a2 a3 a4 a5 a6 a7 s0 S hf
  unfold Rd_newRule_b116 at hf
  refine tj_istore C (by rw [hR]; decide) [(8, .int s0), (0, .ref (xad Γ t0)), (1, .ref (xad Γ a1)), (2, .int a2), (3, .int a3), (4, .int a4), (5, .int a5), (6, .int a6), (7, .int a7)] rfl dX7_newRule_116 ?_
  refine tj_aload_n C 2 rfl rfl dX7_newRule_118 ?_
  refine gf_X7_245 C h_a1.2 h_a1.1 dX7_newRule_119 ?_
  refine tj_iload_n C 3 rfl rfl dX7_newRule_122 ?_
  refine tj_hN (fun hN => ?_)
  refine tj_new C hE 7 (T := TX8) (N := 7) (by decide) (by decide) (by decide) rfl in_X8 tyX8_ok (by decide) dv_X8 q898 q899 q186 ⟨Nat.le_trans hf.1.1 hB.1, Nat.le_trans hf.1.2 hB.2⟩ dX7_newRule_123 (fun t28 N28 hN28 hx28 hw28 _ h_t28 h32 hz => ?_)
  refine tj_topS (fun S29 eS => ?_)
  replace hf := hf.2 t28 S29 (by rw [hN]; exact hz) h32 h_t28.2 eS
  have hw := hw28
  have hX := hx28.ne hX
  have h_t0 := hx28.kd h_t0
  have h_a1 := hx28.kd h_a1
  have hx := hx.tr hx28
  refine tj_dup C rfl dX7_newRule_126 ?_
  refine tj_iload_n C 4 rfl rfl dX7_newRule_127 ?_
  refine tj_iload C 5 rfl dX7_newRule_128 ?_
  refine tj_iload C 6 rfl dX7_newRule_130 ?_
  refine tj_iload C 7 rfl dX7_newRule_132 ?_
  refine tj_iload C 8 rfl dX7_newRule_134 ?_
  refine tj_iload C 0 rfl dX7_newRule_136 ?_
  refine tj_aload_n C 1 rfl rfl dX7_newRule_138 ?_
  refine tj_ldcS C 21 rfl dX7_newRule_139 ?_
  refine tj_xVz16 C (px := fun _ => False) (En := RX2) (tg := 1123) (k := 11) [.ref (xK Γ 21)] [.int s0, .int a7, .int a6, .int a5, .int a4, .int a3, .ref (xad Γ t28), .ref (xad Γ t28), .int a2, .ref (xad Γ (a1 + 497))] (fun hN => vx_of_met _ (c_Rd_reads (by rw [hN]; exact ⟨h_t0.1, h_t0.2⟩) (by rw [hN]; exact hX) (by decide) hf)) lk_X7_239 ty_X7_reads rfl (Nat.le_of_ble_eq_true rfl) (Nat.le_of_ble_eq_true rfl) (Nat.le_of_ble_eq_true rfl) h_t0.1 h_t0.2 (by decide) rfl rfl dX7_newRule_141 (fun _ hu => hu.elim) (fun r31 S30 hf => ?_)
  have hz_r31 := hf.1
  replace hf := hf.2
  refine tj_if_eq C 156 (by decide) dX7_newRule_144 (fun hc => ?_) (fun hc => ?_)
  · replace hf := hf.1 hc
    refine tj_iconst C kc_m1 dX7_newRule_156 ?_
    exact tj_sub [2] (w_Rd_newRule_b157 C hE hB hR r rx _ hx hw h_t0 hX h_a1 _ _ _ _ _ _ _ _ _ _ _ _ _ ⟨h_t28.1, h_t28.2⟩ ⟨h_t28.1, h_t28.2⟩ hf) rfl
  · replace hf := hf.2 hc
    refine tj_aload_n C 1 rfl rfl dX7_newRule_147 ?_
    refine tj_aload_n C 2 rfl rfl dX7_newRule_148 ?_
    refine tj_iconst C kc_0 dX7_newRule_149 ?_
    refine tj_xVi16 C (k := 11) [.ref (xad Γ a1), .int (nI 0)] [.int s0, .int a7, .int a6, .int a5, .int a4, .int a3, .ref (xad Γ t28), .ref (xad Γ t28), .int a2, .ref (xad Γ (a1 + 497))] (fun hN => c_Rd_smell (by rw [hN]; exact ⟨h_t0.1, h_t0.2⟩) (by rw [hN]; exact hX) (by rw [hN]; exact ⟨h_a1.1, h_a1.2⟩) hf) lk_X7_250 ty_X7_smell rfl (Nat.le_of_ble_eq_true rfl) (Nat.le_of_ble_eq_true rfl) (Nat.le_of_ble_eq_true rfl) h_t0.1 h_t0.2 (by decide) rfl rfl dX7_newRule_150 (fun S33 hf => ?_) (fun r34 S32 hf => ?_)
    · exact txj_up mc ms hB hf.1 (rx _ _ _ _ hx hf.2)
    · refine tj_goto C 157 (by decide) dX7_newRule_153 ?_
      exact tj_sub [2] (w_Rd_newRule_b157 C hE hB hR r rx _ hx hw h_t0 hX h_a1 _ _ _ _ _ _ _ _ _ _ _ _ _ ⟨h_t28.1, h_t28.2⟩ ⟨h_t28.1, h_t28.2⟩ hf) rfl
theorem w_Rd_newRule_b98 {Γ : tX} {Nb : Nat → Nat} {K : tS → Prop} {KX : tS → Prop} {mc ms : Nat} (C : TC Γ cX7_newRule RX7 9 201) (hE : tDyn (xad Γ)) (hB : mc ≤ (xR Γ).cells ∧ ms ≤ (xR Γ).slots) (hR : xnL Γ = 9) (r : TEv Γ Nb mc ms cX7_newRule K) (rx : TEX Γ Nb mc ms RX2 1123 KX) {t0 : Nat} {a1 : Nat} : ∀ (N0 : Nat → Nat) (hx : tExt Nb N0) (hw : tWf N0) (h_t0 : N0 t0 ≠ 0 ∧ t0 % 32 = 11) (hX : N0 1025 ≠ 0) (h_a1 : N0 a1 ≠ 0 ∧ a1 % 32 = 6) (uc : Nat) (us : Nat) (a2 : Int32) (a3 : Int32) (a4 : Int32) (a5 : Int32) (a6 : Int32) (s0 : Int32) (S : tS), Rd_newRule_b98 t0 a1 mc ms K KX uc us a2 a3 a4 a5 a6 s0 S → TJ Γ N0 uc us 98 [(0, .ref (xad Γ t0)), (1, .ref (xad Γ a1)), (2, .int a2), (3, .int a3), (4, .int a4), (5, .int a5), (6, .int a6)] [.int s0] S := by
  intro N0 hx hw h_t0 hX h_a1 uc us a2 a3 a4 a5 a6 s0 S hf
  unfold Rd_newRule_b98 at hf
  refine tj_istore C (by rw [hR]; decide) [(7, .int s0), (0, .ref (xad Γ t0)), (1, .ref (xad Γ a1)), (2, .int a2), (3, .int a3), (4, .int a4), (5, .int a5), (6, .int a6)] rfl dX7_newRule_98 ?_
  refine tj_iload C 0 rfl dX7_newRule_100 ?_
  refine tj_if_ne C 109 (by decide) dX7_newRule_102 (fun hc => ?_) (fun hc => ?_)
  · replace hf := hf.2 hc
    refine tj_aload_n C 1 rfl rfl dX7_newRule_109 ?_
    refine tj_iconst C kc_0 dX7_newRule_110 ?_
    refine tj_bipush C kb_9 dX7_newRule_111 ?_
    refine tj_xVi C (k := 11) [.int (nI 0), .int (nI 9)] [] (fun hN => c_Rd_number (by rw [hN]; exact ⟨h_t0.1, h_t0.2⟩) (by rw [hN]; exact hX) hf) lk_X7_80 ty_X7_number rfl (Nat.le_of_ble_eq_true rfl) (Nat.le_of_ble_eq_true rfl) (Nat.le_of_ble_eq_true rfl) h_t0.1 h_t0.2 (by decide) rfl rfl dX7_newRule_113 (fun S26 hf => ?_) (fun r27 S25 hf => ?_)
    · exact txj_up mc ms hB hf.1 (rx _ _ _ _ hx hf.2)
    · exact tj_sub [1, 2, 3, 4, 5, 6, 7, 0] (w_Rd_newRule_b116 C hE hB hR r rx _ hx hw h_t0 hX h_a1 _ _ _ _ _ _ _ _ _ _ hf) rfl
  · replace hf := hf.1 hc
    refine tj_iconst C kc_0 dX7_newRule_105 ?_
    refine tj_goto C 116 (by decide) dX7_newRule_106 ?_
    exact tj_sub [1, 2, 3, 4, 5, 6, 7, 0] (w_Rd_newRule_b116 C hE hB hR r rx _ hx hw h_t0 hX h_a1 _ _ _ _ _ _ _ _ _ _ hf) rfl
theorem w_Rd_newRule_b79 {Γ : tX} {Nb : Nat → Nat} {K : tS → Prop} {KX : tS → Prop} {mc ms : Nat} (C : TC Γ cX7_newRule RX7 9 201) (hE : tDyn (xad Γ)) (hB : mc ≤ (xR Γ).cells ∧ ms ≤ (xR Γ).slots) (hR : xnL Γ = 9) (r : TEv Γ Nb mc ms cX7_newRule K) (rx : TEX Γ Nb mc ms RX2 1123 KX) {t0 : Nat} {a1 : Nat} : ∀ (N0 : Nat → Nat) (hx : tExt Nb N0) (hw : tWf N0) (h_t0 : N0 t0 ≠ 0 ∧ t0 % 32 = 11) (hX : N0 1025 ≠ 0) (h_a1 : N0 a1 ≠ 0 ∧ a1 % 32 = 6) (uc : Nat) (us : Nat) (a2 : Int32) (a3 : Int32) (a4 : Int32) (a5 : Int32) (s0 : Int32) (S : tS), Rd_newRule_b79 t0 a1 mc ms K KX uc us a2 a3 a4 a5 s0 S → TJ Γ N0 uc us 79 [(0, .ref (xad Γ t0)), (1, .ref (xad Γ a1)), (2, .int a2), (3, .int a3), (4, .int a4), (5, .int a5)] [.int s0] S := by
  intro N0 hx hw h_t0 hX h_a1 uc us a2 a3 a4 a5 s0 S hf
  unfold Rd_newRule_b79 at hf
  refine tj_istore C (by rw [hR]; decide) [(6, .int s0), (0, .ref (xad Γ t0)), (1, .ref (xad Γ a1)), (2, .int a2), (3, .int a3), (4, .int a4), (5, .int a5)] rfl dX7_newRule_79 ?_
  refine tj_aload_n C 1 rfl rfl dX7_newRule_81 ?_
  refine tj_ldcS C 15 rfl dX7_newRule_82 ?_
  refine tj_callVz C (k := 11) [.ref (xK Γ 15)] [] (fun hN => c_Rd_reads (by rw [hN]; exact ⟨h_t0.1, h_t0.2⟩) (by rw [hN]; exact hX) (by decide) hf) lk_X7_239 ty_X7_reads rfl (Nat.le_of_ble_eq_true rfl) (Nat.le_of_ble_eq_true rfl) (Nat.le_of_ble_eq_true rfl) h_t0.1 h_t0.2 (by decide) rfl rfl dX7_newRule_84 (fun r21 S20 hf => ?_)
  have hz_r21 := hf.1
  replace hf := hf.2
  refine tj_if_eq C 97 (by decide) dX7_newRule_87 (fun hc => ?_) (fun hc => ?_)
  · replace hf := hf.1 hc
    refine tj_iconst C kc_0 dX7_newRule_97 ?_
    exact tj_sub [1, 2, 3, 4, 5, 6, 0] (w_Rd_newRule_b98 C hE hB hR r rx _ hx hw h_t0 hX h_a1 _ _ _ _ _ _ _ _ _ hf) rfl
  · replace hf := hf.2 hc
    refine tj_aload_n C 1 rfl rfl dX7_newRule_90 ?_
    refine tj_xVi C (k := 11) [] [] (fun hN => c_Rd_compare (by rw [hN]; exact ⟨h_t0.1, h_t0.2⟩) (by rw [hN]; exact hX) hf) lk_X7_242 ty_X7_compare rfl (Nat.le_of_ble_eq_true rfl) (Nat.le_of_ble_eq_true rfl) (Nat.le_of_ble_eq_true rfl) h_t0.1 h_t0.2 (by decide) rfl rfl dX7_newRule_91 (fun S23 hf => ?_) (fun r24 S22 hf => ?_)
    · exact txj_up mc ms hB hf.1 (rx _ _ _ _ hx hf.2)
    · refine tj_goto C 98 (by decide) dX7_newRule_94 ?_
      exact tj_sub [1, 2, 3, 4, 5, 6, 0] (w_Rd_newRule_b98 C hE hB hR r rx _ hx hw h_t0 hX h_a1 _ _ _ _ _ _ _ _ _ hf) rfl
theorem w_Rd_newRule_b61 {Γ : tX} {Nb : Nat → Nat} {K : tS → Prop} {KX : tS → Prop} {mc ms : Nat} (C : TC Γ cX7_newRule RX7 9 201) (hE : tDyn (xad Γ)) (hB : mc ≤ (xR Γ).cells ∧ ms ≤ (xR Γ).slots) (hR : xnL Γ = 9) (r : TEv Γ Nb mc ms cX7_newRule K) (rx : TEX Γ Nb mc ms RX2 1123 KX) {t0 : Nat} {a1 : Nat} : ∀ (N0 : Nat → Nat) (hx : tExt Nb N0) (hw : tWf N0) (h_t0 : N0 t0 ≠ 0 ∧ t0 % 32 = 11) (hX : N0 1025 ≠ 0) (h_a1 : N0 a1 ≠ 0 ∧ a1 % 32 = 6) (uc : Nat) (us : Nat) (a2 : Int32) (a3 : Int32) (a4 : Int32) (s0 : Int32) (S : tS), Rd_newRule_b61 t0 a1 mc ms K KX uc us a2 a3 a4 s0 S → TJ Γ N0 uc us 61 [(0, .ref (xad Γ t0)), (1, .ref (xad Γ a1)), (2, .int a2), (3, .int a3), (4, .int a4)] [.int s0] S := by
  intro N0 hx hw h_t0 hX h_a1 uc us a2 a3 a4 s0 S hf
  unfold Rd_newRule_b61 at hf
  refine tj_istore C (by rw [hR]; decide) [(5, .int s0), (0, .ref (xad Γ t0)), (1, .ref (xad Γ a1)), (2, .int a2), (3, .int a3), (4, .int a4)] rfl dX7_newRule_61 ?_
  refine tj_iload C 0 rfl dX7_newRule_63 ?_
  refine tj_if_ne C 72 (by decide) dX7_newRule_65 (fun hc => ?_) (fun hc => ?_)
  · replace hf := hf.2 hc
    refine tj_aload_n C 1 rfl rfl dX7_newRule_72 ?_
    refine tj_iconst C kc_0 dX7_newRule_73 ?_
    refine tj_bipush C kb_99 dX7_newRule_74 ?_
    refine tj_xVi C (k := 11) [.int (nI 0), .int (nI 99)] [] (fun hN => c_Rd_number (by rw [hN]; exact ⟨h_t0.1, h_t0.2⟩) (by rw [hN]; exact hX) hf) lk_X7_80 ty_X7_number rfl (Nat.le_of_ble_eq_true rfl) (Nat.le_of_ble_eq_true rfl) (Nat.le_of_ble_eq_true rfl) h_t0.1 h_t0.2 (by decide) rfl rfl dX7_newRule_76 (fun S18 hf => ?_) (fun r19 S17 hf => ?_)
    · exact txj_up mc ms hB hf.1 (rx _ _ _ _ hx hf.2)
    · exact tj_sub [1, 2, 3, 4, 5, 0] (w_Rd_newRule_b79 C hE hB hR r rx _ hx hw h_t0 hX h_a1 _ _ _ _ _ _ _ _ hf) rfl
  · replace hf := hf.1 hc
    refine tj_iconst C kc_0 dX7_newRule_68 ?_
    refine tj_goto C 79 (by decide) dX7_newRule_69 ?_
    exact tj_sub [1, 2, 3, 4, 5, 0] (w_Rd_newRule_b79 C hE hB hR r rx _ hx hw h_t0 hX h_a1 _ _ _ _ _ _ _ _ hf) rfl
theorem w_Rd_newRule_b42 {Γ : tX} {Nb : Nat → Nat} {K : tS → Prop} {KX : tS → Prop} {mc ms : Nat} (C : TC Γ cX7_newRule RX7 9 201) (hE : tDyn (xad Γ)) (hB : mc ≤ (xR Γ).cells ∧ ms ≤ (xR Γ).slots) (hR : xnL Γ = 9) (r : TEv Γ Nb mc ms cX7_newRule K) (rx : TEX Γ Nb mc ms RX2 1123 KX) {t0 : Nat} {a1 : Nat} : ∀ (N0 : Nat → Nat) (hx : tExt Nb N0) (hw : tWf N0) (h_t0 : N0 t0 ≠ 0 ∧ t0 % 32 = 11) (hX : N0 1025 ≠ 0) (h_a1 : N0 a1 ≠ 0 ∧ a1 % 32 = 6) (uc : Nat) (us : Nat) (a2 : Int32) (a3 : Int32) (s0 : Int32) (S : tS), Rd_newRule_b42 t0 a1 mc ms K KX uc us a2 a3 s0 S → TJ Γ N0 uc us 42 [(0, .ref (xad Γ t0)), (1, .ref (xad Γ a1)), (2, .int a2), (3, .int a3)] [.int s0] S := by
  intro N0 hx hw h_t0 hX h_a1 uc us a2 a3 s0 S hf
  unfold Rd_newRule_b42 at hf
  refine tj_istore C (by rw [hR]; decide) [(4, .int s0), (0, .ref (xad Γ t0)), (1, .ref (xad Γ a1)), (2, .int a2), (3, .int a3)] rfl dX7_newRule_42 ?_
  refine tj_aload_n C 1 rfl rfl dX7_newRule_44 ?_
  refine tj_ldcS C 20 rfl dX7_newRule_45 ?_
  refine tj_callVz C (k := 11) [.ref (xK Γ 20)] [] (fun hN => c_Rd_reads (by rw [hN]; exact ⟨h_t0.1, h_t0.2⟩) (by rw [hN]; exact hX) (by decide) hf) lk_X7_239 ty_X7_reads rfl (Nat.le_of_ble_eq_true rfl) (Nat.le_of_ble_eq_true rfl) (Nat.le_of_ble_eq_true rfl) h_t0.1 h_t0.2 (by decide) rfl rfl dX7_newRule_47 (fun r13 S12 hf => ?_)
  have hz_r13 := hf.1
  replace hf := hf.2
  refine tj_if_eq C 60 (by decide) dX7_newRule_50 (fun hc => ?_) (fun hc => ?_)
  · replace hf := hf.1 hc
    refine tj_iconst C kc_0 dX7_newRule_60 ?_
    exact tj_sub [1, 2, 3, 4, 0] (w_Rd_newRule_b61 C hE hB hR r rx _ hx hw h_t0 hX h_a1 _ _ _ _ _ _ _ hf) rfl
  · replace hf := hf.2 hc
    refine tj_aload_n C 1 rfl rfl dX7_newRule_53 ?_
    refine tj_xVi C (k := 11) [] [] (fun hN => c_Rd_compare (by rw [hN]; exact ⟨h_t0.1, h_t0.2⟩) (by rw [hN]; exact hX) hf) lk_X7_242 ty_X7_compare rfl (Nat.le_of_ble_eq_true rfl) (Nat.le_of_ble_eq_true rfl) (Nat.le_of_ble_eq_true rfl) h_t0.1 h_t0.2 (by decide) rfl rfl dX7_newRule_54 (fun S15 hf => ?_) (fun r16 S14 hf => ?_)
    · exact txj_up mc ms hB hf.1 (rx _ _ _ _ hx hf.2)
    · refine tj_goto C 61 (by decide) dX7_newRule_57 ?_
      exact tj_sub [1, 2, 3, 4, 0] (w_Rd_newRule_b61 C hE hB hR r rx _ hx hw h_t0 hX h_a1 _ _ _ _ _ _ _ hf) rfl
theorem w_Rd_newRule_b17 {Γ : tX} {Nb : Nat → Nat} {K : tS → Prop} {KX : tS → Prop} {mc ms : Nat} (C : TC Γ cX7_newRule RX7 9 201) (hE : tDyn (xad Γ)) (hB : mc ≤ (xR Γ).cells ∧ ms ≤ (xR Γ).slots) (hR : xnL Γ = 9) (r : TEv Γ Nb mc ms cX7_newRule K) (rx : TEX Γ Nb mc ms RX2 1123 KX) {t0 : Nat} {a1 : Nat} : ∀ (N0 : Nat → Nat) (hx : tExt Nb N0) (hw : tWf N0) (h_t0 : N0 t0 ≠ 0 ∧ t0 % 32 = 11) (hX : N0 1025 ≠ 0) (h_a1 : N0 a1 ≠ 0 ∧ a1 % 32 = 6) (uc : Nat) (us : Nat) (a2 : Int32) (s1 : Int32) (S : tS), Rd_newRule_b17 t0 a1 mc ms K KX uc us a2 s1 S → TJ Γ N0 uc us 17 [(0, .ref (xad Γ t0)), (1, .ref (xad Γ a1)), (2, .int a2)] [.int s1, .ref (xad Γ t0)] S := by
  intro N0 hx hw h_t0 hX h_a1 uc us a2 s1 S hf
  unfold Rd_newRule_b17 at hf
  refine tj_xVv C (k := 11) [.int s1] [] (fun hN => c_Rd_room (by rw [hN]; exact ⟨h_t0.1, h_t0.2⟩) (by rw [hN]; exact hX) hf) lk_X7_157 ty_X7_room rfl (Nat.le_of_ble_eq_true rfl) (Nat.le_of_ble_eq_true rfl) (Nat.le_of_ble_eq_true rfl) h_t0.1 h_t0.2 (by decide) rfl rfl dX7_newRule_17 (fun S3 hf => ?_) (fun S2 hf => ?_)
  · exact txj_up mc ms hB hf.1 (rx _ _ _ _ hx hf.2)
  · refine tj_aload_n C 0 rfl rfl dX7_newRule_20 ?_
    refine tj_aload_n C 1 rfl rfl dX7_newRule_21 ?_
    refine tj_xVi C (k := 11) [.ref (xad Γ a1)] [] (fun hN => c_Rd_cue (by rw [hN]; exact ⟨h_t0.1, h_t0.2⟩) (by rw [hN]; exact hX) (by rw [hN]; exact ⟨h_a1.1, h_a1.2⟩) hf) lk_X7_235 ty_X7_cue rfl (Nat.le_of_ble_eq_true rfl) (Nat.le_of_ble_eq_true rfl) (Nat.le_of_ble_eq_true rfl) h_t0.1 h_t0.2 (by decide) rfl rfl dX7_newRule_22 (fun S5 hf => ?_) (fun r6 S4 hf => ?_)
    · exact txj_up mc ms hB hf.1 (rx _ _ _ _ hx hf.2)
    · refine tj_istore_n C (by rw [hR]; decide) [(3, .int r6), (0, .ref (xad Γ t0)), (1, .ref (xad Γ a1)), (2, .int a2)] rfl rfl dX7_newRule_25 ?_
      refine tj_aload_n C 1 rfl rfl dX7_newRule_26 ?_
      refine tj_callVi C (k := 11) [] [] (fun hN => c_Rd_senses (by rw [hN]; exact ⟨h_t0.1, h_t0.2⟩) (by rw [hN]; exact hX) hf) lk_X7_89 ty_X7_senses rfl (Nat.le_of_ble_eq_true rfl) (Nat.le_of_ble_eq_true rfl) (Nat.le_of_ble_eq_true rfl) h_t0.1 h_t0.2 (by decide) rfl rfl dX7_newRule_27 (fun r8 S7 hf => ?_)
      refine tj_if_le C 41 (by decide) dX7_newRule_30 (fun hc => ?_) (fun hc => ?_)
      · replace hf := hf.1 hc
        refine tj_iconst C kc_0 dX7_newRule_41 ?_
        exact tj_sub [1, 2, 3, 0] (w_Rd_newRule_b42 C hE hB hR r rx _ hx hw h_t0 hX h_a1 _ _ _ _ _ _ hf) rfl
      · replace hf := hf.2 hc
        refine tj_aload_n C 1 rfl rfl dX7_newRule_33 ?_
        refine tj_iconst C kc_1 dX7_newRule_34 ?_
        refine tj_xVi C (k := 11) [.int (nI 1)] [] (fun hN => c_Rd_sense (by rw [hN]; exact ⟨h_t0.1, h_t0.2⟩) (by rw [hN]; exact hX) hf) lk_X7_226 ty_X7_sense rfl (Nat.le_of_ble_eq_true rfl) (Nat.le_of_ble_eq_true rfl) (Nat.le_of_ble_eq_true rfl) h_t0.1 h_t0.2 (by decide) rfl rfl dX7_newRule_35 (fun S10 hf => ?_) (fun r11 S9 hf => ?_)
        · exact txj_up mc ms hB hf.1 (rx _ _ _ _ hx hf.2)
        · refine tj_goto C 42 (by decide) dX7_newRule_38 ?_
          exact tj_sub [1, 2, 3, 0] (w_Rd_newRule_b42 C hE hB hR r rx _ hx hw h_t0 hX h_a1 _ _ _ _ _ _ hf) rfl
theorem w_Rd_newRule_b0 {Γ : tX} {Nb : Nat → Nat} {K : tS → Prop} {KX : tS → Prop} {mc ms : Nat} (C : TC Γ cX7_newRule RX7 9 201) (hE : tDyn (xad Γ)) (hB : mc ≤ (xR Γ).cells ∧ ms ≤ (xR Γ).slots) (hR : xnL Γ = 9) (r : TEv Γ Nb mc ms cX7_newRule K) (rx : TEX Γ Nb mc ms RX2 1123 KX) (N0 : Nat → Nat) (hx : tExt Nb N0) (hw : tWf N0) {t0 : Nat} {a1 : Nat} (h_t0 : N0 t0 ≠ 0 ∧ t0 % 32 = 11) (hX : N0 1025 ≠ 0) (h_a1 : N0 a1 ≠ 0 ∧ a1 % 32 = 6) {S : tS} (hf : Rd_newRule t0 a1 mc ms S K KX) : TJ Γ N0 0 0 0 [(0, .ref (xad Γ t0)), (1, .ref (xad Γ a1))] [] S := by
  unfold Rd_newRule at hf
  refine tj_aload_n C 1 rfl rfl dX7_newRule_0 ?_
  refine gf_X7_232 C h_a1.2 h_a1.1 dX7_newRule_1 ?_
  refine tj_topi (fun x1 ex => ?_)
  replace hf := hf x1 ex
  refine tj_istore_n C (by rw [hR]; decide) [(2, .int x1), (0, .ref (xad Γ t0)), (1, .ref (xad Γ a1))] rfl rfl dX7_newRule_4 ?_
  refine tj_aload_n C 1 rfl rfl dX7_newRule_5 ?_
  refine tj_iload_n C 0 rfl rfl dX7_newRule_6 ?_
  refine tj_bipush C kb_8 dX7_newRule_7 ?_
  refine tj_icmp_ge C 16 (by decide) dX7_newRule_9 (fun hc => ?_) (fun hc => ?_)
  · replace hf := hf.1 hc
    refine tj_iconst C kc_0 dX7_newRule_16 ?_
    exact tj_sub [1, 2, 0] (w_Rd_newRule_b17 C hE hB hR r rx _ hx hw h_t0 hX h_a1 _ _ _ _ _ hf) rfl
  · replace hf := hf.2 hc
    refine tj_iconst C kc_1 dX7_newRule_12 ?_
    refine tj_goto C 17 (by decide) dX7_newRule_13 ?_
    exact tj_sub [1, 2, 0] (w_Rd_newRule_b17 C hE hB hR r rx _ hx hw h_t0 hX h_a1 _ _ _ _ _ hf) rfl
theorem c_Rd_newRule {l : Launch} {G : tG} {ad : Nat → Nat} {A : Nat → Prop} {S : tS} {K : tS → Prop} {KX : tS → Prop} {mc ms : Nat} {t0 : Nat} {a1 : Nat} (h_t0 : gN S t0 ≠ 0 ∧ t0 % 32 = 11) (hX : gN S 1025 ≠ 0) (h_a1 : gN S a1 ≠ 0 ∧ a1 % 32 = 6) (hE : tDyn ad) (hf : Rd_newRule t0 a1 mc ms S K KX) : vx_Met l yX7_newRule (ws_ yX7_newRule cX7_newRule 9 (none)) (tRe 9 201 mc ms) (va_Pc [.ref (ad t0), .ref (ad a1)] (tPre G ad A S)) (va_Qv K (tBE G ad A (gN S)) A) (vx_X KX (tBXE G ad A (gN S) RX2 1123) A) mc ms A :=
  te_xmet_v [(0, .ref (ad t0)), (1, .ref (ad a1))] pn_X7 rfl (Nat.le_of_ble_eq_true rfl) (fun p e R s m args below meth c Q C hw hB r rx => w_Rd_newRule_b0 C hE hB rfl r rx _ tExt.rf hw h_t0 hX h_a1 hf)
theorem w_Rd_court_b114 {Γ : tX} {Nb : Nat → Nat} {K : tS → Prop} {KX : tS → Prop} {mc ms : Nat} (C : TC Γ cX7_court RX7 10 229) (hE : tDyn (xad Γ)) (hB : mc ≤ (xR Γ).cells ∧ ms ≤ (xR Γ).slots) (hR : xnL Γ = 2) (r : TEv Γ Nb mc ms cX7_court K) (rx : TEX Γ Nb mc ms RX2 1123 KX) {t0 : Nat} {a1 : Nat} {κ0 : Nat → Nat → tS → Prop} (hκ0 : ∀ (N0 : Nat → Nat) (hx : tExt Nb N0) (hw : tWf N0) (h_t0 : N0 t0 ≠ 0 ∧ t0 % 32 = 11) (hX : N0 1025 ≠ 0) (h_a1 : N0 a1 ≠ 0 ∧ a1 % 32 = 6) (uc : Nat) (us : Nat) (S : tS), κ0 uc us S → TJ Γ N0 uc us 0 [(0, .ref (xad Γ t0)), (1, .ref (xad Γ a1))] [] S) : ∀ (N0 : Nat → Nat) (hx : tExt Nb N0) (hw : tWf N0) (h_t0 : N0 t0 ≠ 0 ∧ t0 % 32 = 11) (hX : N0 1025 ≠ 0) (h_a1 : N0 a1 ≠ 0 ∧ a1 % 32 = 6) (uc : Nat) (us : Nat) (S : tS), Rd_court_b114 t0 a1 mc ms K KX κ0 uc us S → TJ Γ N0 uc us 114 [(0, .ref (xad Γ t0)), (1, .ref (xad Γ a1))] [] S := by
  intro N0 hx hw h_t0 hX h_a1 uc us S hf
  unfold Rd_court_b114 at hf
  refine tj_aload_n C 0 rfl rfl dX7_court_114 ?_
  refine tj_xVv C (k := 11) [] [] (fun hN => c_Rd_close (by rw [hN]; exact ⟨h_t0.1, h_t0.2⟩) (by rw [hN]; exact hX) hf) lk_X7_206 ty_X7_close rfl (Nat.le_of_ble_eq_true rfl) (Nat.le_of_ble_eq_true rfl) (Nat.le_of_ble_eq_true rfl) h_t0.1 h_t0.2 (by decide) rfl rfl dX7_court_115 (fun S29 hf => ?_) (fun S28 hf => ?_)
  · exact txj_up mc ms hB hf.1 (rx _ _ _ _ hx hf.2)
  · refine tj_goto C 0 (by decide) dX7_court_118 ?_
    exact hκ0 _ hx hw h_t0 hX h_a1 _ _ _ hf
theorem w_Rd_court_l0 {Γ : tX} {Nb : Nat → Nat} {K : tS → Prop} {KX : tS → Prop} {mc ms : Nat} (C : TC Γ cX7_court RX7 10 229) (hE : tDyn (xad Γ)) (hB : mc ≤ (xR Γ).cells ∧ ms ≤ (xR Γ).slots) (hR : xnL Γ = 2) (r : TEv Γ Nb mc ms cX7_court K) (rx : TEX Γ Nb mc ms RX2 1123 KX) {t0 : Nat} {a1 : Nat} : ∀ (n : Nat) (N0 : Nat → Nat) (hx : tExt Nb N0) (hw : tWf N0) (h_t0 : N0 t0 ≠ 0 ∧ t0 % 32 = 11) (hX : N0 1025 ≠ 0) (h_a1 : N0 a1 ≠ 0 ∧ a1 % 32 = 6) (uc : Nat) (us : Nat) (S : tS), Rd_court_l0 t0 a1 mc ms K KX n uc us S → TJ Γ N0 uc us 0 [(0, .ref (xad Γ t0)), (1, .ref (xad Γ a1))] [] S := by
  intro n
  induction n with
  | zero => intro N0 hx hw h_t0 hX h_a1 uc us S hf; exact hf.elim
  | succ n ih =>
    intro N0 hx hw h_t0 hX h_a1 uc us S hf
    unfold Rd_court_l0 at hf
    refine tj_aload_n C 0 rfl rfl dX7_court_0 ?_
    refine gf_X7_32 C h_t0.2 h_t0.1 dX7_court_1 ?_
    refine tj_if_eq C 121 (by decide) dX7_court_4 (fun hc => ?_) (fun hc => ?_)
    · replace hf := hf.1 hc
      exact tj_up mc ms hB hf.1 (r _ _ _ _ hx dX7_court_121 hf.2)
    · replace hf := hf.2 hc
      refine tj_aload_n C 0 rfl rfl dX7_court_7 ?_
      refine tj_ldcS C 16 rfl dX7_court_8 ?_
      refine tj_callVz C (k := 11) [.ref (xK Γ 16)] [] (fun hN => c_Rd_isWord (by rw [hN]; exact ⟨h_t0.1, h_t0.2⟩) (by rw [hN]; exact hX) (by decide) hf) lk_X7_72 ty_X7_isWord rfl (Nat.le_of_ble_eq_true rfl) (Nat.le_of_ble_eq_true rfl) (Nat.le_of_ble_eq_true rfl) h_t0.1 h_t0.2 (by decide) rfl rfl dX7_court_10 (fun r2 S1 hf => ?_)
      have hz_r2 := hf.1
      replace hf := hf.2
      refine tj_if_eq C 24 (by decide) dX7_court_13 (fun hc => ?_) (fun hc => ?_)
      · replace hf := hf.1 hc
        refine tj_aload_n C 0 rfl rfl dX7_court_24 ?_
        refine tj_ldcS C 17 rfl dX7_court_25 ?_
        refine tj_callVz C (k := 11) [.ref (xK Γ 17)] [] (fun hN => c_Rd_isWord (by rw [hN]; exact ⟨h_t0.1, h_t0.2⟩) (by rw [hN]; exact hX) (by decide) hf) lk_X7_72 ty_X7_isWord rfl (Nat.le_of_ble_eq_true rfl) (Nat.le_of_ble_eq_true rfl) (Nat.le_of_ble_eq_true rfl) h_t0.1 h_t0.2 (by decide) rfl rfl dX7_court_27 (fun r4 S3 hf => ?_)
        have hz_r4 := hf.1
        replace hf := hf.2
        refine tj_if_eq C 41 (by decide) dX7_court_30 (fun hc => ?_) (fun hc => ?_)
        · replace hf := hf.1 hc
          refine tj_aload_n C 0 rfl rfl dX7_court_41 ?_
          refine tj_ldcS C 19 rfl dX7_court_42 ?_
          refine tj_callVz C (k := 11) [.ref (xK Γ 19)] [] (fun hN => c_Rd_isWord (by rw [hN]; exact ⟨h_t0.1, h_t0.2⟩) (by rw [hN]; exact hX) (by decide) hf) lk_X7_72 ty_X7_isWord rfl (Nat.le_of_ble_eq_true rfl) (Nat.le_of_ble_eq_true rfl) (Nat.le_of_ble_eq_true rfl) h_t0.1 h_t0.2 (by decide) rfl rfl dX7_court_44 (fun r6 S5 hf => ?_)
          have hz_r6 := hf.1
          replace hf := hf.2
          refine tj_if_eq C 58 (by decide) dX7_court_47 (fun hc => ?_) (fun hc => ?_)
          · replace hf := hf.1 hc
            refine tj_aload_n C 0 rfl rfl dX7_court_58 ?_
            refine tj_ldcS C 22 rfl dX7_court_59 ?_
            refine tj_callVz C (k := 11) [.ref (xK Γ 22)] [] (fun hN => c_Rd_isWord (by rw [hN]; exact ⟨h_t0.1, h_t0.2⟩) (by rw [hN]; exact hX) (by decide) hf) lk_X7_72 ty_X7_isWord rfl (Nat.le_of_ble_eq_true rfl) (Nat.le_of_ble_eq_true rfl) (Nat.le_of_ble_eq_true rfl) h_t0.1 h_t0.2 (by decide) rfl rfl dX7_court_61 (fun r8 S7 hf => ?_)
            have hz_r8 := hf.1
            replace hf := hf.2
            refine tj_if_eq C 75 (by decide) dX7_court_64 (fun hc => ?_) (fun hc => ?_)
            · replace hf := hf.1 hc
              refine tj_aload_n C 0 rfl rfl dX7_court_75 ?_
              refine tj_ldcS C 23 rfl dX7_court_76 ?_
              refine tj_callVz C (k := 11) [.ref (xK Γ 23)] [] (fun hN => c_Rd_isWord (by rw [hN]; exact ⟨h_t0.1, h_t0.2⟩) (by rw [hN]; exact hX) (by decide) hf) lk_X7_72 ty_X7_isWord rfl (Nat.le_of_ble_eq_true rfl) (Nat.le_of_ble_eq_true rfl) (Nat.le_of_ble_eq_true rfl) h_t0.1 h_t0.2 (by decide) rfl rfl dX7_court_78 (fun r10 S9 hf => ?_)
              have hz_r10 := hf.1
              replace hf := hf.2
              refine tj_if_eq C 92 (by decide) dX7_court_81 (fun hc => ?_) (fun hc => ?_)
              · replace hf := hf.1 hc
                refine tj_aload_n C 0 rfl rfl dX7_court_92 ?_
                refine tj_ldcS C 26 rfl dX7_court_93 ?_
                refine tj_callVz C (k := 11) [.ref (xK Γ 26)] [] (fun hN => c_Rd_isWord (by rw [hN]; exact ⟨h_t0.1, h_t0.2⟩) (by rw [hN]; exact hX) (by decide) hf) lk_X7_72 ty_X7_isWord rfl (Nat.le_of_ble_eq_true rfl) (Nat.le_of_ble_eq_true rfl) (Nat.le_of_ble_eq_true rfl) h_t0.1 h_t0.2 (by decide) rfl rfl dX7_court_95 (fun r12 S11 hf => ?_)
                have hz_r12 := hf.1
                replace hf := hf.2
                refine tj_if_eq C 109 (by decide) dX7_court_98 (fun hc => ?_) (fun hc => ?_)
                · replace hf := hf.1 hc
                  refine tj_aload_n C 0 rfl rfl dX7_court_109 ?_
                  refine tj_callVa C (k := 11) [] [] (fun hN => c_Rd_wrong (by rw [hN]; exact ⟨h_t0.1, h_t0.2⟩) (by rw [hN]; exact hX) hf) lk_X7_68 ty_X7_wrong rfl (Nat.le_of_ble_eq_true rfl) (Nat.le_of_ble_eq_true rfl) (Nat.le_of_ble_eq_true rfl) h_t0.1 h_t0.2 (by decide) rfl rfl dX7_court_110 (fun S13 hf => ?_)
                  refine tj_athrow C 3 1123 (ne0 (ln_1123 hw hX)) rfl (by decide) rfl dX7_court_113 ?_
                  exact txj_up mc ms hB hf.1 (rx _ _ _ _ hx hf.2)
                · replace hf := hf.2 hc
                  refine tj_aload_n C 0 rfl rfl dX7_court_101 ?_
                  refine tj_aload_n C 1 rfl rfl dX7_court_102 ?_
                  refine tj_xVv C (k := 11) [.ref (xad Γ a1)] [] (fun hN => c_Rd_newWord (by rw [hN]; exact ⟨h_t0.1, h_t0.2⟩) (by rw [hN]; exact hX) (by rw [hN]; exact ⟨h_a1.1, h_a1.2⟩) hf) lk_X7_203 ty_X7_newWord rfl (Nat.le_of_ble_eq_true rfl) (Nat.le_of_ble_eq_true rfl) (Nat.le_of_ble_eq_true rfl) h_t0.1 h_t0.2 (by decide) rfl rfl dX7_court_103 (fun S15 hf => ?_) (fun S14 hf => ?_)
                  · exact txj_up mc ms hB hf.1 (rx _ _ _ _ hx hf.2)
                  · refine tj_goto C 114 (by decide) dX7_court_106 ?_
                    exact w_Rd_court_b114 C hE hB hR r rx ih _ hx hw h_t0 hX h_a1 _ _ _ hf
              · replace hf := hf.2 hc
                refine tj_aload_n C 0 rfl rfl dX7_court_84 ?_
                refine tj_aload_n C 1 rfl rfl dX7_court_85 ?_
                refine tj_xVv C (k := 11) [.ref (xad Γ a1)] [] (fun hN => c_Rd_newReader (by rw [hN]; exact ⟨h_t0.1, h_t0.2⟩) (by rw [hN]; exact hX) (by rw [hN]; exact ⟨h_a1.1, h_a1.2⟩) hf) lk_X7_200 ty_X7_newReader rfl (Nat.le_of_ble_eq_true rfl) (Nat.le_of_ble_eq_true rfl) (Nat.le_of_ble_eq_true rfl) h_t0.1 h_t0.2 (by decide) rfl rfl dX7_court_86 (fun S17 hf => ?_) (fun S16 hf => ?_)
                · exact txj_up mc ms hB hf.1 (rx _ _ _ _ hx hf.2)
                · refine tj_goto C 114 (by decide) dX7_court_89 ?_
                  exact w_Rd_court_b114 C hE hB hR r rx ih _ hx hw h_t0 hX h_a1 _ _ _ hf
            · replace hf := hf.2 hc
              refine tj_aload_n C 0 rfl rfl dX7_court_67 ?_
              refine tj_aload_n C 1 rfl rfl dX7_court_68 ?_
              refine tj_xVv C (k := 11) [.ref (xad Γ a1)] [] (fun hN => c_Rd_newPerson (by rw [hN]; exact ⟨h_t0.1, h_t0.2⟩) (by rw [hN]; exact hX) (by rw [hN]; exact ⟨h_a1.1, h_a1.2⟩) hf) lk_X7_197 ty_X7_newPerson rfl (Nat.le_of_ble_eq_true rfl) (Nat.le_of_ble_eq_true rfl) (Nat.le_of_ble_eq_true rfl) h_t0.1 h_t0.2 (by decide) rfl rfl dX7_court_69 (fun S19 hf => ?_) (fun S18 hf => ?_)
              · exact txj_up mc ms hB hf.1 (rx _ _ _ _ hx hf.2)
              · refine tj_goto C 114 (by decide) dX7_court_72 ?_
                exact w_Rd_court_b114 C hE hB hR r rx ih _ hx hw h_t0 hX h_a1 _ _ _ hf
          · replace hf := hf.2 hc
            refine tj_aload_n C 0 rfl rfl dX7_court_50 ?_
            refine tj_aload_n C 1 rfl rfl dX7_court_51 ?_
            obtain ⟨c21, s22, hu21, hf⟩ := hf
            refine te_xVv C (k := 11) [.ref (xad Γ a1)] [] (fun hN => c_Rd_newRule (by rw [hN]; exact ⟨h_t0.1, h_t0.2⟩) (by rw [hN]; exact hX) (by rw [hN]; exact ⟨h_a1.1, h_a1.2⟩) hE hf) lk_X7_194 ty_X7_newRule rfl (Nat.le_of_ble_eq_true rfl) (Nat.le_of_ble_eq_true rfl) ⟨Nat.le_trans hu21.1 hB.1, Nat.le_trans hu21.2 hB.2⟩ (Nat.le_of_ble_eq_true rfl) h_t0.1 h_t0.2 (by decide) rfl rfl dX7_court_52 (fun S23 _ hf _ hx21 hw21 => ?_) (fun S20 _ hf _ hx21 hw21 => ?_)
            · have hw := hw21
              have hX := hx21.ne hX
              have h_t0 := hx21.kd h_t0
              have h_a1 := hx21.kd h_a1
              have hx := hx.tr hx21
              exact txj_up mc ms hB hf.1 (rx _ _ _ _ hx hf.2)
            · have hw := hw21
              have hX := hx21.ne hX
              have h_t0 := hx21.kd h_t0
              have h_a1 := hx21.kd h_a1
              have hx := hx.tr hx21
              refine tj_goto C 114 (by decide) dX7_court_55 ?_
              exact w_Rd_court_b114 C hE hB hR r rx ih _ hx hw h_t0 hX h_a1 _ _ _ hf
        · replace hf := hf.2 hc
          refine tj_aload_n C 0 rfl rfl dX7_court_33 ?_
          refine tj_aload_n C 1 rfl rfl dX7_court_34 ?_
          refine tj_xVv C (k := 11) [.ref (xad Γ a1)] [] (fun hN => c_Rd_newCue (by rw [hN]; exact ⟨h_t0.1, h_t0.2⟩) (by rw [hN]; exact hX) (by rw [hN]; exact ⟨h_a1.1, h_a1.2⟩) hf) lk_X7_191 ty_X7_newCue rfl (Nat.le_of_ble_eq_true rfl) (Nat.le_of_ble_eq_true rfl) (Nat.le_of_ble_eq_true rfl) h_t0.1 h_t0.2 (by decide) rfl rfl dX7_court_35 (fun S25 hf => ?_) (fun S24 hf => ?_)
          · exact txj_up mc ms hB hf.1 (rx _ _ _ _ hx hf.2)
          · refine tj_goto C 114 (by decide) dX7_court_38 ?_
            exact w_Rd_court_b114 C hE hB hR r rx ih _ hx hw h_t0 hX h_a1 _ _ _ hf
      · replace hf := hf.2 hc
        refine tj_aload_n C 0 rfl rfl dX7_court_16 ?_
        refine tj_aload_n C 1 rfl rfl dX7_court_17 ?_
        refine tj_xVv C (k := 11) [.ref (xad Γ a1)] [] (fun hN => c_Rd_newSmell (by rw [hN]; exact ⟨h_t0.1, h_t0.2⟩) (by rw [hN]; exact hX) (by rw [hN]; exact ⟨h_a1.1, h_a1.2⟩) hf) lk_X7_187 ty_X7_newSmell rfl (Nat.le_of_ble_eq_true rfl) (Nat.le_of_ble_eq_true rfl) (Nat.le_of_ble_eq_true rfl) h_t0.1 h_t0.2 (by decide) rfl rfl dX7_court_18 (fun S27 hf => ?_) (fun S26 hf => ?_)
        · exact txj_up mc ms hB hf.1 (rx _ _ _ _ hx hf.2)
        · refine tj_goto C 114 (by decide) dX7_court_21 ?_
          exact w_Rd_court_b114 C hE hB hR r rx ih _ hx hw h_t0 hX h_a1 _ _ _ hf
theorem w_Rd_court_b0 {Γ : tX} {Nb : Nat → Nat} {K : tS → Prop} {KX : tS → Prop} {mc ms : Nat} (C : TC Γ cX7_court RX7 10 229) (hE : tDyn (xad Γ)) (hB : mc ≤ (xR Γ).cells ∧ ms ≤ (xR Γ).slots) (hR : xnL Γ = 2) (r : TEv Γ Nb mc ms cX7_court K) (rx : TEX Γ Nb mc ms RX2 1123 KX) (N0 : Nat → Nat) (hx : tExt Nb N0) (hw : tWf N0) {t0 : Nat} {a1 : Nat} (h_t0 : N0 t0 ≠ 0 ∧ t0 % 32 = 11) (hX : N0 1025 ≠ 0) (h_a1 : N0 a1 ≠ 0 ∧ a1 % 32 = 6) {S : tS} (hf : Rd_court t0 a1 mc ms S K KX) : TJ Γ N0 0 0 0 [(0, .ref (xad Γ t0)), (1, .ref (xad Γ a1))] [] S := by
  unfold Rd_court at hf
  exact hf.elim fun k hf => w_Rd_court_l0 C hE hB hR r rx k _ hx hw h_t0 hX h_a1 _ _ _ hf
theorem c_Rd_court {l : Launch} {G : tG} {ad : Nat → Nat} {A : Nat → Prop} {S : tS} {K : tS → Prop} {KX : tS → Prop} {mc ms : Nat} {t0 : Nat} {a1 : Nat} (h_t0 : gN S t0 ≠ 0 ∧ t0 % 32 = 11) (hX : gN S 1025 ≠ 0) (h_a1 : gN S a1 ≠ 0 ∧ a1 % 32 = 6) (hE : tDyn ad) (hf : Rd_court t0 a1 mc ms S K KX) : vx_Met l yX7_court (ws_ yX7_court cX7_court 2 (none)) (tRe 10 229 mc ms) (va_Pc [.ref (ad t0), .ref (ad a1)] (tPre G ad A S)) (va_Qv K (tBE G ad A (gN S)) A) (vx_X KX (tBXE G ad A (gN S) RX2 1123) A) mc ms A :=
  te_xmet_v [(0, .ref (ad t0)), (1, .ref (ad a1))] pn_X7 rfl (Nat.le_of_ble_eq_true rfl) (fun p e R s m args below meth c Q C hw hB r rx => w_Rd_court_b0 C hE hB rfl r rx _ tExt.rf hw h_t0 hX h_a1 hf)
theorem w_Rd_when_b0 {Γ : tX} {Nb : Nat → Nat} {K : Nat → tS → Prop} {KX : tS → Prop} {mc ms : Nat} (C : TC Γ cX7_when RX7 9 192) (hE : tDyn (xad Γ)) (hB : mc ≤ (xR Γ).cells ∧ ms ≤ (xR Γ).slots) (hR : xnL Γ = 4) (r : TEr Γ Nb mc ms cX7_when (tKk (fun t => t % 32 = 10) K)) (rx : TEX Γ Nb mc ms RX2 1123 KX) (N0 : Nat → Nat) (hx : tExt Nb N0) (hw : tWf N0) {t0 : Nat} {a1 : Nat} (h_t0 : N0 t0 ≠ 0 ∧ t0 % 32 = 11) (hX : N0 1025 ≠ 0) (h_a1 : N0 a1 ≠ 0 ∧ a1 % 32 = 6) {S : tS} (hf : Rd_when t0 a1 mc ms S K KX) : TJ Γ N0 0 0 0 [(0, .ref (xad Γ t0)), (1, .ref (xad Γ a1))] [] S := by
  unfold Rd_when at hf
  refine tj_aload_n C 0 rfl rfl dX7_when_0 ?_
  refine tj_callVi C (k := 11) [] [] (fun hN => c_Rd_tests (by rw [hN]; exact ⟨h_t0.1, h_t0.2⟩) (by rw [hN]; exact hX) hf) lk_X7_146 ty_X7_tests rfl (Nat.le_of_ble_eq_true rfl) (Nat.le_of_ble_eq_true rfl) (Nat.le_of_ble_eq_true rfl) h_t0.1 h_t0.2 (by decide) rfl rfl dX7_when_1 (fun r2 S1 hf => ?_)
  refine tj_istore_n C (by rw [hR]; decide) [(2, .int r2), (0, .ref (xad Γ t0)), (1, .ref (xad Γ a1))] rfl rfl dX7_when_4 ?_
  refine tj_iload_n C 0 rfl rfl dX7_when_5 ?_
  refine tj_if_ge C 14 (by decide) dX7_when_6 (fun hc => ?_) (fun hc => ?_)
  · replace hf := hf.1 hc
    refine tj_aload_n C 1 rfl rfl dX7_when_14 ?_
    refine tj_callVv C (k := 11) [] [] (fun hN => c_Rd_next (by rw [hN]; exact ⟨h_t0.1, h_t0.2⟩) (by rw [hN]; exact hX) hf) lk_X7_19 ty_X7_next rfl (Nat.le_of_ble_eq_true rfl) (Nat.le_of_ble_eq_true rfl) (Nat.le_of_ble_eq_true rfl) h_t0.1 h_t0.2 (by decide) rfl rfl dX7_when_15 (fun S3 hf => ?_)
    refine tj_iload_n C 0 rfl rfl dX7_when_18 ?_
    refine tj_iconst C kc_3 dX7_when_19 ?_
    refine tj_icmp_ne C 46 (by decide) dX7_when_20 (fun hc => ?_) (fun hc => ?_)
    · replace hf := hf.2 hc
      refine tj_aload_n C 1 rfl rfl dX7_when_46 ?_
      refine tj_aload_n C 2 rfl rfl dX7_when_47 ?_
      refine tj_xVi C (k := 11) [.ref (xad Γ a1)] [] (fun hN => c_Rd_person (by rw [hN]; exact ⟨h_t0.1, h_t0.2⟩) (by rw [hN]; exact hX) (by rw [hN]; exact ⟨h_a1.1, h_a1.2⟩) hf) lk_X7_289 ty_X7_person rfl (Nat.le_of_ble_eq_true rfl) (Nat.le_of_ble_eq_true rfl) (Nat.le_of_ble_eq_true rfl) h_t0.1 h_t0.2 (by decide) rfl rfl dX7_when_48 (fun S5 hf => ?_) (fun r6 S4 hf => ?_)
      · exact txj_up mc ms hB hf.1 (rx _ _ _ _ hx hf.2)
      · refine tj_istore_n C (by rw [hR]; decide) [(3, .int r6), (2, .int r2), (0, .ref (xad Γ t0)), (1, .ref (xad Γ a1))] rfl rfl dX7_when_51 ?_
        refine tj_hN (fun hN => ?_)
        refine tj_new C hE 10 (T := TX12) (N := 6) (by decide) (by decide) (by decide) rfl in_X12 tyX12_ok (by decide) dv_X12 q1022 q1023 q191 ⟨Nat.le_trans hf.1.1 hB.1, Nat.le_trans hf.1.2 hB.2⟩ dX7_when_52 (fun t7 N7 hN7 hx7 hw7 _ h_t7 h32 hz => ?_)
        refine tj_topS (fun S8 eS => ?_)
        replace hf := hf.2 t7 S8 (by rw [hN]; exact hz) h32 h_t7.2 eS
        have hw := hw7
        have hX := hx7.ne hX
        have h_t0 := hx7.kd h_t0
        have h_a1 := hx7.kd h_a1
        have hx := hx.tr hx7
        refine tj_dup C rfl dX7_when_55 ?_
        refine tj_iload_n C 1 rfl rfl dX7_when_56 ?_
        refine tj_iload_n C 0 rfl rfl dX7_when_57 ?_
        refine tj_iload_n C 1 rfl rfl dX7_when_58 ?_
        refine tj_if_ne C 70 (by decide) dX7_when_59 (fun hc => ?_) (fun hc => ?_)
        · replace hf := hf.2 hc
          refine tj_iconst C kc_0 dX7_when_70 ?_
          refine tj_iconst C kc_0 dX7_when_71 ?_
          obtain ⟨c9, s10, hu9, hf⟩ := hf
          refine te_callI C [.int r2, .int r6, .int (nI 0), .int (nI 0)] [.ref (xad Γ t7)] (fun hN => c_Wh_init (by rw [hN]; exact ⟨h_t7.1, h_t7.2⟩) hE hf) q1026 q191 q1024 q1025 rfl ty_X12_init rfl (Nat.le_of_ble_eq_true rfl) (Nat.le_of_ble_eq_true rfl) ⟨Nat.le_trans hu9.1 hB.1, Nat.le_trans hu9.2 hB.2⟩ (Nat.le_of_ble_eq_true rfl) rfl dX7_when_72 (fun S11 _ hf _ hx9 hw9 => ?_)
          have hw := hw9
          have hX := hx9.ne hX
          have h_t0 := hx9.kd h_t0
          have h_a1 := hx9.kd h_a1
          have h_t7 := hx9.kd h_t7
          have hx := hx.tr hx9
          exact tj_hN (fun hN => tj_up mc ms hB hf.1 (r _ _ _ _ _ hx dX7_when_75 ⟨⟨by rw [hN]; exact h_t7.1, h_t7.2⟩, hf.2⟩))
        · replace hf := hf.1 hc
          refine tj_aload_n C 2 rfl rfl dX7_when_62 ?_
          refine tj_aload_n C 3 rfl rfl dX7_when_63 ?_
          refine tj_xVi C (k := 11) [.ref (xad Γ a1)] [.int r6, .int r2, .ref (xad Γ t7), .ref (xad Γ t7)] (fun hN => c_Rd_cue (by rw [hN]; exact ⟨h_t0.1, h_t0.2⟩) (by rw [hN]; exact hX) (by rw [hN]; exact ⟨h_a1.1, h_a1.2⟩) hf) lk_X7_235 ty_X7_cue rfl (Nat.le_of_ble_eq_true rfl) (Nat.le_of_ble_eq_true rfl) (Nat.le_of_ble_eq_true rfl) h_t0.1 h_t0.2 (by decide) rfl rfl dX7_when_64 (fun S13 hf => ?_) (fun r14 S12 hf => ?_)
          · exact txj_up mc ms hB hf.1 (rx _ _ _ _ hx hf.2)
          · refine tj_goto C 71 (by decide) dX7_when_67 ?_
            refine tj_iconst C kc_0 dX7_when_71 ?_
            obtain ⟨c15, s16, hu15, hf⟩ := hf
            refine te_callI C [.int r2, .int r6, .int r14, .int (nI 0)] [.ref (xad Γ t7)] (fun hN => c_Wh_init (by rw [hN]; exact ⟨h_t7.1, h_t7.2⟩) hE hf) q1026 q191 q1024 q1025 rfl ty_X12_init rfl (Nat.le_of_ble_eq_true rfl) (Nat.le_of_ble_eq_true rfl) ⟨Nat.le_trans hu15.1 hB.1, Nat.le_trans hu15.2 hB.2⟩ (Nat.le_of_ble_eq_true rfl) rfl dX7_when_72 (fun S17 _ hf _ hx15 hw15 => ?_)
            have hw := hw15
            have hX := hx15.ne hX
            have h_t0 := hx15.kd h_t0
            have h_a1 := hx15.kd h_a1
            have h_t7 := hx15.kd h_t7
            have hx := hx.tr hx15
            exact tj_hN (fun hN => tj_up mc ms hB hf.1 (r _ _ _ _ _ hx dX7_when_75 ⟨⟨by rw [hN]; exact h_t7.1, h_t7.2⟩, hf.2⟩))
    · replace hf := hf.1 hc
      refine tj_aload_n C 1 rfl rfl dX7_when_23 ?_
      refine tj_xVi C (k := 11) [] [] (fun hN => c_Rd_compare (by rw [hN]; exact ⟨h_t0.1, h_t0.2⟩) (by rw [hN]; exact hX) hf) lk_X7_242 ty_X7_compare rfl (Nat.le_of_ble_eq_true rfl) (Nat.le_of_ble_eq_true rfl) (Nat.le_of_ble_eq_true rfl) h_t0.1 h_t0.2 (by decide) rfl rfl dX7_when_24 (fun S19 hf => ?_) (fun r20 S18 hf => ?_)
      · exact txj_up mc ms hB hf.1 (rx _ _ _ _ hx hf.2)
      · refine tj_istore_n C (by rw [hR]; decide) [(3, .int r20), (2, .int r2), (0, .ref (xad Γ t0)), (1, .ref (xad Γ a1))] rfl rfl dX7_when_27 ?_
        refine tj_hN (fun hN => ?_)
        refine tj_new C hE 10 (T := TX12) (N := 6) (by decide) (by decide) (by decide) rfl in_X12 tyX12_ok (by decide) dv_X12 q1022 q1023 q191 ⟨Nat.le_trans hf.1.1 hB.1, Nat.le_trans hf.1.2 hB.2⟩ dX7_when_28 (fun t21 N21 hN21 hx21 hw21 _ h_t21 h32 hz => ?_)
        refine tj_topS (fun S22 eS => ?_)
        replace hf := hf.2 t21 S22 (by rw [hN]; exact hz) h32 h_t21.2 eS
        have hw := hw21
        have hX := hx21.ne hX
        have h_t0 := hx21.kd h_t0
        have h_a1 := hx21.kd h_a1
        have hx := hx.tr hx21
        refine tj_dup C rfl dX7_when_31 ?_
        refine tj_iload_n C 1 rfl rfl dX7_when_32 ?_
        refine tj_iconst C kc_0 dX7_when_33 ?_
        refine tj_aload_n C 2 rfl rfl dX7_when_34 ?_
        refine tj_iconst C kc_0 dX7_when_35 ?_
        refine tj_bipush C kb_9 dX7_when_36 ?_
        refine tj_xVi C (k := 11) [.int (nI 0), .int (nI 9)] [.int (nI 0), .int r2, .ref (xad Γ t21), .ref (xad Γ t21)] (fun hN => c_Rd_number (by rw [hN]; exact ⟨h_t0.1, h_t0.2⟩) (by rw [hN]; exact hX) hf) lk_X7_80 ty_X7_number rfl (Nat.le_of_ble_eq_true rfl) (Nat.le_of_ble_eq_true rfl) (Nat.le_of_ble_eq_true rfl) h_t0.1 h_t0.2 (by decide) rfl rfl dX7_when_38 (fun S24 hf => ?_) (fun r25 S23 hf => ?_)
        · exact txj_up mc ms hB hf.1 (rx _ _ _ _ hx hf.2)
        · refine tj_iload_n C 0 rfl rfl dX7_when_41 ?_
          obtain ⟨c26, s27, hu26, hf⟩ := hf
          refine te_callI C [.int r2, .int (nI 0), .int r25, .int r20] [.ref (xad Γ t21)] (fun hN => c_Wh_init (by rw [hN]; exact ⟨h_t21.1, h_t21.2⟩) hE hf) q1026 q191 q1024 q1025 rfl ty_X12_init rfl (Nat.le_of_ble_eq_true rfl) (Nat.le_of_ble_eq_true rfl) ⟨Nat.le_trans hu26.1 hB.1, Nat.le_trans hu26.2 hB.2⟩ (Nat.le_of_ble_eq_true rfl) rfl dX7_when_42 (fun S28 _ hf _ hx26 hw26 => ?_)
          have hw := hw26
          have hX := hx26.ne hX
          have h_t0 := hx26.kd h_t0
          have h_a1 := hx26.kd h_a1
          have h_t21 := hx26.kd h_t21
          have hx := hx.tr hx26
          exact tj_hN (fun hN => tj_up mc ms hB hf.1 (r _ _ _ _ _ hx dX7_when_45 ⟨⟨by rw [hN]; exact h_t21.1, h_t21.2⟩, hf.2⟩))
  · replace hf := hf.2 hc
    refine tj_aload_n C 1 rfl rfl dX7_when_9 ?_
    refine tj_callVa C (k := 11) [] [] (fun hN => c_Rd_wrong (by rw [hN]; exact ⟨h_t0.1, h_t0.2⟩) (by rw [hN]; exact hX) hf) lk_X7_68 ty_X7_wrong rfl (Nat.le_of_ble_eq_true rfl) (Nat.le_of_ble_eq_true rfl) (Nat.le_of_ble_eq_true rfl) h_t0.1 h_t0.2 (by decide) rfl rfl dX7_when_10 (fun S29 hf => ?_)
    refine tj_athrow C 3 1123 (ne0 (ln_1123 hw hX)) rfl (by decide) rfl dX7_when_13 ?_
    exact txj_up mc ms hB hf.1 (rx _ _ _ _ hx hf.2)
theorem c_Rd_when {l : Launch} {G : tG} {ad : Nat → Nat} {A : Nat → Prop} {S : tS} {K : Nat → tS → Prop} {KX : tS → Prop} {mc ms : Nat} {t0 : Nat} {a1 : Nat} (h_t0 : gN S t0 ≠ 0 ∧ t0 % 32 = 11) (hX : gN S 1025 ≠ 0) (h_a1 : gN S a1 ≠ 0 ∧ a1 % 32 = 6) (hE : tDyn ad) (hf : Rd_when t0 a1 mc ms S K KX) : vx_Met l yX7_when (ws_ yX7_when cX7_when 4 (some (.object "CatWitness$When"))) (tRe 9 192 mc ms) (va_Pc [.ref (ad t0), .ref (ad a1)] (tPre G ad A S)) (va_Qq (fun r (u : tS × Nat) => r = some (ad u.2) ∧ (tKk (fun t => t % 32 = 10) K) u.2 u.1) (fun u t => tBE G ad A (gN S) u.1 t) A) (vx_X KX (tBXE G ad A (gN S) RX2 1123) A) mc ms A :=
  te_xmet_r [(0, .ref (ad t0)), (1, .ref (ad a1))] pn_X7 rfl (Nat.le_of_ble_eq_true rfl) (fun p e R s m args below meth c Q C hw hB r rx => w_Rd_when_b0 C hE hB rfl r rx _ tExt.rf hw h_t0 hX h_a1 hf)
theorem w_Rd_block_l36 {Γ : tX} {d : Nat} {Nb : Nat → Nat} {K : Nat → tS → Prop} {KX : tS → Prop} {mc ms : Nat} (C : TC Γ cX7_block RX7 (61 + 2 * d) (9026 + 50 * d)) (hE : tDyn (xad Γ)) (hB : mc ≤ (xR Γ).cells ∧ ms ≤ (xR Γ).slots) (hR : xnL Γ = 5) (r : TEr Γ Nb mc ms cX7_block (tKk (fun t => (t % 32 = 9 ∨ t % 32 = 10)) K)) {ρ : Nat → Nat → Nat → Int32 → Nat → Nat → tS → (tS → Prop) → (tS → Prop) → Prop} (hρ : ∀ (t0 : Nat) (a1 : Nat) (a2 : Nat) (a3 : Int32) (mc ms : Nat) (S : tS) (K : tS → Prop) (KX : tS → Prop), (gN S t0 ≠ 0 ∧ t0 % 32 = 11) → (gN S 1025 ≠ 0) → (gN S a1 ≠ 0 ∧ a1 % 32 = 6) → (gN S a2 ≠ 0 ∧ (a2 % 32 = 9 ∨ a2 % 32 = 10)) → ρ t0 a1 a2 a3 mc ms S K KX → vx_Met (xl Γ) yX7_step (ws_ yX7_step cX7_step 7 (none)) (tRe (60 + 2 * d) (9000 + 50 * d) mc ms) (va_Pc [.ref (xad Γ t0), .ref (xad Γ a1), .ref (xad Γ a2), .int a3] (tPre (xG Γ) (xad Γ) (xA Γ) S)) (va_Qv K (tBE (xG Γ) (xad Γ) (xA Γ) (gN S)) (xA Γ)) (vx_X KX (tBXE (xG Γ) (xad Γ) (xA Γ) (gN S) RX2 1123) (xA Γ)) mc ms (xA Γ)) (rx : TEX Γ Nb mc ms RX2 1123 KX) {t0 : Nat} {a1 : Nat} {a2 : Int32} {a3 : Int32} : ∀ (n : Nat) (N0 : Nat → Nat) (hx : tExt Nb N0) (hw : tWf N0) (h_t0 : N0 t0 ≠ 0 ∧ t0 % 32 = 11) (hX : N0 1025 ≠ 0) (h_a1 : N0 a1 ≠ 0 ∧ a1 % 32 = 6) (uc : Nat) (us : Nat) (a4 : Nat) (S : tS), ∀ (h_a4 : N0 a4 ≠ 0 ∧ (a4 % 32 = 9 ∨ a4 % 32 = 10)), Rd_block_l36 t0 a1 a2 a3 mc ms ρ K KX n uc us a4 S → TJ Γ N0 uc us 36 [(0, .ref (xad Γ t0)), (1, .ref (xad Γ a1)), (3, .int a3), (4, .ref (xad Γ a4))] [] S := by
  intro n
  induction n with
  | zero => intro N0 hx hw h_t0 hX h_a1 uc us a4 S h_a4 hf; exact hf.elim
  | succ n ih =>
    intro N0 hx hw h_t0 hX h_a1 uc us a4 S h_a4 hf
    unfold Rd_block_l36 at hf
    refine tj_aload_n C 0 rfl rfl dX7_block_36 ?_
    refine tj_ldcS C 29 rfl dX7_block_37 ?_
    refine tj_callVz C (k := 11) [.ref (xK Γ 29)] [] (fun hN => c_Rd_isWord (by rw [hN]; exact ⟨h_t0.1, h_t0.2⟩) (by rw [hN]; exact hX) (by decide) hf) lk_X7_72 ty_X7_isWord rfl (by omega) (by omega) (Nat.le_of_ble_eq_true rfl) h_t0.1 h_t0.2 (by decide) rfl rfl dX7_block_39 (fun r18 S17 hf => ?_)
    have hz_r18 := hf.1
    replace hf := hf.2
    refine tj_if_ne C 58 (by decide) dX7_block_42 (fun hc => ?_) (fun hc => ?_)
    · replace hf := hf.2 hc
      refine tj_aload_n C 0 rfl rfl dX7_block_58 ?_
      refine tj_callVv C (k := 11) [] [] (fun hN => c_Rd_next (by rw [hN]; exact ⟨h_t0.1, h_t0.2⟩) (by rw [hN]; exact hX) hf) lk_X7_19 ty_X7_next rfl (by omega) (by omega) (Nat.le_of_ble_eq_true rfl) h_t0.1 h_t0.2 (by decide) rfl rfl dX7_block_59 (fun S19 hf => ?_)
      refine tj_aload C 3 rfl dX7_block_62 ?_
      exact tj_hN (fun hN => tj_up mc ms hB hf.1 (r _ _ _ _ _ hx dX7_block_64 ⟨⟨by rw [hN]; exact h_a4.1, h_a4.2⟩, hf.2⟩))
    · replace hf := hf.1 hc
      refine tj_aload_n C 0 rfl rfl dX7_block_45 ?_
      refine tj_aload_n C 1 rfl rfl dX7_block_46 ?_
      refine tj_aload C 3 rfl dX7_block_47 ?_
      refine tj_iload_n C 2 rfl rfl dX7_block_49 ?_
      refine tj_iconst C kc_1 dX7_block_50 ?_
      refine tj_iadd C dX7_block_51 ?_
      obtain ⟨c21, s22, hu21, hf⟩ := hf
      refine te_xVv C (k := 11) [.ref (xad Γ a1), .ref (xad Γ a4), .int (a3 + (nI 1))] [] (fun hN => hρ _ _ _ _ _ _ _ _ _ (by rw [hN]; exact ⟨h_t0.1, h_t0.2⟩) (by rw [hN]; exact hX) (by rw [hN]; exact ⟨h_a1.1, h_a1.2⟩) (by rw [hN]; exact ⟨h_a4.1, h_a4.2⟩) hf) lk_X7_294 ty_X7_step rfl (by omega) (by omega) ⟨Nat.le_trans hu21.1 hB.1, Nat.le_trans hu21.2 hB.2⟩ (Nat.le_of_ble_eq_true rfl) h_t0.1 h_t0.2 (by decide) rfl rfl dX7_block_52 (fun S23 _ hf _ hx21 hw21 => ?_) (fun S20 _ hf _ hx21 hw21 => ?_)
      · have hw := hw21
        have hX := hx21.ne hX
        have h_t0 := hx21.kd h_t0
        have h_a1 := hx21.kd h_a1
        have h_a4 := hx21.kd h_a4
        have hx := hx.tr hx21
        exact txj_up mc ms hB hf.1 (rx _ _ _ _ hx hf.2)
      · have hw := hw21
        have hX := hx21.ne hX
        have h_t0 := hx21.kd h_t0
        have h_a1 := hx21.kd h_a1
        have h_a4 := hx21.kd h_a4
        have hx := hx.tr hx21
        refine tj_goto C 36 (by decide) dX7_block_55 ?_
        exact ih _ hx hw h_t0 hX h_a1 _ _ _ _ ⟨h_a4.1, h_a4.2⟩ hf
theorem w_Rd_block_b30 {Γ : tX} {d : Nat} {Nb : Nat → Nat} {K : Nat → tS → Prop} {KX : tS → Prop} {mc ms : Nat} (C : TC Γ cX7_block RX7 (61 + 2 * d) (9026 + 50 * d)) (hE : tDyn (xad Γ)) (hB : mc ≤ (xR Γ).cells ∧ ms ≤ (xR Γ).slots) (hR : xnL Γ = 5) (r : TEr Γ Nb mc ms cX7_block (tKk (fun t => (t % 32 = 9 ∨ t % 32 = 10)) K)) {ρ : Nat → Nat → Nat → Int32 → Nat → Nat → tS → (tS → Prop) → (tS → Prop) → Prop} (hρ : ∀ (t0 : Nat) (a1 : Nat) (a2 : Nat) (a3 : Int32) (mc ms : Nat) (S : tS) (K : tS → Prop) (KX : tS → Prop), (gN S t0 ≠ 0 ∧ t0 % 32 = 11) → (gN S 1025 ≠ 0) → (gN S a1 ≠ 0 ∧ a1 % 32 = 6) → (gN S a2 ≠ 0 ∧ (a2 % 32 = 9 ∨ a2 % 32 = 10)) → ρ t0 a1 a2 a3 mc ms S K KX → vx_Met (xl Γ) yX7_step (ws_ yX7_step cX7_step 7 (none)) (tRe (60 + 2 * d) (9000 + 50 * d) mc ms) (va_Pc [.ref (xad Γ t0), .ref (xad Γ a1), .ref (xad Γ a2), .int a3] (tPre (xG Γ) (xad Γ) (xA Γ) S)) (va_Qv K (tBE (xG Γ) (xad Γ) (xA Γ) (gN S)) (xA Γ)) (vx_X KX (tBXE (xG Γ) (xad Γ) (xA Γ) (gN S) RX2 1123) (xA Γ)) mc ms (xA Γ)) (rx : TEX Γ Nb mc ms RX2 1123 KX) {t0 : Nat} {a1 : Nat} {a2 : Int32} {a3 : Int32} : ∀ (N0 : Nat → Nat) (hx : tExt Nb N0) (hw : tWf N0) (h_t0 : N0 t0 ≠ 0 ∧ t0 % 32 = 11) (hX : N0 1025 ≠ 0) (h_a1 : N0 a1 ≠ 0 ∧ a1 % 32 = 6) (uc : Nat) (us : Nat) (s0 : Nat) (S : tS), ∀ (h_s0 : N0 s0 ≠ 0 ∧ (s0 % 32 = 9 ∨ s0 % 32 = 10)), Rd_block_b30 t0 a1 a2 a3 mc ms ρ K KX uc us s0 S → TJ Γ N0 uc us 30 [(0, .ref (xad Γ t0)), (1, .ref (xad Γ a1)), (3, .int a3)] [.ref (xad Γ s0)] S := by
  intro N0 hx hw h_t0 hX h_a1 uc us s0 S h_s0 hf
  unfold Rd_block_b30 at hf
  refine tj_astore C (by rw [hR]; decide) [(4, .ref (xad Γ s0)), (0, .ref (xad Γ t0)), (1, .ref (xad Γ a1)), (3, .int a3)] rfl dX7_block_30 ?_
  refine tj_aload_n C 1 rfl rfl dX7_block_32 ?_
  refine tj_xVv C (k := 11) [] [] (fun hN => c_Rd_close (by rw [hN]; exact ⟨h_t0.1, h_t0.2⟩) (by rw [hN]; exact hX) hf) lk_X7_206 ty_X7_close rfl (by omega) (by omega) (Nat.le_of_ble_eq_true rfl) h_t0.1 h_t0.2 (by decide) rfl rfl dX7_block_33 (fun S16 hf => ?_) (fun S15 hf => ?_)
  · exact txj_up mc ms hB hf.1 (rx _ _ _ _ hx hf.2)
  · exact tj_sub [1, 2, 3, 0] (hf.elim fun k hf => w_Rd_block_l36 C hE hB hR r hρ rx k _ hx hw h_t0 hX h_a1 _ _ _ _ ⟨h_s0.1, h_s0.2⟩ hf) rfl
theorem w_Rd_block_b0 {Γ : tX} {d : Nat} {Nb : Nat → Nat} {K : Nat → tS → Prop} {KX : tS → Prop} {mc ms : Nat} (C : TC Γ cX7_block RX7 (61 + 2 * d) (9026 + 50 * d)) (hE : tDyn (xad Γ)) (hB : mc ≤ (xR Γ).cells ∧ ms ≤ (xR Γ).slots) (hR : xnL Γ = 5) (r : TEr Γ Nb mc ms cX7_block (tKk (fun t => (t % 32 = 9 ∨ t % 32 = 10)) K)) {ρ : Nat → Nat → Nat → Int32 → Nat → Nat → tS → (tS → Prop) → (tS → Prop) → Prop} (hρ : ∀ (t0 : Nat) (a1 : Nat) (a2 : Nat) (a3 : Int32) (mc ms : Nat) (S : tS) (K : tS → Prop) (KX : tS → Prop), (gN S t0 ≠ 0 ∧ t0 % 32 = 11) → (gN S 1025 ≠ 0) → (gN S a1 ≠ 0 ∧ a1 % 32 = 6) → (gN S a2 ≠ 0 ∧ (a2 % 32 = 9 ∨ a2 % 32 = 10)) → ρ t0 a1 a2 a3 mc ms S K KX → vx_Met (xl Γ) yX7_step (ws_ yX7_step cX7_step 7 (none)) (tRe (60 + 2 * d) (9000 + 50 * d) mc ms) (va_Pc [.ref (xad Γ t0), .ref (xad Γ a1), .ref (xad Γ a2), .int a3] (tPre (xG Γ) (xad Γ) (xA Γ) S)) (va_Qv K (tBE (xG Γ) (xad Γ) (xA Γ) (gN S)) (xA Γ)) (vx_X KX (tBXE (xG Γ) (xad Γ) (xA Γ) (gN S) RX2 1123) (xA Γ)) mc ms (xA Γ)) (rx : TEX Γ Nb mc ms RX2 1123 KX) (N0 : Nat → Nat) (hx : tExt Nb N0) (hw : tWf N0) {t0 : Nat} {a1 : Nat} {a2 : Int32} {a3 : Int32} (h_t0 : N0 t0 ≠ 0 ∧ t0 % 32 = 11) (hX : N0 1025 ≠ 0) (h_a1 : N0 a1 ≠ 0 ∧ a1 % 32 = 6) {S : tS} (hf : Rd_block ρ t0 a1 a2 a3 mc ms S K KX) : TJ Γ N0 0 0 0 [(0, .ref (xad Γ t0)), (1, .ref (xad Γ a1)), (2, .int a2), (3, .int a3)] [] S := by
  unfold Rd_block at hf
  refine tj_aload_n C 0 rfl rfl dX7_block_0 ?_
  refine tj_callVv C (k := 11) [] [] (fun hN => c_Rd_next (by rw [hN]; exact ⟨h_t0.1, h_t0.2⟩) (by rw [hN]; exact hX) hf) lk_X7_19 ty_X7_next rfl (by omega) (by omega) (Nat.le_of_ble_eq_true rfl) h_t0.1 h_t0.2 (by decide) rfl rfl dX7_block_1 (fun S1 hf => ?_)
  refine tj_iload_n C 2 rfl rfl dX7_block_4 ?_
  refine tj_if_eq C 16 (by decide) dX7_block_5 (fun hc => ?_) (fun hc => ?_)
  · replace hf := hf.1 hc
    refine tj_hN (fun hN => ?_)
    refine tj_new C hE 9 (T := TX11) (N := 3) (by decide) (by decide) (by decide) rfl in_X11 tyX11_ok (by decide) dv_X11 q1043 q983 q190 ⟨Nat.le_trans hf.1.1 hB.1, Nat.le_trans hf.1.2 hB.2⟩ dX7_block_16 (fun t2 N2 hN2 hx2 hw2 _ h_t2 h32 hz => ?_)
    refine tj_topS (fun S3 eS => ?_)
    replace hf := hf.2 t2 S3 (by rw [hN]; exact hz) h32 h_t2.2 eS
    have hw := hw2
    have hX := hx2.ne hX
    have h_t0 := hx2.kd h_t0
    have h_a1 := hx2.kd h_a1
    have hx := hx.tr hx2
    refine tj_dup C rfl dX7_block_19 ?_
    refine tj_aload_n C 0 rfl rfl dX7_block_20 ?_
    refine tj_iconst C kc_1 dX7_block_21 ?_
    refine tj_bipush C kb_99 dX7_block_22 ?_
    refine tj_xVi C (k := 11) [.int (nI 1), .int (nI 99)] [.ref (xad Γ t2), .ref (xad Γ t2)] (fun hN => c_Rd_number (by rw [hN]; exact ⟨h_t0.1, h_t0.2⟩) (by rw [hN]; exact hX) hf) lk_X7_80 ty_X7_number rfl (by omega) (by omega) (Nat.le_of_ble_eq_true rfl) h_t0.1 h_t0.2 (by decide) rfl rfl dX7_block_24 (fun S5 hf => ?_) (fun r6 S4 hf => ?_)
    · exact txj_up mc ms hB hf.1 (rx _ _ _ _ hx hf.2)
    · obtain ⟨c7, s8, hu7, hf⟩ := hf
      refine te_callI C [.int r6] [.ref (xad Γ t2)] (fun hN => c_Lo_init (by rw [hN]; exact ⟨h_t2.1, h_t2.2⟩) hE hf) q986 q190 q1044 q985 rfl ty_X11_init rfl (by omega) (by omega) ⟨Nat.le_trans hu7.1 hB.1, Nat.le_trans hu7.2 hB.2⟩ (Nat.le_of_ble_eq_true rfl) rfl dX7_block_27 (fun S9 _ hf _ hx7 hw7 => ?_)
      have hw := hw7
      have hX := hx7.ne hX
      have h_t0 := hx7.kd h_t0
      have h_a1 := hx7.kd h_a1
      have h_t2 := hx7.kd h_t2
      have hx := hx.tr hx7
      exact tj_sub [0, 1, 3] (w_Rd_block_b30 C hE hB hR r hρ rx _ hx hw h_t0 hX h_a1 _ _ _ _ ⟨h_t2.1, by have hk9 := h_t2.2; omega⟩ hf) rfl
  · replace hf := hf.2 hc
    refine tj_aload_n C 0 rfl rfl dX7_block_8 ?_
    refine tj_aload_n C 1 rfl rfl dX7_block_9 ?_
    obtain ⟨c11, s12, hu11, hf⟩ := hf
    refine te_xVa C (k := 11) [.ref (xad Γ a1)] [] (fun hN => c_Rd_when (by rw [hN]; exact ⟨h_t0.1, h_t0.2⟩) (by rw [hN]; exact hX) (by rw [hN]; exact ⟨h_a1.1, h_a1.2⟩) hE hf) lk_X7_320 ty_X7_when rfl (by omega) (by omega) ⟨Nat.le_trans hu11.1 hB.1, Nat.le_trans hu11.2 hB.2⟩ (Nat.le_of_ble_eq_true rfl) h_t0.1 h_t0.2 (by decide) rfl rfl dX7_block_10 (fun S13 _ hf _ hx11 hw11 => ?_) (fun t14 S10 _ hf hN11 hx11 hw11 => ?_)
    · have hw := hw11
      have hX := hx11.ne hX
      have h_t0 := hx11.kd h_t0
      have h_a1 := hx11.kd h_a1
      have hx := hx.tr hx11
      exact txj_up mc ms hB hf.1 (rx _ _ _ _ hx hf.2)
    · have h_t14 := hf.1
      rw [hN11] at h_t14
      have hw := hw11
      have hX := hx11.ne hX
      have h_t0 := hx11.kd h_t0
      have h_a1 := hx11.kd h_a1
      have hx := hx.tr hx11
      replace hf := hf.2
      refine tj_goto C 30 (by decide) dX7_block_13 ?_
      exact tj_sub [0, 1, 3] (w_Rd_block_b30 C hE hB hR r hρ rx _ hx hw h_t0 hX h_a1 _ _ _ _ ⟨h_t14.1, by have hk9 := h_t14.2; omega⟩ hf) rfl
theorem c_Rd_block {l : Launch} {G : tG} {ad : Nat → Nat} {A : Nat → Prop} {d : Nat} {ρ : Nat → Nat → Nat → Int32 → Nat → Nat → tS → (tS → Prop) → (tS → Prop) → Prop} {S : tS} {K : Nat → tS → Prop} {KX : tS → Prop} {mc ms : Nat} {t0 : Nat} {a1 : Nat} {a2 : Int32} {a3 : Int32} (h_t0 : gN S t0 ≠ 0 ∧ t0 % 32 = 11) (hX : gN S 1025 ≠ 0) (h_a1 : gN S a1 ≠ 0 ∧ a1 % 32 = 6) (hρ : ∀ (t0 : Nat) (a1 : Nat) (a2 : Nat) (a3 : Int32) (mc ms : Nat) (S : tS) (K : tS → Prop) (KX : tS → Prop), (gN S t0 ≠ 0 ∧ t0 % 32 = 11) → (gN S 1025 ≠ 0) → (gN S a1 ≠ 0 ∧ a1 % 32 = 6) → (gN S a2 ≠ 0 ∧ (a2 % 32 = 9 ∨ a2 % 32 = 10)) → ρ t0 a1 a2 a3 mc ms S K KX → vx_Met l yX7_step (ws_ yX7_step cX7_step 7 (none)) (tRe (60 + 2 * d) (9000 + 50 * d) mc ms) (va_Pc [.ref (ad t0), .ref (ad a1), .ref (ad a2), .int a3] (tPre G ad A S)) (va_Qv K (tBE G ad A (gN S)) A) (vx_X KX (tBXE G ad A (gN S) RX2 1123) A) mc ms A) (hE : tDyn ad) (hf : Rd_block ρ t0 a1 a2 a3 mc ms S K KX) : vx_Met l yX7_block (ws_ yX7_block cX7_block 5 (some (.object "CatWitness$Block"))) (tRe (61 + 2 * d) (9026 + 50 * d) mc ms) (va_Pc [.ref (ad t0), .ref (ad a1), .int a2, .int a3] (tPre G ad A S)) (va_Qq (fun r (u : tS × Nat) => r = some (ad u.2) ∧ (tKk (fun t => (t % 32 = 9 ∨ t % 32 = 10)) K) u.2 u.1) (fun u t => tBE G ad A (gN S) u.1 t) A) (vx_X KX (tBXE G ad A (gN S) RX2 1123) A) mc ms A :=
  te_xmet_r [(0, .ref (ad t0)), (1, .ref (ad a1)), (2, .int a2), (3, .int a3)] pn_X7 rfl (Nat.le_of_ble_eq_true rfl) (fun p e R s m args below meth c Q C hw hB r rx => w_Rd_block_b0 C hE hB rfl r hρ rx _ tExt.rf hw h_t0 hX h_a1 hf)
theorem w_Rd_step_b130 {Γ : tX} {d : Nat} {Nb : Nat → Nat} {K : tS → Prop} {KX : tS → Prop} {mc ms : Nat} (C : TC Γ cX7_step RX7 (60 + 2 * (d + 1)) (9000 + 50 * (d + 1))) (hE : tDyn (xad Γ)) (hB : mc ≤ (xR Γ).cells ∧ ms ≤ (xR Γ).slots) (hR : xnL Γ = 7) (r : TEv Γ Nb mc ms cX7_step K) {ρ : Nat → Nat → Nat → Int32 → Nat → Nat → tS → (tS → Prop) → (tS → Prop) → Prop} (hρ : ∀ (t0 : Nat) (a1 : Nat) (a2 : Nat) (a3 : Int32) (mc ms : Nat) (S : tS) (K : tS → Prop) (KX : tS → Prop), (gN S t0 ≠ 0 ∧ t0 % 32 = 11) → (gN S 1025 ≠ 0) → (gN S a1 ≠ 0 ∧ a1 % 32 = 6) → (gN S a2 ≠ 0 ∧ (a2 % 32 = 9 ∨ a2 % 32 = 10)) → ρ t0 a1 a2 a3 mc ms S K KX → vx_Met (xl Γ) yX7_step (ws_ yX7_step cX7_step 7 (none)) (tRe (60 + 2 * d) (9000 + 50 * d) mc ms) (va_Pc [.ref (xad Γ t0), .ref (xad Γ a1), .ref (xad Γ a2), .int a3] (tPre (xG Γ) (xad Γ) (xA Γ) S)) (va_Qv K (tBE (xG Γ) (xad Γ) (xA Γ) (gN S)) (xA Γ)) (vx_X KX (tBXE (xG Γ) (xad Γ) (xA Γ) (gN S) RX2 1123) (xA Γ)) mc ms (xA Γ)) (rx : TEX Γ Nb mc ms RX2 1123 KX) {t0 : Nat} {a1 : Nat} {a2 : Nat} {a3 : Int32} : ∀ (N0 : Nat → Nat) (hx : tExt Nb N0) (hw : tWf N0) (h_t0 : N0 t0 ≠ 0 ∧ t0 % 32 = 11) (hX : N0 1025 ≠ 0) (h_a1 : N0 a1 ≠ 0 ∧ a1 % 32 = 6) (h_a2 : N0 a2 ≠ 0 ∧ (a2 % 32 = 9 ∨ a2 % 32 = 10)) (uc : Nat) (us : Nat) (s0 : Nat) (S : tS), ∀ (h_s0 : N0 s0 ≠ 0 ∧ (s0 % 32 = 8 ∨ s0 % 32 = 9 ∨ s0 % 32 = 10)), Rd_step_b130 t0 a1 a2 a3 mc ms ρ K KX uc us s0 S → TJ Γ N0 uc us 130 [(0, .ref (xad Γ t0)), (2, .ref (xad Γ a2))] [.ref (xad Γ s0)] S := by
  intro N0 hx hw h_t0 hX h_a1 h_a2 uc us s0 S h_s0 hf
  unfold Rd_step_b130 at hf
  refine tj_astore C (by rw [hR]; decide) [(6, .ref (xad Γ s0)), (0, .ref (xad Γ t0)), (2, .ref (xad Γ a2))] rfl dX7_step_130 ?_
  refine tj_aload_n C 1 rfl rfl dX7_step_132 ?_
  refine tj_xVv C (k := 11) [] [] (fun hN => c_Rd_close (by rw [hN]; exact ⟨h_t0.1, h_t0.2⟩) (by rw [hN]; exact hX) hf) lk_X7_206 ty_X7_close rfl (by omega) (by omega) (Nat.le_of_ble_eq_true rfl) h_t0.1 h_t0.2 (by decide) rfl rfl dX7_step_133 (fun S22 hf => ?_) (fun S21 hf => ?_)
  · exact txj_up mc ms hB hf.1 (rx _ _ _ _ hx hf.2)
  · refine tj_aload_n C 2 rfl rfl dX7_step_136 ?_
    refine tj_aload C 0 rfl dX7_step_137 ?_
    obtain ⟨c24, s25, hu24, hf⟩ := hf
    refine te_callU2v C (n := 1) (owner := "CatWitness$Block") [.ref (xad Γ s0)] [] (fun hN => c_Bl_add (by rw [hN]; exact ⟨h_a2.1, h_a2.2⟩) (by rw [hN]; exact ⟨h_s0.1, h_s0.2⟩) hE hf) (lw_U q1065 q1067 q1068 q1066 q189 q1070) (lw_U q1065 q1067 q1069 q1066 q189 q1070) rfl ⟨by decide, by decide, by decide +kernel⟩ rfl (by omega) (by omega) ⟨Nat.le_trans hu24.1 hB.1, Nat.le_trans hu24.2 hB.2⟩ (Nat.le_of_ble_eq_true rfl) h_a2.1 h_a2.2 rfl dX7_step_139 (fun S23 _ hf _ hx24 hw24 => ?_)
    have hw := hw24
    have hX := hx24.ne hX
    have h_t0 := hx24.kd h_t0
    have h_a1 := hx24.kd h_a1
    have h_a2 := hx24.kd h_a2
    have h_s0 := hx24.kd h_s0
    have hx := hx.tr hx24
    exact tj_up mc ms hB hf.1 (r _ _ _ _ hx dX7_step_142 hf.2)
theorem w_Rd_step_b99 {Γ : tX} {d : Nat} {Nb : Nat → Nat} {K : tS → Prop} {KX : tS → Prop} {mc ms : Nat} (C : TC Γ cX7_step RX7 (60 + 2 * (d + 1)) (9000 + 50 * (d + 1))) (hE : tDyn (xad Γ)) (hB : mc ≤ (xR Γ).cells ∧ ms ≤ (xR Γ).slots) (hR : xnL Γ = 7) (r : TEv Γ Nb mc ms cX7_step K) {ρ : Nat → Nat → Nat → Int32 → Nat → Nat → tS → (tS → Prop) → (tS → Prop) → Prop} (hρ : ∀ (t0 : Nat) (a1 : Nat) (a2 : Nat) (a3 : Int32) (mc ms : Nat) (S : tS) (K : tS → Prop) (KX : tS → Prop), (gN S t0 ≠ 0 ∧ t0 % 32 = 11) → (gN S 1025 ≠ 0) → (gN S a1 ≠ 0 ∧ a1 % 32 = 6) → (gN S a2 ≠ 0 ∧ (a2 % 32 = 9 ∨ a2 % 32 = 10)) → ρ t0 a1 a2 a3 mc ms S K KX → vx_Met (xl Γ) yX7_step (ws_ yX7_step cX7_step 7 (none)) (tRe (60 + 2 * d) (9000 + 50 * d) mc ms) (va_Pc [.ref (xad Γ t0), .ref (xad Γ a1), .ref (xad Γ a2), .int a3] (tPre (xG Γ) (xad Γ) (xA Γ) S)) (va_Qv K (tBE (xG Γ) (xad Γ) (xA Γ) (gN S)) (xA Γ)) (vx_X KX (tBXE (xG Γ) (xad Γ) (xA Γ) (gN S) RX2 1123) (xA Γ)) mc ms (xA Γ)) (rx : TEX Γ Nb mc ms RX2 1123 KX) {t0 : Nat} {a1 : Nat} {a2 : Nat} {a3 : Int32} : ∀ (N0 : Nat → Nat) (hx : tExt Nb N0) (hw : tWf N0) (h_t0 : N0 t0 ≠ 0 ∧ t0 % 32 = 11) (hX : N0 1025 ≠ 0) (h_a1 : N0 a1 ≠ 0 ∧ a1 % 32 = 6) (h_a2 : N0 a2 ≠ 0 ∧ (a2 % 32 = 9 ∨ a2 % 32 = 10)) (uc : Nat) (us : Nat) (a4 : Int32) (a5 : Int32) (S : tS), Rd_step_b99 t0 a1 a2 a3 mc ms ρ K KX uc us a4 a5 S → TJ Γ N0 uc us 99 [(0, .ref (xad Γ t0)), (1, .ref (xad Γ a1)), (2, .ref (xad Γ a2)), (3, .int a3), (4, .int a4), (5, .int a5)] [] S := by
  intro N0 hx hw h_t0 hX h_a1 h_a2 uc us a4 a5 S hf
  unfold Rd_step_b99 at hf
  refine tj_aload_n C 0 rfl rfl dX7_step_99 ?_
  refine tj_dup C rfl dX7_step_100 ?_
  refine gf_X7_298 C h_t0.2 h_t0.1 dX7_step_101 ?_
  refine tj_iconst C kc_1 dX7_step_104 ?_
  refine tj_iadd C dX7_step_105 ?_
  refine pf_X7_298 C h_t0.2 h_t0.1 dX7_step_106 ?_
  refine tj_topS (fun S10 eS => ?_)
  replace hf := hf S10 eS
  refine tj_iload C 5 rfl dX7_step_109 ?_
  refine tj_if_eq C 125 (by decide) dX7_step_111 (fun hc => ?_) (fun hc => ?_)
  · replace hf := hf.1 hc
    refine tj_aload_n C 0 rfl rfl dX7_step_125 ?_
    refine tj_aload_n C 1 rfl rfl dX7_step_126 ?_
    obtain ⟨c12, s13, hu12, hf⟩ := hf
    refine te_xVa C (k := 11) [.ref (xad Γ a1)] [] (fun hN => c_Rd_plain (by rw [hN]; exact ⟨h_t0.1, h_t0.2⟩) (by rw [hN]; exact hX) (by rw [hN]; exact ⟨h_a1.1, h_a1.2⟩) hE hf) lk_X7_305 ty_X7_plain rfl (by omega) (by omega) ⟨Nat.le_trans hu12.1 hB.1, Nat.le_trans hu12.2 hB.2⟩ (Nat.le_of_ble_eq_true rfl) h_t0.1 h_t0.2 (by decide) rfl rfl dX7_step_127 (fun S14 _ hf _ hx12 hw12 => ?_) (fun t15 S11 _ hf hN12 hx12 hw12 => ?_)
    · have hw := hw12
      have hX := hx12.ne hX
      have h_t0 := hx12.kd h_t0
      have h_a1 := hx12.kd h_a1
      have h_a2 := hx12.kd h_a2
      have hx := hx.tr hx12
      exact txj_up mc ms hB hf.1 (rx _ _ _ _ hx hf.2)
    · have h_t15 := hf.1
      rw [hN12] at h_t15
      have hw := hw12
      have hX := hx12.ne hX
      have h_t0 := hx12.kd h_t0
      have h_a1 := hx12.kd h_a1
      have h_a2 := hx12.kd h_a2
      have hx := hx.tr hx12
      replace hf := hf.2
      exact tj_sub [0, 2] (w_Rd_step_b130 C hE hB hR r hρ rx _ hx hw h_t0 hX h_a1 h_a2 _ _ _ _ ⟨h_t15.1, h_t15.2⟩ hf) rfl
  · replace hf := hf.2 hc
    refine tj_aload_n C 0 rfl rfl dX7_step_114 ?_
    refine tj_aload_n C 1 rfl rfl dX7_step_115 ?_
    refine tj_iload C 4 rfl dX7_step_116 ?_
    refine tj_iload_n C 3 rfl rfl dX7_step_118 ?_
    obtain ⟨c17, s18, hu17, hf⟩ := hf
    refine te_xVa C (k := 11) [.ref (xad Γ a1), .int a4, .int a3] [] (fun hN => c_Rd_block (by rw [hN]; exact ⟨h_t0.1, h_t0.2⟩) (by rw [hN]; exact hX) (by rw [hN]; exact ⟨h_a1.1, h_a1.2⟩) hρ hE hf) lk_X7_301 ty_X7_block rfl (by omega) (by omega) ⟨Nat.le_trans hu17.1 hB.1, Nat.le_trans hu17.2 hB.2⟩ (Nat.le_of_ble_eq_true rfl) h_t0.1 h_t0.2 (by decide) rfl rfl dX7_step_119 (fun S19 _ hf _ hx17 hw17 => ?_) (fun t20 S16 _ hf hN17 hx17 hw17 => ?_)
    · have hw := hw17
      have hX := hx17.ne hX
      have h_t0 := hx17.kd h_t0
      have h_a1 := hx17.kd h_a1
      have h_a2 := hx17.kd h_a2
      have hx := hx.tr hx17
      exact txj_up mc ms hB hf.1 (rx _ _ _ _ hx hf.2)
    · have h_t20 := hf.1
      rw [hN17] at h_t20
      have hw := hw17
      have hX := hx17.ne hX
      have h_t0 := hx17.kd h_t0
      have h_a1 := hx17.kd h_a1
      have h_a2 := hx17.kd h_a2
      have hx := hx.tr hx17
      replace hf := hf.2
      refine tj_goto C 130 (by decide) dX7_step_122 ?_
      exact tj_sub [0, 2] (w_Rd_step_b130 C hE hB hR r hρ rx _ hx hw h_t0 hX h_a1 h_a2 _ _ _ _ ⟨h_t20.1, by have hk9 := h_t20.2; omega⟩ hf) rfl
theorem w_Rd_step_b46 {Γ : tX} {d : Nat} {Nb : Nat → Nat} {K : tS → Prop} {KX : tS → Prop} {mc ms : Nat} (C : TC Γ cX7_step RX7 (60 + 2 * (d + 1)) (9000 + 50 * (d + 1))) (hE : tDyn (xad Γ)) (hB : mc ≤ (xR Γ).cells ∧ ms ≤ (xR Γ).slots) (hR : xnL Γ = 7) (r : TEv Γ Nb mc ms cX7_step K) {ρ : Nat → Nat → Nat → Int32 → Nat → Nat → tS → (tS → Prop) → (tS → Prop) → Prop} (hρ : ∀ (t0 : Nat) (a1 : Nat) (a2 : Nat) (a3 : Int32) (mc ms : Nat) (S : tS) (K : tS → Prop) (KX : tS → Prop), (gN S t0 ≠ 0 ∧ t0 % 32 = 11) → (gN S 1025 ≠ 0) → (gN S a1 ≠ 0 ∧ a1 % 32 = 6) → (gN S a2 ≠ 0 ∧ (a2 % 32 = 9 ∨ a2 % 32 = 10)) → ρ t0 a1 a2 a3 mc ms S K KX → vx_Met (xl Γ) yX7_step (ws_ yX7_step cX7_step 7 (none)) (tRe (60 + 2 * d) (9000 + 50 * d) mc ms) (va_Pc [.ref (xad Γ t0), .ref (xad Γ a1), .ref (xad Γ a2), .int a3] (tPre (xG Γ) (xad Γ) (xA Γ) S)) (va_Qv K (tBE (xG Γ) (xad Γ) (xA Γ) (gN S)) (xA Γ)) (vx_X KX (tBXE (xG Γ) (xad Γ) (xA Γ) (gN S) RX2 1123) (xA Γ)) mc ms (xA Γ)) (rx : TEX Γ Nb mc ms RX2 1123 KX) {t0 : Nat} {a1 : Nat} {a2 : Nat} {a3 : Int32} : ∀ (N0 : Nat → Nat) (hx : tExt Nb N0) (hw : tWf N0) (h_t0 : N0 t0 ≠ 0 ∧ t0 % 32 = 11) (hX : N0 1025 ≠ 0) (h_a1 : N0 a1 ≠ 0 ∧ a1 % 32 = 6) (h_a2 : N0 a2 ≠ 0 ∧ (a2 % 32 = 9 ∨ a2 % 32 = 10)) (uc : Nat) (us : Nat) (a4 : Int32) (a5 : Int32) (S : tS), Rd_step_b46 t0 a1 a2 a3 mc ms ρ K KX uc us a4 a5 S → TJ Γ N0 uc us 46 [(0, .ref (xad Γ t0)), (1, .ref (xad Γ a1)), (2, .ref (xad Γ a2)), (3, .int a3), (4, .int a4), (5, .int a5)] [] S := by
  intro N0 hx hw h_t0 hX h_a1 h_a2 uc us a4 a5 S hf
  unfold Rd_step_b46 at hf
  refine tj_aload_n C 0 rfl rfl dX7_step_46 ?_
  refine gf_X7_298 C h_t0.2 h_t0.1 dX7_step_47 ?_
  refine tj_bipush C kb_30 dX7_step_50 ?_
  refine tj_icmp_ne C 72 (by decide) dX7_step_52 (fun hc => ?_) (fun hc => ?_)
  · replace hf := hf.2 hc
    refine tj_iload C 5 rfl dX7_step_72 ?_
    refine tj_if_eq C 99 (by decide) dX7_step_74 (fun hc => ?_) (fun hc => ?_)
    · replace hf := hf.1 hc
      exact w_Rd_step_b99 C hE hB hR r hρ rx _ hx hw h_t0 hX h_a1 h_a2 _ _ _ _ _ hf
    · replace hf := hf.2 hc
      refine tj_iload_n C 3 rfl rfl dX7_step_77 ?_
      refine tj_iconst C kc_3 dX7_step_78 ?_
      refine tj_icmp_ne C 99 (by decide) dX7_step_79 (fun hc => ?_) (fun hc => ?_)
      · replace hf := hf.2 hc
        exact w_Rd_step_b99 C hE hB hR r hρ rx _ hx hw h_t0 hX h_a1 h_a2 _ _ _ _ _ hf
      · replace hf := hf.1 hc
        refine tj_aload_n C 0 rfl rfl dX7_step_82 ?_
        refine gf_X7_3 C h_t0.2 h_t0.1 dX7_step_83 ?_
        refine tj_some hf.1 ?_
        replace hf := hf.2
        refine gf_X7_55 C hX dX7_step_86 ?_
        refine tj_bipush C kb_7 dX7_step_89 ?_
        refine tj_aload_n C 0 rfl rfl dX7_step_91 ?_
        refine gf_X7_29 C h_t0.2 h_t0.1 dX7_step_92 ?_
        refine tj_callVa C (k := 3) [.int (nI 7), .int (gI S t0 1)] [] (fun hN => c_Bd_at (by rw [hN]; exact hX) hf) lk_X7_59 ty_X2_at rfl (by omega) (by omega) (Nat.le_of_ble_eq_true rfl) (ne0 (ln_1123 hw hX)) rfl (by decide) rfl rfl dX7_step_95 (fun S8 hf => ?_)
        refine tj_athrow C 3 1123 (ne0 (ln_1123 hw hX)) rfl (by decide) rfl dX7_step_98 ?_
        exact txj_up mc ms hB hf.1 (rx _ _ _ _ hx hf.2)
  · replace hf := hf.1 hc
    refine tj_aload_n C 0 rfl rfl dX7_step_55 ?_
    refine gf_X7_3 C h_t0.2 h_t0.1 dX7_step_56 ?_
    refine tj_some hf.1 ?_
    replace hf := hf.2
    refine gf_X7_55 C hX dX7_step_59 ?_
    refine tj_bipush C kb_6 dX7_step_62 ?_
    refine tj_aload_n C 0 rfl rfl dX7_step_64 ?_
    refine gf_X7_29 C h_t0.2 h_t0.1 dX7_step_65 ?_
    refine tj_callVa C (k := 3) [.int (nI 6), .int (gI S t0 1)] [] (fun hN => c_Bd_at (by rw [hN]; exact hX) hf) lk_X7_59 ty_X2_at rfl (by omega) (by omega) (Nat.le_of_ble_eq_true rfl) (ne0 (ln_1123 hw hX)) rfl (by decide) rfl rfl dX7_step_68 (fun S9 hf => ?_)
    refine tj_athrow C 3 1123 (ne0 (ln_1123 hw hX)) rfl (by decide) rfl dX7_step_71 ?_
    exact txj_up mc ms hB hf.1 (rx _ _ _ _ hx hf.2)
theorem w_Rd_step_b27 {Γ : tX} {d : Nat} {Nb : Nat → Nat} {K : tS → Prop} {KX : tS → Prop} {mc ms : Nat} (C : TC Γ cX7_step RX7 (60 + 2 * (d + 1)) (9000 + 50 * (d + 1))) (hE : tDyn (xad Γ)) (hB : mc ≤ (xR Γ).cells ∧ ms ≤ (xR Γ).slots) (hR : xnL Γ = 7) (r : TEv Γ Nb mc ms cX7_step K) {ρ : Nat → Nat → Nat → Int32 → Nat → Nat → tS → (tS → Prop) → (tS → Prop) → Prop} (hρ : ∀ (t0 : Nat) (a1 : Nat) (a2 : Nat) (a3 : Int32) (mc ms : Nat) (S : tS) (K : tS → Prop) (KX : tS → Prop), (gN S t0 ≠ 0 ∧ t0 % 32 = 11) → (gN S 1025 ≠ 0) → (gN S a1 ≠ 0 ∧ a1 % 32 = 6) → (gN S a2 ≠ 0 ∧ (a2 % 32 = 9 ∨ a2 % 32 = 10)) → ρ t0 a1 a2 a3 mc ms S K KX → vx_Met (xl Γ) yX7_step (ws_ yX7_step cX7_step 7 (none)) (tRe (60 + 2 * d) (9000 + 50 * d) mc ms) (va_Pc [.ref (xad Γ t0), .ref (xad Γ a1), .ref (xad Γ a2), .int a3] (tPre (xG Γ) (xad Γ) (xA Γ) S)) (va_Qv K (tBE (xG Γ) (xad Γ) (xA Γ) (gN S)) (xA Γ)) (vx_X KX (tBXE (xG Γ) (xad Γ) (xA Γ) (gN S) RX2 1123) (xA Γ)) mc ms (xA Γ)) (rx : TEX Γ Nb mc ms RX2 1123 KX) {t0 : Nat} {a1 : Nat} {a2 : Nat} {a3 : Int32} : ∀ (N0 : Nat → Nat) (hx : tExt Nb N0) (hw : tWf N0) (h_t0 : N0 t0 ≠ 0 ∧ t0 % 32 = 11) (hX : N0 1025 ≠ 0) (h_a1 : N0 a1 ≠ 0 ∧ a1 % 32 = 6) (h_a2 : N0 a2 ≠ 0 ∧ (a2 % 32 = 9 ∨ a2 % 32 = 10)) (uc : Nat) (us : Nat) (a4 : Int32) (s0 : Int32) (S : tS), Rd_step_b27 t0 a1 a2 a3 mc ms ρ K KX uc us a4 s0 S → TJ Γ N0 uc us 27 [(0, .ref (xad Γ t0)), (1, .ref (xad Γ a1)), (2, .ref (xad Γ a2)), (3, .int a3), (4, .int a4)] [.int s0] S := by
  intro N0 hx hw h_t0 hX h_a1 h_a2 uc us a4 s0 S hf
  unfold Rd_step_b27 at hf
  refine tj_istore C (by rw [hR]; decide) [(5, .int s0), (0, .ref (xad Γ t0)), (1, .ref (xad Γ a1)), (2, .ref (xad Γ a2)), (3, .int a3), (4, .int a4)] rfl dX7_step_27 ?_
  refine tj_aload_n C 1 rfl rfl dX7_step_29 ?_
  refine tj_callVi C (k := 11) [] [] (fun hN => c_Rd_acts (by rw [hN]; exact ⟨h_t0.1, h_t0.2⟩) (by rw [hN]; exact hX) hf) lk_X7_143 ty_X7_acts rfl (by omega) (by omega) (Nat.le_of_ble_eq_true rfl) h_t0.1 h_t0.2 (by decide) rfl rfl dX7_step_30 (fun r6 S5 hf => ?_)
  refine tj_if_ge C 46 (by decide) dX7_step_33 (fun hc => ?_) (fun hc => ?_)
  · replace hf := hf.1 hc
    exact tj_sub [1, 2, 3, 4, 5, 0] (w_Rd_step_b46 C hE hB hR r hρ rx _ hx hw h_t0 hX h_a1 h_a2 _ _ _ _ _ hf) rfl
  · replace hf := hf.2 hc
    refine tj_iload C 0 rfl dX7_step_36 ?_
    refine tj_if_ne C 46 (by decide) dX7_step_38 (fun hc => ?_) (fun hc => ?_)
    · replace hf := hf.2 hc
      exact tj_sub [1, 2, 3, 4, 5, 0] (w_Rd_step_b46 C hE hB hR r hρ rx _ hx hw h_t0 hX h_a1 h_a2 _ _ _ _ _ hf) rfl
    · replace hf := hf.1 hc
      refine tj_aload_n C 1 rfl rfl dX7_step_41 ?_
      refine tj_callVa C (k := 11) [] [] (fun hN => c_Rd_wrong (by rw [hN]; exact ⟨h_t0.1, h_t0.2⟩) (by rw [hN]; exact hX) hf) lk_X7_68 ty_X7_wrong rfl (by omega) (by omega) (Nat.le_of_ble_eq_true rfl) h_t0.1 h_t0.2 (by decide) rfl rfl dX7_step_42 (fun S7 hf => ?_)
      refine tj_athrow C 3 1123 (ne0 (ln_1123 hw hX)) rfl (by decide) rfl dX7_step_45 ?_
      exact txj_up mc ms hB hf.1 (rx _ _ _ _ hx hf.2)
theorem w_Rd_step_b22 {Γ : tX} {d : Nat} {Nb : Nat → Nat} {K : tS → Prop} {KX : tS → Prop} {mc ms : Nat} (C : TC Γ cX7_step RX7 (60 + 2 * (d + 1)) (9000 + 50 * (d + 1))) (hE : tDyn (xad Γ)) (hB : mc ≤ (xR Γ).cells ∧ ms ≤ (xR Γ).slots) (hR : xnL Γ = 7) (r : TEv Γ Nb mc ms cX7_step K) {ρ : Nat → Nat → Nat → Int32 → Nat → Nat → tS → (tS → Prop) → (tS → Prop) → Prop} (hρ : ∀ (t0 : Nat) (a1 : Nat) (a2 : Nat) (a3 : Int32) (mc ms : Nat) (S : tS) (K : tS → Prop) (KX : tS → Prop), (gN S t0 ≠ 0 ∧ t0 % 32 = 11) → (gN S 1025 ≠ 0) → (gN S a1 ≠ 0 ∧ a1 % 32 = 6) → (gN S a2 ≠ 0 ∧ (a2 % 32 = 9 ∨ a2 % 32 = 10)) → ρ t0 a1 a2 a3 mc ms S K KX → vx_Met (xl Γ) yX7_step (ws_ yX7_step cX7_step 7 (none)) (tRe (60 + 2 * d) (9000 + 50 * d) mc ms) (va_Pc [.ref (xad Γ t0), .ref (xad Γ a1), .ref (xad Γ a2), .int a3] (tPre (xG Γ) (xad Γ) (xA Γ) S)) (va_Qv K (tBE (xG Γ) (xad Γ) (xA Γ) (gN S)) (xA Γ)) (vx_X KX (tBXE (xG Γ) (xad Γ) (xA Γ) (gN S) RX2 1123) (xA Γ)) mc ms (xA Γ)) (rx : TEX Γ Nb mc ms RX2 1123 KX) {t0 : Nat} {a1 : Nat} {a2 : Nat} {a3 : Int32} : ∀ (N0 : Nat → Nat) (hx : tExt Nb N0) (hw : tWf N0) (h_t0 : N0 t0 ≠ 0 ∧ t0 % 32 = 11) (hX : N0 1025 ≠ 0) (h_a1 : N0 a1 ≠ 0 ∧ a1 % 32 = 6) (h_a2 : N0 a2 ≠ 0 ∧ (a2 % 32 = 9 ∨ a2 % 32 = 10)) (uc : Nat) (us : Nat) (a4 : Int32) (S : tS), Rd_step_b22 t0 a1 a2 a3 mc ms ρ K KX uc us a4 S → TJ Γ N0 uc us 22 [(0, .ref (xad Γ t0)), (1, .ref (xad Γ a1)), (2, .ref (xad Γ a2)), (3, .int a3), (4, .int a4)] [] S := by
  intro N0 hx hw h_t0 hX h_a1 h_a2 uc us a4 S hf
  unfold Rd_step_b22 at hf
  refine tj_iconst C kc_1 dX7_step_22 ?_
  refine tj_goto C 27 (by decide) dX7_step_23 ?_
  exact w_Rd_step_b27 C hE hB hR r hρ rx _ hx hw h_t0 hX h_a1 h_a2 _ _ _ _ _ hf
theorem w_Rd_step_b0 {Γ : tX} {d : Nat} {Nb : Nat → Nat} {K : tS → Prop} {KX : tS → Prop} {mc ms : Nat} (C : TC Γ cX7_step RX7 (60 + 2 * (d + 1)) (9000 + 50 * (d + 1))) (hE : tDyn (xad Γ)) (hB : mc ≤ (xR Γ).cells ∧ ms ≤ (xR Γ).slots) (hR : xnL Γ = 7) (r : TEv Γ Nb mc ms cX7_step K) (hρ : ∀ (t0 : Nat) (a1 : Nat) (a2 : Nat) (a3 : Int32) (mc ms : Nat) (S : tS) (K : tS → Prop) (KX : tS → Prop), (gN S t0 ≠ 0 ∧ t0 % 32 = 11) → (gN S 1025 ≠ 0) → (gN S a1 ≠ 0 ∧ a1 % 32 = 6) → (gN S a2 ≠ 0 ∧ (a2 % 32 = 9 ∨ a2 % 32 = 10)) → Rd_step d t0 a1 a2 a3 mc ms S K KX → vx_Met (xl Γ) yX7_step (ws_ yX7_step cX7_step 7 (none)) (tRe (60 + 2 * d) (9000 + 50 * d) mc ms) (va_Pc [.ref (xad Γ t0), .ref (xad Γ a1), .ref (xad Γ a2), .int a3] (tPre (xG Γ) (xad Γ) (xA Γ) S)) (va_Qv K (tBE (xG Γ) (xad Γ) (xA Γ) (gN S)) (xA Γ)) (vx_X KX (tBXE (xG Γ) (xad Γ) (xA Γ) (gN S) RX2 1123) (xA Γ)) mc ms (xA Γ)) (rx : TEX Γ Nb mc ms RX2 1123 KX) (N0 : Nat → Nat) (hx : tExt Nb N0) (hw : tWf N0) {t0 : Nat} {a1 : Nat} {a2 : Nat} {a3 : Int32} (h_t0 : N0 t0 ≠ 0 ∧ t0 % 32 = 11) (hX : N0 1025 ≠ 0) (h_a1 : N0 a1 ≠ 0 ∧ a1 % 32 = 6) (h_a2 : N0 a2 ≠ 0 ∧ (a2 % 32 = 9 ∨ a2 % 32 = 10)) {S : tS} (hf : Rd_step (d + 1) t0 a1 a2 a3 mc ms S K KX) : TJ Γ N0 0 0 0 [(0, .ref (xad Γ t0)), (1, .ref (xad Γ a1)), (2, .ref (xad Γ a2)), (3, .int a3)] [] S := by
  unfold Rd_step at hf
  refine tj_aload_n C 0 rfl rfl dX7_step_0 ?_
  refine tj_ldcS C 27 rfl dX7_step_1 ?_
  refine tj_callVz C (k := 11) [.ref (xK Γ 27)] [] (fun hN => c_Rd_isWord (by rw [hN]; exact ⟨h_t0.1, h_t0.2⟩) (by rw [hN]; exact hX) (by decide) hf) lk_X7_72 ty_X7_isWord rfl (by omega) (by omega) (Nat.le_of_ble_eq_true rfl) h_t0.1 h_t0.2 (by decide) rfl rfl dX7_step_3 (fun r2 S1 hf => ?_)
  have hz_r2 := hf.1
  replace hf := hf.2
  refine tj_istore C (by rw [hR]; decide) [(4, .int r2), (0, .ref (xad Γ t0)), (1, .ref (xad Γ a1)), (2, .ref (xad Γ a2)), (3, .int a3)] rfl dX7_step_6 ?_
  refine tj_iload C 0 rfl dX7_step_8 ?_
  refine tj_if_ne C 22 (by decide) dX7_step_10 (fun hc => ?_) (fun hc => ?_)
  · replace hf := hf.2 hc
    exact tj_sub [1, 2, 3, 4, 0] (w_Rd_step_b22 C hE hB hR r hρ rx _ hx hw h_t0 hX h_a1 h_a2 _ _ _ _ hf) rfl
  · replace hf := hf.1 hc
    refine tj_aload_n C 1 rfl rfl dX7_step_13 ?_
    refine tj_ldcS C 28 rfl dX7_step_14 ?_
    refine tj_callVz C (k := 11) [.ref (xK Γ 28)] [] (fun hN => c_Rd_isWord (by rw [hN]; exact ⟨h_t0.1, h_t0.2⟩) (by rw [hN]; exact hX) (by decide) hf) lk_X7_72 ty_X7_isWord rfl (by omega) (by omega) (Nat.le_of_ble_eq_true rfl) h_t0.1 h_t0.2 (by decide) rfl rfl dX7_step_16 (fun r4 S3 hf => ?_)
    have hz_r4 := hf.1
    replace hf := hf.2
    refine tj_if_eq C 26 (by decide) dX7_step_19 (fun hc => ?_) (fun hc => ?_)
    · replace hf := hf.1 hc
      refine tj_iconst C kc_0 dX7_step_26 ?_
      exact tj_sub [1, 2, 3, 4, 0] (w_Rd_step_b27 C hE hB hR r hρ rx _ hx hw h_t0 hX h_a1 h_a2 _ _ _ _ _ hf) rfl
    · replace hf := hf.2 hc
      exact tj_sub [1, 2, 3, 4, 0] (w_Rd_step_b22 C hE hB hR r hρ rx _ hx hw h_t0 hX h_a1 h_a2 _ _ _ _ hf) rfl
theorem c_Rd_step {l : Launch} {G : tG} {ad : Nat → Nat} {A : Nat → Prop} (hE : tDyn ad) : ∀ (d : Nat) (t0 : Nat) (a1 : Nat) (a2 : Nat) (a3 : Int32) (mc ms : Nat) (S : tS) (K : tS → Prop) (KX : tS → Prop), (gN S t0 ≠ 0 ∧ t0 % 32 = 11) → (gN S 1025 ≠ 0) → (gN S a1 ≠ 0 ∧ a1 % 32 = 6) → (gN S a2 ≠ 0 ∧ (a2 % 32 = 9 ∨ a2 % 32 = 10)) → Rd_step d t0 a1 a2 a3 mc ms S K KX → vx_Met l yX7_step (ws_ yX7_step cX7_step 7 (none)) (tRe (60 + 2 * d) (9000 + 50 * d) mc ms) (va_Pc [.ref (ad t0), .ref (ad a1), .ref (ad a2), .int a3] (tPre G ad A S)) (va_Qv K (tBE G ad A (gN S)) A) (vx_X KX (tBXE G ad A (gN S) RX2 1123) A) mc ms A := by
  intro d
  induction d with
  | zero => intro t0 a1 a2 a3 mc ms S K KX h_t0 hX h_a1 h_a2 hf; exact hf.elim
  | succ d ih =>
    intro t0 a1 a2 a3 mc ms S K KX h_t0 hX h_a1 h_a2 hf
    exact te_xmet_v [(0, .ref (ad t0)), (1, .ref (ad a1)), (2, .ref (ad a2)), (3, .int a3)] pn_X7 rfl (Nat.le_of_ble_eq_true rfl) (fun p e R s m args below meth c Q C hw hB r rx => w_Rd_step_b0 C hE hB rfl r ih rx _ tExt.rf hw h_t0 hX h_a1 h_a2 hf)
theorem w_Rd_weeks_l0 {Γ : tX} {Nb : Nat → Nat} {K : tS → Prop} {KX : tS → Prop} {mc ms : Nat} (C : TC Γ cX7_weeks RX7 77 9426) (hE : tDyn (xad Γ)) (hB : mc ≤ (xR Γ).cells ∧ ms ≤ (xR Γ).slots) (hR : xnL Γ = 3) (r : TEv Γ Nb mc ms cX7_weeks K) (rx : TEX Γ Nb mc ms RX2 1123 KX) {t0 : Nat} {a1 : Nat} {a2 : Nat} : ∀ (n : Nat) (N0 : Nat → Nat) (hx : tExt Nb N0) (hw : tWf N0) (h_t0 : N0 t0 ≠ 0 ∧ t0 % 32 = 11) (hX : N0 1025 ≠ 0) (h_a1 : N0 a1 ≠ 0 ∧ a1 % 32 = 6) (h_a2 : N0 a2 ≠ 0 ∧ (a2 % 32 = 9 ∨ a2 % 32 = 10)) (uc : Nat) (us : Nat) (S : tS), Rd_weeks_l0 t0 a1 a2 mc ms K KX n uc us S → TJ Γ N0 uc us 0 [(0, .ref (xad Γ t0)), (1, .ref (xad Γ a1)), (2, .ref (xad Γ a2))] [] S := by
  intro n
  induction n with
  | zero => intro N0 hx hw h_t0 hX h_a1 h_a2 uc us S hf; exact hf.elim
  | succ n ih =>
    intro N0 hx hw h_t0 hX h_a1 h_a2 uc us S hf
    unfold Rd_weeks_l0 at hf
    refine tj_aload_n C 0 rfl rfl dX7_weeks_0 ?_
    refine gf_X7_32 C h_t0.2 h_t0.1 dX7_weeks_1 ?_
    refine tj_if_eq C 17 (by decide) dX7_weeks_4 (fun hc => ?_) (fun hc => ?_)
    · replace hf := hf.1 hc
      exact tj_up mc ms hB hf.1 (r _ _ _ _ hx dX7_weeks_17 hf.2)
    · replace hf := hf.2 hc
      refine tj_aload_n C 0 rfl rfl dX7_weeks_7 ?_
      refine tj_aload_n C 1 rfl rfl dX7_weeks_8 ?_
      refine tj_aload_n C 2 rfl rfl dX7_weeks_9 ?_
      refine tj_iconst C kc_0 dX7_weeks_10 ?_
      obtain ⟨d, hd8, hf⟩ := hf
      obtain ⟨c2, s3, hu2, hf⟩ := hf
      refine te_xVv C (k := 11) [.ref (xad Γ a1), .ref (xad Γ a2), .int (nI 0)] [] (fun hN => c_Rd_step hE d _ _ _ _ _ _ _ _ _ (by rw [hN]; exact ⟨h_t0.1, h_t0.2⟩) (by rw [hN]; exact hX) (by rw [hN]; exact ⟨h_a1.1, h_a1.2⟩) (by rw [hN]; exact ⟨h_a2.1, h_a2.2⟩) hf) lk_X7_294 ty_X7_step rfl (by omega) (by omega) ⟨Nat.le_trans hu2.1 hB.1, Nat.le_trans hu2.2 hB.2⟩ (Nat.le_of_ble_eq_true rfl) h_t0.1 h_t0.2 (by decide) rfl rfl dX7_weeks_11 (fun S4 _ hf _ hx2 hw2 => ?_) (fun S1 _ hf _ hx2 hw2 => ?_)
      · have hw := hw2
        have hX := hx2.ne hX
        have h_t0 := hx2.kd h_t0
        have h_a1 := hx2.kd h_a1
        have h_a2 := hx2.kd h_a2
        have hx := hx.tr hx2
        exact txj_up mc ms hB hf.1 (rx _ _ _ _ hx hf.2)
      · have hw := hw2
        have hX := hx2.ne hX
        have h_t0 := hx2.kd h_t0
        have h_a1 := hx2.kd h_a1
        have h_a2 := hx2.kd h_a2
        have hx := hx.tr hx2
        refine tj_goto C 0 (by decide) dX7_weeks_14 ?_
        exact ih _ hx hw h_t0 hX h_a1 h_a2 _ _ _ hf
theorem w_Rd_weeks_b0 {Γ : tX} {Nb : Nat → Nat} {K : tS → Prop} {KX : tS → Prop} {mc ms : Nat} (C : TC Γ cX7_weeks RX7 77 9426) (hE : tDyn (xad Γ)) (hB : mc ≤ (xR Γ).cells ∧ ms ≤ (xR Γ).slots) (hR : xnL Γ = 3) (r : TEv Γ Nb mc ms cX7_weeks K) (rx : TEX Γ Nb mc ms RX2 1123 KX) (N0 : Nat → Nat) (hx : tExt Nb N0) (hw : tWf N0) {t0 : Nat} {a1 : Nat} {a2 : Nat} (h_t0 : N0 t0 ≠ 0 ∧ t0 % 32 = 11) (hX : N0 1025 ≠ 0) (h_a1 : N0 a1 ≠ 0 ∧ a1 % 32 = 6) (h_a2 : N0 a2 ≠ 0 ∧ (a2 % 32 = 9 ∨ a2 % 32 = 10)) {S : tS} (hf : Rd_weeks t0 a1 a2 mc ms S K KX) : TJ Γ N0 0 0 0 [(0, .ref (xad Γ t0)), (1, .ref (xad Γ a1)), (2, .ref (xad Γ a2))] [] S := by
  unfold Rd_weeks at hf
  exact hf.elim fun k hf => w_Rd_weeks_l0 C hE hB hR r rx k _ hx hw h_t0 hX h_a1 h_a2 _ _ _ hf
theorem c_Rd_weeks {l : Launch} {G : tG} {ad : Nat → Nat} {A : Nat → Prop} {S : tS} {K : tS → Prop} {KX : tS → Prop} {mc ms : Nat} {t0 : Nat} {a1 : Nat} {a2 : Nat} (h_t0 : gN S t0 ≠ 0 ∧ t0 % 32 = 11) (hX : gN S 1025 ≠ 0) (h_a1 : gN S a1 ≠ 0 ∧ a1 % 32 = 6) (h_a2 : gN S a2 ≠ 0 ∧ (a2 % 32 = 9 ∨ a2 % 32 = 10)) (hE : tDyn ad) (hf : Rd_weeks t0 a1 a2 mc ms S K KX) : vx_Met l yX7_weeks (ws_ yX7_weeks cX7_weeks 3 (none)) (tRe 77 9426 mc ms) (va_Pc [.ref (ad t0), .ref (ad a1), .ref (ad a2)] (tPre G ad A S)) (va_Qv K (tBE G ad A (gN S)) A) (vx_X KX (tBXE G ad A (gN S) RX2 1123) A) mc ms A :=
  te_xmet_v [(0, .ref (ad t0)), (1, .ref (ad a1)), (2, .ref (ad a2))] pn_X7 rfl (Nat.le_of_ble_eq_true rfl) (fun p e R s m args below meth c Q C hw hB r rx => w_Rd_weeks_b0 C hE hB rfl r rx _ tExt.rf hw h_t0 hX h_a1 h_a2 hf)
theorem w_X_enact_b113 {Γ : tX} {Nb : Nat → Nat} {K : Int32 → tS → Prop} {mc ms : Nat} (C : TC Γ cX0_enact RX0 2 47) (hE : tDyn (xad Γ)) (hB : mc ≤ (xR Γ).cells ∧ ms ≤ (xR Γ).slots) (hR : xnL Γ = 5) (r : TEi Γ Nb mc ms cX0_enact K) {a1 : Int32} {a2 : Int32} {a3 : Int32} : ∀ (N0 : Nat → Nat) (hx : tExt Nb N0) (hw : tWf N0) (hX : N0 1025 ≠ 0) (uc : Nat) (us : Nat) (s1 : Int32) (s2 : Nat) (s3 : Nat) (s4 : Int32) (s5 : Int32) (s6 : Int32) (s7 : Int32) (s8 : Int32) (s9 : Int32) (s10 : Int32) (S : tS), ∀ (h_s2 : N0 s2 ≠ 0 ∧ s2 % 32 = 7), ∀ (h_s3 : N0 s3 ≠ 0 ∧ s3 % 32 = 7), X_enact_b113 a1 a2 a3 mc ms K uc us s1 s2 s3 s4 s5 s6 s7 s8 s9 s10 S → TJ Γ N0 uc us 113 [(0, .ref (xad Γ 1025))] [.int s10, .int s9, .int s8, .int s7, .int s6, .int s5, .int s4, .ref (xad Γ s3), .ref (xad Γ s2), .int s1, .ref (xad Γ 1719)] S := by
  intro N0 hx hw hX uc us s1 s2 s3 s4 s5 s6 s7 s8 s9 s10 S h_s2 h_s3 hf
  unfold X_enact_b113 at hf
  obtain ⟨c13, s14, hu13, hf⟩ := hf
  refine te_callI C [.int s4, .int s5, .int s6, .int s7, .int s8, .int s9, .int s10] [.ref (xad Γ s2), .int s1, .ref (xad Γ 1719)] (fun hN => c_Ru_init (by rw [hN]; exact ⟨h_s3.1, h_s3.2⟩) hE hf) q906 q186 q1239 q905 rfl ty_X8_init rfl (Nat.le_of_ble_eq_true rfl) (Nat.le_of_ble_eq_true rfl) ⟨Nat.le_trans hu13.1 hB.1, Nat.le_trans hu13.2 hB.2⟩ (Nat.le_of_ble_eq_true rfl) rfl dX0_enact_113 (fun S15 _ hf _ hx13 hw13 => ?_)
  have hw := hw13
  have hX := hx13.ne hX
  have h_s2 := hx13.kd h_s2
  have h_s3 := hx13.kd h_s3
  have hx := hx.tr hx13
  refine tj_aast23 C 1719 8 s2 rfl ⟨h_s2.1, h_s2.2⟩ (ln_1719 hw hX) _ rfl hf.1 dX0_enact_116 ?_
  replace hf := hf.2
  refine tj_topS (fun S16 eS => ?_)
  replace hf := hf S16 eS
  refine tj_aload_n C 0 rfl rfl dX0_enact_117 ?_
  refine tj_callVa C (k := 1) [] [] (fun hN => c_X_at (by rw [hN]; exact hX) hf) lk_X0_168 ty_X0_at rfl (Nat.le_of_ble_eq_true rfl) (Nat.le_of_ble_eq_true rfl) (Nat.le_of_ble_eq_true rfl) hX rfl (by decide) rfl rfl dX0_enact_118 (fun S17 hf => ?_)
  refine tj_dup C rfl dX0_enact_121 ?_
  refine gf_X0_182 C rfl (ne0 (ln_1222 hw hX)) dX0_enact_122 ?_
  refine tj_iconst C kc_1 dX0_enact_125 ?_
  refine tj_iadd C dX0_enact_126 ?_
  refine pf_X0_182 C rfl (ne0 (ln_1222 hw hX)) dX0_enact_127 ?_
  refine tj_topS (fun S18 eS => ?_)
  replace hf := hf S18 eS
  refine tj_aload_n C 0 rfl rfl dX0_enact_130 ?_
  refine tj_callVa C (k := 1) [] [] (fun hN => c_X_at (by rw [hN]; exact hX) hf) lk_X0_168 ty_X0_at rfl (Nat.le_of_ble_eq_true rfl) (Nat.le_of_ble_eq_true rfl) (Nat.le_of_ble_eq_true rfl) hX rfl (by decide) rfl rfl dX0_enact_131 (fun S19 hf => ?_)
  refine gf_X0_182 C rfl (ne0 (ln_1222 hw hX)) dX0_enact_134 ?_
  refine tj_iconst C kc_1 dX0_enact_137 ?_
  refine tj_isub C dX0_enact_138 ?_
  exact tj_up mc ms hB hf.1 (r _ _ _ _ _ hx dX0_enact_139 hf.2)
theorem w_X_enact_b67 {Γ : tX} {Nb : Nat → Nat} {K : Int32 → tS → Prop} {mc ms : Nat} (C : TC Γ cX0_enact RX0 2 47) (hE : tDyn (xad Γ)) (hB : mc ≤ (xR Γ).cells ∧ ms ≤ (xR Γ).slots) (hR : xnL Γ = 5) (r : TEi Γ Nb mc ms cX0_enact K) {a1 : Int32} {a2 : Int32} {a3 : Int32} : ∀ (N0 : Nat → Nat) (hx : tExt Nb N0) (hw : tWf N0) (hX : N0 1025 ≠ 0) (uc : Nat) (us : Nat) (a4 : Int32) (s1 : Int32) (S : tS), X_enact_b67 a1 a2 a3 mc ms K uc us a4 s1 S → TJ Γ N0 uc us 67 [(0, .ref (xad Γ 1025)), (1, .int a1), (2, .int a2), (3, .int a3), (4, .int a4)] [.int s1, .ref (xad Γ 1025)] S := by
  intro N0 hx hw hX uc us a4 s1 S hf
  unfold X_enact_b67 at hf
  refine pf_X0_91 C hX dX0_enact_67 ?_
  refine tj_topS (fun S8 eS => ?_)
  replace hf := hf S8 eS
  refine tj_aload_n C 0 rfl rfl dX0_enact_70 ?_
  refine gf_X0_91 C hX dX0_enact_71 ?_
  refine tj_if_le C 79 (by decide) dX0_enact_74 (fun hc => ?_) (fun hc => ?_)
  · replace hf := hf.1 hc
    refine tj_aload_n C 0 rfl rfl dX0_enact_79 ?_
    refine tj_callVa C (k := 1) [] [] (fun hN => c_X_at (by rw [hN]; exact hX) hf) lk_X0_168 ty_X0_at rfl (Nat.le_of_ble_eq_true rfl) (Nat.le_of_ble_eq_true rfl) (Nat.le_of_ble_eq_true rfl) hX rfl (by decide) rfl rfl dX0_enact_80 (fun S9 hf => ?_)
    refine gf_X0_274 C rfl (ne0 (ln_1222 hw hX)) dX0_enact_83 ?_
    refine tj_aload_n C 0 rfl rfl dX0_enact_86 ?_
    refine tj_callVa C (k := 1) [] [.ref (xad Γ 1719)] (fun hN => c_X_at (by rw [hN]; exact hX) hf) lk_X0_168 ty_X0_at rfl (Nat.le_of_ble_eq_true rfl) (Nat.le_of_ble_eq_true rfl) (Nat.le_of_ble_eq_true rfl) hX rfl (by decide) rfl rfl dX0_enact_87 (fun S10 hf => ?_)
    refine gf_X0_182 C rfl (ne0 (ln_1222 hw hX)) dX0_enact_90 ?_
    refine tj_hN (fun hN => ?_)
    refine tj_new C hE 7 (T := TX8) (N := 7) (by decide) (by decide) (by decide) rfl in_X8 tyX8_ok (by decide) dv_X8 q1238 q899 q186 ⟨Nat.le_trans hf.1.1 hB.1, Nat.le_trans hf.1.2 hB.2⟩ dX0_enact_93 (fun t11 N11 hN11 hx11 hw11 _ h_t11 h32 hz => ?_)
    refine tj_topS (fun S12 eS => ?_)
    replace hf := hf.2 t11 S12 (by rw [hN]; exact hz) h32 h_t11.2 eS
    have hw := hw11
    have hX := hx11.ne hX
    have hx := hx.tr hx11
    refine tj_dup C rfl dX0_enact_96 ?_
    refine tj_iload_n C 1 rfl rfl dX0_enact_97 ?_
    refine tj_iload_n C 2 rfl rfl dX0_enact_98 ?_
    refine tj_iconst C kc_0 dX0_enact_99 ?_
    refine tj_iconst C kc_0 dX0_enact_100 ?_
    refine tj_iconst C kc_0 dX0_enact_101 ?_
    refine tj_iconst C kc_0 dX0_enact_102 ?_
    refine tj_iload C 4 rfl dX0_enact_103 ?_
    refine tj_if_eq C 112 (by decide) dX0_enact_105 (fun hc => ?_) (fun hc => ?_)
    · replace hf := hf.1 hc
      refine tj_iload_n C 3 rfl rfl dX0_enact_112 ?_
      exact tj_sub [0] (w_X_enact_b113 C hE hB hR r _ hx hw hX _ _ _ _ _ _ _ _ _ _ _ _ _ ⟨h_t11.1, h_t11.2⟩ ⟨h_t11.1, h_t11.2⟩ hf) rfl
    · replace hf := hf.2 hc
      refine tj_iconst C kc_m1 dX0_enact_108 ?_
      refine tj_goto C 113 (by decide) dX0_enact_109 ?_
      exact tj_sub [0] (w_X_enact_b113 C hE hB hR r _ hx hw hX _ _ _ _ _ _ _ _ _ _ _ _ _ ⟨h_t11.1, h_t11.2⟩ ⟨h_t11.1, h_t11.2⟩ hf) rfl
  · replace hf := hf.2 hc
    refine tj_iconst C kc_m1 dX0_enact_77 ?_
    exact tj_up mc ms hB hf.1 (r _ _ _ _ _ hx dX0_enact_78 hf.2)
theorem w_X_enact_b50 {Γ : tX} {Nb : Nat → Nat} {K : Int32 → tS → Prop} {mc ms : Nat} (C : TC Γ cX0_enact RX0 2 47) (hE : tDyn (xad Γ)) (hB : mc ≤ (xR Γ).cells ∧ ms ≤ (xR Γ).slots) (hR : xnL Γ = 5) (r : TEi Γ Nb mc ms cX0_enact K) {a1 : Int32} {a2 : Int32} {a3 : Int32} : ∀ (N0 : Nat → Nat) (hx : tExt Nb N0) (hw : tWf N0) (hX : N0 1025 ≠ 0) (uc : Nat) (us : Nat) (a4 : Int32) (S : tS), X_enact_b50 a1 a2 a3 mc ms K uc us a4 S → TJ Γ N0 uc us 50 [(0, .ref (xad Γ 1025)), (1, .int a1), (2, .int a2), (3, .int a3), (4, .int a4)] [.ref (xad Γ 1025)] S := by
  intro N0 hx hw hX uc us a4 S hf
  unfold X_enact_b50 at hf
  refine tj_aload_n C 0 rfl rfl dX0_enact_50 ?_
  refine tj_callVa C (k := 1) [] [.ref (xad Γ 1025)] (fun hN => c_X_at (by rw [hN]; exact hX) hf) lk_X0_168 ty_X0_at rfl (Nat.le_of_ble_eq_true rfl) (Nat.le_of_ble_eq_true rfl) (Nat.le_of_ble_eq_true rfl) hX rfl (by decide) rfl rfl dX0_enact_51 (fun S7 hf => ?_)
  refine gf_X0_182 C rfl (ne0 (ln_1222 hw hX)) dX0_enact_54 ?_
  refine tj_bipush C kb_8 dX0_enact_57 ?_
  refine tj_icmp_ne C 66 (by decide) dX0_enact_59 (fun hc => ?_) (fun hc => ?_)
  · replace hf := hf.2 hc
    refine tj_iconst C kc_0 dX0_enact_66 ?_
    exact w_X_enact_b67 C hE hB hR r _ hx hw hX _ _ _ _ _ hf
  · replace hf := hf.1 hc
    refine tj_iconst C kc_4 dX0_enact_62 ?_
    refine tj_goto C 67 (by decide) dX0_enact_63 ?_
    exact w_X_enact_b67 C hE hB hR r _ hx hw hX _ _ _ _ _ hf
theorem w_X_enact_b46 {Γ : tX} {Nb : Nat → Nat} {K : Int32 → tS → Prop} {mc ms : Nat} (C : TC Γ cX0_enact RX0 2 47) (hE : tDyn (xad Γ)) (hB : mc ≤ (xR Γ).cells ∧ ms ≤ (xR Γ).slots) (hR : xnL Γ = 5) (r : TEi Γ Nb mc ms cX0_enact K) {a1 : Int32} {a2 : Int32} {a3 : Int32} : ∀ (N0 : Nat → Nat) (hx : tExt Nb N0) (hw : tWf N0) (hX : N0 1025 ≠ 0) (uc : Nat) (us : Nat) (a4 : Int32) (S : tS), X_enact_b46 a1 a2 a3 mc ms K uc us a4 S → TJ Γ N0 uc us 46 [(0, .ref (xad Γ 1025)), (1, .int a1), (2, .int a2), (3, .int a3), (4, .int a4)] [.ref (xad Γ 1025)] S := by
  intro N0 hx hw hX uc us a4 S hf
  unfold X_enact_b46 at hf
  refine tj_iconst C kc_1 dX0_enact_46 ?_
  refine tj_goto C 67 (by decide) dX0_enact_47 ?_
  exact w_X_enact_b67 C hE hB hR r _ hx hw hX _ _ _ _ _ hf
theorem w_X_enact_b10 {Γ : tX} {Nb : Nat → Nat} {K : Int32 → tS → Prop} {mc ms : Nat} (C : TC Γ cX0_enact RX0 2 47) (hE : tDyn (xad Γ)) (hB : mc ≤ (xR Γ).cells ∧ ms ≤ (xR Γ).slots) (hR : xnL Γ = 5) (r : TEi Γ Nb mc ms cX0_enact K) {a1 : Int32} {a2 : Int32} {a3 : Int32} : ∀ (N0 : Nat → Nat) (hx : tExt Nb N0) (hw : tWf N0) (hX : N0 1025 ≠ 0) (uc : Nat) (us : Nat) (s0 : Int32) (S : tS), X_enact_b10 a1 a2 a3 mc ms K uc us s0 S → TJ Γ N0 uc us 10 [(0, .ref (xad Γ 1025)), (1, .int a1), (2, .int a2), (3, .int a3)] [.int s0] S := by
  intro N0 hx hw hX uc us s0 S hf
  unfold X_enact_b10 at hf
  refine tj_istore C (by rw [hR]; decide) [(4, .int s0), (0, .ref (xad Γ 1025)), (1, .int a1), (2, .int a2), (3, .int a3)] rfl dX0_enact_10 ?_
  refine tj_aload_n C 1 rfl rfl dX0_enact_12 ?_
  refine tj_aload_n C 1 rfl rfl dX0_enact_13 ?_
  refine tj_iload_n C 2 rfl rfl dX0_enact_14 ?_
  refine tj_callVz C (k := 1) [.int a1] [.ref (xad Γ 1025)] (fun hN => c_X_isCue (by rw [hN]; exact hX) hf) lk_X0_262 ty_X0_isCue rfl (Nat.le_of_ble_eq_true rfl) (Nat.le_of_ble_eq_true rfl) (Nat.le_of_ble_eq_true rfl) hX rfl (by decide) rfl rfl dX0_enact_15 (fun r2 S1 hf => ?_)
  have hz_r2 := hf.1
  replace hf := hf.2
  refine tj_if_eq C 46 (by decide) dX0_enact_18 (fun hc => ?_) (fun hc => ?_)
  · replace hf := hf.1 hc
    exact tj_sub [1, 2, 3, 4, 0] (w_X_enact_b46 C hE hB hR r _ hx hw hX _ _ _ _ hf) rfl
  · replace hf := hf.2 hc
    refine tj_iload_n C 3 rfl rfl dX0_enact_21 ?_
    refine tj_i2l C dX0_enact_22 ?_
    refine tj_lconst C (v := lN 0) rfl dX0_enact_23 ?_
    refine tj_ldc2 C kl_X0_357 dX0_enact_24 ?_
    refine tj_callSz C [.long (a2.toInt64), .long (lN 0), .long (lN 2)] [.ref (xad Γ 1025)] (fun hN => c_X_isIn hf) lk_X0_175 ty_X0_isIn rfl (Nat.le_of_ble_eq_true rfl) (Nat.le_of_ble_eq_true rfl) (Nat.le_of_ble_eq_true rfl) rfl dX0_enact_27 (fun r4 S3 hf => ?_)
    have hz_r4 := hf.1
    replace hf := hf.2
    refine tj_if_eq C 46 (by decide) dX0_enact_30 (fun hc => ?_) (fun hc => ?_)
    · replace hf := hf.1 hc
      exact tj_sub [1, 2, 3, 4, 0] (w_X_enact_b46 C hE hB hR r _ hx hw hX _ _ _ _ hf) rfl
    · replace hf := hf.2 hc
      refine tj_aload_n C 1 rfl rfl dX0_enact_33 ?_
      refine tj_iload_n C 4 rfl rfl dX0_enact_34 ?_
      refine tj_callVz C (k := 1) [.int a3] [.ref (xad Γ 1025)] (fun hN => c_X_isSmell (by rw [hN]; exact hX) hf) lk_X0_351 ty_X0_isSmell rfl (Nat.le_of_ble_eq_true rfl) (Nat.le_of_ble_eq_true rfl) (Nat.le_of_ble_eq_true rfl) hX rfl (by decide) rfl rfl dX0_enact_35 (fun r6 S5 hf => ?_)
      have hz_r6 := hf.1
      replace hf := hf.2
      refine tj_if_ne C 50 (by decide) dX0_enact_38 (fun hc => ?_) (fun hc => ?_)
      · replace hf := hf.2 hc
        exact tj_sub [1, 2, 3, 4, 0] (w_X_enact_b50 C hE hB hR r _ hx hw hX _ _ _ _ hf) rfl
      · replace hf := hf.1 hc
        refine tj_iload C 0 rfl dX0_enact_41 ?_
        refine tj_if_ne C 50 (by decide) dX0_enact_43 (fun hc => ?_) (fun hc => ?_)
        · replace hf := hf.2 hc
          exact tj_sub [1, 2, 3, 4, 0] (w_X_enact_b50 C hE hB hR r _ hx hw hX _ _ _ _ hf) rfl
        · replace hf := hf.1 hc
          exact tj_sub [1, 2, 3, 4, 0] (w_X_enact_b46 C hE hB hR r _ hx hw hX _ _ _ _ hf) rfl
theorem w_X_enact_b0 {Γ : tX} {Nb : Nat → Nat} {K : Int32 → tS → Prop} {mc ms : Nat} (C : TC Γ cX0_enact RX0 2 47) (hE : tDyn (xad Γ)) (hB : mc ≤ (xR Γ).cells ∧ ms ≤ (xR Γ).slots) (hR : xnL Γ = 5) (r : TEi Γ Nb mc ms cX0_enact K) (N0 : Nat → Nat) (hx : tExt Nb N0) (hw : tWf N0) {a1 : Int32} {a2 : Int32} {a3 : Int32} (hX : N0 1025 ≠ 0) {S : tS} (hf : X_enact a1 a2 a3 mc ms S K) : TJ Γ N0 0 0 0 [(0, .ref (xad Γ 1025)), (1, .int a1), (2, .int a2), (3, .int a3)] [] S := by
  unfold X_enact at hf
  refine tj_iload_n C 3 rfl rfl dX0_enact_0 ?_
  refine tj_iconst C kc_5 dX0_enact_1 ?_
  refine tj_icmp_ne C 9 (by decide) dX0_enact_2 (fun hc => ?_) (fun hc => ?_)
  · replace hf := hf.2 hc
    refine tj_iconst C kc_0 dX0_enact_9 ?_
    exact w_X_enact_b10 C hE hB hR r _ hx hw hX _ _ _ _ hf
  · replace hf := hf.1 hc
    refine tj_iconst C kc_1 dX0_enact_5 ?_
    refine tj_goto C 10 (by decide) dX0_enact_6 ?_
    exact w_X_enact_b10 C hE hB hR r _ hx hw hX _ _ _ _ hf
theorem c_X_enact {l : Launch} {G : tG} {ad : Nat → Nat} {A : Nat → Prop} {S : tS} {K : Int32 → tS → Prop} {mc ms : Nat} {a1 : Int32} {a2 : Int32} {a3 : Int32} (hX : gN S 1025 ≠ 0) (hE : tDyn ad) (hf : X_enact a1 a2 a3 mc ms S K) : Met l yX0_enact (ws_ yX0_enact cX0_enact 5 (some .int)) (tRe 2 47 mc ms) (va_Pc [.ref (ad 1025), .int a1, .int a2, .int a3] (tPre G ad A S)) (va_Qi K (tBE G ad A (gN S)) A) mc ms A :=
  te_met_i [(0, .ref (ad 1025)), (1, .int a1), (2, .int a2), (3, .int a3)] pn_X0 rfl (Nat.le_of_ble_eq_true rfl) (fun p e R s m args below meth c Q C hw hB r => w_X_enact_b0 C hE hB rfl r _ tExt.rf hw hX hf)
theorem w_X_live_b126 {Γ : tX} {Nb : Nat → Nat} {K : Int32 → tS → Prop} {mc ms : Nat} (C : TC Γ cX0_live RX0 65 6542) (hE : tDyn (xad Γ)) (hB : mc ≤ (xR Γ).cells ∧ ms ≤ (xR Γ).slots) (hR : xnL Γ = 3) (r : TEi Γ Nb mc ms cX0_live K) {a1 : Int32} : ∀ (N0 : Nat → Nat) (hx : tExt Nb N0) (hw : tWf N0) (hX : N0 1025 ≠ 0) (uc : Nat) (us : Nat) (a2 : Nat) (s1 : Int32) (s2 : Int32) (S : tS), ∀ (h_a2 : N0 a2 ≠ 0 ∧ a2 % 32 = 12), X_live_b126 a1 mc ms K uc us a2 s1 s2 S → TJ Γ N0 uc us 126 [(0, .ref (xad Γ 1025)), (2, .ref (xad Γ a2))] [.int s2, .int s1, .ref (xad Γ 2480)] S := by
  intro N0 hx hw hX uc us a2 s1 s2 S h_a2 hf
  unfold X_live_b126 at hf
  refine tj_iast C 2480 5 rfl (ln_2480 hw hX) _ rfl hf.1 dX0_live_126 ?_
  replace hf := hf.2
  refine tj_topS (fun S16 eS => ?_)
  replace hf := hf S16 eS
  refine tj_aload_n C 0 rfl rfl dX0_live_127 ?_
  refine tj_iconst C kc_1 dX0_live_128 ?_
  refine pf_X0_527 C (Or.inr rfl) hX dX0_live_129 ?_
  refine tj_topS (fun S17 eS => ?_)
  replace hf := hf S17 eS
  refine tj_aload_n C 1 rfl rfl dX0_live_132 ?_
  refine gf_X0_530 C h_a2.2 h_a2.1 dX0_live_133 ?_
  exact tj_up mc ms hB hf.1 (r _ _ _ _ _ hx dX0_live_136 hf.2)
theorem w_X_live_b33 {Γ : tX} {Nb : Nat → Nat} {K : Int32 → tS → Prop} {mc ms : Nat} (C : TC Γ cX0_live RX0 65 6542) (hE : tDyn (xad Γ)) (hB : mc ≤ (xR Γ).cells ∧ ms ≤ (xR Γ).slots) (hR : xnL Γ = 3) (r : TEi Γ Nb mc ms cX0_live K) {a1 : Int32} : ∀ (N0 : Nat → Nat) (hx : tExt Nb N0) (hw : tWf N0) (hX : N0 1025 ≠ 0) (uc : Nat) (us : Nat) (s1 : Int32) (S : tS), X_live_b33 a1 mc ms K uc us s1 S → TJ Γ N0 uc us 33 [(0, .ref (xad Γ 1025)), (1, .int a1)] [.int s1, .ref (xad Γ 1025)] S := by
  intro N0 hx hw hX uc us s1 S hf
  unfold X_live_b33 at hf
  refine pf_X0_91 C hX dX0_live_33 ?_
  refine tj_topS (fun S3 eS => ?_)
  replace hf := hf S3 eS
  refine tj_aload_n C 0 rfl rfl dX0_live_36 ?_
  refine gf_X0_91 C hX dX0_live_37 ?_
  refine tj_if_le C 45 (by decide) dX0_live_40 (fun hc => ?_) (fun hc => ?_)
  · replace hf := hf.1 hc
    refine tj_hN (fun hN => ?_)
    refine tj_new C hE 12 (T := TX14) (N := 9) (by decide) (by decide) (by decide) rfl in_X14 tyX14_ok (by decide) dv_X14 q1478 q1479 q196 ⟨Nat.le_trans hf.1.1 hB.1, Nat.le_trans hf.1.2 hB.2⟩ dX0_live_45 (fun t4 N4 hN4 hx4 hw4 _ h_t4 h32 hz => ?_)
    refine tj_topS (fun S5 eS => ?_)
    replace hf := hf.2 t4 S5 (by rw [hN]; exact hz) h32 h_t4.2 eS
    have hw := hw4
    have hX := hx4.ne hX
    have hx := hx.tr hx4
    refine tj_dup C rfl dX0_live_48 ?_
    refine tj_aload_n C 0 rfl rfl dX0_live_49 ?_
    refine tj_callVa C (k := 1) [] [.ref (xad Γ t4), .ref (xad Γ t4)] (fun hN => c_X_at (by rw [hN]; exact hX) hf) lk_X0_168 ty_X0_at rfl (Nat.le_of_ble_eq_true rfl) (Nat.le_of_ble_eq_true rfl) (Nat.le_of_ble_eq_true rfl) hX rfl (by decide) rfl rfl dX0_live_50 (fun S6 hf => ?_)
    refine tj_iload_n C 1 rfl rfl dX0_live_53 ?_
    obtain ⟨c7, s8, hu7, hf⟩ := hf
    refine te_callI C [.ref (xad Γ 1222), .int a1] [.ref (xad Γ t4)] (fun hN => c_Li_init (by rw [hN]; exact ⟨h_t4.1, h_t4.2⟩) (by rw [hN]; exact ⟨(ne0 (ln_1222 hw hX)), rfl⟩) hE hf) q1482 q196 q1480 q1481 rfl ty_X14_init rfl (Nat.le_of_ble_eq_true rfl) (Nat.le_of_ble_eq_true rfl) ⟨Nat.le_trans hu7.1 hB.1, Nat.le_trans hu7.2 hB.2⟩ (Nat.le_of_ble_eq_true rfl) rfl dX0_live_54 (fun S9 _ hf _ hx7 hw7 => ?_)
    have hw := hw7
    have hX := hx7.ne hX
    have h_t4 := hx7.kd h_t4
    have hx := hx.tr hx7
    refine tj_astore_n C (by rw [hR]; decide) [(2, .ref (xad Γ t4)), (0, .ref (xad Γ 1025)), (1, .int a1)] rfl rfl dX0_live_57 ?_
    refine tj_aload_n C 1 rfl rfl dX0_live_58 ?_
    refine gf_X0_55 C hX dX0_live_59 ?_
    refine gf_X0_219 C rfl (ne0 (ln_1189 hw hX)) dX0_live_62 ?_
    refine tj_hN (fun hN => ?_)
    obtain ⟨t10, he, h_t10, hf⟩ := hf
    rw [hN] at h_t10
    refine tj_some he ?_
    refine tj_aload_n C 0 rfl rfl dX0_live_65 ?_
    obtain ⟨d, hd8, hf⟩ := hf
    refine tj_callUv C (n := 1) (k := 9) (T := TX11) (N := 3) (Cn := RX11) (owner := "CatWitness$Block") [.ref (xad Γ t4)] [] (fun hN => c_Bl_all d _ _ _ _ (by rw [hN]; exact ⟨h_t10.1, by have hk9 := h_t10.2; omega⟩) (by rw [hN]; exact ⟨h_t4.1, h_t4.2⟩) hf) (lw_U q1523 q1524 q1526 q1527 q189 q1528) rfl ⟨by decide, by decide, by decide +kernel⟩ rfl (by omega) (by omega) (Nat.le_of_ble_eq_true rfl) h_t10.1 h_t10.2 (by decide) rfl rfl dX0_live_66 (fun S11 hf => ?_)
    refine tj_aload_n C 1 rfl rfl dX0_live_69 ?_
    refine gf_X0_88 C hX dX0_live_70 ?_
    refine tj_iconst C kc_0 dX0_live_73 ?_
    refine tj_aload_n C 0 rfl rfl dX0_live_74 ?_
    refine gf_X0_513 C h_t4.2 h_t4.1 dX0_live_75 ?_
    refine tj_iast C 2480 5 rfl (ln_2480 hw hX) 0 kn_0 (vp_in_nI (by decide) (by decide)) dX0_live_78 ?_
    refine tj_topS (fun S12 eS => ?_)
    replace hf := hf S12 eS
    refine tj_aload_n C 1 rfl rfl dX0_live_79 ?_
    refine gf_X0_88 C hX dX0_live_80 ?_
    refine tj_iconst C kc_1 dX0_live_83 ?_
    refine tj_aload_n C 0 rfl rfl dX0_live_84 ?_
    refine gf_X0_516 C h_t4.2 h_t4.1 dX0_live_85 ?_
    refine tj_iast C 2480 5 rfl (ln_2480 hw hX) 1 kn_1 (vp_in_nI (by decide) (by decide)) dX0_live_88 ?_
    refine tj_topS (fun S13 eS => ?_)
    replace hf := hf S13 eS
    refine tj_aload_n C 1 rfl rfl dX0_live_89 ?_
    refine gf_X0_88 C hX dX0_live_90 ?_
    refine tj_iconst C kc_2 dX0_live_93 ?_
    refine tj_aload_n C 0 rfl rfl dX0_live_94 ?_
    refine gf_X0_517 C h_t4.2 h_t4.1 dX0_live_95 ?_
    refine tj_iast C 2480 5 rfl (ln_2480 hw hX) 2 kn_2 (vp_in_nI (by decide) (by decide)) dX0_live_98 ?_
    refine tj_topS (fun S14 eS => ?_)
    replace hf := hf S14 eS
    refine tj_aload_n C 1 rfl rfl dX0_live_99 ?_
    refine gf_X0_88 C hX dX0_live_100 ?_
    refine tj_iconst C kc_3 dX0_live_103 ?_
    refine tj_aload_n C 0 rfl rfl dX0_live_104 ?_
    refine gf_X0_520 C h_t4.2 h_t4.1 dX0_live_105 ?_
    refine tj_iast C 2480 5 rfl (ln_2480 hw hX) 3 kn_3 (vp_in_nI (by decide) (by decide)) dX0_live_108 ?_
    refine tj_topS (fun S15 eS => ?_)
    replace hf := hf S15 eS
    refine tj_aload_n C 1 rfl rfl dX0_live_109 ?_
    refine gf_X0_88 C hX dX0_live_110 ?_
    refine tj_iconst C kc_4 dX0_live_113 ?_
    refine tj_aload_n C 0 rfl rfl dX0_live_114 ?_
    refine gf_X0_523 C h_t4.2 h_t4.1 dX0_live_115 ?_
    refine tj_if_eq C 125 (by decide) dX0_live_118 (fun hc => ?_) (fun hc => ?_)
    · replace hf := hf.1 hc
      refine tj_iconst C kc_0 dX0_live_125 ?_
      exact tj_sub [1, 0] (w_X_live_b126 C hE hB hR r _ hx hw hX _ _ _ _ _ _ ⟨h_t4.1, h_t4.2⟩ hf) rfl
    · replace hf := hf.2 hc
      refine tj_iconst C kc_1 dX0_live_121 ?_
      refine tj_goto C 126 (by decide) dX0_live_122 ?_
      exact tj_sub [1, 0] (w_X_live_b126 C hE hB hR r _ hx hw hX _ _ _ _ _ _ ⟨h_t4.1, h_t4.2⟩ hf) rfl
  · replace hf := hf.2 hc
    refine tj_iconst C kc_m1 dX0_live_43 ?_
    exact tj_up mc ms hB hf.1 (r _ _ _ _ _ hx dX0_live_44 hf.2)
theorem w_X_live_b0 {Γ : tX} {Nb : Nat → Nat} {K : Int32 → tS → Prop} {mc ms : Nat} (C : TC Γ cX0_live RX0 65 6542) (hE : tDyn (xad Γ)) (hB : mc ≤ (xR Γ).cells ∧ ms ≤ (xR Γ).slots) (hR : xnL Γ = 3) (r : TEi Γ Nb mc ms cX0_live K) (N0 : Nat → Nat) (hx : tExt Nb N0) (hw : tWf N0) {a1 : Int32} (hX : N0 1025 ≠ 0) {S : tS} (hf : X_live a1 mc ms S K) : TJ Γ N0 0 0 0 [(0, .ref (xad Γ 1025)), (1, .int a1)] [] S := by
  unfold X_live at hf
  refine tj_aload_n C 0 rfl rfl dX0_live_0 ?_
  refine tj_iload_n C 1 rfl rfl dX0_live_1 ?_
  refine tj_i2l C dX0_live_2 ?_
  refine tj_lconst C (v := lN 0) rfl dX0_live_3 ?_
  refine tj_ldc2 C kl_X0_502 dX0_live_4 ?_
  refine tj_callSz C [.long (a1.toInt64), .long (lN 0), .long (lN 9999)] [.ref (xad Γ 1025)] (fun hN => c_X_isIn hf) lk_X0_175 ty_X0_isIn rfl (Nat.le_of_ble_eq_true rfl) (Nat.le_of_ble_eq_true rfl) (Nat.le_of_ble_eq_true rfl) rfl dX0_live_7 (fun r2 S1 hf => ?_)
  have hz_r2 := hf.1
  replace hf := hf.2
  refine tj_if_ne C 17 (by decide) dX0_live_10 (fun hc => ?_) (fun hc => ?_)
  · replace hf := hf.2 hc
    refine tj_aload_n C 0 rfl rfl dX0_live_17 ?_
    refine gf_X0_55 C hX dX0_live_18 ?_
    refine gf_X0_219 C rfl (ne0 (ln_1189 hw hX)) dX0_live_21 ?_
    refine tj_ifnonnull C 32 (by decide) dX0_live_24 (fun hc => ?_) (fun hc => ?_)
    · replace hf := hf.2 hc
      refine tj_iconst C kc_0 dX0_live_32 ?_
      exact w_X_live_b33 C hE hB hR r _ hx hw hX _ _ _ _ hf
    · replace hf := hf.1 hc
      refine tj_bipush C kb_6 dX0_live_27 ?_
      refine tj_goto C 33 (by decide) dX0_live_29 ?_
      exact w_X_live_b33 C hE hB hR r _ hx hw hX _ _ _ _ hf
  · replace hf := hf.1 hc
    refine tj_iconst C kc_1 dX0_live_13 ?_
    refine tj_goto C 33 (by decide) dX0_live_14 ?_
    exact w_X_live_b33 C hE hB hR r _ hx hw hX _ _ _ _ hf
theorem c_X_live {l : Launch} {G : tG} {ad : Nat → Nat} {A : Nat → Prop} {S : tS} {K : Int32 → tS → Prop} {mc ms : Nat} {a1 : Int32} (hX : gN S 1025 ≠ 0) (hE : tDyn ad) (hf : X_live a1 mc ms S K) : Met l yX0_live (ws_ yX0_live cX0_live 3 (some .int)) (tRe 65 6542 mc ms) (va_Pc [.ref (ad 1025), .int a1] (tPre G ad A S)) (va_Qi K (tBE G ad A (gN S)) A) mc ms A :=
  te_met_i [(0, .ref (ad 1025)), (1, .int a1)] pn_X0 rfl (Nat.le_of_ble_eq_true rfl) (fun p e R s m args below meth c Q C hw hB r => w_X_live_b0 C hE hB rfl r _ tExt.rf hw hX hf)
theorem w_X_mean_l67 {Γ : tX} {Nb : Nat → Nat} {K : Int32 → tS → Prop} {mc ms : Nat} (C : TC Γ cX0_mean RX0 65 6542) (hE : tDyn (xad Γ)) (hB : mc ≤ (xR Γ).cells ∧ ms ≤ (xR Γ).slots) (hR : xnL Γ = 6) (r : TEz Γ Nb mc ms cX0_mean K) {a1 : Int32} {a2 : Int32} : ∀ (n : Nat) (N0 : Nat → Nat) (hx : tExt Nb N0) (hw : tWf N0) (hX : N0 1025 ≠ 0) (uc : Nat) (us : Nat) (a3 : Int64) (a5 : Int32) (S : tS), X_mean_l67 a1 a2 mc ms K n uc us a3 a5 S → TJ Γ N0 uc us 67 [(0, .ref (xad Γ 1025)), (1, .int a1), (2, .int a2), (3, .long a3), (5, .int a5)] [] S := by
  intro n
  induction n with
  | zero => intro N0 hx hw hX uc us a3 a5 S hf; exact hf.elim
  | succ n ih =>
    intro N0 hx hw hX uc us a3 a5 S hf
    unfold X_mean_l67 at hf
    refine tj_iload C 4 rfl dX0_mean_67 ?_
    refine tj_iload_n C 2 rfl rfl dX0_mean_69 ?_
    refine tj_icmp_ge C 126 (by decide) dX0_mean_70 (fun hc => ?_) (fun hc => ?_)
    · replace hf := hf.1 hc
      refine tj_aload_n C 0 rfl rfl dX0_mean_126 ?_
      refine tj_lload_n C 3 rfl rfl dX0_mean_127 ?_
      refine tj_iload_n C 2 rfl rfl dX0_mean_128 ?_
      refine tj_i2l C dX0_mean_129 ?_
      refine tj_callVi C (k := 1) [.long a3, .long (a2.toInt64)] [] (fun hN => c_X_fraction (by rw [hN]; exact hX) hf) lk_X0_406 ty_X0_fraction rfl (Nat.le_of_ble_eq_true rfl) (Nat.le_of_ble_eq_true rfl) (Nat.le_of_ble_eq_true rfl) hX rfl (by decide) rfl rfl dX0_mean_130 (fun r8 S7 hf => ?_)
      refine tj_pop C rfl dX0_mean_133 ?_
      refine tj_iconst C kc_1 dX0_mean_134 ?_
      exact tj_up mc ms hB hf.1 (r _ _ _ _ _ hx dX0_mean_135 zb1 hf.2)
    · replace hf := hf.2 hc
      refine tj_aload_n C 0 rfl rfl dX0_mean_73 ?_
      refine gf_X0_66 C hX dX0_mean_74 ?_
      refine tj_aload_n C 0 rfl rfl dX0_mean_77 ?_
      refine tj_callVa C (k := 1) [] [.ref (xad Γ 1766)] (fun hN => c_X_at (by rw [hN]; exact hX) hf) lk_X0_168 ty_X0_at rfl (Nat.le_of_ble_eq_true rfl) (Nat.le_of_ble_eq_true rfl) (Nat.le_of_ble_eq_true rfl) hX rfl (by decide) rfl rfl dX0_mean_78 (fun S9 hf => ?_)
      refine tj_callVv C (k := 6) [.ref (xad Γ 1222)] [] (fun hN => c_Co_be (by rw [hN]; exact ⟨(ne0 (ln_1766 hw hX)), rfl⟩) (by rw [hN]; exact ⟨(ne0 (ln_1222 hw hX)), rfl⟩) hf) lk_X0_216 ty_X5_be rfl (Nat.le_of_ble_eq_true rfl) (Nat.le_of_ble_eq_true rfl) (Nat.le_of_ble_eq_true rfl) (ne0 (ln_1766 hw hX)) rfl (by decide) rfl rfl dX0_mean_81 (fun S10 hf => ?_)
      refine tj_aload_n C 0 rfl rfl dX0_mean_84 ?_
      refine gf_X0_55 C hX dX0_mean_85 ?_
      refine gf_X0_219 C rfl (ne0 (ln_1189 hw hX)) dX0_mean_88 ?_
      refine tj_hN (fun hN => ?_)
      obtain ⟨t11, he, h_t11, hf⟩ := hf
      rw [hN] at h_t11
      refine tj_some he ?_
      refine tj_hN (fun hN => ?_)
      refine tj_new C hE 12 (T := TX14) (N := 9) (by decide) (by decide) (by decide) rfl in_X14 tyX14_ok (by decide) dv_X14 q1478 q1479 q196 ⟨Nat.le_trans hf.1.1 hB.1, Nat.le_trans hf.1.2 hB.2⟩ dX0_mean_91 (fun t12 N12 hN12 hx12 hw12 _ h_t12 h32 hz => ?_)
      refine tj_topS (fun S13 eS => ?_)
      replace hf := hf.2 t12 S13 (by rw [hN]; exact hz) h32 h_t12.2 eS
      have hw := hw12
      have hX := hx12.ne hX
      have h_t11 := hx12.kd h_t11
      have hx := hx.tr hx12
      refine tj_dup C rfl dX0_mean_94 ?_
      refine tj_aload_n C 0 rfl rfl dX0_mean_95 ?_
      refine gf_X0_66 C hX dX0_mean_96 ?_
      refine tj_iload_n C 1 rfl rfl dX0_mean_99 ?_
      refine tj_iload C 4 rfl dX0_mean_100 ?_
      refine tj_iadd C dX0_mean_102 ?_
      obtain ⟨c14, s15, hu14, hf⟩ := hf
      refine te_callI C [.ref (xad Γ 1766), .int (a1 + a5)] [.ref (xad Γ t12), .ref (xad Γ t11)] (fun hN => c_Li_init (by rw [hN]; exact ⟨h_t12.1, h_t12.2⟩) (by rw [hN]; exact ⟨(ne0 (ln_1766 hw hX)), rfl⟩) hE hf) q1482 q196 q1480 q1481 rfl ty_X14_init rfl (Nat.le_of_ble_eq_true rfl) (Nat.le_of_ble_eq_true rfl) ⟨Nat.le_trans hu14.1 hB.1, Nat.le_trans hu14.2 hB.2⟩ (Nat.le_of_ble_eq_true rfl) rfl dX0_mean_103 (fun S16 _ hf _ hx14 hw14 => ?_)
      have hw := hw14
      have hX := hx14.ne hX
      have h_t11 := hx14.kd h_t11
      have h_t12 := hx14.kd h_t12
      have hx := hx.tr hx14
      obtain ⟨d, hd8, hf⟩ := hf
      refine tj_callUv C (n := 1) (k := 9) (T := TX11) (N := 3) (Cn := RX11) (owner := "CatWitness$Block") [.ref (xad Γ t12)] [] (fun hN => c_Bl_all d _ _ _ _ (by rw [hN]; exact ⟨h_t11.1, by have hk9 := h_t11.2; omega⟩) (by rw [hN]; exact ⟨h_t12.1, h_t12.2⟩) hf) (lw_U q1523 q1524 q1526 q1527 q189 q1528) rfl ⟨by decide, by decide, by decide +kernel⟩ rfl (by omega) (by omega) (Nat.le_of_ble_eq_true rfl) h_t11.1 h_t11.2 (by decide) rfl rfl dX0_mean_106 (fun S17 hf => ?_)
      refine tj_lload_n C 3 rfl rfl dX0_mean_109 ?_
      refine tj_aload_n C 0 rfl rfl dX0_mean_110 ?_
      refine gf_X0_66 C hX dX0_mean_111 ?_
      refine tj_callVi C (k := 6) [] [.long a3] (fun hN => c_Co_allFed (by rw [hN]; exact ⟨(ne0 (ln_1766 hw hX)), rfl⟩) hf) lk_X0_533 ty_X5_allFed rfl (Nat.le_of_ble_eq_true rfl) (Nat.le_of_ble_eq_true rfl) (Nat.le_of_ble_eq_true rfl) (ne0 (ln_1766 hw hX)) rfl (by decide) rfl rfl dX0_mean_114 (fun r19 S18 hf => ?_)
      refine tj_i2l C dX0_mean_117 ?_
      refine tj_ladd C dX0_mean_118 ?_
      refine tj_topl (fun x20 ex => ?_)
      replace hf := hf x20 ex
      refine tj_lstore_n C (by rw [hR]; decide) [(3, .long x20), (0, .ref (xad Γ 1025)), (1, .int a1), (2, .int a2), (5, .int a5)] rfl rfl dX0_mean_119 ?_
      obtain ⟨x21, ex⟩ : ∃ y : Int32, y = a5 + nI 1 := ⟨_, rfl⟩
      refine tj_iinc C (by rw [hR]; decide) 4 [(5, .int x21), (3, .long x20), (0, .ref (xad Γ 1025)), (1, .int a1), (2, .int a2)] rfl (by rw [ex]; exact ki_1 _) rfl dX0_mean_120 ?_
      replace hf := hf x21 ex
      refine tj_goto C 67 (by decide) dX0_mean_123 ?_
      exact tj_sub [2, 3, 4, 1, 0] (ih _ hx hw hX _ _ _ _ _ hf) rfl
theorem w_X_mean_b50 {Γ : tX} {Nb : Nat → Nat} {K : Int32 → tS → Prop} {mc ms : Nat} (C : TC Γ cX0_mean RX0 65 6542) (hE : tDyn (xad Γ)) (hB : mc ≤ (xR Γ).cells ∧ ms ≤ (xR Γ).slots) (hR : xnL Γ = 6) (r : TEz Γ Nb mc ms cX0_mean K) {a1 : Int32} {a2 : Int32} : ∀ (N0 : Nat → Nat) (hx : tExt Nb N0) (hw : tWf N0) (hX : N0 1025 ≠ 0) (uc : Nat) (us : Nat) (s1 : Int32) (S : tS), X_mean_b50 a1 a2 mc ms K uc us s1 S → TJ Γ N0 uc us 50 [(0, .ref (xad Γ 1025)), (1, .int a1), (2, .int a2)] [.int s1, .ref (xad Γ 1025)] S := by
  intro N0 hx hw hX uc us s1 S hf
  unfold X_mean_b50 at hf
  refine pf_X0_91 C hX dX0_mean_50 ?_
  refine tj_topS (fun S5 eS => ?_)
  replace hf := hf S5 eS
  refine tj_aload_n C 0 rfl rfl dX0_mean_53 ?_
  refine gf_X0_91 C hX dX0_mean_54 ?_
  refine tj_if_le C 62 (by decide) dX0_mean_57 (fun hc => ?_) (fun hc => ?_)
  · replace hf := hf.1 hc
    refine tj_lconst C (v := lN 0) rfl dX0_mean_62 ?_
    refine tj_topl (fun x6 ex => ?_)
    replace hf := hf x6 ex
    refine tj_lstore_n C (by rw [hR]; decide) [(3, .long x6), (0, .ref (xad Γ 1025)), (1, .int a1), (2, .int a2)] rfl rfl dX0_mean_63 ?_
    refine tj_iconst C kc_0 dX0_mean_64 ?_
    refine tj_istore C (by rw [hR]; decide) [(5, .int (nI 0)), (3, .long x6), (0, .ref (xad Γ 1025)), (1, .int a1), (2, .int a2)] rfl dX0_mean_65 ?_
    exact tj_sub [2, 3, 4, 1, 0] (hf.elim fun k hf => w_X_mean_l67 C hE hB hR r k _ hx hw hX _ _ _ _ _ hf) rfl
  · replace hf := hf.2 hc
    refine tj_iconst C kc_0 dX0_mean_60 ?_
    exact tj_up mc ms hB hf.1 (r _ _ _ _ _ hx dX0_mean_61 zb0 hf.2)
theorem w_X_mean_b30 {Γ : tX} {Nb : Nat → Nat} {K : Int32 → tS → Prop} {mc ms : Nat} (C : TC Γ cX0_mean RX0 65 6542) (hE : tDyn (xad Γ)) (hB : mc ≤ (xR Γ).cells ∧ ms ≤ (xR Γ).slots) (hR : xnL Γ = 6) (r : TEz Γ Nb mc ms cX0_mean K) {a1 : Int32} {a2 : Int32} : ∀ (N0 : Nat → Nat) (hx : tExt Nb N0) (hw : tWf N0) (hX : N0 1025 ≠ 0) (uc : Nat) (us : Nat) (S : tS), X_mean_b30 a1 a2 mc ms K uc us S → TJ Γ N0 uc us 30 [(0, .ref (xad Γ 1025)), (1, .int a1), (2, .int a2)] [.ref (xad Γ 1025)] S := by
  intro N0 hx hw hX uc us S hf
  unfold X_mean_b30 at hf
  refine tj_iconst C kc_1 dX0_mean_30 ?_
  refine tj_goto C 50 (by decide) dX0_mean_31 ?_
  exact w_X_mean_b50 C hE hB hR r _ hx hw hX _ _ _ _ hf
theorem w_X_mean_b0 {Γ : tX} {Nb : Nat → Nat} {K : Int32 → tS → Prop} {mc ms : Nat} (C : TC Γ cX0_mean RX0 65 6542) (hE : tDyn (xad Γ)) (hB : mc ≤ (xR Γ).cells ∧ ms ≤ (xR Γ).slots) (hR : xnL Γ = 6) (r : TEz Γ Nb mc ms cX0_mean K) (N0 : Nat → Nat) (hx : tExt Nb N0) (hw : tWf N0) {a1 : Int32} {a2 : Int32} (hX : N0 1025 ≠ 0) {S : tS} (hf : X_mean a1 a2 mc ms S K) : TJ Γ N0 0 0 0 [(0, .ref (xad Γ 1025)), (1, .int a1), (2, .int a2)] [] S := by
  unfold X_mean at hf
  refine tj_aload_n C 0 rfl rfl dX0_mean_0 ?_
  refine tj_iload_n C 2 rfl rfl dX0_mean_1 ?_
  refine tj_i2l C dX0_mean_2 ?_
  refine tj_lconst C (v := lN 1) rfl dX0_mean_3 ?_
  refine tj_ldc2 C kl_X0_386 dX0_mean_4 ?_
  refine tj_callSz C [.long (a2.toInt64), .long (lN 1), .long (lN 20)] [.ref (xad Γ 1025)] (fun hN => c_X_isIn hf) lk_X0_175 ty_X0_isIn rfl (Nat.le_of_ble_eq_true rfl) (Nat.le_of_ble_eq_true rfl) (Nat.le_of_ble_eq_true rfl) rfl dX0_mean_7 (fun r2 S1 hf => ?_)
  have hz_r2 := hf.1
  replace hf := hf.2
  refine tj_if_eq C 30 (by decide) dX0_mean_10 (fun hc => ?_) (fun hc => ?_)
  · replace hf := hf.1 hc
    exact w_X_mean_b30 C hE hB hR r _ hx hw hX _ _ _ hf
  · replace hf := hf.2 hc
    refine tj_iload_n C 1 rfl rfl dX0_mean_13 ?_
    refine tj_i2l C dX0_mean_14 ?_
    refine tj_lconst C (v := lN 0) rfl dX0_mean_15 ?_
    refine tj_sipush C ks_9999 dX0_mean_16 ?_
    refine tj_iload_n C 2 rfl rfl dX0_mean_19 ?_
    refine tj_isub C dX0_mean_20 ?_
    refine tj_iconst C kc_1 dX0_mean_21 ?_
    refine tj_iadd C dX0_mean_22 ?_
    refine tj_i2l C dX0_mean_23 ?_
    refine tj_callSz C [.long (a1.toInt64), .long (lN 0), .long ((((nI 9999) - a2) + (nI 1)).toInt64)] [.ref (xad Γ 1025)] (fun hN => c_X_isIn hf) lk_X0_175 ty_X0_isIn rfl (Nat.le_of_ble_eq_true rfl) (Nat.le_of_ble_eq_true rfl) (Nat.le_of_ble_eq_true rfl) rfl dX0_mean_24 (fun r4 S3 hf => ?_)
    have hz_r4 := hf.1
    replace hf := hf.2
    refine tj_if_ne C 34 (by decide) dX0_mean_27 (fun hc => ?_) (fun hc => ?_)
    · replace hf := hf.2 hc
      refine tj_aload_n C 0 rfl rfl dX0_mean_34 ?_
      refine gf_X0_55 C hX dX0_mean_35 ?_
      refine gf_X0_219 C rfl (ne0 (ln_1189 hw hX)) dX0_mean_38 ?_
      refine tj_ifnonnull C 49 (by decide) dX0_mean_41 (fun hc => ?_) (fun hc => ?_)
      · replace hf := hf.2 hc
        refine tj_iconst C kc_0 dX0_mean_49 ?_
        exact w_X_mean_b50 C hE hB hR r _ hx hw hX _ _ _ _ hf
      · replace hf := hf.1 hc
        refine tj_bipush C kb_6 dX0_mean_44 ?_
        refine tj_goto C 50 (by decide) dX0_mean_46 ?_
        exact w_X_mean_b50 C hE hB hR r _ hx hw hX _ _ _ _ hf
    · replace hf := hf.1 hc
      exact w_X_mean_b30 C hE hB hR r _ hx hw hX _ _ _ hf
theorem c_X_mean {l : Launch} {G : tG} {ad : Nat → Nat} {A : Nat → Prop} {S : tS} {K : Int32 → tS → Prop} {mc ms : Nat} {a1 : Int32} {a2 : Int32} (hX : gN S 1025 ≠ 0) (hE : tDyn ad) (hf : X_mean a1 a2 mc ms S K) : Met l yX0_mean (ws_ yX0_mean cX0_mean 6 (some .boolean)) (tRe 65 6542 mc ms) (va_Pc [.ref (ad 1025), .int a1, .int a2] (tPre G ad A S)) (va_Qi (fun r u => r &&& 1 = r ∧ K r u) (tBE G ad A (gN S)) A) mc ms A :=
  te_met_z [(0, .ref (ad 1025)), (1, .int a1), (2, .int a2)] pn_X0 rfl (Nat.le_of_ble_eq_true rfl) (fun p e R s m args below meth c Q C hw hB r => w_X_mean_b0 C hE hB rfl r _ tExt.rf hw hX hf)
