set_option maxRecDepth 100000
theorem w_X_weeks_b54 {Γ : tX} {Nb : Nat → Nat} {K : Int32 → tS → Prop} {mc ms : Nat} (C : TC Γ cX0_weeks RX0 78 9448) (hE : tDyn (xad Γ)) (hB : mc ≤ (xR Γ).cells ∧ ms ≤ (xR Γ).slots) (hR : xnL Γ = 4) (r : TEi Γ Nb mc ms cX0_weeks K) (hT : (xc Γ).exceptionTable.toList = tableOf [(13, 53, 54, 34)]) {a1 : Int32} : ∀ (N0 : Nat → Nat) (hx : tExt Nb N0) (hw : tWf N0) (hX : N0 1025 ≠ 0) (uc : Nat) (us : Nat) (S : tS), X_weeks_b54 a1 mc ms K uc us S → TJ Γ N0 uc us 54 [(0, .ref (xad Γ 1025))] [.ref (xad Γ 1123)] S := by
  intro N0 hx hw hX uc us S hf
  unfold X_weeks_b54 at hf
  refine tj_astore_n C (by rw [hR]; decide) [(2, .ref (xad Γ 1123)), (0, .ref (xad Γ 1025))] rfl rfl dX0_weeks_54 ?_
  refine tj_aload_n C 1 rfl rfl dX0_weeks_55 ?_
  refine tj_aload_n C 0 rfl rfl dX0_weeks_56 ?_
  refine tj_callVi C (k := 1) [.ref (xad Γ 1123)] [] (fun hN => c_X_faulty (by rw [hN]; exact hX) hf) lk_X0_223 ty_X0_faulty rfl (Nat.le_of_ble_eq_true rfl) (Nat.le_of_ble_eq_true rfl) (Nat.le_of_ble_eq_true rfl) hX rfl (by decide) rfl rfl dX0_weeks_57 (fun r20 S19 hf => ?_)
  exact tj_up mc ms hB hf.1 (r _ _ _ _ _ hx dX0_weeks_60 hf.2)
theorem w_X_weeks_b0 {Γ : tX} {Nb : Nat → Nat} {K : Int32 → tS → Prop} {mc ms : Nat} (C : TC Γ cX0_weeks RX0 78 9448) (hE : tDyn (xad Γ)) (hB : mc ≤ (xR Γ).cells ∧ ms ≤ (xR Γ).slots) (hR : xnL Γ = 4) (r : TEi Γ Nb mc ms cX0_weeks K) (hT : (xc Γ).exceptionTable.toList = tableOf [(13, 53, 54, 34)]) (N0 : Nat → Nat) (hx : tExt Nb N0) (hw : tWf N0) {a1 : Int32} (hX : N0 1025 ≠ 0) {S : tS} (hf : X_weeks a1 mc ms S K) : TJ Γ N0 0 0 0 [(0, .ref (xad Γ 1025)), (1, .int a1)] [] S := by
  unfold X_weeks at hf
  refine tj_aload_n C 0 rfl rfl dX0_weeks_0 ?_
  refine tj_iload_n C 1 rfl rfl dX0_weeks_1 ?_
  refine tj_sipush C ks_300 dX0_weeks_2 ?_
  refine tj_callVz C (k := 1) [.int a1, .int (nI 300)] [] (fun hN => c_X_opens (by rw [hN]; exact hX) hf) lk_X0_204 ty_X0_opens rfl (Nat.le_of_ble_eq_true rfl) (Nat.le_of_ble_eq_true rfl) (Nat.le_of_ble_eq_true rfl) hX rfl (by decide) rfl rfl dX0_weeks_5 (fun r2 S1 hf => ?_)
  have hz_r2 := hf.1
  replace hf := hf.2
  refine tj_if_ne C 13 (by decide) dX0_weeks_8 (fun hc => ?_) (fun hc => ?_)
  · replace hf := hf.2 hc
    refine tj_hN (fun hN => ?_)
    refine tj_new C hE 9 (T := TX11) (N := 3) (by decide) (by decide) (by decide) rfl in_X11 tyX11_ok (by decide) dv_X11 q982 q983 q190 ⟨Nat.le_trans hf.1.1 hB.1, Nat.le_trans hf.1.2 hB.2⟩ dX0_weeks_13 (fun t3 N3 hN3 hx3 hw3 _ h_t3 h32 hz => ?_)
    refine tj_topS (fun S4 eS => ?_)
    replace hf := hf.2 t3 S4 (by rw [hN]; exact hz) h32 h_t3.2 eS
    have hw := hw3
    have hX := hx3.ne hX
    have hx := hx.tr hx3
    refine tj_dup C rfl dX0_weeks_16 ?_
    refine tj_iconst C kc_1 dX0_weeks_17 ?_
    obtain ⟨c5, s6, hu5, hf⟩ := hf
    refine te_callI C [.int (nI 1)] [.ref (xad Γ t3)] (fun hN => c_Lo_init (by rw [hN]; exact ⟨h_t3.1, h_t3.2⟩) hE hf) q986 q190 q984 q985 rfl ty_X11_init rfl (Nat.le_of_ble_eq_true rfl) (Nat.le_of_ble_eq_true rfl) ⟨Nat.le_trans hu5.1 hB.1, Nat.le_trans hu5.2 hB.2⟩ (Nat.le_of_ble_eq_true rfl) rfl dX0_weeks_18 (fun S7 _ hf _ hx5 hw5 => ?_)
    have hw := hw5
    have hX := hx5.ne hX
    have h_t3 := hx5.kd h_t3
    have hx := hx.tr hx5
    refine tj_astore_n C (by rw [hR]; decide) [(2, .ref (xad Γ t3)), (0, .ref (xad Γ 1025)), (1, .int a1)] rfl rfl dX0_weeks_21 ?_
    refine tj_hN (fun hN => ?_)
    refine tj_new C hE 11 (T := TX7) (N := 7) (by decide) (by decide) (by decide) rfl in_X7 tyX7_ok (by decide) dv_X7 q668 q669 q182 ⟨Nat.le_trans hf.1.1 hB.1, Nat.le_trans hf.1.2 hB.2⟩ dX0_weeks_22 (fun t8 N8 hN8 hx8 hw8 _ h_t8 h32 hz => ?_)
    refine tj_topS (fun S9 eS => ?_)
    replace hf := hf.2 t8 S9 (by rw [hN]; exact hz) h32 h_t8.2 eS
    have hw := hw8
    have hX := hx8.ne hX
    have h_t3 := hx8.kd h_t3
    have hx := hx.tr hx8
    refine tj_dup C rfl dX0_weeks_25 ?_
    refine tj_aload_n C 1 rfl rfl dX0_weeks_26 ?_
    refine tj_iload_n C 2 rfl rfl dX0_weeks_27 ?_
    obtain ⟨c10, s11, hu10, hf⟩ := hf
    refine te_callI C [.ref (xad Γ 1025), .int a1] [.ref (xad Γ t8)] (fun hN => c_Rd_init (by rw [hN]; exact ⟨h_t8.1, h_t8.2⟩) (by rw [hN]; exact hX) hE hf) q672 q182 q670 q671 rfl ty_X7_init rfl (Nat.le_of_ble_eq_true rfl) (Nat.le_of_ble_eq_true rfl) ⟨Nat.le_trans hu10.1 hB.1, Nat.le_trans hu10.2 hB.2⟩ (Nat.le_of_ble_eq_true rfl) rfl dX0_weeks_28 (fun S12 _ hf _ hx10 hw10 => ?_)
    have hw := hw10
    have hX := hx10.ne hX
    have h_t3 := hx10.kd h_t3
    have h_t8 := hx10.kd h_t8
    have hx := hx.tr hx10
    refine tj_astore_n C (by rw [hR]; decide) [(3, .ref (xad Γ t8)), (2, .ref (xad Γ t3)), (0, .ref (xad Γ 1025)), (1, .int a1)] rfl rfl dX0_weeks_31 ?_
    refine tj_aload_n C 0 rfl rfl dX0_weeks_32 ?_
    refine tj_aload_n C 2 rfl rfl dX0_weeks_33 ?_
    refine tj_callVa C (k := 1) [] [.ref (xad Γ t8)] (fun hN => c_X_at (by rw [hN]; exact hX) hf) lk_X0_168 ty_X0_at rfl (Nat.le_of_ble_eq_true rfl) (Nat.le_of_ble_eq_true rfl) (Nat.le_of_ble_eq_true rfl) hX rfl (by decide) rfl rfl dX0_weeks_34 (fun S13 hf => ?_)
    refine tj_aload_n C 1 rfl rfl dX0_weeks_37 ?_
    obtain ⟨c15, s16, hu15, hf⟩ := hf
    refine te_xVv C (k := 11) [.ref (xad Γ 1222), .ref (xad Γ t3)] [] (fun hN => c_Rd_weeks (by rw [hN]; exact ⟨h_t8.1, h_t8.2⟩) (by rw [hN]; exact hX) (by rw [hN]; exact ⟨(ne0 (ln_1222 hw hX)), rfl⟩) (by rw [hN]; exact ⟨h_t3.1, by have hk9 := h_t3.2; omega⟩) hE hf) lk_X0_231 ty_X7_weeks rfl (Nat.le_of_ble_eq_true rfl) (Nat.le_of_ble_eq_true rfl) ⟨Nat.le_trans hu15.1 hB.1, Nat.le_trans hu15.2 hB.2⟩ (Nat.le_of_ble_eq_true rfl) h_t8.1 h_t8.2 (by decide) rfl rfl dX0_weeks_38 (fun S17 _ hf _ hx15 hw15 => ?_) (fun S14 _ hf _ hx15 hw15 => ?_)
    · have hw := hw15
      have hX := hx15.ne hX
      have h_t3 := hx15.kd h_t3
      have h_t8 := hx15.kd h_t8
      have hx := hx.tr hx15
      refine tj_catch C [] ⟨13, 53, 54, 34⟩ [] hT (fun z hz => nomatch hz) (by decide) (by decide) q216 q218 ?_
      exact tj_sub [2] (w_X_weeks_b54 C hE hB hR r hT _ hx hw hX _ _ _ hf) rfl
    · have hw := hw15
      have hX := hx15.ne hX
      have h_t3 := hx15.kd h_t3
      have h_t8 := hx15.kd h_t8
      have hx := hx.tr hx15
      refine tj_aload_n C 2 rfl rfl dX0_weeks_41 ?_
      refine gf_X0_55 C hX dX0_weeks_42 ?_
      refine tj_aload_n C 1 rfl rfl dX0_weeks_45 ?_
      refine pf_X0_219 C (x := some t3) rfl (ne0 (ln_1189 hw hX)) dX0_weeks_46 ?_
      refine tj_topS (fun S18 eS => ?_)
      replace hf := hf S18 eS
      refine tj_aload_n C 0 rfl rfl dX0_weeks_49 ?_
      refine gf_X0_234 C h_t8.2 h_t8.1 dX0_weeks_50 ?_
      exact tj_up mc ms hB hf.1 (r _ _ _ _ _ hx dX0_weeks_53 hf.2)
  · replace hf := hf.1 hc
    refine tj_iconst C kc_m1 dX0_weeks_11 ?_
    exact tj_up mc ms hB hf.1 (r _ _ _ _ _ hx dX0_weeks_12 hf.2)
theorem c_X_weeks {l : Launch} {G : tG} {ad : Nat → Nat} {A : Nat → Prop} {S : tS} {K : Int32 → tS → Prop} {mc ms : Nat} {a1 : Int32} (hX : gN S 1025 ≠ 0) (hE : tDyn ad) (hf : X_weeks a1 mc ms S K) : vx_Met l yX0_weeks (wsW_ yX0_weeks cX0_weeks 4 (some .int) [(13, 53, 54, 34)]) (tRe 78 9448 mc ms) (va_Pc [.ref (ad 1025), .int a1] (tPre G ad A S)) (va_Qi K (tBE G ad A (gN S)) A) (vx_X (fun _ => False) (tBXE G ad A (gN S) RX2 1123) A) mc ms A :=
  te_xmetW_i [(0, .ref (ad 1025)), (1, .int a1)] pn_X0 rfl (Nat.le_of_ble_eq_true rfl) (fun p e R s m args below meth c Q C hw hB hT r => w_X_weeks_b0 C hE hB rfl r hT _ tExt.rf hw hX hf)
theorem w_X_court_b55 {Γ : tX} {Nb : Nat → Nat} {K : Int32 → tS → Prop} {mc ms : Nat} (C : TC Γ cX0_court RX0 11 250) (hE : tDyn (xad Γ)) (hB : mc ≤ (xR Γ).cells ∧ ms ≤ (xR Γ).slots) (hR : xnL Γ = 3) (r : TEi Γ Nb mc ms cX0_court K) (hT : (xc Γ).exceptionTable.toList = tableOf [(13, 54, 55, 34)]) {a1 : Int32} : ∀ (N0 : Nat → Nat) (hx : tExt Nb N0) (hw : tWf N0) (hX : N0 1025 ≠ 0) (uc : Nat) (us : Nat) (S : tS), X_court_b55 a1 mc ms K uc us S → TJ Γ N0 uc us 55 [(0, .ref (xad Γ 1025))] [.ref (xad Γ 1123)] S := by
  intro N0 hx hw hX uc us S hf
  unfold X_court_b55 at hf
  refine tj_astore_n C (by rw [hR]; decide) [(2, .ref (xad Γ 1123)), (0, .ref (xad Γ 1025))] rfl rfl dX0_court_55 ?_
  refine tj_aload_n C 1 rfl rfl dX0_court_56 ?_
  refine tj_aload_n C 0 rfl rfl dX0_court_57 ?_
  refine tj_callVi C (k := 1) [.ref (xad Γ 1123)] [] (fun hN => c_X_faulty (by rw [hN]; exact hX) hf) lk_X0_223 ty_X0_faulty rfl (Nat.le_of_ble_eq_true rfl) (Nat.le_of_ble_eq_true rfl) (Nat.le_of_ble_eq_true rfl) hX rfl (by decide) rfl rfl dX0_court_58 (fun r18 S17 hf => ?_)
  exact tj_up mc ms hB hf.1 (r _ _ _ _ _ hx dX0_court_61 hf.2)
theorem w_X_court_b0 {Γ : tX} {Nb : Nat → Nat} {K : Int32 → tS → Prop} {mc ms : Nat} (C : TC Γ cX0_court RX0 11 250) (hE : tDyn (xad Γ)) (hB : mc ≤ (xR Γ).cells ∧ ms ≤ (xR Γ).slots) (hR : xnL Γ = 3) (r : TEi Γ Nb mc ms cX0_court K) (hT : (xc Γ).exceptionTable.toList = tableOf [(13, 54, 55, 34)]) (N0 : Nat → Nat) (hx : tExt Nb N0) (hw : tWf N0) {a1 : Int32} (hX : N0 1025 ≠ 0) {S : tS} (hf : X_court a1 mc ms S K) : TJ Γ N0 0 0 0 [(0, .ref (xad Γ 1025)), (1, .int a1)] [] S := by
  unfold X_court at hf
  refine tj_aload_n C 0 rfl rfl dX0_court_0 ?_
  refine tj_iload_n C 1 rfl rfl dX0_court_1 ?_
  refine tj_sipush C ks_900 dX0_court_2 ?_
  refine tj_callVz C (k := 1) [.int a1, .int (nI 900)] [] (fun hN => c_X_opens (by rw [hN]; exact hX) hf) lk_X0_204 ty_X0_opens rfl (Nat.le_of_ble_eq_true rfl) (Nat.le_of_ble_eq_true rfl) (Nat.le_of_ble_eq_true rfl) hX rfl (by decide) rfl rfl dX0_court_5 (fun r2 S1 hf => ?_)
  have hz_r2 := hf.1
  replace hf := hf.2
  refine tj_if_ne C 13 (by decide) dX0_court_8 (fun hc => ?_) (fun hc => ?_)
  · replace hf := hf.2 hc
    refine tj_hN (fun hN => ?_)
    refine tj_newCourt C hE q445 q446 (Nat.le_of_ble_eq_true rfl) (Nat.le_of_ble_eq_true rfl) (Nat.le_of_ble_eq_true rfl) ⟨Nat.le_trans hf.1.1 hB.1, Nat.le_trans hf.1.2 hB.2⟩ dX0_court_13 dX0_court_16 dX0_court_17 (fun t3 N3 hN3 hx3 hw3 h_t3 h32 hz => ?_)
    refine tj_topS (fun S4 eS => ?_)
    replace hf := hf.2 t3 S4 h32 h_t3.2 (by rw [hN]; exact hz) eS
    have hw := hw3
    have hX := hx3.ne hX
    have hx := hx.tr hx3
    refine tj_astore_n C (by rw [hR]; decide) [(2, .ref (xad Γ t3)), (0, .ref (xad Γ 1025)), (1, .int a1)] rfl rfl dX0_court_20 ?_
    refine tj_hN (fun hN => ?_)
    refine tj_new C hE 11 (T := TX7) (N := 7) (by decide) (by decide) (by decide) rfl in_X7 tyX7_ok (by decide) dv_X7 q668 q669 q182 ⟨Nat.le_trans hf.1.1 hB.1, Nat.le_trans hf.1.2 hB.2⟩ dX0_court_21 (fun t5 N5 hN5 hx5 hw5 _ h_t5 h32 hz => ?_)
    refine tj_topS (fun S6 eS => ?_)
    replace hf := hf.2 t5 S6 (by rw [hN]; exact hz) h32 h_t5.2 eS
    have hw := hw5
    have hX := hx5.ne hX
    have h_t3 := hx5.kd h_t3
    have hx := hx.tr hx5
    refine tj_dup C rfl dX0_court_24 ?_
    refine tj_aload_n C 1 rfl rfl dX0_court_25 ?_
    refine tj_iload_n C 2 rfl rfl dX0_court_26 ?_
    obtain ⟨c7, s8, hu7, hf⟩ := hf
    refine te_callI C [.ref (xad Γ 1025), .int a1] [.ref (xad Γ t5)] (fun hN => c_Rd_init (by rw [hN]; exact ⟨h_t5.1, h_t5.2⟩) (by rw [hN]; exact hX) hE hf) q672 q182 q670 q671 rfl ty_X7_init rfl (Nat.le_of_ble_eq_true rfl) (Nat.le_of_ble_eq_true rfl) ⟨Nat.le_trans hu7.1 hB.1, Nat.le_trans hu7.2 hB.2⟩ (Nat.le_of_ble_eq_true rfl) rfl dX0_court_27 (fun S9 _ hf _ hx7 hw7 => ?_)
    have hw := hw7
    have hX := hx7.ne hX
    have h_t3 := hx7.kd h_t3
    have h_t5 := hx7.kd h_t5
    have hx := hx.tr hx7
    refine tj_aload_n C 0 rfl rfl dX0_court_30 ?_
    obtain ⟨c11, s12, hu11, hf⟩ := hf
    refine te_xVv C (k := 11) [.ref (xad Γ t3)] [] (fun hN => c_Rd_court (by rw [hN]; exact ⟨h_t5.1, h_t5.2⟩) (by rw [hN]; exact hX) (by rw [hN]; exact ⟨h_t3.1, h_t3.2⟩) hE hf) lk_X0_213 ty_X7_court rfl (Nat.le_of_ble_eq_true rfl) (Nat.le_of_ble_eq_true rfl) ⟨Nat.le_trans hu11.1 hB.1, Nat.le_trans hu11.2 hB.2⟩ (Nat.le_of_ble_eq_true rfl) h_t5.1 h_t5.2 (by decide) rfl rfl dX0_court_31 (fun S13 _ hf _ hx11 hw11 => ?_) (fun S10 _ hf _ hx11 hw11 => ?_)
    · have hw := hw11
      have hX := hx11.ne hX
      have h_t3 := hx11.kd h_t3
      have h_t5 := hx11.kd h_t5
      have hx := hx.tr hx11
      refine tj_catch C [] ⟨13, 54, 55, 34⟩ [] hT (fun z hz => nomatch hz) (by decide) (by decide) q216 q218 ?_
      exact tj_sub [1] (w_X_court_b55 C hE hB hR r hT _ hx hw hX _ _ _ hf) rfl
    · have hw := hw11
      have hX := hx11.ne hX
      have h_t3 := hx11.kd h_t3
      have h_t5 := hx11.kd h_t5
      have hx := hx.tr hx11
      refine tj_aload_n C 1 rfl rfl dX0_court_34 ?_
      refine tj_callVa C (k := 1) [] [] (fun hN => c_X_at (by rw [hN]; exact hX) hf) lk_X0_168 ty_X0_at rfl (Nat.le_of_ble_eq_true rfl) (Nat.le_of_ble_eq_true rfl) (Nat.le_of_ble_eq_true rfl) hX rfl (by decide) rfl rfl dX0_court_35 (fun S14 hf => ?_)
      refine tj_aload_n C 0 rfl rfl dX0_court_38 ?_
      refine tj_callVv C (k := 6) [.ref (xad Γ t3)] [] (fun hN => c_Co_be (by rw [hN]; exact ⟨(ne0 (ln_1222 hw hX)), rfl⟩) (by rw [hN]; exact ⟨h_t3.1, h_t3.2⟩) hf) lk_X0_216 ty_X5_be rfl (Nat.le_of_ble_eq_true rfl) (Nat.le_of_ble_eq_true rfl) (Nat.le_of_ble_eq_true rfl) (ne0 (ln_1222 hw hX)) rfl (by decide) rfl rfl dX0_court_39 (fun S15 hf => ?_)
      refine tj_aload_n C 1 rfl rfl dX0_court_42 ?_
      refine gf_X0_55 C hX dX0_court_43 ?_
      refine tj_null C dX0_court_46 ?_
      refine pf_X0_219 C (x := none) rfl (ne0 (ln_1189 hw hX)) dX0_court_47 ?_
      refine tj_topS (fun S16 eS => ?_)
      replace hf := hf S16 eS
      refine tj_aload_n C 0 rfl rfl dX0_court_50 ?_
      refine gf_X0_185 C h_t3.2 h_t3.1 dX0_court_51 ?_
      exact tj_up mc ms hB hf.1 (r _ _ _ _ _ hx dX0_court_54 hf.2)
  · replace hf := hf.1 hc
    refine tj_iconst C kc_m1 dX0_court_11 ?_
    exact tj_up mc ms hB hf.1 (r _ _ _ _ _ hx dX0_court_12 hf.2)
theorem c_X_court {l : Launch} {G : tG} {ad : Nat → Nat} {A : Nat → Prop} {S : tS} {K : Int32 → tS → Prop} {mc ms : Nat} {a1 : Int32} (hX : gN S 1025 ≠ 0) (hE : tDyn ad) (hf : X_court a1 mc ms S K) : vx_Met l yX0_court (wsW_ yX0_court cX0_court 3 (some .int) [(13, 54, 55, 34)]) (tRe 11 250 mc ms) (va_Pc [.ref (ad 1025), .int a1] (tPre G ad A S)) (va_Qi K (tBE G ad A (gN S)) A) (vx_X (fun _ => False) (tBXE G ad A (gN S) RX2 1123) A) mc ms A :=
  te_xmetW_i [(0, .ref (ad 1025)), (1, .int a1)] pn_X0 rfl (Nat.le_of_ble_eq_true rfl) (fun p e R s m args below meth c Q C hw hB hT r => w_X_court_b0 C hE hB rfl r hT _ tExt.rf hw hX hf)
theorem w_X_mark_b54 {Γ : tX} {Nb : Nat → Nat} {K : Int32 → tS → Prop} {mc ms : Nat} (C : TC Γ cX0_mark RX0 4 123) (hE : tDyn (xad Γ)) (hB : mc ≤ (xR Γ).cells ∧ ms ≤ (xR Γ).slots) (hR : xnL Γ = 1) (r : TEi Γ Nb mc ms cX0_mark K) : ∀ (N0 : Nat → Nat) (hx : tExt Nb N0) (hw : tWf N0) (hX : N0 1025 ≠ 0) (uc : Nat) (us : Nat) (S : tS), X_mark_b54 mc ms K uc us S → TJ Γ N0 uc us 54 [(0, .ref (xad Γ 1025))] [] S := by
  intro N0 hx hw hX uc us S hf
  unfold X_mark_b54 at hf
  refine tj_aload_n C 0 rfl rfl dX0_mark_54 ?_
  refine gf_X0_59 C hX dX0_mark_55 ?_
  refine tj_aload_n C 0 rfl rfl dX0_mark_58 ?_
  refine gf_X0_536 C hX dX0_mark_59 ?_
  refine tj_aald22 C 1750 3 rfl (ln_1750 hw hX) _ rfl hf.1 dX0_mark_62 ?_
  replace hf := hf.2
  refine tj_hN (fun hN => ?_)
  obtain ⟨t5, he, h_t5, hf⟩ := hf
  rw [hN] at h_t5
  refine tj_some he ?_
  refine tj_aload_n C 0 rfl rfl dX0_mark_63 ?_
  refine gf_X0_55 C hX dX0_mark_64 ?_
  refine tj_callVv C (k := 5) [.ref (xad Γ 1189)] [] (fun hN => c_Ho_be (by rw [hN]; exact ⟨h_t5.1, h_t5.2⟩) (by rw [hN]; exact ⟨(ne0 (ln_1189 hw hX)), rfl⟩) hf) lk_X0_539 ty_X4_be rfl (Nat.le_of_ble_eq_true rfl) (Nat.le_of_ble_eq_true rfl) (Nat.le_of_ble_eq_true rfl) h_t5.1 h_t5.2 (by decide) rfl rfl dX0_mark_67 (fun S6 hf => ?_)
  refine tj_aload_n C 0 rfl rfl dX0_mark_70 ?_
  refine tj_dup C rfl dX0_mark_71 ?_
  refine gf_X0_536 C hX dX0_mark_72 ?_
  refine tj_iconst C kc_1 dX0_mark_75 ?_
  refine tj_iadd C dX0_mark_76 ?_
  refine pf_X0_536 C hX dX0_mark_77 ?_
  refine tj_topS (fun S7 eS => ?_)
  replace hf := hf S7 eS
  refine tj_aload_n C 0 rfl rfl dX0_mark_80 ?_
  refine gf_X0_536 C hX dX0_mark_81 ?_
  exact tj_up mc ms hB hf.1 (r _ _ _ _ _ hx dX0_mark_84 hf.2)
theorem w_X_mark_b14 {Γ : tX} {Nb : Nat → Nat} {K : Int32 → tS → Prop} {mc ms : Nat} (C : TC Γ cX0_mark RX0 4 123) (hE : tDyn (xad Γ)) (hB : mc ≤ (xR Γ).cells ∧ ms ≤ (xR Γ).slots) (hR : xnL Γ = 1) (r : TEi Γ Nb mc ms cX0_mark K) : ∀ (N0 : Nat → Nat) (hx : tExt Nb N0) (hw : tWf N0) (hX : N0 1025 ≠ 0) (uc : Nat) (us : Nat) (s1 : Int32) (S : tS), X_mark_b14 mc ms K uc us s1 S → TJ Γ N0 uc us 14 [(0, .ref (xad Γ 1025))] [.int s1, .ref (xad Γ 1025)] S := by
  intro N0 hx hw hX uc us s1 S hf
  unfold X_mark_b14 at hf
  refine pf_X0_91 C hX dX0_mark_14 ?_
  refine tj_topS (fun S1 eS => ?_)
  replace hf := hf S1 eS
  refine tj_aload_n C 0 rfl rfl dX0_mark_17 ?_
  refine gf_X0_91 C hX dX0_mark_18 ?_
  refine tj_if_le C 26 (by decide) dX0_mark_21 (fun hc => ?_) (fun hc => ?_)
  · replace hf := hf.1 hc
    refine tj_aload_n C 0 rfl rfl dX0_mark_26 ?_
    refine gf_X0_59 C hX dX0_mark_27 ?_
    refine tj_aload_n C 0 rfl rfl dX0_mark_30 ?_
    refine gf_X0_536 C hX dX0_mark_31 ?_
    refine tj_aald22 C 1750 3 rfl (ln_1750 hw hX) _ rfl hf.1 dX0_mark_34 ?_
    replace hf := hf.2
    refine tj_ifnonnull C 54 (by decide) dX0_mark_35 (fun hc => ?_) (fun hc => ?_)
    · replace hf := hf.2 hc
      exact w_X_mark_b54 C hE hB hR r _ hx hw hX _ _ _ hf
    · replace hf := hf.1 hc
      refine tj_aload_n C 0 rfl rfl dX0_mark_38 ?_
      refine gf_X0_59 C hX dX0_mark_39 ?_
      refine tj_aload_n C 0 rfl rfl dX0_mark_42 ?_
      refine gf_X0_536 C hX dX0_mark_43 ?_
      refine tj_hN (fun hN => ?_)
      refine tj_newHouse C hE q306 q308 (Nat.le_of_ble_eq_true rfl) (Nat.le_of_ble_eq_true rfl) (Nat.le_of_ble_eq_true rfl) ⟨Nat.le_trans hf.1.1 hB.1, Nat.le_trans hf.1.2 hB.2⟩ dX0_mark_46 dX0_mark_49 dX0_mark_50 (fun t2 N2 hN2 hx2 hw2 h_t2 h32 hz => ?_)
      refine tj_topS (fun S3 eS => ?_)
      replace hf := hf.2 t2 S3 h32 h_t2.2 (by rw [hN]; exact hz) eS
      have hw := hw2
      have hX := hx2.ne hX
      have hx := hx.tr hx2
      refine tj_aast22 C 1750 3 t2 rfl ⟨h_t2.1, h_t2.2⟩ (ln_1750 hw hX) _ rfl hf.1 dX0_mark_53 ?_
      replace hf := hf.2
      refine tj_topS (fun S4 eS => ?_)
      replace hf := hf S4 eS
      exact w_X_mark_b54 C hE hB hR r _ hx hw hX _ _ _ hf
  · replace hf := hf.2 hc
    refine tj_iconst C kc_m1 dX0_mark_24 ?_
    exact tj_up mc ms hB hf.1 (r _ _ _ _ _ hx dX0_mark_25 hf.2)
theorem w_X_mark_b0 {Γ : tX} {Nb : Nat → Nat} {K : Int32 → tS → Prop} {mc ms : Nat} (C : TC Γ cX0_mark RX0 4 123) (hE : tDyn (xad Γ)) (hB : mc ≤ (xR Γ).cells ∧ ms ≤ (xR Γ).slots) (hR : xnL Γ = 1) (r : TEi Γ Nb mc ms cX0_mark K) (N0 : Nat → Nat) (hx : tExt Nb N0) (hw : tWf N0) (hX : N0 1025 ≠ 0) {S : tS} (hf : X_mark mc ms S K) : TJ Γ N0 0 0 0 [(0, .ref (xad Γ 1025))] [] S := by
  unfold X_mark at hf
  refine tj_aload_n C 0 rfl rfl dX0_mark_0 ?_
  refine tj_aload_n C 0 rfl rfl dX0_mark_1 ?_
  refine gf_X0_536 C hX dX0_mark_2 ?_
  refine tj_iconst C kc_3 dX0_mark_5 ?_
  refine tj_icmp_ne C 13 (by decide) dX0_mark_6 (fun hc => ?_) (fun hc => ?_)
  · replace hf := hf.2 hc
    refine tj_iconst C kc_0 dX0_mark_13 ?_
    exact w_X_mark_b14 C hE hB hR r _ hx hw hX _ _ _ _ hf
  · replace hf := hf.1 hc
    refine tj_iconst C kc_4 dX0_mark_9 ?_
    refine tj_goto C 14 (by decide) dX0_mark_10 ?_
    exact w_X_mark_b14 C hE hB hR r _ hx hw hX _ _ _ _ hf
theorem c_X_mark {l : Launch} {G : tG} {ad : Nat → Nat} {A : Nat → Prop} {S : tS} {K : Int32 → tS → Prop} {mc ms : Nat} (hX : gN S 1025 ≠ 0) (hE : tDyn ad) (hf : X_mark mc ms S K) : Met l yX0_mark (ws_ yX0_mark cX0_mark 1 (some .int)) (tRe 4 123 mc ms) (va_Pc [.ref (ad 1025)] (tPre G ad A S)) (va_Qi K (tBE G ad A (gN S)) A) mc ms A :=
  te_met_i [(0, .ref (ad 1025))] pn_X0 rfl (Nat.le_of_ble_eq_true rfl) (fun p e R s m args below meth c Q C hw hB r => w_X_mark_b0 C hE hB rfl r _ tExt.rf hw hX hf)
