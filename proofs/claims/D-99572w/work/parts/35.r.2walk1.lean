set_option maxRecDepth 100000
theorem w_Rd_behind_b0 {Γ : tX} {N0 : Nat → Nat} {K : Int32 → tS → Prop} (C : TC Γ cX7_behind RX7 6 128) (hw : tWf N0) (hR : xnL Γ = 4) (r : TRi Γ N0 cX7_behind K) {t0 : Nat} {a1 : Nat} {a2 : Int32} {a3 : Int32} (h_t0 : N0 t0 ≠ 0 ∧ t0 % 32 = 11) (hX : N0 1025 ≠ 0) (h_a1 : a1 < nST) {KX : tS → Prop} (rx : TRX Γ N0 RX2 1123 KX) {S : tS} (hf : Rd_behind t0 a1 a2 a3 S K KX) : TJ Γ N0 0 0 0 [(0, .ref (xad Γ t0)), (1, .ref (xK Γ a1)), (2, .int a2), (3, .int a3)] [] S := by
  unfold Rd_behind at hf
  refine tj_aload_n C 0 rfl rfl dX7_behind_0 ?_
  refine tj_aload_n C 1 rfl rfl dX7_behind_1 ?_
  refine tj_xVv C (k := 11) [.ref (xK Γ a1)] [] (fun hN => c_Rd_word (by rw [hN]; exact ⟨h_t0.1, h_t0.2⟩) (by rw [hN]; exact hX) h_a1 hf) lk_X7_76 ty_X7_word rfl (Nat.le_of_ble_eq_true rfl) (Nat.le_of_ble_eq_true rfl) (Nat.le_of_ble_eq_true rfl) h_t0.1 h_t0.2 (by decide) rfl rfl dX7_behind_2 (fun S2 hf => ?_) (fun S1 hf => ?_)
  · exact rx _ _ _ hf
  · refine tj_aload_n C 0 rfl rfl dX7_behind_5 ?_
    refine tj_iload_n C 2 rfl rfl dX7_behind_6 ?_
    refine tj_iload_n C 3 rfl rfl dX7_behind_7 ?_
    refine tj_xVi C (k := 11) [.int a2, .int a3] [] (fun hN => c_Rd_number (by rw [hN]; exact ⟨h_t0.1, h_t0.2⟩) (by rw [hN]; exact hX) hf) lk_X7_80 ty_X7_number rfl (Nat.le_of_ble_eq_true rfl) (Nat.le_of_ble_eq_true rfl) (Nat.le_of_ble_eq_true rfl) h_t0.1 h_t0.2 (by decide) rfl rfl dX7_behind_8 (fun S4 hf => ?_) (fun r5 S3 hf => ?_)
    · exact rx _ _ _ hf
    · exact r _ _ _ _ dX7_behind_11 hf
theorem c_Rd_behind {l : Launch} {G : tG} {ad : Nat → Nat} {A : Nat → Prop} {S : tS} {K : Int32 → tS → Prop} {KX : tS → Prop} {t0 : Nat} {a1 : Nat} {a2 : Int32} {a3 : Int32} (h_t0 : gN S t0 ≠ 0 ∧ t0 % 32 = 11) (hX : gN S 1025 ≠ 0) (h_a1 : a1 < nST) (hf : Rd_behind t0 a1 a2 a3 S K KX) : vx_Met l yX7_behind (ws_ yX7_behind cX7_behind 4 (some .int)) (tRm 6 128) (va_Pc [.ref (ad t0), .ref (G.2.2.1 a1), .int a2, .int a3] (tPre G ad A S)) (va_Qi K (tB G ad A (gN S)) A) (vx_X KX (tBX G ad A (gN S) RX2 1123) A) 0 0 A :=
  tj_xmet_i [(0, .ref (ad t0)), (1, .ref (G.2.2.1 a1)), (2, .int a2), (3, .int a3)] pn_X7 rfl (Nat.le_of_ble_eq_true rfl) (fun p e R s m args below meth c Q C hw r rx => w_Rd_behind_b0 C hw rfl r h_t0 hX h_a1 rx hf)
theorem w_Rd_newReader_b18 {Γ : tX} {N0 : Nat → Nat} {K : tS → Prop} (C : TC Γ cX7_newReader RX7 9 195) (hw : tWf N0) (hR : xnL Γ = 5) (r : TRv Γ N0 cX7_newReader K) {t0 : Nat} {a1 : Nat} (h_t0 : N0 t0 ≠ 0 ∧ t0 % 32 = 11) (hX : N0 1025 ≠ 0) (h_a1 : N0 a1 ≠ 0 ∧ a1 % 32 = 6) {KX : tS → Prop} (rx : TRX Γ N0 RX2 1123 KX) {a2 : Int32} {s2 : Int32} {S : tS} (hf : Rd_newReader_b18 t0 a1 K KX a2 s2 S) : TJ Γ N0 0 0 18 [(0, .ref (xad Γ t0)), (1, .ref (xad Γ a1)), (2, .int a2)] [.int s2, .ref (xad Γ a1), .ref (xad Γ t0)] S := by
  unfold Rd_newReader_b18 at hf
  refine tj_xVl C (k := 11) [.ref (xad Γ a1), .int s2] [] (fun hN => c_Rd_fresh (by rw [hN]; exact ⟨h_t0.1, h_t0.2⟩) (by rw [hN]; exact hX) (by rw [hN]; exact ⟨h_a1.1, h_a1.2⟩) hf) lk_X7_211 ty_X7_fresh rfl (Nat.le_of_ble_eq_true rfl) (Nat.le_of_ble_eq_true rfl) (Nat.le_of_ble_eq_true rfl) h_t0.1 h_t0.2 (by decide) rfl rfl dX7_newReader_18 (fun S3 hf => ?_) (fun r4 S2 hf => ?_)
  · exact rx _ _ _ hf
  · refine tj_lstore_n C (by rw [hR]; decide) [(3, .long r4), (0, .ref (xad Γ t0)), (1, .ref (xad Γ a1)), (2, .int a2)] rfl rfl dX7_newReader_21 ?_
    refine tj_aload_n C 2 rfl rfl dX7_newReader_22 ?_
    refine gf_X7_272 C h_a1.2 h_a1.1 dX7_newReader_23 ?_
    refine tj_iload_n C 3 rfl rfl dX7_newReader_26 ?_
    refine tj_aload_n C 1 rfl rfl dX7_newReader_27 ?_
    refine tj_ldcS C 24 rfl dX7_newReader_28 ?_
    refine tj_iconst C kc_0 dX7_newReader_30 ?_
    refine tj_bipush C kb_16 dX7_newReader_31 ?_
    refine tj_xVi C (k := 11) [.ref (xK Γ 24), .int (nI 0), .int (nI 16)] [.int a2, .ref (xad Γ (a1 + 362))] (fun hN => c_Rd_behind (by rw [hN]; exact ⟨h_t0.1, h_t0.2⟩) (by rw [hN]; exact hX) (by decide) hf) lk_X7_275 ty_X7_behind rfl (Nat.le_of_ble_eq_true rfl) (Nat.le_of_ble_eq_true rfl) (Nat.le_of_ble_eq_true rfl) h_t0.1 h_t0.2 (by decide) rfl rfl dX7_newReader_33 (fun S6 hf => ?_) (fun r7 S5 hf => ?_)
    · exact rx _ _ _ hf
    · refine tj_iast C (a1 + 362) 6 (by have := h_a1.2; omega) (lnc_362 hw h_a1.2 h_a1.1) _ rfl hf.1 dX7_newReader_36 ?_
      replace hf := hf.2
      refine tj_topS (fun S8 eS => ?_)
      replace hf := hf S8 eS
      refine tj_aload_n C 2 rfl rfl dX7_newReader_37 ?_
      refine gf_X7_278 C h_a1.2 h_a1.1 dX7_newReader_38 ?_
      refine tj_iload_n C 3 rfl rfl dX7_newReader_41 ?_
      refine tj_aload_n C 1 rfl rfl dX7_newReader_42 ?_
      refine tj_ldcS C 25 rfl dX7_newReader_43 ?_
      refine tj_iconst C kc_1 dX7_newReader_45 ?_
      refine tj_bipush C kb_9 dX7_newReader_46 ?_
      refine tj_xVi C (k := 11) [.ref (xK Γ 25), .int (nI 1), .int (nI 9)] [.int a2, .ref (xad Γ (a1 + 394))] (fun hN => c_Rd_behind (by rw [hN]; exact ⟨h_t0.1, h_t0.2⟩) (by rw [hN]; exact hX) (by decide) hf) lk_X7_275 ty_X7_behind rfl (Nat.le_of_ble_eq_true rfl) (Nat.le_of_ble_eq_true rfl) (Nat.le_of_ble_eq_true rfl) h_t0.1 h_t0.2 (by decide) rfl rfl dX7_newReader_48 (fun S10 hf => ?_) (fun r11 S9 hf => ?_)
      · exact rx _ _ _ hf
      · refine tj_iast C (a1 + 394) 6 (by have := h_a1.2; omega) (lnc_394 hw h_a1.2 h_a1.1) _ rfl hf.1 dX7_newReader_51 ?_
        replace hf := hf.2
        refine tj_topS (fun S12 eS => ?_)
        replace hf := hf S12 eS
        refine tj_aload_n C 2 rfl rfl dX7_newReader_52 ?_
        refine gf_X7_280 C h_a1.2 h_a1.1 dX7_newReader_53 ?_
        refine tj_hN (fun hN => ?_)
        obtain ⟨t13, he, h_t13, hf⟩ := hf
        rw [hN] at h_t13
        refine tj_some he ?_
        refine tj_iload_n C 3 rfl rfl dX7_newReader_56 ?_
        refine tj_lload_n C 0 rfl rfl dX7_newReader_57 ?_
        refine tj_lastd C t13 h_t13.2 h_t13.1 _ rfl hf.1 dX7_newReader_58 ?_
        replace hf := hf.2
        refine tj_topS (fun S14 eS => ?_)
        replace hf := hf S14 eS
        refine tj_aload_n C 2 rfl rfl dX7_newReader_59 ?_
        refine tj_dup C rfl dX7_newReader_60 ?_
        refine gf_X7_269 C h_a1.2 h_a1.1 dX7_newReader_61 ?_
        refine tj_iconst C kc_1 dX7_newReader_64 ?_
        refine tj_iadd C dX7_newReader_65 ?_
        refine pf_X7_269 C h_a1.2 h_a1.1 dX7_newReader_66 ?_
        refine tj_topS (fun S15 eS => ?_)
        replace hf := hf S15 eS
        exact r _ _ _ dX7_newReader_69 hf
theorem w_Rd_newReader_b0 {Γ : tX} {N0 : Nat → Nat} {K : tS → Prop} (C : TC Γ cX7_newReader RX7 9 195) (hw : tWf N0) (hR : xnL Γ = 5) (r : TRv Γ N0 cX7_newReader K) {t0 : Nat} {a1 : Nat} (h_t0 : N0 t0 ≠ 0 ∧ t0 % 32 = 11) (hX : N0 1025 ≠ 0) (h_a1 : N0 a1 ≠ 0 ∧ a1 % 32 = 6) {KX : tS → Prop} (rx : TRX Γ N0 RX2 1123 KX) {S : tS} (hf : Rd_newReader t0 a1 S K KX) : TJ Γ N0 0 0 0 [(0, .ref (xad Γ t0)), (1, .ref (xad Γ a1))] [] S := by
  unfold Rd_newReader at hf
  refine tj_aload_n C 1 rfl rfl dX7_newReader_0 ?_
  refine gf_X7_269 C h_a1.2 h_a1.1 dX7_newReader_1 ?_
  refine tj_topi (fun x1 ex => ?_)
  replace hf := hf x1 ex
  refine tj_istore_n C (by rw [hR]; decide) [(2, .int x1), (0, .ref (xad Γ t0)), (1, .ref (xad Γ a1))] rfl rfl dX7_newReader_4 ?_
  refine tj_aload_n C 1 rfl rfl dX7_newReader_5 ?_
  refine tj_aload_n C 2 rfl rfl dX7_newReader_6 ?_
  refine tj_iload_n C 0 rfl rfl dX7_newReader_7 ?_
  refine tj_bipush C kb_6 dX7_newReader_8 ?_
  refine tj_icmp_ge C 17 (by decide) dX7_newReader_10 (fun hc => ?_) (fun hc => ?_)
  · replace hf := hf.1 hc
    refine tj_iconst C kc_0 dX7_newReader_17 ?_
    exact tj_sub [1, 2, 0] (w_Rd_newReader_b18 C hw hR r h_t0 hX h_a1 rx hf) rfl
  · replace hf := hf.2 hc
    refine tj_iconst C kc_1 dX7_newReader_13 ?_
    refine tj_goto C 18 (by decide) dX7_newReader_14 ?_
    exact tj_sub [1, 2, 0] (w_Rd_newReader_b18 C hw hR r h_t0 hX h_a1 rx hf) rfl
theorem c_Rd_newReader {l : Launch} {G : tG} {ad : Nat → Nat} {A : Nat → Prop} {S : tS} {K : tS → Prop} {KX : tS → Prop} {t0 : Nat} {a1 : Nat} (h_t0 : gN S t0 ≠ 0 ∧ t0 % 32 = 11) (hX : gN S 1025 ≠ 0) (h_a1 : gN S a1 ≠ 0 ∧ a1 % 32 = 6) (hf : Rd_newReader t0 a1 S K KX) : vx_Met l yX7_newReader (ws_ yX7_newReader cX7_newReader 5 (none)) (tRm 9 195) (va_Pc [.ref (ad t0), .ref (ad a1)] (tPre G ad A S)) (va_Qv K (tB G ad A (gN S)) A) (vx_X KX (tBX G ad A (gN S) RX2 1123) A) 0 0 A :=
  tj_xmet_v [(0, .ref (ad t0)), (1, .ref (ad a1))] pn_X7 rfl (Nat.le_of_ble_eq_true rfl) (fun p e R s m args below meth c Q C hw r rx => w_Rd_newReader_b0 C hw rfl r h_t0 hX h_a1 rx hf)
theorem w_Rd_person_b0 {Γ : tX} {N0 : Nat → Nat} {K : Int32 → tS → Prop} (C : TC Γ cX7_person RX7 8 171) (hw : tWf N0) (hR : xnL Γ = 2) (r : TRi Γ N0 cX7_person K) {t0 : Nat} {a1 : Nat} (h_t0 : N0 t0 ≠ 0 ∧ t0 % 32 = 11) (hX : N0 1025 ≠ 0) (h_a1 : N0 a1 ≠ 0 ∧ a1 % 32 = 6) {KX : tS → Prop} (rx : TRX Γ N0 RX2 1123 KX) {S : tS} (hf : Rd_person t0 a1 S K KX) : TJ Γ N0 0 0 0 [(0, .ref (xad Γ t0)), (1, .ref (xad Γ a1))] [] S := by
  unfold Rd_person at hf
  refine tj_aload_n C 0 rfl rfl dX7_person_0 ?_
  refine tj_aload_n C 1 rfl rfl dX7_person_1 ?_
  refine tj_aload_n C 0 rfl rfl dX7_person_2 ?_
  refine tj_xVl C (k := 11) [] [.ref (xad Γ a1), .ref (xad Γ t0)] (fun hN => c_Rd_name (by rw [hN]; exact ⟨h_t0.1, h_t0.2⟩) (by rw [hN]; exact hX) hf) lk_X7_161 ty_X7_name rfl (Nat.le_of_ble_eq_true rfl) (Nat.le_of_ble_eq_true rfl) (Nat.le_of_ble_eq_true rfl) h_t0.1 h_t0.2 (by decide) rfl rfl dX7_person_3 (fun S2 hf => ?_) (fun r3 S1 hf => ?_)
  · exact rx _ _ _ hf
  · refine tj_callVi C (k := 6) [.long r3] [.ref (xad Γ t0)] (fun hN => c_Co_personNamed (by rw [hN]; exact ⟨h_a1.1, h_a1.2⟩) hf) lk_X7_174 ty_X5_personNamed rfl (Nat.le_of_ble_eq_true rfl) (Nat.le_of_ble_eq_true rfl) (Nat.le_of_ble_eq_true rfl) h_a1.1 h_a1.2 (by decide) rfl rfl dX7_person_6 (fun r5 S4 hf => ?_)
    refine tj_iconst C kc_0 dX7_person_9 ?_
    refine tj_xVi C (k := 11) [.int r5, .int (nI 0)] [] (fun hN => c_Rd_known (by rw [hN]; exact ⟨h_t0.1, h_t0.2⟩) (by rw [hN]; exact hX) hf) lk_X7_184 ty_X7_known rfl (Nat.le_of_ble_eq_true rfl) (Nat.le_of_ble_eq_true rfl) (Nat.le_of_ble_eq_true rfl) h_t0.1 h_t0.2 (by decide) rfl rfl dX7_person_10 (fun S7 hf => ?_) (fun r8 S6 hf => ?_)
    · exact rx _ _ _ hf
    · exact r _ _ _ _ dX7_person_13 hf
theorem c_Rd_person {l : Launch} {G : tG} {ad : Nat → Nat} {A : Nat → Prop} {S : tS} {K : Int32 → tS → Prop} {KX : tS → Prop} {t0 : Nat} {a1 : Nat} (h_t0 : gN S t0 ≠ 0 ∧ t0 % 32 = 11) (hX : gN S 1025 ≠ 0) (h_a1 : gN S a1 ≠ 0 ∧ a1 % 32 = 6) (hf : Rd_person t0 a1 S K KX) : vx_Met l yX7_person (ws_ yX7_person cX7_person 2 (some .int)) (tRm 8 171) (va_Pc [.ref (ad t0), .ref (ad a1)] (tPre G ad A S)) (va_Qi K (tB G ad A (gN S)) A) (vx_X KX (tBX G ad A (gN S) RX2 1123) A) 0 0 A :=
  tj_xmet_i [(0, .ref (ad t0)), (1, .ref (ad a1))] pn_X7 rfl (Nat.le_of_ble_eq_true rfl) (fun p e R s m args below meth c Q C hw r rx => w_Rd_person_b0 C hw rfl r h_t0 hX h_a1 rx hf)
theorem w_Rd_newWord_b17 {Γ : tX} {N0 : Nat → Nat} {K : tS → Prop} (C : TC Γ cX7_newWord RX7 9 192) (hw : tWf N0) (hR : xnL Γ = 3) (r : TRv Γ N0 cX7_newWord K) {t0 : Nat} {a1 : Nat} (h_t0 : N0 t0 ≠ 0 ∧ t0 % 32 = 11) (hX : N0 1025 ≠ 0) (h_a1 : N0 a1 ≠ 0 ∧ a1 % 32 = 6) {KX : tS → Prop} (rx : TRX Γ N0 RX2 1123 KX) {a2 : Int32} {s1 : Int32} {S : tS} (hf : Rd_newWord_b17 t0 a1 K KX a2 s1 S) : TJ Γ N0 0 0 17 [(0, .ref (xad Γ t0)), (1, .ref (xad Γ a1)), (2, .int a2)] [.int s1, .ref (xad Γ t0)] S := by
  unfold Rd_newWord_b17 at hf
  refine tj_xVv C (k := 11) [.int s1] [] (fun hN => c_Rd_room (by rw [hN]; exact ⟨h_t0.1, h_t0.2⟩) (by rw [hN]; exact hX) hf) lk_X7_157 ty_X7_room rfl (Nat.le_of_ble_eq_true rfl) (Nat.le_of_ble_eq_true rfl) (Nat.le_of_ble_eq_true rfl) h_t0.1 h_t0.2 (by decide) rfl rfl dX7_newWord_17 (fun S3 hf => ?_) (fun S2 hf => ?_)
  · exact rx _ _ _ hf
  · refine tj_aload_n C 1 rfl rfl dX7_newWord_20 ?_
    refine gf_X7_286 C h_a1.2 h_a1.1 dX7_newWord_21 ?_
    refine tj_iload_n C 2 rfl rfl dX7_newWord_24 ?_
    refine tj_aload_n C 0 rfl rfl dX7_newWord_25 ?_
    refine tj_aload_n C 1 rfl rfl dX7_newWord_26 ?_
    refine tj_xVi C (k := 11) [.ref (xad Γ a1)] [.int a2, .ref (xad Γ (a1 + 426))] (fun hN => c_Rd_person (by rw [hN]; exact ⟨h_t0.1, h_t0.2⟩) (by rw [hN]; exact hX) (by rw [hN]; exact ⟨h_a1.1, h_a1.2⟩) hf) lk_X7_289 ty_X7_person rfl (Nat.le_of_ble_eq_true rfl) (Nat.le_of_ble_eq_true rfl) (Nat.le_of_ble_eq_true rfl) h_t0.1 h_t0.2 (by decide) rfl rfl dX7_newWord_27 (fun S5 hf => ?_) (fun r6 S4 hf => ?_)
    · exact rx _ _ _ hf
    · refine tj_iast C (a1 + 426) 10 (by have := h_a1.2; omega) (lnc_426 hw h_a1.2 h_a1.1) _ rfl hf.1 dX7_newWord_30 ?_
      replace hf := hf.2
      refine tj_topS (fun S7 eS => ?_)
      replace hf := hf S7 eS
      refine tj_aload_n C 1 rfl rfl dX7_newWord_31 ?_
      refine gf_X7_291 C h_a1.2 h_a1.1 dX7_newWord_32 ?_
      refine tj_iload_n C 2 rfl rfl dX7_newWord_35 ?_
      refine tj_aload_n C 0 rfl rfl dX7_newWord_36 ?_
      refine tj_iconst C kc_1 dX7_newWord_37 ?_
      refine tj_xVi C (k := 11) [.int (nI 1)] [.int a2, .ref (xad Γ (a1 + 458))] (fun hN => c_Rd_sense (by rw [hN]; exact ⟨h_t0.1, h_t0.2⟩) (by rw [hN]; exact hX) hf) lk_X7_226 ty_X7_sense rfl (Nat.le_of_ble_eq_true rfl) (Nat.le_of_ble_eq_true rfl) (Nat.le_of_ble_eq_true rfl) h_t0.1 h_t0.2 (by decide) rfl rfl dX7_newWord_38 (fun S9 hf => ?_) (fun r10 S8 hf => ?_)
      · exact rx _ _ _ hf
      · refine tj_iast C (a1 + 458) 10 (by have := h_a1.2; omega) (lnc_458 hw h_a1.2 h_a1.1) _ rfl hf.1 dX7_newWord_41 ?_
        replace hf := hf.2
        refine tj_topS (fun S11 eS => ?_)
        replace hf := hf S11 eS
        refine tj_aload_n C 1 rfl rfl dX7_newWord_42 ?_
        refine tj_dup C rfl dX7_newWord_43 ?_
        refine gf_X7_283 C h_a1.2 h_a1.1 dX7_newWord_44 ?_
        refine tj_iconst C kc_1 dX7_newWord_47 ?_
        refine tj_iadd C dX7_newWord_48 ?_
        refine pf_X7_283 C h_a1.2 h_a1.1 dX7_newWord_49 ?_
        refine tj_topS (fun S12 eS => ?_)
        replace hf := hf S12 eS
        exact r _ _ _ dX7_newWord_52 hf
theorem w_Rd_newWord_b0 {Γ : tX} {N0 : Nat → Nat} {K : tS → Prop} (C : TC Γ cX7_newWord RX7 9 192) (hw : tWf N0) (hR : xnL Γ = 3) (r : TRv Γ N0 cX7_newWord K) {t0 : Nat} {a1 : Nat} (h_t0 : N0 t0 ≠ 0 ∧ t0 % 32 = 11) (hX : N0 1025 ≠ 0) (h_a1 : N0 a1 ≠ 0 ∧ a1 % 32 = 6) {KX : tS → Prop} (rx : TRX Γ N0 RX2 1123 KX) {S : tS} (hf : Rd_newWord t0 a1 S K KX) : TJ Γ N0 0 0 0 [(0, .ref (xad Γ t0)), (1, .ref (xad Γ a1))] [] S := by
  unfold Rd_newWord at hf
  refine tj_aload_n C 1 rfl rfl dX7_newWord_0 ?_
  refine gf_X7_283 C h_a1.2 h_a1.1 dX7_newWord_1 ?_
  refine tj_topi (fun x1 ex => ?_)
  replace hf := hf x1 ex
  refine tj_istore_n C (by rw [hR]; decide) [(2, .int x1), (0, .ref (xad Γ t0)), (1, .ref (xad Γ a1))] rfl rfl dX7_newWord_4 ?_
  refine tj_aload_n C 1 rfl rfl dX7_newWord_5 ?_
  refine tj_iload_n C 0 rfl rfl dX7_newWord_6 ?_
  refine tj_bipush C kb_10 dX7_newWord_7 ?_
  refine tj_icmp_ge C 16 (by decide) dX7_newWord_9 (fun hc => ?_) (fun hc => ?_)
  · replace hf := hf.1 hc
    refine tj_iconst C kc_0 dX7_newWord_16 ?_
    exact tj_sub [1, 2, 0] (w_Rd_newWord_b17 C hw hR r h_t0 hX h_a1 rx hf) rfl
  · replace hf := hf.2 hc
    refine tj_iconst C kc_1 dX7_newWord_12 ?_
    refine tj_goto C 17 (by decide) dX7_newWord_13 ?_
    exact tj_sub [1, 2, 0] (w_Rd_newWord_b17 C hw hR r h_t0 hX h_a1 rx hf) rfl
theorem c_Rd_newWord {l : Launch} {G : tG} {ad : Nat → Nat} {A : Nat → Prop} {S : tS} {K : tS → Prop} {KX : tS → Prop} {t0 : Nat} {a1 : Nat} (h_t0 : gN S t0 ≠ 0 ∧ t0 % 32 = 11) (hX : gN S 1025 ≠ 0) (h_a1 : gN S a1 ≠ 0 ∧ a1 % 32 = 6) (hf : Rd_newWord t0 a1 S K KX) : vx_Met l yX7_newWord (ws_ yX7_newWord cX7_newWord 3 (none)) (tRm 9 192) (va_Pc [.ref (ad t0), .ref (ad a1)] (tPre G ad A S)) (va_Qv K (tB G ad A (gN S)) A) (vx_X KX (tBX G ad A (gN S) RX2 1123) A) 0 0 A :=
  tj_xmet_v [(0, .ref (ad t0)), (1, .ref (ad a1))] pn_X7 rfl (Nat.le_of_ble_eq_true rfl) (fun p e R s m args below meth c Q C hw r rx => w_Rd_newWord_b0 C hw rfl r h_t0 hX h_a1 rx hf)
theorem w_Rd_close_b0 {Γ : tX} {N0 : Nat → Nat} {K : tS → Prop} (C : TC Γ cX7_close RX7 2 42) (hw : tWf N0) (hR : xnL Γ = 1) (r : TRv Γ N0 cX7_close K) {t0 : Nat} (h_t0 : N0 t0 ≠ 0 ∧ t0 % 32 = 11) (hX : N0 1025 ≠ 0) {KX : tS → Prop} (rx : TRX Γ N0 RX2 1123 KX) {S : tS} (hf : Rd_close t0 S K KX) : TJ Γ N0 0 0 0 [(0, .ref (xad Γ t0))] [] S := by
  unfold Rd_close at hf
  refine tj_aload_n C 0 rfl rfl dX7_close_0 ?_
  refine tj_bipush C kb_59 dX7_close_1 ?_
  refine tj_callVz C (k := 11) [.int (nI 59)] [] (fun hN => c_Rd_isSign (by rw [hN]; exact ⟨h_t0.1, h_t0.2⟩) (by rw [hN]; exact hX) hf) lk_X7_64 ty_X7_isSign rfl (Nat.le_of_ble_eq_true rfl) (Nat.le_of_ble_eq_true rfl) (Nat.le_of_ble_eq_true rfl) h_t0.1 h_t0.2 (by decide) rfl rfl dX7_close_3 (fun r2 S1 hf => ?_)
  have hz_r2 := hf.1
  replace hf := hf.2
  refine tj_if_ne C 14 (by decide) dX7_close_6 (fun hc => ?_) (fun hc => ?_)
  · replace hf := hf.2 hc
    refine tj_aload_n C 0 rfl rfl dX7_close_14 ?_
    refine tj_callVv C (k := 11) [] [] (fun hN => c_Rd_next (by rw [hN]; exact ⟨h_t0.1, h_t0.2⟩) (by rw [hN]; exact hX) hf) lk_X7_19 ty_X7_next rfl (Nat.le_of_ble_eq_true rfl) (Nat.le_of_ble_eq_true rfl) (Nat.le_of_ble_eq_true rfl) h_t0.1 h_t0.2 (by decide) rfl rfl dX7_close_15 (fun S3 hf => ?_)
    exact r _ _ _ dX7_close_18 hf
  · replace hf := hf.1 hc
    refine tj_aload_n C 0 rfl rfl dX7_close_9 ?_
    refine tj_callVa C (k := 11) [] [] (fun hN => c_Rd_wrong (by rw [hN]; exact ⟨h_t0.1, h_t0.2⟩) (by rw [hN]; exact hX) hf) lk_X7_68 ty_X7_wrong rfl (Nat.le_of_ble_eq_true rfl) (Nat.le_of_ble_eq_true rfl) (Nat.le_of_ble_eq_true rfl) h_t0.1 h_t0.2 (by decide) rfl rfl dX7_close_10 (fun S4 hf => ?_)
    refine tj_athrow C 3 1123 (ne0 (ln_1123 hw hX)) rfl (by decide) rfl dX7_close_13 ?_
    exact rx _ _ _ hf
theorem c_Rd_close {l : Launch} {G : tG} {ad : Nat → Nat} {A : Nat → Prop} {S : tS} {K : tS → Prop} {KX : tS → Prop} {t0 : Nat} (h_t0 : gN S t0 ≠ 0 ∧ t0 % 32 = 11) (hX : gN S 1025 ≠ 0) (hf : Rd_close t0 S K KX) : vx_Met l yX7_close (ws_ yX7_close cX7_close 1 (none)) (tRm 2 42) (va_Pc [.ref (ad t0)] (tPre G ad A S)) (va_Qv K (tB G ad A (gN S)) A) (vx_X KX (tBX G ad A (gN S) RX2 1123) A) 0 0 A :=
  tj_xmet_v [(0, .ref (ad t0))] pn_X7 rfl (Nat.le_of_ble_eq_true rfl) (fun p e R s m args below meth c Q C hw r rx => w_Rd_close_b0 C hw rfl r h_t0 hX rx hf)
