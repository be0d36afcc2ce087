set_option maxRecDepth 100000
theorem w_St_init_b0 {Γ : tX} {Nb : Nat → Nat} {K : tS → Prop} {mc ms : Nat} (C : TC Γ cX9_init RX9 1 20) (hE : tDyn (xad Γ)) (hB : mc ≤ (xR Γ).cells ∧ ms ≤ (xR Γ).slots) (hR : xnL Γ = 1) (r : TEv Γ Nb mc ms cX9_init K) (hin2 : (xmeth Γ).name = "<init>") (N0 : Nat → Nat) (hx : tExt Nb N0) (hw : tWf N0) {t0 : Nat} (h_t0 : N0 t0 ≠ 0 ∧ (t0 % 32 = 8 ∨ t0 % 32 = 9 ∨ t0 % 32 = 10)) {S : tS} (hf : St_init t0 mc ms S K) : TJ Γ N0 0 0 0 [(0, .ref (xad Γ t0))] [] S := by
  unfold St_init at hf
  refine tj_aload_n C 0 rfl rfl dX9_init_0 ?_
  refine tj_objInit C q993 (Nat.le_of_ble_eq_true rfl) (Nat.le_of_ble_eq_true rfl) (Nat.le_of_ble_eq_true rfl) dX9_init_1 ?_
  exact tj_up mc ms hB hf.1 (r _ _ _ _ hx dX9_init_4 hf.2)
theorem c_St_init {l : Launch} {G : tG} {ad : Nat → Nat} {A : Nat → Prop} {S : tS} {K : tS → Prop} {mc ms : Nat} {t0 : Nat} (h_t0 : gN S t0 ≠ 0 ∧ (t0 % 32 = 8 ∨ t0 % 32 = 9 ∨ t0 % 32 = 10)) (hE : tDyn ad) (hf : St_init t0 mc ms S K) : Met l yX9_init (ws_ yX9_init cX9_init 1 (none)) (tRe 1 20 mc ms) (va_Pc [.ref (ad t0)] (tPre G ad A S)) (va_Qv K (tBE G ad A (gN S)) A) mc ms A :=
  te_metI [(0, .ref (ad t0))] pn_X9 rfl rfl (Nat.le_of_ble_eq_true rfl) (fun p e R s m args below meth c Q C hin2 hw hB r => w_St_init_b0 C hE hB rfl r hin2 _ tExt.rf hw h_t0 hf)
theorem w_Li_init_b0 {Γ : tX} {Nb : Nat → Nat} {K : tS → Prop} {mc ms : Nat} (C : TC Γ cX14_init RX14 1 20) (hE : tDyn (xad Γ)) (hB : mc ≤ (xR Γ).cells ∧ ms ≤ (xR Γ).slots) (hR : xnL Γ = 3) (r : TEv Γ Nb mc ms cX14_init K) (hin2 : (xmeth Γ).name = "<init>") (N0 : Nat → Nat) (hx : tExt Nb N0) (hw : tWf N0) {t0 : Nat} {a1 : Nat} {a2 : Int32} (h_t0 : N0 t0 ≠ 0 ∧ t0 % 32 = 12) (h_a1 : N0 a1 ≠ 0 ∧ a1 % 32 = 6) {S : tS} (hf : Li_init t0 a1 a2 mc ms S K) : TJ Γ N0 0 0 0 [(0, .ref (xad Γ t0)), (1, .ref (xad Γ a1)), (2, .int a2)] [] S := by
  unfold Li_init at hf
  refine tj_aload_n C 0 rfl rfl dX14_init_0 ?_
  refine tj_objInit C q1483 (Nat.le_of_ble_eq_true rfl) (Nat.le_of_ble_eq_true rfl) (Nat.le_of_ble_eq_true rfl) dX14_init_1 ?_
  refine tj_aload_n C 0 rfl rfl dX14_init_4 ?_
  refine tj_aload_n C 1 rfl rfl dX14_init_5 ?_
  refine pf_X14_7 C (x := some a1) hin2 h_t0.2 h_t0.1 dX14_init_6 ?_
  refine tj_topS (fun S1 eS => ?_)
  replace hf := hf S1 eS
  refine tj_aload_n C 0 rfl rfl dX14_init_9 ?_
  refine tj_iload_n C 2 rfl rfl dX14_init_10 ?_
  refine pf_X14_13 C h_t0.2 h_t0.1 dX14_init_11 ?_
  refine tj_topS (fun S2 eS => ?_)
  replace hf := hf S2 eS
  exact tj_up mc ms hB hf.1 (r _ _ _ _ hx dX14_init_14 hf.2)
theorem c_Li_init {l : Launch} {G : tG} {ad : Nat → Nat} {A : Nat → Prop} {S : tS} {K : tS → Prop} {mc ms : Nat} {t0 : Nat} {a1 : Nat} {a2 : Int32} (h_t0 : gN S t0 ≠ 0 ∧ t0 % 32 = 12) (h_a1 : gN S a1 ≠ 0 ∧ a1 % 32 = 6) (hE : tDyn ad) (hf : Li_init t0 a1 a2 mc ms S K) : Met l yX14_init (ws_ yX14_init cX14_init 3 (none)) (tRe 1 20 mc ms) (va_Pc [.ref (ad t0), .ref (ad a1), .int a2] (tPre G ad A S)) (va_Qv K (tBE G ad A (gN S)) A) mc ms A :=
  te_metI [(0, .ref (ad t0)), (1, .ref (ad a1)), (2, .int a2)] pn_X14 rfl rfl (Nat.le_of_ble_eq_true rfl) (fun p e R s m args below meth c Q C hin2 hw hB r => w_Li_init_b0 C hE hB rfl r hin2 _ tExt.rf hw h_t0 h_a1 hf)
theorem w_Ru_init_b0 {Γ : tX} {Nb : Nat → Nat} {K : tS → Prop} {mc ms : Nat} (C : TC Γ cX8_init RX8 1 20) (hE : tDyn (xad Γ)) (hB : mc ≤ (xR Γ).cells ∧ ms ≤ (xR Γ).slots) (hR : xnL Γ = 8) (r : TEv Γ Nb mc ms cX8_init K) (hin2 : (xmeth Γ).name = "<init>") (N0 : Nat → Nat) (hx : tExt Nb N0) (hw : tWf N0) {t0 : Nat} {a1 : Int32} {a2 : Int32} {a3 : Int32} {a4 : Int32} {a5 : Int32} {a6 : Int32} {a7 : Int32} (h_t0 : N0 t0 ≠ 0 ∧ t0 % 32 = 7) {S : tS} (hf : Ru_init t0 a1 a2 a3 a4 a5 a6 a7 mc ms S K) : TJ Γ N0 0 0 0 [(0, .ref (xad Γ t0)), (1, .int a1), (2, .int a2), (3, .int a3), (4, .int a4), (5, .int a5), (6, .int a6), (7, .int a7)] [] S := by
  unfold Ru_init at hf
  refine tj_aload_n C 0 rfl rfl dX8_init_0 ?_
  refine tj_objInit C q907 (Nat.le_of_ble_eq_true rfl) (Nat.le_of_ble_eq_true rfl) (Nat.le_of_ble_eq_true rfl) dX8_init_1 ?_
  refine tj_aload_n C 0 rfl rfl dX8_init_4 ?_
  refine tj_iload_n C 1 rfl rfl dX8_init_5 ?_
  refine pf_X8_9 C hin2 h_t0.2 h_t0.1 dX8_init_6 ?_
  refine tj_topS (fun S1 eS => ?_)
  replace hf := hf S1 eS
  refine tj_aload_n C 0 rfl rfl dX8_init_9 ?_
  refine tj_iload_n C 2 rfl rfl dX8_init_10 ?_
  refine pf_X8_15 C hin2 h_t0.2 h_t0.1 dX8_init_11 ?_
  refine tj_topS (fun S2 eS => ?_)
  replace hf := hf S2 eS
  refine tj_aload_n C 0 rfl rfl dX8_init_14 ?_
  refine tj_iload_n C 3 rfl rfl dX8_init_15 ?_
  refine pf_X8_18 C hin2 h_t0.2 h_t0.1 dX8_init_16 ?_
  refine tj_topS (fun S3 eS => ?_)
  replace hf := hf S3 eS
  refine tj_aload_n C 0 rfl rfl dX8_init_19 ?_
  refine tj_iload C 4 rfl dX8_init_20 ?_
  refine pf_X8_21 C hin2 h_t0.2 h_t0.1 dX8_init_22 ?_
  refine tj_topS (fun S4 eS => ?_)
  replace hf := hf S4 eS
  refine tj_aload_n C 0 rfl rfl dX8_init_25 ?_
  refine tj_iload C 5 rfl dX8_init_26 ?_
  refine pf_X8_24 C hin2 h_t0.2 h_t0.1 dX8_init_28 ?_
  refine tj_topS (fun S5 eS => ?_)
  replace hf := hf S5 eS
  refine tj_aload_n C 0 rfl rfl dX8_init_31 ?_
  refine tj_iload C 6 rfl dX8_init_32 ?_
  refine pf_X8_27 C hin2 h_t0.2 h_t0.1 dX8_init_34 ?_
  refine tj_topS (fun S6 eS => ?_)
  replace hf := hf S6 eS
  refine tj_aload_n C 0 rfl rfl dX8_init_37 ?_
  refine tj_iload C 7 rfl dX8_init_38 ?_
  refine pf_X8_30 C hin2 h_t0.2 h_t0.1 dX8_init_40 ?_
  refine tj_topS (fun S7 eS => ?_)
  replace hf := hf S7 eS
  exact tj_up mc ms hB hf.1 (r _ _ _ _ hx dX8_init_43 hf.2)
theorem c_Ru_init {l : Launch} {G : tG} {ad : Nat → Nat} {A : Nat → Prop} {S : tS} {K : tS → Prop} {mc ms : Nat} {t0 : Nat} {a1 : Int32} {a2 : Int32} {a3 : Int32} {a4 : Int32} {a5 : Int32} {a6 : Int32} {a7 : Int32} (h_t0 : gN S t0 ≠ 0 ∧ t0 % 32 = 7) (hE : tDyn ad) (hf : Ru_init t0 a1 a2 a3 a4 a5 a6 a7 mc ms S K) : Met l yX8_init (ws_ yX8_init cX8_init 8 (none)) (tRe 1 20 mc ms) (va_Pc [.ref (ad t0), .int a1, .int a2, .int a3, .int a4, .int a5, .int a6, .int a7] (tPre G ad A S)) (va_Qv K (tBE G ad A (gN S)) A) mc ms A :=
  te_metI [(0, .ref (ad t0)), (1, .int a1), (2, .int a2), (3, .int a3), (4, .int a4), (5, .int a5), (6, .int a6), (7, .int a7)] pn_X8 rfl rfl (Nat.le_of_ble_eq_true rfl) (fun p e R s m args below meth c Q C hin2 hw hB r => w_Ru_init_b0 C hE hB rfl r hin2 _ tExt.rf hw h_t0 hf)
theorem w_Ac_init_b0 {Γ : tX} {Nb : Nat → Nat} {K : tS → Prop} {mc ms : Nat} (C : TC Γ cX13_init RX13 2 40) (hE : tDyn (xad Γ)) (hB : mc ≤ (xR Γ).cells ∧ ms ≤ (xR Γ).slots) (hR : xnL Γ = 4) (r : TEv Γ Nb mc ms cX13_init K) (hin2 : (xmeth Γ).name = "<init>") (N0 : Nat → Nat) (hx : tExt Nb N0) (hw : tWf N0) {t0 : Nat} {a1 : Int32} {a2 : Int32} {a3 : Int32} (h_t0 : N0 t0 ≠ 0 ∧ t0 % 32 = 8) {S : tS} (hf : Ac_init t0 a1 a2 a3 mc ms S K) : TJ Γ N0 0 0 0 [(0, .ref (xad Γ t0)), (1, .int a1), (2, .int a2), (3, .int a3)] [] S := by
  unfold Ac_init at hf
  refine tj_aload_n C 0 rfl rfl dX13_init_0 ?_
  obtain ⟨c1, s2, hu1, hf⟩ := hf
  refine te_callIN C [] [] (fun hN => c_St_init (by rw [hN]; exact ⟨h_t0.1, by have hk9 := h_t0.2; omega⟩) hE hf) q992 q188 q1054 q991 rfl ty_X9_init rfl (Nat.le_of_ble_eq_true rfl) (Nat.le_of_ble_eq_true rfl) ⟨Nat.le_trans hu1.1 hB.1, Nat.le_trans hu1.2 hB.2⟩ (Nat.le_of_ble_eq_true rfl) rfl dX13_init_1 (fun S3 _ hf _ hx1 hw1 => ?_)
  have hw := hw1
  have h_t0 := hx1.kd h_t0
  have hx := hx.tr hx1
  refine tj_aload_n C 0 rfl rfl dX13_init_4 ?_
  refine tj_iload_n C 1 rfl rfl dX13_init_5 ?_
  refine pf_X13_9 C hin2 h_t0.2 h_t0.1 dX13_init_6 ?_
  refine tj_topS (fun S4 eS => ?_)
  replace hf := hf S4 eS
  refine tj_aload_n C 0 rfl rfl dX13_init_9 ?_
  refine tj_iload_n C 2 rfl rfl dX13_init_10 ?_
  refine pf_X13_15 C hin2 h_t0.2 h_t0.1 dX13_init_11 ?_
  refine tj_topS (fun S5 eS => ?_)
  replace hf := hf S5 eS
  refine tj_aload_n C 0 rfl rfl dX13_init_14 ?_
  refine tj_iload_n C 3 rfl rfl dX13_init_15 ?_
  refine pf_X13_18 C hin2 h_t0.2 h_t0.1 dX13_init_16 ?_
  refine tj_topS (fun S6 eS => ?_)
  replace hf := hf S6 eS
  exact tj_up mc ms hB hf.1 (r _ _ _ _ hx dX13_init_19 hf.2)
theorem c_Ac_init {l : Launch} {G : tG} {ad : Nat → Nat} {A : Nat → Prop} {S : tS} {K : tS → Prop} {mc ms : Nat} {t0 : Nat} {a1 : Int32} {a2 : Int32} {a3 : Int32} (h_t0 : gN S t0 ≠ 0 ∧ t0 % 32 = 8) (hE : tDyn ad) (hf : Ac_init t0 a1 a2 a3 mc ms S K) : Met l yX13_init (ws_ yX13_init cX13_init 4 (none)) (tRe 2 40 mc ms) (va_Pc [.ref (ad t0), .int a1, .int a2, .int a3] (tPre G ad A S)) (va_Qv K (tBE G ad A (gN S)) A) mc ms A :=
  te_metI [(0, .ref (ad t0)), (1, .int a1), (2, .int a2), (3, .int a3)] pn_X13 rfl rfl (Nat.le_of_ble_eq_true rfl) (fun p e R s m args below meth c Q C hin2 hw hB r => w_Ac_init_b0 C hE hB rfl r hin2 _ tExt.rf hw h_t0 hf)
theorem w_Rd_init_b0 {Γ : tX} {Nb : Nat → Nat} {K : tS → Prop} {mc ms : Nat} (C : TC Γ cX7_init RX7 2 41) (hE : tDyn (xad Γ)) (hB : mc ≤ (xR Γ).cells ∧ ms ≤ (xR Γ).slots) (hR : xnL Γ = 3) (r : TEv Γ Nb mc ms cX7_init K) (hin2 : (xmeth Γ).name = "<init>") (N0 : Nat → Nat) (hx : tExt Nb N0) (hw : tWf N0) {t0 : Nat} {a2 : Int32} (h_t0 : N0 t0 ≠ 0 ∧ t0 % 32 = 11) (hX : N0 1025 ≠ 0) {S : tS} (hf : Rd_init t0 a2 mc ms S K) : TJ Γ N0 0 0 0 [(0, .ref (xad Γ t0)), (1, .ref (xad Γ 1025)), (2, .int a2)] [] S := by
  unfold Rd_init at hf
  refine tj_aload_n C 0 rfl rfl dX7_init_0 ?_
  refine tj_aload_n C 1 rfl rfl dX7_init_1 ?_
  refine pf_X7_3 C (x := some 1025) hin2 h_t0.2 h_t0.1 dX7_init_2 ?_
  refine tj_topS (fun S1 eS => ?_)
  replace hf := hf S1 eS
  refine tj_aload_n C 0 rfl rfl dX7_init_5 ?_
  refine tj_objInit C q673 (Nat.le_of_ble_eq_true rfl) (Nat.le_of_ble_eq_true rfl) (Nat.le_of_ble_eq_true rfl) dX7_init_6 ?_
  refine tj_aload_n C 0 rfl rfl dX7_init_9 ?_
  refine tj_iload_n C 2 rfl rfl dX7_init_10 ?_
  refine pf_X7_15 C hin2 h_t0.2 h_t0.1 dX7_init_11 ?_
  refine tj_topS (fun S2 eS => ?_)
  replace hf := hf S2 eS
  refine tj_aload_n C 0 rfl rfl dX7_init_14 ?_
  refine tj_callVv C (k := 11) [] [] (fun hN => c_Rd_next (by rw [hN]; exact ⟨h_t0.1, h_t0.2⟩) (by rw [hN]; exact hX) hf) lk_X7_19 ty_X7_next rfl (Nat.le_of_ble_eq_true rfl) (Nat.le_of_ble_eq_true rfl) (Nat.le_of_ble_eq_true rfl) h_t0.1 h_t0.2 (by decide) rfl rfl dX7_init_15 (fun S3 hf => ?_)
  exact tj_up mc ms hB hf.1 (r _ _ _ _ hx dX7_init_18 hf.2)
theorem c_Rd_init {l : Launch} {G : tG} {ad : Nat → Nat} {A : Nat → Prop} {S : tS} {K : tS → Prop} {mc ms : Nat} {t0 : Nat} {a2 : Int32} (h_t0 : gN S t0 ≠ 0 ∧ t0 % 32 = 11) (hX : gN S 1025 ≠ 0) (hE : tDyn ad) (hf : Rd_init t0 a2 mc ms S K) : Met l yX7_init (ws_ yX7_init cX7_init 3 (none)) (tRe 2 41 mc ms) (va_Pc [.ref (ad t0), .ref (ad 1025), .int a2] (tPre G ad A S)) (va_Qv K (tBE G ad A (gN S)) A) mc ms A :=
  te_metI [(0, .ref (ad t0)), (1, .ref (ad 1025)), (2, .int a2)] pn_X7 rfl rfl (Nat.le_of_ble_eq_true rfl) (fun p e R s m args below meth c Q C hin2 hw hB r => w_Rd_init_b0 C hE hB rfl r hin2 _ tExt.rf hw h_t0 hX hf)
theorem w_Rd_plain_b19 {Γ : tX} {Nb : Nat → Nat} {K : Nat → tS → Prop} {KX : tS → Prop} {mc ms : Nat} (C : TC Γ cX7_plain RX7 9 193) (hE : tDyn (xad Γ)) (hB : mc ≤ (xR Γ).cells ∧ ms ≤ (xR Γ).slots) (hR : xnL Γ = 4) (r : TEr Γ Nb mc ms cX7_plain (tKk (fun t => (t % 32 = 8 ∨ t % 32 = 9 ∨ t % 32 = 10)) K)) (rx : TEX Γ Nb mc ms RX2 1123 KX) {t0 : Nat} {a1 : Nat} : ∀ (N0 : Nat → Nat) (hx : tExt Nb N0) (hw : tWf N0) (h_t0 : N0 t0 ≠ 0 ∧ t0 % 32 = 11) (hX : N0 1025 ≠ 0) (h_a1 : N0 a1 ≠ 0 ∧ a1 % 32 = 6) (uc : Nat) (us : Nat) (a2 : Int32) (S : tS), Rd_plain_b19 t0 a1 mc ms K KX uc us a2 S → TJ Γ N0 uc us 19 [(2, .int a2)] [] S := by
  intro N0 hx hw h_t0 hX h_a1 uc us a2 S hf
  unfold Rd_plain_b19 at hf
  refine tj_hN (fun hN => ?_)
  refine tj_new C hE 8 (T := TX13) (N := 3) (by decide) (by decide) (by decide) rfl in_X13 tyX13_ok (by decide) dv_X13 q1049 q1050 q192 ⟨Nat.le_trans hf.1.1 hB.1, Nat.le_trans hf.1.2 hB.2⟩ dX7_plain_19 (fun t24 N24 hN24 hx24 hw24 _ h_t24 h32 hz => ?_)
  refine tj_topS (fun S25 eS => ?_)
  replace hf := hf.2 t24 S25 (by rw [hN]; exact hz) h32 h_t24.2 eS
  have hw := hw24
  have hX := hx24.ne hX
  have h_t0 := hx24.kd h_t0
  have h_a1 := hx24.kd h_a1
  have hx := hx.tr hx24
  refine tj_dup C rfl dX7_plain_22 ?_
  refine tj_iload_n C 0 rfl rfl dX7_plain_23 ?_
  refine tj_iconst C kc_0 dX7_plain_24 ?_
  refine tj_iconst C kc_0 dX7_plain_25 ?_
  obtain ⟨c26, s27, hu26, hf⟩ := hf
  refine te_callI C [.int a2, .int (nI 0), .int (nI 0)] [.ref (xad Γ t24)] (fun hN => c_Ac_init (by rw [hN]; exact ⟨h_t24.1, h_t24.2⟩) hE hf) q1053 q192 q1051 q1052 rfl ty_X13_init rfl (Nat.le_of_ble_eq_true rfl) (Nat.le_of_ble_eq_true rfl) ⟨Nat.le_trans hu26.1 hB.1, Nat.le_trans hu26.2 hB.2⟩ (Nat.le_of_ble_eq_true rfl) rfl dX7_plain_26 (fun S28 _ hf _ hx26 hw26 => ?_)
  have hw := hw26
  have hX := hx26.ne hX
  have h_t0 := hx26.kd h_t0
  have h_a1 := hx26.kd h_a1
  have h_t24 := hx26.kd h_t24
  have hx := hx.tr hx26
  exact tj_hN (fun hN => tj_up mc ms hB hf.1 (r _ _ _ _ _ hx dX7_plain_29 ⟨⟨by rw [hN]; exact h_t24.1, (by have hk9 := h_t24.2; omega)⟩, hf.2⟩))
theorem w_Rd_plain_b0 {Γ : tX} {Nb : Nat → Nat} {K : Nat → tS → Prop} {KX : tS → Prop} {mc ms : Nat} (C : TC Γ cX7_plain RX7 9 193) (hE : tDyn (xad Γ)) (hB : mc ≤ (xR Γ).cells ∧ ms ≤ (xR Γ).slots) (hR : xnL Γ = 4) (r : TEr Γ Nb mc ms cX7_plain (tKk (fun t => (t % 32 = 8 ∨ t % 32 = 9 ∨ t % 32 = 10)) K)) (rx : TEX Γ Nb mc ms RX2 1123 KX) (N0 : Nat → Nat) (hx : tExt Nb N0) (hw : tWf N0) {t0 : Nat} {a1 : Nat} (h_t0 : N0 t0 ≠ 0 ∧ t0 % 32 = 11) (hX : N0 1025 ≠ 0) (h_a1 : N0 a1 ≠ 0 ∧ a1 % 32 = 6) {S : tS} (hf : Rd_plain t0 a1 mc ms S K KX) : TJ Γ N0 0 0 0 [(0, .ref (xad Γ t0)), (1, .ref (xad Γ a1))] [] S := by
  unfold Rd_plain at hf
  refine tj_aload_n C 0 rfl rfl dX7_plain_0 ?_
  refine tj_callVi C (k := 11) [] [] (fun hN => c_Rd_acts (by rw [hN]; exact ⟨h_t0.1, h_t0.2⟩) (by rw [hN]; exact hX) hf) lk_X7_143 ty_X7_acts rfl (Nat.le_of_ble_eq_true rfl) (Nat.le_of_ble_eq_true rfl) (Nat.le_of_ble_eq_true rfl) h_t0.1 h_t0.2 (by decide) rfl rfl dX7_plain_1 (fun r2 S1 hf => ?_)
  refine tj_istore_n C (by rw [hR]; decide) [(2, .int r2), (0, .ref (xad Γ t0)), (1, .ref (xad Γ a1))] rfl rfl dX7_plain_4 ?_
  refine tj_aload_n C 1 rfl rfl dX7_plain_5 ?_
  refine tj_callVv C (k := 11) [] [] (fun hN => c_Rd_next (by rw [hN]; exact ⟨h_t0.1, h_t0.2⟩) (by rw [hN]; exact hX) hf) lk_X7_19 ty_X7_next rfl (Nat.le_of_ble_eq_true rfl) (Nat.le_of_ble_eq_true rfl) (Nat.le_of_ble_eq_true rfl) h_t0.1 h_t0.2 (by decide) rfl rfl dX7_plain_6 (fun S3 hf => ?_)
  refine tj_iload_n C 0 rfl rfl dX7_plain_9 ?_
  refine tj_iconst C kc_1 dX7_plain_10 ?_
  refine tj_icmp_eq C 19 (by decide) dX7_plain_11 (fun hc => ?_) (fun hc => ?_)
  · replace hf := hf.1 hc
    exact tj_sub [0] (w_Rd_plain_b19 C hE hB hR r rx _ hx hw h_t0 hX h_a1 _ _ _ _ hf) rfl
  · replace hf := hf.2 hc
    refine tj_iload_n C 0 rfl rfl dX7_plain_14 ?_
    refine tj_iconst C kc_4 dX7_plain_15 ?_
    refine tj_icmp_le C 30 (by decide) dX7_plain_16 (fun hc => ?_) (fun hc => ?_)
    · replace hf := hf.1 hc
      refine tj_aload_n C 1 rfl rfl dX7_plain_30 ?_
      refine tj_aload_n C 2 rfl rfl dX7_plain_31 ?_
      refine tj_xVi C (k := 11) [.ref (xad Γ a1)] [] (fun hN => c_Rd_person (by rw [hN]; exact ⟨h_t0.1, h_t0.2⟩) (by rw [hN]; exact hX) (by rw [hN]; exact ⟨h_a1.1, h_a1.2⟩) hf) lk_X7_289 ty_X7_person rfl (Nat.le_of_ble_eq_true rfl) (Nat.le_of_ble_eq_true rfl) (Nat.le_of_ble_eq_true rfl) h_t0.1 h_t0.2 (by decide) rfl rfl dX7_plain_32 (fun S5 hf => ?_) (fun r6 S4 hf => ?_)
      · exact txj_up mc ms hB hf.1 (rx _ _ _ _ hx hf.2)
      · refine tj_istore_n C (by rw [hR]; decide) [(3, .int r6), (2, .int r2), (0, .ref (xad Γ t0)), (1, .ref (xad Γ a1))] rfl rfl dX7_plain_35 ?_
        refine tj_hN (fun hN => ?_)
        refine tj_new C hE 8 (T := TX13) (N := 3) (by decide) (by decide) (by decide) rfl in_X13 tyX13_ok (by decide) dv_X13 q1049 q1050 q192 ⟨Nat.le_trans hf.1.1 hB.1, Nat.le_trans hf.1.2 hB.2⟩ dX7_plain_36 (fun t7 N7 hN7 hx7 hw7 _ h_t7 h32 hz => ?_)
        refine tj_topS (fun S8 eS => ?_)
        replace hf := hf.2 t7 S8 (by rw [hN]; exact hz) h32 h_t7.2 eS
        have hw := hw7
        have hX := hx7.ne hX
        have h_t0 := hx7.kd h_t0
        have h_a1 := hx7.kd h_a1
        have hx := hx.tr hx7
        refine tj_dup C rfl dX7_plain_39 ?_
        refine tj_iload_n C 1 rfl rfl dX7_plain_40 ?_
        refine tj_iload_n C 0 rfl rfl dX7_plain_41 ?_
        refine tj_iload_n C 1 rfl rfl dX7_plain_42 ?_
        refine tj_if_ne C 50 (by decide) dX7_plain_43 (fun hc => ?_) (fun hc => ?_)
        · replace hf := hf.2 hc
          refine tj_iload_n C 1 rfl rfl dX7_plain_50 ?_
          refine tj_iconst C kc_2 dX7_plain_51 ?_
          refine tj_icmp_ne C 65 (by decide) dX7_plain_52 (fun hc => ?_) (fun hc => ?_)
          · replace hf := hf.2 hc
            refine tj_aload_n C 2 rfl rfl dX7_plain_65 ?_
            refine tj_aload_n C 3 rfl rfl dX7_plain_66 ?_
            refine tj_iconst C kc_0 dX7_plain_67 ?_
            refine tj_xVi C (k := 11) [.ref (xad Γ a1), .int (nI 0)] [.int r6, .int r2, .ref (xad Γ t7), .ref (xad Γ t7)] (fun hN => c_Rd_smell (by rw [hN]; exact ⟨h_t0.1, h_t0.2⟩) (by rw [hN]; exact hX) (by rw [hN]; exact ⟨h_a1.1, h_a1.2⟩) hf) lk_X7_250 ty_X7_smell rfl (Nat.le_of_ble_eq_true rfl) (Nat.le_of_ble_eq_true rfl) (Nat.le_of_ble_eq_true rfl) h_t0.1 h_t0.2 (by decide) rfl rfl dX7_plain_68 (fun S10 hf => ?_) (fun r11 S9 hf => ?_)
            · exact txj_up mc ms hB hf.1 (rx _ _ _ _ hx hf.2)
            · obtain ⟨c12, s13, hu12, hf⟩ := hf
              refine te_callI C [.int r2, .int r6, .int r11] [.ref (xad Γ t7)] (fun hN => c_Ac_init (by rw [hN]; exact ⟨h_t7.1, h_t7.2⟩) hE hf) q1053 q192 q1051 q1052 rfl ty_X13_init rfl (Nat.le_of_ble_eq_true rfl) (Nat.le_of_ble_eq_true rfl) ⟨Nat.le_trans hu12.1 hB.1, Nat.le_trans hu12.2 hB.2⟩ (Nat.le_of_ble_eq_true rfl) rfl dX7_plain_71 (fun S14 _ hf _ hx12 hw12 => ?_)
              have hw := hw12
              have hX := hx12.ne hX
              have h_t0 := hx12.kd h_t0
              have h_a1 := hx12.kd h_a1
              have h_t7 := hx12.kd h_t7
              have hx := hx.tr hx12
              exact tj_hN (fun hN => tj_up mc ms hB hf.1 (r _ _ _ _ _ hx dX7_plain_74 ⟨⟨by rw [hN]; exact h_t7.1, (by have hk9 := h_t7.2; omega)⟩, hf.2⟩))
          · replace hf := hf.1 hc
            refine tj_aload_n C 2 rfl rfl dX7_plain_55 ?_
            refine tj_iconst C kc_1 dX7_plain_56 ?_
            refine tj_bipush C kb_9 dX7_plain_57 ?_
            refine tj_xVi C (k := 11) [.int (nI 1), .int (nI 9)] [.int r6, .int r2, .ref (xad Γ t7), .ref (xad Γ t7)] (fun hN => c_Rd_number (by rw [hN]; exact ⟨h_t0.1, h_t0.2⟩) (by rw [hN]; exact hX) hf) lk_X7_80 ty_X7_number rfl (Nat.le_of_ble_eq_true rfl) (Nat.le_of_ble_eq_true rfl) (Nat.le_of_ble_eq_true rfl) h_t0.1 h_t0.2 (by decide) rfl rfl dX7_plain_59 (fun S16 hf => ?_) (fun r17 S15 hf => ?_)
            · exact txj_up mc ms hB hf.1 (rx _ _ _ _ hx hf.2)
            · refine tj_goto C 71 (by decide) dX7_plain_62 ?_
              obtain ⟨c18, s19, hu18, hf⟩ := hf
              refine te_callI C [.int r2, .int r6, .int r17] [.ref (xad Γ t7)] (fun hN => c_Ac_init (by rw [hN]; exact ⟨h_t7.1, h_t7.2⟩) hE hf) q1053 q192 q1051 q1052 rfl ty_X13_init rfl (Nat.le_of_ble_eq_true rfl) (Nat.le_of_ble_eq_true rfl) ⟨Nat.le_trans hu18.1 hB.1, Nat.le_trans hu18.2 hB.2⟩ (Nat.le_of_ble_eq_true rfl) rfl dX7_plain_71 (fun S20 _ hf _ hx18 hw18 => ?_)
              have hw := hw18
              have hX := hx18.ne hX
              have h_t0 := hx18.kd h_t0
              have h_a1 := hx18.kd h_a1
              have h_t7 := hx18.kd h_t7
              have hx := hx.tr hx18
              exact tj_hN (fun hN => tj_up mc ms hB hf.1 (r _ _ _ _ _ hx dX7_plain_74 ⟨⟨by rw [hN]; exact h_t7.1, (by have hk9 := h_t7.2; omega)⟩, hf.2⟩))
        · replace hf := hf.1 hc
          refine tj_iconst C kc_0 dX7_plain_46 ?_
          refine tj_goto C 71 (by decide) dX7_plain_47 ?_
          obtain ⟨c21, s22, hu21, hf⟩ := hf
          refine te_callI C [.int r2, .int r6, .int (nI 0)] [.ref (xad Γ t7)] (fun hN => c_Ac_init (by rw [hN]; exact ⟨h_t7.1, h_t7.2⟩) hE hf) q1053 q192 q1051 q1052 rfl ty_X13_init rfl (Nat.le_of_ble_eq_true rfl) (Nat.le_of_ble_eq_true rfl) ⟨Nat.le_trans hu21.1 hB.1, Nat.le_trans hu21.2 hB.2⟩ (Nat.le_of_ble_eq_true rfl) rfl dX7_plain_71 (fun S23 _ hf _ hx21 hw21 => ?_)
          have hw := hw21
          have hX := hx21.ne hX
          have h_t0 := hx21.kd h_t0
          have h_a1 := hx21.kd h_a1
          have h_t7 := hx21.kd h_t7
          have hx := hx.tr hx21
          exact tj_hN (fun hN => tj_up mc ms hB hf.1 (r _ _ _ _ _ hx dX7_plain_74 ⟨⟨by rw [hN]; exact h_t7.1, (by have hk9 := h_t7.2; omega)⟩, hf.2⟩))
    · replace hf := hf.2 hc
      exact tj_sub [0] (w_Rd_plain_b19 C hE hB hR r rx _ hx hw h_t0 hX h_a1 _ _ _ _ hf) rfl
theorem c_Rd_plain {l : Launch} {G : tG} {ad : Nat → Nat} {A : Nat → Prop} {S : tS} {K : Nat → tS → Prop} {KX : tS → Prop} {mc ms : Nat} {t0 : Nat} {a1 : Nat} (h_t0 : gN S t0 ≠ 0 ∧ t0 % 32 = 11) (hX : gN S 1025 ≠ 0) (h_a1 : gN S a1 ≠ 0 ∧ a1 % 32 = 6) (hE : tDyn ad) (hf : Rd_plain t0 a1 mc ms S K KX) : vx_Met l yX7_plain (ws_ yX7_plain cX7_plain 4 (some (.object "CatWitness$Step"))) (tRe 9 193 mc ms) (va_Pc [.ref (ad t0), .ref (ad a1)] (tPre G ad A S)) (va_Qq (fun r (u : tS × Nat) => r = some (ad u.2) ∧ (tKk (fun t => (t % 32 = 8 ∨ t % 32 = 9 ∨ t % 32 = 10)) K) u.2 u.1) (fun u t => tBE G ad A (gN S) u.1 t) A) (vx_X KX (tBXE G ad A (gN S) RX2 1123) A) mc ms A :=
  te_xmet_r [(0, .ref (ad t0)), (1, .ref (ad a1))] pn_X7 rfl (Nat.le_of_ble_eq_true rfl) (fun p e R s m args below meth c Q C hw hB r rx => w_Rd_plain_b0 C hE hB rfl r rx _ tExt.rf hw h_t0 hX h_a1 hf)
theorem w_Bl_init_b0 {Γ : tX} {Nb : Nat → Nat} {K : tS → Prop} {mc ms : Nat} (C : TC Γ cX10_init RX10 2 40) (hE : tDyn (xad Γ)) (hB : mc ≤ (xR Γ).cells ∧ ms ≤ (xR Γ).slots) (hR : xnL Γ = 1) (r : TEv Γ Nb mc ms cX10_init K) (hin2 : (xmeth Γ).name = "<init>") (N0 : Nat → Nat) (hx : tExt Nb N0) (hw : tWf N0) {t0 : Nat} (h_t0 : N0 t0 ≠ 0 ∧ (t0 % 32 = 9 ∨ t0 % 32 = 10)) {S : tS} (hf : Bl_init t0 mc ms S K) : TJ Γ N0 0 0 0 [(0, .ref (xad Γ t0))] [] S := by
  unfold Bl_init at hf
  refine tj_aload_n C 0 rfl rfl dX10_init_0 ?_
  obtain ⟨c1, s2, hu1, hf⟩ := hf
  refine te_callIN C [] [] (fun hN => c_St_init (by rw [hN]; exact ⟨h_t0.1, by have hk9 := h_t0.2; omega⟩) hE hf) q992 q188 q990 q991 rfl ty_X9_init rfl (Nat.le_of_ble_eq_true rfl) (Nat.le_of_ble_eq_true rfl) ⟨Nat.le_trans hu1.1 hB.1, Nat.le_trans hu1.2 hB.2⟩ (Nat.le_of_ble_eq_true rfl) rfl dX10_init_1 (fun S3 _ hf _ hx1 hw1 => ?_)
  have hw := hw1
  have h_t0 := hx1.kd h_t0
  have hx := hx.tr hx1
  refine tj_aload_n C 0 rfl rfl dX10_init_4 ?_
  refine tj_iconst C kc_4 dX10_init_5 ?_
  refine tj_hN (fun hN => ?_)
  refine tj_newq C hE 24 (by decide) (by decide) q994 q995 (fun _ => rfl) hf.1.1 hf.1.2 ⟨Nat.le_trans hf.2.1.1 hB.1, Nat.le_trans hf.2.1.2 hB.2⟩ dX10_init_6 (fun t4 N4 hN4 hx4 hw4 _ h_t4 h32 hz => ?_)
  refine tj_topS (fun S5 eS => ?_)
  replace hf := hf.2.2 t4 S5 (by rw [hN]; exact hz) h32 h_t4.2 eS
  have hw := hw4
  have h_t0 := hx4.kd h_t0
  have hx := hx.tr hx4
  refine pf_X10_7 C (x := some t4) h_t0.2 h_t0.1 dX10_init_9 ?_
  refine tj_topS (fun S6 eS => ?_)
  replace hf := hf S6 eS
  exact tj_up mc ms hB hf.1 (r _ _ _ _ hx dX10_init_12 hf.2)
theorem c_Bl_init {l : Launch} {G : tG} {ad : Nat → Nat} {A : Nat → Prop} {S : tS} {K : tS → Prop} {mc ms : Nat} {t0 : Nat} (h_t0 : gN S t0 ≠ 0 ∧ (t0 % 32 = 9 ∨ t0 % 32 = 10)) (hE : tDyn ad) (hf : Bl_init t0 mc ms S K) : Met l yX10_init (ws_ yX10_init cX10_init 1 (none)) (tRe 2 40 mc ms) (va_Pc [.ref (ad t0)] (tPre G ad A S)) (va_Qv K (tBE G ad A (gN S)) A) mc ms A :=
  te_metI [(0, .ref (ad t0))] pn_X10 rfl rfl (Nat.le_of_ble_eq_true rfl) (fun p e R s m args below meth c Q C hin2 hw hB r => w_Bl_init_b0 C hE hB rfl r hin2 _ tExt.rf hw h_t0 hf)
theorem w_Lo_init_b0 {Γ : tX} {Nb : Nat → Nat} {K : tS → Prop} {mc ms : Nat} (C : TC Γ cX11_init RX11 3 60) (hE : tDyn (xad Γ)) (hB : mc ≤ (xR Γ).cells ∧ ms ≤ (xR Γ).slots) (hR : xnL Γ = 2) (r : TEv Γ Nb mc ms cX11_init K) (hin2 : (xmeth Γ).name = "<init>") (N0 : Nat → Nat) (hx : tExt Nb N0) (hw : tWf N0) {t0 : Nat} {a1 : Int32} (h_t0 : N0 t0 ≠ 0 ∧ t0 % 32 = 9) {S : tS} (hf : Lo_init t0 a1 mc ms S K) : TJ Γ N0 0 0 0 [(0, .ref (xad Γ t0)), (1, .int a1)] [] S := by
  unfold Lo_init at hf
  refine tj_aload_n C 0 rfl rfl dX11_init_0 ?_
  obtain ⟨c1, s2, hu1, hf⟩ := hf
  refine te_callIN C [] [] (fun hN => c_Bl_init (by rw [hN]; exact ⟨h_t0.1, by have hk9 := h_t0.2; omega⟩) hE hf) q989 q189 q987 q988 rfl ty_X10_init rfl (Nat.le_of_ble_eq_true rfl) (Nat.le_of_ble_eq_true rfl) ⟨Nat.le_trans hu1.1 hB.1, Nat.le_trans hu1.2 hB.2⟩ (Nat.le_of_ble_eq_true rfl) rfl dX11_init_1 (fun S3 _ hf _ hx1 hw1 => ?_)
  have hw := hw1
  have h_t0 := hx1.kd h_t0
  have hx := hx.tr hx1
  refine tj_aload_n C 0 rfl rfl dX11_init_4 ?_
  refine tj_iload_n C 1 rfl rfl dX11_init_5 ?_
  refine pf_X11_7 C hin2 h_t0.2 h_t0.1 dX11_init_6 ?_
  refine tj_topS (fun S4 eS => ?_)
  replace hf := hf S4 eS
  exact tj_up mc ms hB hf.1 (r _ _ _ _ hx dX11_init_9 hf.2)
theorem c_Lo_init {l : Launch} {G : tG} {ad : Nat → Nat} {A : Nat → Prop} {S : tS} {K : tS → Prop} {mc ms : Nat} {t0 : Nat} {a1 : Int32} (h_t0 : gN S t0 ≠ 0 ∧ t0 % 32 = 9) (hE : tDyn ad) (hf : Lo_init t0 a1 mc ms S K) : Met l yX11_init (ws_ yX11_init cX11_init 2 (none)) (tRe 3 60 mc ms) (va_Pc [.ref (ad t0), .int a1] (tPre G ad A S)) (va_Qv K (tBE G ad A (gN S)) A) mc ms A :=
  te_metI [(0, .ref (ad t0)), (1, .int a1)] pn_X11 rfl rfl (Nat.le_of_ble_eq_true rfl) (fun p e R s m args below meth c Q C hin2 hw hB r => w_Lo_init_b0 C hE hB rfl r hin2 _ tExt.rf hw h_t0 hf)
theorem w_Wh_init_b0 {Γ : tX} {Nb : Nat → Nat} {K : tS → Prop} {mc ms : Nat} (C : TC Γ cX12_init RX12 3 60) (hE : tDyn (xad Γ)) (hB : mc ≤ (xR Γ).cells ∧ ms ≤ (xR Γ).slots) (hR : xnL Γ = 5) (r : TEv Γ Nb mc ms cX12_init K) (hin2 : (xmeth Γ).name = "<init>") (N0 : Nat → Nat) (hx : tExt Nb N0) (hw : tWf N0) {t0 : Nat} {a1 : Int32} {a2 : Int32} {a3 : Int32} {a4 : Int32} (h_t0 : N0 t0 ≠ 0 ∧ t0 % 32 = 10) {S : tS} (hf : Wh_init t0 a1 a2 a3 a4 mc ms S K) : TJ Γ N0 0 0 0 [(0, .ref (xad Γ t0)), (1, .int a1), (2, .int a2), (3, .int a3), (4, .int a4)] [] S := by
  unfold Wh_init at hf
  refine tj_aload_n C 0 rfl rfl dX12_init_0 ?_
  obtain ⟨c1, s2, hu1, hf⟩ := hf
  refine te_callIN C [] [] (fun hN => c_Bl_init (by rw [hN]; exact ⟨h_t0.1, by have hk9 := h_t0.2; omega⟩) hE hf) q989 q189 q1027 q988 rfl ty_X10_init rfl (Nat.le_of_ble_eq_true rfl) (Nat.le_of_ble_eq_true rfl) ⟨Nat.le_trans hu1.1 hB.1, Nat.le_trans hu1.2 hB.2⟩ (Nat.le_of_ble_eq_true rfl) rfl dX12_init_1 (fun S3 _ hf _ hx1 hw1 => ?_)
  have hw := hw1
  have h_t0 := hx1.kd h_t0
  have hx := hx.tr hx1
  refine tj_aload_n C 0 rfl rfl dX12_init_4 ?_
  refine tj_iload_n C 1 rfl rfl dX12_init_5 ?_
  refine pf_X12_9 C hin2 h_t0.2 h_t0.1 dX12_init_6 ?_
  refine tj_topS (fun S4 eS => ?_)
  replace hf := hf S4 eS
  refine tj_aload_n C 0 rfl rfl dX12_init_9 ?_
  refine tj_iload_n C 2 rfl rfl dX12_init_10 ?_
  refine pf_X12_15 C hin2 h_t0.2 h_t0.1 dX12_init_11 ?_
  refine tj_topS (fun S5 eS => ?_)
  replace hf := hf S5 eS
  refine tj_aload_n C 0 rfl rfl dX12_init_14 ?_
  refine tj_iload_n C 3 rfl rfl dX12_init_15 ?_
  refine pf_X12_18 C hin2 h_t0.2 h_t0.1 dX12_init_16 ?_
  refine tj_topS (fun S6 eS => ?_)
  replace hf := hf S6 eS
  refine tj_aload_n C 0 rfl rfl dX12_init_19 ?_
  refine tj_iload C 4 rfl dX12_init_20 ?_
  refine pf_X12_21 C hin2 h_t0.2 h_t0.1 dX12_init_22 ?_
  refine tj_topS (fun S7 eS => ?_)
  replace hf := hf S7 eS
  exact tj_up mc ms hB hf.1 (r _ _ _ _ hx dX12_init_25 hf.2)
theorem c_Wh_init {l : Launch} {G : tG} {ad : Nat → Nat} {A : Nat → Prop} {S : tS} {K : tS → Prop} {mc ms : Nat} {t0 : Nat} {a1 : Int32} {a2 : Int32} {a3 : Int32} {a4 : Int32} (h_t0 : gN S t0 ≠ 0 ∧ t0 % 32 = 10) (hE : tDyn ad) (hf : Wh_init t0 a1 a2 a3 a4 mc ms S K) : Met l yX12_init (ws_ yX12_init cX12_init 5 (none)) (tRe 3 60 mc ms) (va_Pc [.ref (ad t0), .int a1, .int a2, .int a3, .int a4] (tPre G ad A S)) (va_Qv K (tBE G ad A (gN S)) A) mc ms A :=
  te_metI [(0, .ref (ad t0)), (1, .int a1), (2, .int a2), (3, .int a3), (4, .int a4)] pn_X12 rfl rfl (Nat.le_of_ble_eq_true rfl) (fun p e R s m args below meth c Q C hin2 hw hB r => w_Wh_init_b0 C hE hB rfl r hin2 _ tExt.rf hw h_t0 hf)
