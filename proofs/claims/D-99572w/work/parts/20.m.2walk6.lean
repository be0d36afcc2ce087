set_option maxRecDepth 100000
theorem w_M_scent_b40 {Γ : tX} {N0 : Nat → Nat} {K : Int32 → tS → Prop} (C : TC Γ cX6_scent RX6 3 65) (hw : tWf N0) (hR : xnL Γ = 4) (r : TRz Γ N0 cX6_scent K) {a1 : Int32} {a2 : Int32} {a3 : Int32} (hM : N0 0 ≠ 0) {s1 : Int32} {S : tS} (hf : M_scent_b40 a1 a2 a3 K s1 S) : TJ Γ N0 0 0 40 [] [.int s1, .ref (xad Γ 0)] S := by
  unfold M_scent_b40 at hf
  refine tj_callVz C (k := 0) [.int s1] [] (fun hN => c_M_is (by rw [hN]; exact hM) hf) lk_X6_98 ty_X6_is rfl (Nat.le_of_ble_eq_true rfl) (Nat.le_of_ble_eq_true rfl) (Nat.le_of_ble_eq_true rfl) hM rfl (by decide) rfl rfl dX6_scent_40 (fun r10 S9 hf => ?_)
  have hz_r10 := hf.1
  replace hf := hf.2
  exact r _ _ _ _ dX6_scent_43 hz_r10 hf
theorem w_M_scent_b17 {Γ : tX} {N0 : Nat → Nat} {K : Int32 → tS → Prop} (C : TC Γ cX6_scent RX6 3 65) (hw : tWf N0) (hR : xnL Γ = 4) (r : TRz Γ N0 cX6_scent K) {a1 : Int32} {a2 : Int32} {a3 : Int32} (hM : N0 0 ≠ 0) {S : tS} (hf : M_scent_b17 a1 a2 a3 K  S) : TJ Γ N0 0 0 17 [(0, .ref (xad Γ 0))] [] S := by
  unfold M_scent_b17 at hf
  refine tj_aload_n C 0 rfl rfl dX6_scent_17 ?_
  refine tj_iconst C kc_1 dX6_scent_18 ?_
  refine tj_callVz C (k := 0) [.int (nI 1)] [] (fun hN => c_M_is (by rw [hN]; exact hM) hf) lk_X6_98 ty_X6_is rfl (Nat.le_of_ble_eq_true rfl) (Nat.le_of_ble_eq_true rfl) (Nat.le_of_ble_eq_true rfl) hM rfl (by decide) rfl rfl dX6_scent_19 (fun r8 S7 hf => ?_)
  have hz_r8 := hf.1
  replace hf := hf.2
  exact r _ _ _ _ dX6_scent_22 hz_r8 hf
theorem w_M_scent_b0 {Γ : tX} {N0 : Nat → Nat} {K : Int32 → tS → Prop} (C : TC Γ cX6_scent RX6 3 65) (hw : tWf N0) (hR : xnL Γ = 4) (r : TRz Γ N0 cX6_scent K) {a1 : Int32} {a2 : Int32} {a3 : Int32} (hM : N0 0 ≠ 0) {S : tS} (hf : M_scent a1 a2 a3 S K) : TJ Γ N0 0 0 0 [(0, .ref (xad Γ 0)), (1, .int a1), (2, .int a2), (3, .int a3)] [] S := by
  unfold M_scent at hf
  refine tj_aload_n C 0 rfl rfl dX6_scent_0 ?_
  refine tj_iload_n C 1 rfl rfl dX6_scent_1 ?_
  refine tj_i2l C dX6_scent_2 ?_
  refine tj_callVz C (k := 0) [.long (a1.toInt64)] [] (fun hN => c_M_isPerson (by rw [hN]; exact hM) hf) lk_X6_305 ty_X6_isPerson rfl (Nat.le_of_ble_eq_true rfl) (Nat.le_of_ble_eq_true rfl) (Nat.le_of_ble_eq_true rfl) hM rfl (by decide) rfl rfl dX6_scent_3 (fun r2 S1 hf => ?_)
  have hz_r2 := hf.1
  replace hf := hf.2
  refine tj_if_eq C 17 (by decide) dX6_scent_6 (fun hc => ?_) (fun hc => ?_)
  · replace hf := hf.1 hc
    exact tj_sub [0] (w_M_scent_b17 C hw hR r hM hf) rfl
  · replace hf := hf.2 hc
    refine tj_aload_n C 0 rfl rfl dX6_scent_9 ?_
    refine tj_iload_n C 2 rfl rfl dX6_scent_10 ?_
    refine tj_callVz C (k := 0) [.int a2] [] (fun hN => c_M_isSmell (by rw [hN]; exact hM) hf) lk_X6_358 ty_X6_isSmell rfl (Nat.le_of_ble_eq_true rfl) (Nat.le_of_ble_eq_true rfl) (Nat.le_of_ble_eq_true rfl) hM rfl (by decide) rfl rfl dX6_scent_11 (fun r4 S3 hf => ?_)
    have hz_r4 := hf.1
    replace hf := hf.2
    refine tj_if_ne C 23 (by decide) dX6_scent_14 (fun hc => ?_) (fun hc => ?_)
    · replace hf := hf.2 hc
      refine tj_aload_n C 0 rfl rfl dX6_scent_23 ?_
      refine tj_aload_n C 0 rfl rfl dX6_scent_24 ?_
      refine tj_iload_n C 1 rfl rfl dX6_scent_25 ?_
      refine tj_iload_n C 2 rfl rfl dX6_scent_26 ?_
      refine tj_iload_n C 3 rfl rfl dX6_scent_27 ?_
      refine tj_callVz C (k := 0) [.int a1, .int a2, .int a3] [.ref (xad Γ 0)] (fun hN => c_M_scents (by rw [hN]; exact hM) hf) lk_X6_361 ty_X6_scents rfl (Nat.le_of_ble_eq_true rfl) (Nat.le_of_ble_eq_true rfl) (Nat.le_of_ble_eq_true rfl) hM rfl (by decide) rfl rfl dX6_scent_28 (fun r6 S5 hf => ?_)
      have hz_r6 := hf.1
      replace hf := hf.2
      refine tj_if_eq C 38 (by decide) dX6_scent_31 (fun hc => ?_) (fun hc => ?_)
      · replace hf := hf.1 hc
        refine tj_bipush C kb_7 dX6_scent_38 ?_
        exact tj_sub [] (w_M_scent_b40 C hw hR r hM hf) rfl
      · replace hf := hf.2 hc
        refine tj_iconst C kc_0 dX6_scent_34 ?_
        refine tj_goto C 40 (by decide) dX6_scent_35 ?_
        exact tj_sub [] (w_M_scent_b40 C hw hR r hM hf) rfl
    · replace hf := hf.1 hc
      exact tj_sub [0] (w_M_scent_b17 C hw hR r hM hf) rfl
theorem c_M_scent {l : Launch} {G : tG} {ad : Nat → Nat} {A : Nat → Prop} {S : tS} {K : Int32 → tS → Prop} {a1 : Int32} {a2 : Int32} {a3 : Int32} (hM : gN S 0 ≠ 0) (hf : M_scent a1 a2 a3 S K) : Met l yX6_scent (ws_ yX6_scent cX6_scent 4 (some .boolean)) (tRm 3 65) (va_Pc [.ref (ad 0), .int a1, .int a2, .int a3] (tPre G ad A S)) (va_Qi (fun r u => r &&& 1 = r ∧ K r u) (tB G ad A (gN S)) A) 0 0 A :=
  tj_met_z [(0, .ref (ad 0)), (1, .int a1), (2, .int a2), (3, .int a3)] pn_X6 rfl (Nat.le_of_ble_eq_true rfl) (fun p e R s m args below meth c Q C hw r => w_M_scent_b0 C hw rfl r hM hf)
theorem w_M_sense_b0 {Γ : tX} {N0 : Nat → Nat} {K : Int32 → tS → Prop} (C : TC Γ cX6_sense RX6 1 21) (hw : tWf N0) (hR : xnL Γ = 2) (r : TRi Γ N0 cX6_sense K) {a1 : Int32} (hM : N0 0 ≠ 0) {S : tS} (hf : M_sense a1 S K) : TJ Γ N0 0 0 0 [(0, .ref (xad Γ 0)), (1, .int a1)] [] S := by
  unfold M_sense at hf
  refine tj_aload_n C 0 rfl rfl dX6_sense_0 ?_
  refine tj_iload_n C 1 rfl rfl dX6_sense_1 ?_
  refine tj_callVz C (k := 0) [.int a1] [] (fun hN => c_M_isCue (by rw [hN]; exact hM) hf) lk_X6_293 ty_X6_isCue rfl (Nat.le_of_ble_eq_true rfl) (Nat.le_of_ble_eq_true rfl) (Nat.le_of_ble_eq_true rfl) hM rfl (by decide) rfl rfl dX6_sense_2 (fun r2 S1 hf => ?_)
  have hz_r2 := hf.1
  replace hf := hf.2
  refine tj_if_eq C 24 (by decide) dX6_sense_5 (fun hc => ?_) (fun hc => ?_)
  · replace hf := hf.1 hc
    refine tj_aload_n C 0 rfl rfl dX6_sense_24 ?_
    refine tj_iconst C kc_1 dX6_sense_25 ?_
    refine tj_callVi C (k := 0) [.int (nI 1)] [] (fun hN => c_M_refuse (by rw [hN]; exact hM) hf) lk_X6_91 ty_X6_refuse rfl (Nat.le_of_ble_eq_true rfl) (Nat.le_of_ble_eq_true rfl) (Nat.le_of_ble_eq_true rfl) hM rfl (by decide) rfl rfl dX6_sense_26 (fun r4 S3 hf => ?_)
    exact r _ _ _ _ dX6_sense_29 hf
  · replace hf := hf.2 hc
    refine tj_aload_n C 0 rfl rfl dX6_sense_8 ?_
    refine tj_aload_n C 0 rfl rfl dX6_sense_9 ?_
    refine gf_X6_7 C hM dX6_sense_10 ?_
    refine tj_bipush C kb_10 dX6_sense_13 ?_
    refine tj_iload_n C 1 rfl rfl dX6_sense_15 ?_
    refine tj_iadd C dX6_sense_16 ?_
    refine tj_iald C 48 3548 rfl (ln_48 hw hM) _ rfl hf.1 dX6_sense_17 ?_
    replace hf := hf.2
    refine tj_callVi C (k := 0) [.int (gI S1 48 (((nI 10) + a1).toNatClampNeg))] [] (fun hN => c_M_gives (by rw [hN]; exact hM) hf) lk_X6_95 ty_X6_gives rfl (Nat.le_of_ble_eq_true rfl) (Nat.le_of_ble_eq_true rfl) (Nat.le_of_ble_eq_true rfl) hM rfl (by decide) rfl rfl dX6_sense_18 (fun r6 S5 hf => ?_)
    refine tj_goto C 29 (by decide) dX6_sense_21 ?_
    exact r _ _ _ _ dX6_sense_29 hf
theorem c_M_sense {l : Launch} {G : tG} {ad : Nat → Nat} {A : Nat → Prop} {S : tS} {K : Int32 → tS → Prop} {a1 : Int32} (hM : gN S 0 ≠ 0) (hf : M_sense a1 S K) : Met l yX6_sense (ws_ yX6_sense cX6_sense 2 (some .int)) (tRm 1 21) (va_Pc [.ref (ad 0), .int a1] (tPre G ad A S)) (va_Qi K (tB G ad A (gN S)) A) 0 0 A :=
  tj_met_i [(0, .ref (ad 0)), (1, .int a1)] pn_X6 rfl (Nat.le_of_ble_eq_true rfl) (fun p e R s m args below meth c Q C hw r => w_M_sense_b0 C hw rfl r hM hf)
theorem w_M_shown_b52 {Γ : tX} {N0 : Nat → Nat} {K : Int32 → tS → Prop} (C : TC Γ cX6_shown RX6 6 139) (hw : tWf N0) (hR : xnL Γ = 4) (r : TRi Γ N0 cX6_shown K) {a1 : Int32} (hM : N0 0 ≠ 0) {κ18 : Int32 → Int32 → tS → Prop} (hκ18 : ∀ (a2 : Int32) (a3 : Int32) (S : tS), κ18 a2 a3 S → TJ Γ N0 0 0 18 [(0, .ref (xad Γ 0)), (1, .int a1), (2, .int a2), (3, .int a3)] [] S) {a3 : Int32} {s0 : Int32} {s1 : Int32} {S : tS} (hf : M_shown_b52 a1 K κ18 a3 s0 s1 S) : TJ Γ N0 0 0 52 [(0, .ref (xad Γ 0)), (1, .int a1), (3, .int a3)] [.int s1, .int s0] S := by
  unfold M_shown_b52 at hf
  refine tj_ior C dX6_shown_52 ?_
  refine tj_topi (fun x9 ex => ?_)
  replace hf := hf x9 ex
  refine tj_istore_n C (by rw [hR]; decide) [(2, .int x9), (0, .ref (xad Γ 0)), (1, .int a1), (3, .int a3)] rfl rfl dX6_shown_53 ?_
  obtain ⟨x10, ex⟩ : ∃ y : Int32, y = a3 + nI 1 := ⟨_, rfl⟩
  refine tj_iinc C (by rw [hR]; decide) 3 [(3, .int x10), (2, .int x9), (0, .ref (xad Γ 0)), (1, .int a1)] rfl (by rw [ex]; exact ki_1 _) rfl dX6_shown_54 ?_
  replace hf := hf x10 ex
  refine tj_goto C 18 (by decide) dX6_shown_57 ?_
  exact tj_sub [2, 3, 1, 0] (hκ18 _ _ _ hf) rfl
theorem w_M_shown_l18 {Γ : tX} {N0 : Nat → Nat} {K : Int32 → tS → Prop} (C : TC Γ cX6_shown RX6 6 139) (hw : tWf N0) (hR : xnL Γ = 4) (r : TRi Γ N0 cX6_shown K) {a1 : Int32} (hM : N0 0 ≠ 0) : ∀ (n : Nat) (a2 : Int32) (a3 : Int32) (S : tS), M_shown_l18 a1 K n a2 a3 S → TJ Γ N0 0 0 18 [(0, .ref (xad Γ 0)), (1, .int a1), (2, .int a2), (3, .int a3)] [] S := by
  intro n
  induction n with
  | zero => intro a2 a3 S hf; exact hf.elim
  | succ n ih =>
    intro a2 a3 S hf
    unfold M_shown_l18 at hf
    refine tj_iload_n C 3 rfl rfl dX6_shown_18 ?_
    refine tj_aload_n C 0 rfl rfl dX6_shown_19 ?_
    refine gf_X6_7 C hM dX6_shown_20 ?_
    refine tj_iconst C kc_3 dX6_shown_23 ?_
    refine tj_iald C 48 3548 rfl (ln_48 hw hM) 3 kn_3 (vp_in_nI (by decide) (by decide)) dX6_shown_24 ?_
    refine tj_icmp_ge C 60 (by decide) dX6_shown_25 (fun hc => ?_) (fun hc => ?_)
    · replace hf := hf.1 hc
      refine tj_aload_n C 0 rfl rfl dX6_shown_60 ?_
      refine tj_iload_n C 2 rfl rfl dX6_shown_61 ?_
      refine tj_callVi C (k := 0) [.int a2] [] (fun hN => c_M_gives (by rw [hN]; exact hM) hf) lk_X6_95 ty_X6_gives rfl (Nat.le_of_ble_eq_true rfl) (Nat.le_of_ble_eq_true rfl) (Nat.le_of_ble_eq_true rfl) hM rfl (by decide) rfl rfl dX6_shown_62 (fun r6 S5 hf => ?_)
      exact r _ _ _ _ dX6_shown_65 hf
    · replace hf := hf.2 hc
      refine tj_iload_n C 2 rfl rfl dX6_shown_28 ?_
      refine tj_aload_n C 0 rfl rfl dX6_shown_29 ?_
      refine tj_iload_n C 3 rfl rfl dX6_shown_30 ?_
      refine tj_aload_n C 0 rfl rfl dX6_shown_31 ?_
      refine gf_X6_7 C hM dX6_shown_32 ?_
      refine tj_bipush C kb_6 dX6_shown_35 ?_
      refine tj_iald C 48 3548 rfl (ln_48 hw hM) 6 kn_6 (vp_in_nI (by decide) (by decide)) dX6_shown_37 ?_
      refine tj_callVi C (k := 0) [.int a3, .int (gI S 48 6)] [.int a2] (fun hN => c_M_cueFor (by rw [hN]; exact hM) hf) lk_X6_332 ty_X6_cueFor rfl (Nat.le_of_ble_eq_true rfl) (Nat.le_of_ble_eq_true rfl) (Nat.le_of_ble_eq_true rfl) hM rfl (by decide) rfl rfl dX6_shown_38 (fun r8 S7 hf => ?_)
      refine tj_iload_n C 1 rfl rfl dX6_shown_41 ?_
      refine tj_icmp_ne C 51 (by decide) dX6_shown_42 (fun hc => ?_) (fun hc => ?_)
      · replace hf := hf.2 hc
        refine tj_iconst C kc_0 dX6_shown_51 ?_
        exact tj_sub [0, 1, 3] (w_M_shown_b52 C hw hR r hM ih hf) rfl
      · replace hf := hf.1 hc
        refine tj_iconst C kc_1 dX6_shown_45 ?_
        refine tj_iload_n C 3 rfl rfl dX6_shown_46 ?_
        refine tj_ishl C dX6_shown_47 ?_
        refine tj_goto C 52 (by decide) dX6_shown_48 ?_
        exact tj_sub [0, 1, 3] (w_M_shown_b52 C hw hR r hM ih hf) rfl
theorem w_M_shown_b0 {Γ : tX} {N0 : Nat → Nat} {K : Int32 → tS → Prop} (C : TC Γ cX6_shown RX6 6 139) (hw : tWf N0) (hR : xnL Γ = 4) (r : TRi Γ N0 cX6_shown K) {a1 : Int32} (hM : N0 0 ≠ 0) {S : tS} (hf : M_shown a1 S K) : TJ Γ N0 0 0 0 [(0, .ref (xad Γ 0)), (1, .int a1)] [] S := by
  unfold M_shown at hf
  refine tj_aload_n C 0 rfl rfl dX6_shown_0 ?_
  refine tj_iload_n C 1 rfl rfl dX6_shown_1 ?_
  refine tj_callVz C (k := 0) [.int a1] [] (fun hN => c_M_isCue (by rw [hN]; exact hM) hf) lk_X6_293 ty_X6_isCue rfl (Nat.le_of_ble_eq_true rfl) (Nat.le_of_ble_eq_true rfl) (Nat.le_of_ble_eq_true rfl) hM rfl (by decide) rfl rfl dX6_shown_2 (fun r2 S1 hf => ?_)
  have hz_r2 := hf.1
  replace hf := hf.2
  refine tj_if_ne C 14 (by decide) dX6_shown_5 (fun hc => ?_) (fun hc => ?_)
  · replace hf := hf.2 hc
    refine tj_iconst C kc_0 dX6_shown_14 ?_
    refine tj_istore_n C (by rw [hR]; decide) [(2, .int (nI 0)), (0, .ref (xad Γ 0)), (1, .int a1)] rfl rfl dX6_shown_15 ?_
    refine tj_iconst C kc_0 dX6_shown_16 ?_
    refine tj_istore_n C (by rw [hR]; decide) [(3, .int (nI 0)), (2, .int (nI 0)), (0, .ref (xad Γ 0)), (1, .int a1)] rfl rfl dX6_shown_17 ?_
    exact tj_sub [2, 3, 1, 0] (hf.elim fun k hf => w_M_shown_l18 C hw hR r hM k _ _ _ hf) rfl
  · replace hf := hf.1 hc
    refine tj_aload_n C 0 rfl rfl dX6_shown_8 ?_
    refine tj_iconst C kc_1 dX6_shown_9 ?_
    refine tj_callVi C (k := 0) [.int (nI 1)] [] (fun hN => c_M_refuse (by rw [hN]; exact hM) hf) lk_X6_91 ty_X6_refuse rfl (Nat.le_of_ble_eq_true rfl) (Nat.le_of_ble_eq_true rfl) (Nat.le_of_ble_eq_true rfl) hM rfl (by decide) rfl rfl dX6_shown_10 (fun r4 S3 hf => ?_)
    exact r _ _ _ _ dX6_shown_13 hf
theorem c_M_shown {l : Launch} {G : tG} {ad : Nat → Nat} {A : Nat → Prop} {S : tS} {K : Int32 → tS → Prop} {a1 : Int32} (hM : gN S 0 ≠ 0) (hf : M_shown a1 S K) : Met l yX6_shown (ws_ yX6_shown cX6_shown 4 (some .int)) (tRm 6 139) (va_Pc [.ref (ad 0), .int a1] (tPre G ad A S)) (va_Qi K (tB G ad A (gN S)) A) 0 0 A :=
  tj_met_i [(0, .ref (ad 0)), (1, .int a1)] pn_X6 rfl (Nat.le_of_ble_eq_true rfl) (fun p e R s m args below meth c Q C hw r => w_M_shown_b0 C hw rfl r hM hf)
theorem w_M_sit_b56 {Γ : tX} {N0 : Nat → Nat} {K : Int32 → tS → Prop} (C : TC Γ cX6_sit RX6 7 161) (hw : tWf N0) (hR : xnL Γ = 3) (r : TRi Γ N0 cX6_sit K) {a1 : Int32} (hM : N0 0 ≠ 0) {s1 : Int32} {S : tS} (hf : M_sit_b56 a1 K s1 S) : TJ Γ N0 0 0 56 [] [.int s1, .ref (xad Γ 0)] S := by
  unfold M_sit_b56 at hf
  refine tj_callVi C (k := 0) [.int s1] [] (fun hN => c_M_gives (by rw [hN]; exact hM) hf) lk_X6_95 ty_X6_gives rfl (Nat.le_of_ble_eq_true rfl) (Nat.le_of_ble_eq_true rfl) (Nat.le_of_ble_eq_true rfl) hM rfl (by decide) rfl rfl dX6_sit_56 (fun r10 S9 hf => ?_)
  exact r _ _ _ _ dX6_sit_59 hf
theorem w_M_sit_b0 {Γ : tX} {N0 : Nat → Nat} {K : Int32 → tS → Prop} (C : TC Γ cX6_sit RX6 7 161) (hw : tWf N0) (hR : xnL Γ = 3) (r : TRi Γ N0 cX6_sit K) {a1 : Int32} (hM : N0 0 ≠ 0) {S : tS} (hf : M_sit a1 S K) : TJ Γ N0 0 0 0 [(0, .ref (xad Γ 0)), (1, .int a1)] [] S := by
  unfold M_sit at hf
  refine tj_aload_n C 0 rfl rfl dX6_sit_0 ?_
  refine tj_iload_n C 1 rfl rfl dX6_sit_1 ?_
  refine tj_i2l C dX6_sit_2 ?_
  refine tj_callVz C (k := 0) [.long (a1.toInt64)] [] (fun hN => c_M_isPerson (by rw [hN]; exact hM) hf) lk_X6_305 ty_X6_isPerson rfl (Nat.le_of_ble_eq_true rfl) (Nat.le_of_ble_eq_true rfl) (Nat.le_of_ble_eq_true rfl) hM rfl (by decide) rfl rfl dX6_sit_3 (fun r2 S1 hf => ?_)
  have hz_r2 := hf.1
  replace hf := hf.2
  refine tj_if_ne C 15 (by decide) dX6_sit_6 (fun hc => ?_) (fun hc => ?_)
  · replace hf := hf.2 hc
    refine tj_aload_n C 0 rfl rfl dX6_sit_15 ?_
    refine gf_X6_7 C hM dX6_sit_16 ?_
    refine tj_bipush C kb_7 dX6_sit_19 ?_
    refine tj_iald C 48 3548 rfl (ln_48 hw hM) 7 kn_7 (vp_in_nI (by decide) (by decide)) dX6_sit_21 ?_
    refine tj_sipush C ks_9999 dX6_sit_22 ?_
    refine tj_icmp_ne C 34 (by decide) dX6_sit_25 (fun hc => ?_) (fun hc => ?_)
    · replace hf := hf.2 hc
      refine tj_aload_n C 0 rfl rfl dX6_sit_34 ?_
      refine tj_iload_n C 1 rfl rfl dX6_sit_35 ?_
      refine tj_callVi C (k := 0) [.int a1] [] (fun hN => c_M_sits (by rw [hN]; exact hM) hf) lk_X6_341 ty_X6_sits rfl (Nat.le_of_ble_eq_true rfl) (Nat.le_of_ble_eq_true rfl) (Nat.le_of_ble_eq_true rfl) hM rfl (by decide) rfl rfl dX6_sit_36 (fun r4 S3 hf => ?_)
      refine tj_istore_n C (by rw [hR]; decide) [(2, .int r4), (0, .ref (xad Γ 0)), (1, .int a1)] rfl rfl dX6_sit_39 ?_
      refine tj_aload_n C 1 rfl rfl dX6_sit_40 ?_
      refine tj_iload_n C 0 rfl rfl dX6_sit_41 ?_
      refine tj_iconst C kc_m1 dX6_sit_42 ?_
      refine tj_icmp_ne C 55 (by decide) dX6_sit_43 (fun hc => ?_) (fun hc => ?_)
      · replace hf := hf.2 hc
        refine tj_iload_n C 0 rfl rfl dX6_sit_55 ?_
        exact tj_sub [] (w_M_sit_b56 C hw hR r hM hf) rfl
      · replace hf := hf.1 hc
        refine tj_aload_n C 1 rfl rfl dX6_sit_46 ?_
        refine gf_X6_7 C hM dX6_sit_47 ?_
        refine tj_iconst C kc_1 dX6_sit_50 ?_
        refine tj_iald C 48 3548 rfl (ln_48 hw hM) 1 kn_1 (vp_in_nI (by decide) (by decide)) dX6_sit_51 ?_
        refine tj_goto C 56 (by decide) dX6_sit_52 ?_
        exact tj_sub [] (w_M_sit_b56 C hw hR r hM hf) rfl
    · replace hf := hf.1 hc
      refine tj_aload_n C 0 rfl rfl dX6_sit_28 ?_
      refine tj_iconst C kc_4 dX6_sit_29 ?_
      refine tj_callVi C (k := 0) [.int (nI 4)] [] (fun hN => c_M_refuse (by rw [hN]; exact hM) hf) lk_X6_91 ty_X6_refuse rfl (Nat.le_of_ble_eq_true rfl) (Nat.le_of_ble_eq_true rfl) (Nat.le_of_ble_eq_true rfl) hM rfl (by decide) rfl rfl dX6_sit_30 (fun r6 S5 hf => ?_)
      exact r _ _ _ _ dX6_sit_33 hf
  · replace hf := hf.1 hc
    refine tj_aload_n C 0 rfl rfl dX6_sit_9 ?_
    refine tj_iconst C kc_1 dX6_sit_10 ?_
    refine tj_callVi C (k := 0) [.int (nI 1)] [] (fun hN => c_M_refuse (by rw [hN]; exact hM) hf) lk_X6_91 ty_X6_refuse rfl (Nat.le_of_ble_eq_true rfl) (Nat.le_of_ble_eq_true rfl) (Nat.le_of_ble_eq_true rfl) hM rfl (by decide) rfl rfl dX6_sit_11 (fun r8 S7 hf => ?_)
    exact r _ _ _ _ dX6_sit_14 hf
theorem c_M_sit {l : Launch} {G : tG} {ad : Nat → Nat} {A : Nat → Prop} {S : tS} {K : Int32 → tS → Prop} {a1 : Int32} (hM : gN S 0 ≠ 0) (hf : M_sit a1 S K) : Met l yX6_sit (ws_ yX6_sit cX6_sit 3 (some .int)) (tRm 7 161) (va_Pc [.ref (ad 0), .int a1] (tPre G ad A S)) (va_Qi K (tB G ad A (gN S)) A) 0 0 A :=
  tj_met_i [(0, .ref (ad 0)), (1, .int a1)] pn_X6 rfl (Nat.le_of_ble_eq_true rfl) (fun p e R s m args below meth c Q C hw r => w_M_sit_b0 C hw rfl r hM hf)
theorem w_M_smellTo_b0 {Γ : tX} {N0 : Nat → Nat} {K : Int32 → tS → Prop} (C : TC Γ cX6_smellTo RX6 7 155) (hw : tWf N0) (hR : xnL Γ = 2) (r : TRz Γ N0 cX6_smellTo K) {a1 : Int32} (hM : N0 0 ≠ 0) {S : tS} (hf : M_smellTo a1 S K) : TJ Γ N0 0 0 0 [(0, .ref (xad Γ 0)), (1, .int a1)] [] S := by
  unfold M_smellTo at hf
  refine tj_aload_n C 0 rfl rfl dX6_smellTo_0 ?_
  refine tj_iconst C kc_0 dX6_smellTo_1 ?_
  refine tj_aload_n C 0 rfl rfl dX6_smellTo_2 ?_
  refine gf_X6_7 C hM dX6_smellTo_3 ?_
  refine tj_iconst C kc_0 dX6_smellTo_6 ?_
  refine tj_iald C 48 3548 rfl (ln_48 hw hM) 0 kn_0 (vp_in_nI (by decide) (by decide)) dX6_smellTo_7 ?_
  refine tj_iload_n C 1 rfl rfl dX6_smellTo_8 ?_
  refine tj_callVz C (k := 0) [.int (nI 0), .int (gI S 48 0), .int a1] [] (fun hN => c_M_oldOne (by rw [hN]; exact hM) hf) lk_X6_218 ty_X6_oldOne rfl (Nat.le_of_ble_eq_true rfl) (Nat.le_of_ble_eq_true rfl) (Nat.le_of_ble_eq_true rfl) hM rfl (by decide) rfl rfl dX6_smellTo_9 (fun r2 S1 hf => ?_)
  have hz_r2 := hf.1
  replace hf := hf.2
  exact r _ _ _ _ dX6_smellTo_12 hz_r2 hf
theorem c_M_smellTo {l : Launch} {G : tG} {ad : Nat → Nat} {A : Nat → Prop} {S : tS} {K : Int32 → tS → Prop} {a1 : Int32} (hM : gN S 0 ≠ 0) (hf : M_smellTo a1 S K) : Met l yX6_smellTo (ws_ yX6_smellTo cX6_smellTo 2 (some .boolean)) (tRm 7 155) (va_Pc [.ref (ad 0), .int a1] (tPre G ad A S)) (va_Qi (fun r u => r &&& 1 = r ∧ K r u) (tB G ad A (gN S)) A) 0 0 A :=
  tj_met_z [(0, .ref (ad 0)), (1, .int a1)] pn_X6 rfl (Nat.le_of_ble_eq_true rfl) (fun p e R s m args below meth c Q C hw r => w_M_smellTo_b0 C hw rfl r hM hf)
theorem w_M_status_b0 {Γ : tX} {N0 : Nat → Nat} {K : Int32 → tS → Prop} (C : TC Γ cX6_status RX6 0 0) (hw : tWf N0) (hR : xnL Γ = 1) (r : TRi Γ N0 cX6_status K) (hM : N0 0 ≠ 0) {S : tS} (hf : M_status S K) : TJ Γ N0 0 0 0 [(0, .ref (xad Γ 0))] [] S := by
  unfold M_status at hf
  refine tj_aload_n C 0 rfl rfl dX6_status_0 ?_
  refine gf_X6_85 C hM dX6_status_1 ?_
  exact r _ _ _ _ dX6_status_4 hf
theorem c_M_status {l : Launch} {G : tG} {ad : Nat → Nat} {A : Nat → Prop} {S : tS} {K : Int32 → tS → Prop} (hM : gN S 0 ≠ 0) (hf : M_status S K) : Met l yX6_status (ws_ yX6_status cX6_status 1 (some .int)) (tRm 0 0) (va_Pc [.ref (ad 0)] (tPre G ad A S)) (va_Qi K (tB G ad A (gN S)) A) 0 0 A :=
  tj_met_i [(0, .ref (ad 0))] pn_X6 rfl (Nat.le_of_ble_eq_true rfl) (fun p e R s m args below meth c Q C hw r => w_M_status_b0 C hw rfl r hM hf)
theorem w_M_strain_b20 {Γ : tX} {N0 : Nat → Nat} {K : Int32 → tS → Prop} (C : TC Γ cX6_strain RX6 1 25) (hw : tWf N0) (hR : xnL Γ = 3) (r : TRz Γ N0 cX6_strain K) {a1 : Int32} {a2 : Int32} (hM : N0 0 ≠ 0) {S : tS} (hf : M_strain_b20 a1 a2 K  S) : TJ Γ N0 0 0 20 [(0, .ref (xad Γ 0))] [] S := by
  unfold M_strain_b20 at hf
  refine tj_aload_n C 0 rfl rfl dX6_strain_20 ?_
  refine tj_iconst C kc_1 dX6_strain_21 ?_
  refine tj_callVz C (k := 0) [.int (nI 1)] [] (fun hN => c_M_is (by rw [hN]; exact hM) hf) lk_X6_98 ty_X6_is rfl (Nat.le_of_ble_eq_true rfl) (Nat.le_of_ble_eq_true rfl) (Nat.le_of_ble_eq_true rfl) hM rfl (by decide) rfl rfl dX6_strain_22 (fun r9 S8 hf => ?_)
  have hz_r9 := hf.1
  replace hf := hf.2
  exact r _ _ _ _ dX6_strain_25 hz_r9 hf
theorem w_M_strain_b0 {Γ : tX} {N0 : Nat → Nat} {K : Int32 → tS → Prop} (C : TC Γ cX6_strain RX6 1 25) (hw : tWf N0) (hR : xnL Γ = 3) (r : TRz Γ N0 cX6_strain K) {a1 : Int32} {a2 : Int32} (hM : N0 0 ≠ 0) {S : tS} (hf : M_strain a1 a2 S K) : TJ Γ N0 0 0 0 [(0, .ref (xad Γ 0)), (1, .int a1), (2, .int a2)] [] S := by
  unfold M_strain at hf
  refine tj_aload_n C 0 rfl rfl dX6_strain_0 ?_
  refine tj_iload_n C 1 rfl rfl dX6_strain_1 ?_
  refine tj_callVz C (k := 0) [.int a1] [] (fun hN => c_M_isReader (by rw [hN]; exact hM) hf) lk_X6_309 ty_X6_isReader rfl (Nat.le_of_ble_eq_true rfl) (Nat.le_of_ble_eq_true rfl) (Nat.le_of_ble_eq_true rfl) hM rfl (by decide) rfl rfl dX6_strain_2 (fun r2 S1 hf => ?_)
  have hz_r2 := hf.1
  replace hf := hf.2
  refine tj_if_eq C 20 (by decide) dX6_strain_5 (fun hc => ?_) (fun hc => ?_)
  · replace hf := hf.1 hc
    exact tj_sub [0] (w_M_strain_b20 C hw hR r hM hf) rfl
  · replace hf := hf.2 hc
    refine tj_iload_n C 2 rfl rfl dX6_strain_8 ?_
    refine tj_i2l C dX6_strain_9 ?_
    refine tj_lconst C (v := lN 0) rfl dX6_strain_10 ?_
    refine tj_ldc2 C kl_X6_370 dX6_strain_11 ?_
    refine tj_callSz C [.long (a2.toInt64), .long (lN 0), .long (lN 16)] [] (fun hN => c_M_isFrom hf) lk_X6_337 ty_X6_isFrom rfl (Nat.le_of_ble_eq_true rfl) (Nat.le_of_ble_eq_true rfl) (Nat.le_of_ble_eq_true rfl) rfl dX6_strain_14 (fun r4 S3 hf => ?_)
    have hz_r4 := hf.1
    replace hf := hf.2
    refine tj_if_ne C 26 (by decide) dX6_strain_17 (fun hc => ?_) (fun hc => ?_)
    · replace hf := hf.2 hc
      refine tj_aload_n C 0 rfl rfl dX6_strain_26 ?_
      refine gf_X6_7 C hM dX6_strain_27 ?_
      refine tj_bipush C kb_102 dX6_strain_30 ?_
      refine tj_iconst C kc_2 dX6_strain_32 ?_
      refine tj_iload_n C 1 rfl rfl dX6_strain_33 ?_
      refine tj_imul C dX6_strain_34 ?_
      refine tj_iadd C dX6_strain_35 ?_
      refine tj_iload_n C 2 rfl rfl dX6_strain_36 ?_
      refine tj_iast C 48 3548 rfl (ln_48 hw hM) _ rfl hf.1 dX6_strain_37 ?_
      replace hf := hf.2
      refine tj_topS (fun S5 eS => ?_)
      replace hf := hf S5 eS
      refine tj_aload_n C 0 rfl rfl dX6_strain_38 ?_
      refine tj_iconst C kc_0 dX6_strain_39 ?_
      refine tj_callVz C (k := 0) [.int (nI 0)] [] (fun hN => c_M_is (by rw [hN]; exact hM) hf) lk_X6_98 ty_X6_is rfl (Nat.le_of_ble_eq_true rfl) (Nat.le_of_ble_eq_true rfl) (Nat.le_of_ble_eq_true rfl) hM rfl (by decide) rfl rfl dX6_strain_40 (fun r7 S6 hf => ?_)
      have hz_r7 := hf.1
      replace hf := hf.2
      exact r _ _ _ _ dX6_strain_43 hz_r7 hf
    · replace hf := hf.1 hc
      exact tj_sub [0] (w_M_strain_b20 C hw hR r hM hf) rfl
theorem c_M_strain {l : Launch} {G : tG} {ad : Nat → Nat} {A : Nat → Prop} {S : tS} {K : Int32 → tS → Prop} {a1 : Int32} {a2 : Int32} (hM : gN S 0 ≠ 0) (hf : M_strain a1 a2 S K) : Met l yX6_strain (ws_ yX6_strain cX6_strain 3 (some .boolean)) (tRm 1 25) (va_Pc [.ref (ad 0), .int a1, .int a2] (tPre G ad A S)) (va_Qi (fun r u => r &&& 1 = r ∧ K r u) (tB G ad A (gN S)) A) 0 0 A :=
  tj_met_z [(0, .ref (ad 0)), (1, .int a1), (2, .int a2)] pn_X6 rfl (Nat.le_of_ble_eq_true rfl) (fun p e R s m args below meth c Q C hw r => w_M_strain_b0 C hw rfl r hM hf)
theorem w_M_striking_b75 {Γ : tX} {N0 : Nat → Nat} {K : Int32 → tS → Prop} (C : TC Γ cX6_striking RX6 8 184) (hw : tWf N0) (hR : xnL Γ = 4) (r : TRi Γ N0 cX6_striking K) (hM : N0 0 ≠ 0) {κ15 : Int32 → Int32 → Int32 → tS → Prop} (hκ15 : ∀ (a1 : Int32) (a2 : Int32) (a3 : Int32) (S : tS), κ15 a1 a2 a3 S → TJ Γ N0 0 0 15 [(0, .ref (xad Γ 0)), (1, .int a1), (2, .int a2), (3, .int a3)] [] S) {a1 : Int32} {a2 : Int32} {a3 : Int32} {S : tS} (hf : M_striking_b75 K κ15 a1 a2 a3 S) : TJ Γ N0 0 0 75 [(0, .ref (xad Γ 0)), (1, .int a1), (2, .int a2), (3, .int a3)] [] S := by
  unfold M_striking_b75 at hf
  obtain ⟨x10, ex⟩ : ∃ y : Int32, y = a3 + nI 1 := ⟨_, rfl⟩
  refine tj_iinc C (by rw [hR]; decide) 3 [(3, .int x10), (0, .ref (xad Γ 0)), (1, .int a1), (2, .int a2)] rfl (by rw [ex]; exact ki_1 _) rfl dX6_striking_75 ?_
  replace hf := hf x10 ex
  refine tj_goto C 15 (by decide) dX6_striking_78 ?_
  exact tj_sub [1, 2, 3, 0] (hκ15 _ _ _ _ hf) rfl
theorem w_M_striking_b50 {Γ : tX} {N0 : Nat → Nat} {K : Int32 → tS → Prop} (C : TC Γ cX6_striking RX6 8 184) (hw : tWf N0) (hR : xnL Γ = 4) (r : TRi Γ N0 cX6_striking K) (hM : N0 0 ≠ 0) {κ15 : Int32 → Int32 → Int32 → tS → Prop} (hκ15 : ∀ (a1 : Int32) (a2 : Int32) (a3 : Int32) (S : tS), κ15 a1 a2 a3 S → TJ Γ N0 0 0 15 [(0, .ref (xad Γ 0)), (1, .int a1), (2, .int a2), (3, .int a3)] [] S) {a1 : Int32} {a2 : Int32} {a3 : Int32} {S : tS} (hf : M_striking_b50 K κ15 a1 a2 a3 S) : TJ Γ N0 0 0 50 [(0, .ref (xad Γ 0)), (1, .int a1), (2, .int a2), (3, .int a3)] [] S := by
  unfold M_striking_b50 at hf
  refine tj_aload_n C 0 rfl rfl dX6_striking_50 ?_
  refine tj_callVi C (k := 0) [] [] (fun hN => c_M_clashing (by rw [hN]; exact hM) hf) lk_X6_446 ty_X6_clashing rfl (Nat.le_of_ble_eq_true rfl) (Nat.le_of_ble_eq_true rfl) (Nat.le_of_ble_eq_true rfl) hM rfl (by decide) rfl rfl dX6_striking_51 (fun r12 S11 hf => ?_)
  refine tj_iload_n C 3 rfl rfl dX6_striking_54 ?_
  refine tj_iconst C kc_m1 dX6_striking_55 ?_
  refine tj_ixor C dX6_striking_56 ?_
  refine tj_iand C dX6_striking_57 ?_
  refine tj_if_ne C 75 (by decide) dX6_striking_58 (fun hc => ?_) (fun hc => ?_)
  · replace hf := hf.2 hc
    exact w_M_striking_b75 C hw hR r hM hκ15 hf
  · replace hf := hf.1 hc
    refine tj_aload_n C 0 rfl rfl dX6_striking_61 ?_
    refine tj_iload_n C 1 rfl rfl dX6_striking_62 ?_
    refine tj_iload_n C 3 rfl rfl dX6_striking_63 ?_
    refine tj_iconst C kc_m1 dX6_striking_64 ?_
    refine tj_ixor C dX6_striking_65 ?_
    refine tj_iand C dX6_striking_66 ?_
    refine tj_callVz C (k := 0) [.int (a1 &&& (a3 ^^^ (-1)))] [] (fun hN => c_M_areUnlike (by rw [hN]; exact hM) hf) lk_X6_449 ty_X6_areUnlike rfl (Nat.le_of_ble_eq_true rfl) (Nat.le_of_ble_eq_true rfl) (Nat.le_of_ble_eq_true rfl) hM rfl (by decide) rfl rfl dX6_striking_67 (fun r14 S13 hf => ?_)
    have hz_r14 := hf.1
    replace hf := hf.2
    refine tj_if_ne C 75 (by decide) dX6_striking_70 (fun hc => ?_) (fun hc => ?_)
    · replace hf := hf.2 hc
      exact w_M_striking_b75 C hw hR r hM hκ15 hf
    · replace hf := hf.1 hc
      refine tj_iload_n C 3 rfl rfl dX6_striking_73 ?_
      refine tj_istore_n C (by rw [hR]; decide) [(2, .int a3), (0, .ref (xad Γ 0)), (1, .int a1), (3, .int a3)] rfl rfl dX6_striking_74 ?_
      exact tj_sub [1, 2, 0, 3] (w_M_striking_b75 C hw hR r hM hκ15 hf) rfl
theorem w_M_striking_l15 {Γ : tX} {N0 : Nat → Nat} {K : Int32 → tS → Prop} (C : TC Γ cX6_striking RX6 8 184) (hw : tWf N0) (hR : xnL Γ = 4) (r : TRi Γ N0 cX6_striking K) (hM : N0 0 ≠ 0) : ∀ (n : Nat) (a1 : Int32) (a2 : Int32) (a3 : Int32) (S : tS), M_striking_l15 K n a1 a2 a3 S → TJ Γ N0 0 0 15 [(0, .ref (xad Γ 0)), (1, .int a1), (2, .int a2), (3, .int a3)] [] S := by
  intro n
  induction n with
  | zero => intro a1 a2 a3 S hf; exact hf.elim
  | succ n ih =>
    intro a1 a2 a3 S hf
    unfold M_striking_l15 at hf
    refine tj_iload_n C 3 rfl rfl dX6_striking_15 ?_
    refine tj_iload_n C 1 rfl rfl dX6_striking_16 ?_
    refine tj_icmp_gt C 81 (by decide) dX6_striking_17 (fun hc => ?_) (fun hc => ?_)
    · replace hf := hf.1 hc
      refine tj_iload_n C 2 rfl rfl dX6_striking_81 ?_
      exact r _ _ _ _ dX6_striking_82 hf
    · replace hf := hf.2 hc
      refine tj_iload_n C 3 rfl rfl dX6_striking_20 ?_
      refine tj_callSi C [.int a3] [] (fun hN => c_M_bits hf) lk_X6_344 ty_X6_bits rfl (Nat.le_of_ble_eq_true rfl) (Nat.le_of_ble_eq_true rfl) (Nat.le_of_ble_eq_true rfl) rfl dX6_striking_21 (fun r3 S2 hf => ?_)
      refine tj_iload_n C 2 rfl rfl dX6_striking_24 ?_
      refine tj_callSi C [.int a2] [.int r3] (fun hN => c_M_bits hf) lk_X6_344 ty_X6_bits rfl (Nat.le_of_ble_eq_true rfl) (Nat.le_of_ble_eq_true rfl) (Nat.le_of_ble_eq_true rfl) rfl dX6_striking_25 (fun r5 S4 hf => ?_)
      refine tj_icmp_gt C 75 (by decide) dX6_striking_28 (fun hc => ?_) (fun hc => ?_)
      · replace hf := hf.1 hc
        exact w_M_striking_b75 C hw hR r hM ih hf
      · replace hf := hf.2 hc
        refine tj_iload_n C 3 rfl rfl dX6_striking_31 ?_
        refine tj_callSi C [.int a3] [] (fun hN => c_M_bits hf) lk_X6_344 ty_X6_bits rfl (Nat.le_of_ble_eq_true rfl) (Nat.le_of_ble_eq_true rfl) (Nat.le_of_ble_eq_true rfl) rfl dX6_striking_32 (fun r7 S6 hf => ?_)
        refine tj_iload_n C 2 rfl rfl dX6_striking_35 ?_
        refine tj_callSi C [.int a2] [.int r7] (fun hN => c_M_bits hf) lk_X6_344 ty_X6_bits rfl (Nat.le_of_ble_eq_true rfl) (Nat.le_of_ble_eq_true rfl) (Nat.le_of_ble_eq_true rfl) rfl dX6_striking_36 (fun r9 S8 hf => ?_)
        refine tj_icmp_ne C 50 (by decide) dX6_striking_39 (fun hc => ?_) (fun hc => ?_)
        · replace hf := hf.2 hc
          exact w_M_striking_b50 C hw hR r hM ih hf
        · replace hf := hf.1 hc
          refine tj_iload_n C 3 rfl rfl dX6_striking_42 ?_
          refine tj_iload_n C 2 rfl rfl dX6_striking_43 ?_
          refine tj_icmp_lt C 50 (by decide) dX6_striking_44 (fun hc => ?_) (fun hc => ?_)
          · replace hf := hf.1 hc
            exact w_M_striking_b50 C hw hR r hM ih hf
          · replace hf := hf.2 hc
            refine tj_goto C 75 (by decide) dX6_striking_47 ?_
            exact w_M_striking_b75 C hw hR r hM ih hf
theorem w_M_striking_b0 {Γ : tX} {N0 : Nat → Nat} {K : Int32 → tS → Prop} (C : TC Γ cX6_striking RX6 8 184) (hw : tWf N0) (hR : xnL Γ = 4) (r : TRi Γ N0 cX6_striking K) (hM : N0 0 ≠ 0) {S : tS} (hf : M_striking S K) : TJ Γ N0 0 0 0 [(0, .ref (xad Γ 0))] [] S := by
  unfold M_striking at hf
  refine tj_iconst C kc_1 dX6_striking_0 ?_
  refine tj_aload_n C 0 rfl rfl dX6_striking_1 ?_
  refine gf_X6_7 C hM dX6_striking_2 ?_
  refine tj_iconst C kc_5 dX6_striking_5 ?_
  refine tj_iald C 48 3548 rfl (ln_48 hw hM) 5 kn_5 (vp_in_nI (by decide) (by decide)) dX6_striking_6 ?_
  refine tj_ishl C dX6_striking_7 ?_
  refine tj_iconst C kc_1 dX6_striking_8 ?_
  refine tj_isub C dX6_striking_9 ?_
  refine tj_topi (fun x1 ex => ?_)
  replace hf := hf x1 ex
  refine tj_istore_n C (by rw [hR]; decide) [(1, .int x1), (0, .ref (xad Γ 0))] rfl rfl dX6_striking_10 ?_
  refine tj_iload_n C 0 rfl rfl dX6_striking_11 ?_
  refine tj_istore_n C (by rw [hR]; decide) [(2, .int x1), (1, .int x1), (0, .ref (xad Γ 0))] rfl rfl dX6_striking_12 ?_
  refine tj_iconst C kc_0 dX6_striking_13 ?_
  refine tj_istore_n C (by rw [hR]; decide) [(3, .int (nI 0)), (2, .int x1), (1, .int x1), (0, .ref (xad Γ 0))] rfl rfl dX6_striking_14 ?_
  exact tj_sub [3, 2, 1, 0] (hf.elim fun k hf => w_M_striking_l15 C hw hR r hM k _ _ _ _ hf) rfl
theorem c_M_striking {l : Launch} {G : tG} {ad : Nat → Nat} {A : Nat → Prop} {S : tS} {K : Int32 → tS → Prop} (hM : gN S 0 ≠ 0) (hf : M_striking S K) : Met l yX6_striking (ws_ yX6_striking cX6_striking 4 (some .int)) (tRm 8 184) (va_Pc [.ref (ad 0)] (tPre G ad A S)) (va_Qi K (tB G ad A (gN S)) A) 0 0 A :=
  tj_met_i [(0, .ref (ad 0))] pn_X6 rfl (Nat.le_of_ble_eq_true rfl) (fun p e R s m args below meth c Q C hw r => w_M_striking_b0 C hw rfl r hM hf)
theorem w_M_struck_b0 {Γ : tX} {N0 : Nat → Nat} {K : Int32 → tS → Prop} (C : TC Γ cX6_struck RX6 9 207) (hw : tWf N0) (hR : xnL Γ = 1) (r : TRi Γ N0 cX6_struck K) (hM : N0 0 ≠ 0) {S : tS} (hf : M_struck S K) : TJ Γ N0 0 0 0 [(0, .ref (xad Γ 0))] [] S := by
  unfold M_struck at hf
  refine tj_aload_n C 0 rfl rfl dX6_struck_0 ?_
  refine tj_aload_n C 0 rfl rfl dX6_struck_1 ?_
  refine tj_callVi C (k := 0) [] [.ref (xad Γ 0)] (fun hN => c_M_striking (by rw [hN]; exact hM) hf) lk_X6_452 ty_X6_striking rfl (Nat.le_of_ble_eq_true rfl) (Nat.le_of_ble_eq_true rfl) (Nat.le_of_ble_eq_true rfl) hM rfl (by decide) rfl rfl dX6_struck_2 (fun r2 S1 hf => ?_)
  refine tj_callSi C [.int r2] [.ref (xad Γ 0)] (fun hN => c_M_bits hf) lk_X6_344 ty_X6_bits rfl (Nat.le_of_ble_eq_true rfl) (Nat.le_of_ble_eq_true rfl) (Nat.le_of_ble_eq_true rfl) rfl dX6_struck_5 (fun r4 S3 hf => ?_)
  refine tj_callVi C (k := 0) [.int r4] [] (fun hN => c_M_gives (by rw [hN]; exact hM) hf) lk_X6_95 ty_X6_gives rfl (Nat.le_of_ble_eq_true rfl) (Nat.le_of_ble_eq_true rfl) (Nat.le_of_ble_eq_true rfl) hM rfl (by decide) rfl rfl dX6_struck_8 (fun r6 S5 hf => ?_)
  exact r _ _ _ _ dX6_struck_11 hf
theorem c_M_struck {l : Launch} {G : tG} {ad : Nat → Nat} {A : Nat → Prop} {S : tS} {K : Int32 → tS → Prop} (hM : gN S 0 ≠ 0) (hf : M_struck S K) : Met l yX6_struck (ws_ yX6_struck cX6_struck 1 (some .int)) (tRm 9 207) (va_Pc [.ref (ad 0)] (tPre G ad A S)) (va_Qi K (tB G ad A (gN S)) A) 0 0 A :=
  tj_met_i [(0, .ref (ad 0))] pn_X6 rfl (Nat.le_of_ble_eq_true rfl) (fun p e R s m args below meth c Q C hw r => w_M_struck_b0 C hw rfl r hM hf)
theorem w_M_struckSet_b0 {Γ : tX} {N0 : Nat → Nat} {K : Int32 → tS → Prop} (C : TC Γ cX6_struckSet RX6 9 207) (hw : tWf N0) (hR : xnL Γ = 1) (r : TRi Γ N0 cX6_struckSet K) (hM : N0 0 ≠ 0) {S : tS} (hf : M_struckSet S K) : TJ Γ N0 0 0 0 [(0, .ref (xad Γ 0))] [] S := by
  unfold M_struckSet at hf
  refine tj_aload_n C 0 rfl rfl dX6_struckSet_0 ?_
  refine tj_aload_n C 0 rfl rfl dX6_struckSet_1 ?_
  refine tj_callVi C (k := 0) [] [.ref (xad Γ 0)] (fun hN => c_M_striking (by rw [hN]; exact hM) hf) lk_X6_452 ty_X6_striking rfl (Nat.le_of_ble_eq_true rfl) (Nat.le_of_ble_eq_true rfl) (Nat.le_of_ble_eq_true rfl) hM rfl (by decide) rfl rfl dX6_struckSet_2 (fun r2 S1 hf => ?_)
  refine tj_callVi C (k := 0) [.int r2] [] (fun hN => c_M_gives (by rw [hN]; exact hM) hf) lk_X6_95 ty_X6_gives rfl (Nat.le_of_ble_eq_true rfl) (Nat.le_of_ble_eq_true rfl) (Nat.le_of_ble_eq_true rfl) hM rfl (by decide) rfl rfl dX6_struckSet_5 (fun r4 S3 hf => ?_)
  exact r _ _ _ _ dX6_struckSet_8 hf
theorem c_M_struckSet {l : Launch} {G : tG} {ad : Nat → Nat} {A : Nat → Prop} {S : tS} {K : Int32 → tS → Prop} (hM : gN S 0 ≠ 0) (hf : M_struckSet S K) : Met l yX6_struckSet (ws_ yX6_struckSet cX6_struckSet 1 (some .int)) (tRm 9 207) (va_Pc [.ref (ad 0)] (tPre G ad A S)) (va_Qi K (tB G ad A (gN S)) A) 0 0 A :=
  tj_met_i [(0, .ref (ad 0))] pn_X6 rfl (Nat.le_of_ble_eq_true rfl) (fun p e R s m args below meth c Q C hw r => w_M_struckSet_b0 C hw rfl r hM hf)
theorem w_M_sure_b85 {Γ : tX} {N0 : Nat → Nat} {K : Int32 → tS → Prop} (C : TC Γ cX6_sure RX6 8 191) (hw : tWf N0) (hR : xnL Γ = 6) (r : TRi Γ N0 cX6_sure K) {a1 : Int32} {a2 : Int32} {a3 : Int32} (hM : N0 0 ≠ 0) {s1 : Int32} {S : tS} (hf : M_sure_b85 a1 a2 a3 K s1 S) : TJ Γ N0 0 0 85 [] [.int s1, .ref (xad Γ 0)] S := by
  unfold M_sure_b85 at hf
  refine tj_callVi C (k := 0) [.int s1] [] (fun hN => c_M_gives (by rw [hN]; exact hM) hf) lk_X6_95 ty_X6_gives rfl (Nat.le_of_ble_eq_true rfl) (Nat.le_of_ble_eq_true rfl) (Nat.le_of_ble_eq_true rfl) hM rfl (by decide) rfl rfl dX6_sure_85 (fun r13 S12 hf => ?_)
  exact r _ _ _ _ dX6_sure_88 hf
theorem w_M_sure_b74 {Γ : tX} {N0 : Nat → Nat} {K : Int32 → tS → Prop} (C : TC Γ cX6_sure RX6 8 191) (hw : tWf N0) (hR : xnL Γ = 6) (r : TRi Γ N0 cX6_sure K) {a1 : Int32} {a2 : Int32} {a3 : Int32} (hM : N0 0 ≠ 0) {a5 : Int32} {S : tS} (hf : M_sure_b74 a1 a2 a3 K a5 S) : TJ Γ N0 0 0 74 [(0, .ref (xad Γ 0)), (5, .int a5)] [] S := by
  unfold M_sure_b74 at hf
  refine tj_aload_n C 0 rfl rfl dX6_sure_74 ?_
  refine tj_iload C 1 rfl dX6_sure_75 ?_
  refine tj_if_le C 84 (by decide) dX6_sure_77 (fun hc => ?_) (fun hc => ?_)
  · replace hf := hf.1 hc
    refine tj_iconst C kc_0 dX6_sure_84 ?_
    exact tj_sub [] (w_M_sure_b85 C hw hR r hM hf) rfl
  · replace hf := hf.2 hc
    refine tj_iconst C kc_1 dX6_sure_80 ?_
    refine tj_goto C 85 (by decide) dX6_sure_81 ?_
    exact tj_sub [] (w_M_sure_b85 C hw hR r hM hf) rfl
theorem w_M_sure_b67 {Γ : tX} {N0 : Nat → Nat} {K : Int32 → tS → Prop} (C : TC Γ cX6_sure RX6 8 191) (hw : tWf N0) (hR : xnL Γ = 6) (r : TRi Γ N0 cX6_sure K) {a1 : Int32} {a2 : Int32} {a3 : Int32} (hM : N0 0 ≠ 0) {S : tS} (hf : M_sure_b67 a1 a2 a3 K  S) : TJ Γ N0 0 0 67 [(0, .ref (xad Γ 0))] [] S := by
  unfold M_sure_b67 at hf
  refine tj_aload_n C 0 rfl rfl dX6_sure_67 ?_
  refine tj_bipush C kb_6 dX6_sure_68 ?_
  refine tj_callVi C (k := 0) [.int (nI 6)] [] (fun hN => c_M_refuse (by rw [hN]; exact hM) hf) lk_X6_91 ty_X6_refuse rfl (Nat.le_of_ble_eq_true rfl) (Nat.le_of_ble_eq_true rfl) (Nat.le_of_ble_eq_true rfl) hM rfl (by decide) rfl rfl dX6_sure_70 (fun r11 S10 hf => ?_)
  exact r _ _ _ _ dX6_sure_73 hf
theorem w_M_sure_b19 {Γ : tX} {N0 : Nat → Nat} {K : Int32 → tS → Prop} (C : TC Γ cX6_sure RX6 8 191) (hw : tWf N0) (hR : xnL Γ = 6) (r : TRi Γ N0 cX6_sure K) {a1 : Int32} {a2 : Int32} {a3 : Int32} (hM : N0 0 ≠ 0) {s0 : Int32} {S : tS} (hf : M_sure_b19 a1 a2 a3 K s0 S) : TJ Γ N0 0 0 19 [(0, .ref (xad Γ 0)), (1, .int a1), (2, .int a2), (3, .int a3)] [.int s0] S := by
  unfold M_sure_b19 at hf
  refine tj_istore C (by rw [hR]; decide) [(4, .int s0), (0, .ref (xad Γ 0)), (1, .int a1), (2, .int a2), (3, .int a3)] rfl dX6_sure_19 ?_
  refine tj_iload C 0 rfl dX6_sure_21 ?_
  refine tj_if_le C 33 (by decide) dX6_sure_23 (fun hc => ?_) (fun hc => ?_)
  · replace hf := hf.1 hc
    refine tj_aload_n C 1 rfl rfl dX6_sure_33 ?_
    refine tj_iload_n C 3 rfl rfl dX6_sure_34 ?_
    refine tj_iload_n C 4 rfl rfl dX6_sure_35 ?_
    refine tj_callVv C (k := 0) [.int a2, .int a3] [] (fun hN => c_M_laysFits (by rw [hN]; exact hM) hf) lk_X6_398 ty_X6_laysFits rfl (Nat.le_of_ble_eq_true rfl) (Nat.le_of_ble_eq_true rfl) (Nat.le_of_ble_eq_true rfl) hM rfl (by decide) rfl rfl dX6_sure_36 (fun S5 hf => ?_)
    refine tj_aload_n C 1 rfl rfl dX6_sure_39 ?_
    refine tj_iload_n C 2 rfl rfl dX6_sure_40 ?_
    refine tj_callVi C (k := 0) [.int a1] [] (fun hN => c_M_guiltyIn (by rw [hN]; exact hM) hf) lk_X6_402 ty_X6_guiltyIn rfl (Nat.le_of_ble_eq_true rfl) (Nat.le_of_ble_eq_true rfl) (Nat.le_of_ble_eq_true rfl) hM rfl (by decide) rfl rfl dX6_sure_41 (fun r7 S6 hf => ?_)
    refine tj_istore C (by rw [hR]; decide) [(5, .int r7), (4, .int s0), (0, .ref (xad Γ 0)), (1, .int a1), (2, .int a2), (3, .int a3)] rfl dX6_sure_44 ?_
    refine tj_aload_n C 2 rfl rfl dX6_sure_46 ?_
    refine gf_X6_389 C hM dX6_sure_47 ?_
    refine tj_if_eq C 67 (by decide) dX6_sure_50 (fun hc => ?_) (fun hc => ?_)
    · replace hf := hf.1 hc
      exact tj_sub [2] (w_M_sure_b67 C hw hR r hM hf) rfl
    · replace hf := hf.2 hc
      refine tj_iload C 0 rfl dX6_sure_53 ?_
      refine tj_if_le C 74 (by decide) dX6_sure_55 (fun hc => ?_) (fun hc => ?_)
      · replace hf := hf.1 hc
        exact tj_sub [2, 0] (w_M_sure_b74 C hw hR r hM hf) rfl
      · replace hf := hf.2 hc
        refine tj_iload C 0 rfl dX6_sure_58 ?_
        refine tj_aload_n C 2 rfl rfl dX6_sure_60 ?_
        refine gf_X6_389 C hM dX6_sure_61 ?_
        refine tj_icmp_ge C 74 (by decide) dX6_sure_64 (fun hc => ?_) (fun hc => ?_)
        · replace hf := hf.1 hc
          exact tj_sub [2, 0] (w_M_sure_b74 C hw hR r hM hf) rfl
        · replace hf := hf.2 hc
          exact tj_sub [2] (w_M_sure_b67 C hw hR r hM hf) rfl
  · replace hf := hf.2 hc
    refine tj_aload_n C 1 rfl rfl dX6_sure_26 ?_
    refine tj_iload C 0 rfl dX6_sure_27 ?_
    refine tj_callVi C (k := 0) [.int s0] [] (fun hN => c_M_refuse (by rw [hN]; exact hM) hf) lk_X6_91 ty_X6_refuse rfl (Nat.le_of_ble_eq_true rfl) (Nat.le_of_ble_eq_true rfl) (Nat.le_of_ble_eq_true rfl) hM rfl (by decide) rfl rfl dX6_sure_29 (fun r9 S8 hf => ?_)
    exact r _ _ _ _ dX6_sure_32 hf
theorem w_M_sure_b0 {Γ : tX} {N0 : Nat → Nat} {K : Int32 → tS → Prop} (C : TC Γ cX6_sure RX6 8 191) (hw : tWf N0) (hR : xnL Γ = 6) (r : TRi Γ N0 cX6_sure K) {a1 : Int32} {a2 : Int32} {a3 : Int32} (hM : N0 0 ≠ 0) {S : tS} (hf : M_sure a1 a2 a3 S K) : TJ Γ N0 0 0 0 [(0, .ref (xad Γ 0)), (1, .int a1), (2, .int a2), (3, .int a3)] [] S := by
  unfold M_sure at hf
  refine tj_aload_n C 0 rfl rfl dX6_sure_0 ?_
  refine tj_iload_n C 1 rfl rfl dX6_sure_1 ?_
  refine tj_i2l C dX6_sure_2 ?_
  refine tj_callVz C (k := 0) [.long (a1.toInt64)] [] (fun hN => c_M_isPerson (by rw [hN]; exact hM) hf) lk_X6_305 ty_X6_isPerson rfl (Nat.le_of_ble_eq_true rfl) (Nat.le_of_ble_eq_true rfl) (Nat.le_of_ble_eq_true rfl) hM rfl (by decide) rfl rfl dX6_sure_3 (fun r2 S1 hf => ?_)
  have hz_r2 := hf.1
  replace hf := hf.2
  refine tj_if_eq C 18 (by decide) dX6_sure_6 (fun hc => ?_) (fun hc => ?_)
  · replace hf := hf.1 hc
    refine tj_iconst C kc_1 dX6_sure_18 ?_
    exact w_M_sure_b19 C hw hR r hM hf
  · replace hf := hf.2 hc
    refine tj_aload_n C 0 rfl rfl dX6_sure_9 ?_
    refine tj_iload_n C 2 rfl rfl dX6_sure_10 ?_
    refine tj_iload_n C 3 rfl rfl dX6_sure_11 ?_
    refine tj_callVi C (k := 0) [.int a2, .int a3] [] (fun hN => c_M_wrongSeen (by rw [hN]; exact hM) hf) lk_X6_395 ty_X6_wrongSeen rfl (Nat.le_of_ble_eq_true rfl) (Nat.le_of_ble_eq_true rfl) (Nat.le_of_ble_eq_true rfl) hM rfl (by decide) rfl rfl dX6_sure_12 (fun r4 S3 hf => ?_)
    refine tj_goto C 19 (by decide) dX6_sure_15 ?_
    exact w_M_sure_b19 C hw hR r hM hf
theorem c_M_sure {l : Launch} {G : tG} {ad : Nat → Nat} {A : Nat → Prop} {S : tS} {K : Int32 → tS → Prop} {a1 : Int32} {a2 : Int32} {a3 : Int32} (hM : gN S 0 ≠ 0) (hf : M_sure a1 a2 a3 S K) : Met l yX6_sure (ws_ yX6_sure cX6_sure 6 (some .int)) (tRm 8 191) (va_Pc [.ref (ad 0), .int a1, .int a2, .int a3] (tPre G ad A S)) (va_Qi K (tB G ad A (gN S)) A) 0 0 A :=
  tj_met_i [(0, .ref (ad 0)), (1, .int a1), (2, .int a2), (3, .int a3)] pn_X6 rfl (Nat.le_of_ble_eq_true rfl) (fun p e R s m args below meth c Q C hw r => w_M_sure_b0 C hw rfl r hM hf)
theorem w_M_sworn_b76 {Γ : tX} {N0 : Nat → Nat} {K : Int32 → tS → Prop} (C : TC Γ cX6_sworn RX6 2 51) (hw : tWf N0) (hR : xnL Γ = 8) (r : TRi Γ N0 cX6_sworn K) {a1 : Int32} (hM : N0 0 ≠ 0) {κ27 : Int32 → Int64 → Int32 → tS → Prop} (hκ27 : ∀ (a2 : Int32) (a3 : Int64) (a5 : Int32) (S : tS), κ27 a2 a3 a5 S → TJ Γ N0 0 0 27 [(0, .ref (xad Γ 0)), (1, .int a1), (2, .int a2), (3, .long a3), (5, .int a5)] [] S) {a2 : Int32} {a3 : Int64} {a5 : Int32} {S : tS} (hf : M_sworn_b76 a1 K κ27 a2 a3 a5 S) : TJ Γ N0 0 0 76 [(0, .ref (xad Γ 0)), (1, .int a1), (2, .int a2), (3, .long a3), (5, .int a5)] [] S := by
  unfold M_sworn_b76 at hf
  obtain ⟨x11, ex⟩ : ∃ y : Int32, y = a5 + nI 1 := ⟨_, rfl⟩
  refine tj_iinc C (by rw [hR]; decide) 4 [(5, .int x11), (0, .ref (xad Γ 0)), (1, .int a1), (2, .int a2), (3, .long a3)] rfl (by rw [ex]; exact ki_1 _) rfl dX6_sworn_76 ?_
  replace hf := hf x11 ex
  refine tj_goto C 27 (by decide) dX6_sworn_79 ?_
  exact tj_sub [1, 2, 3, 4, 0] (hκ27 _ _ _ _ hf) rfl
theorem w_M_sworn_l27 {Γ : tX} {N0 : Nat → Nat} {K : Int32 → tS → Prop} (C : TC Γ cX6_sworn RX6 2 51) (hw : tWf N0) (hR : xnL Γ = 8) (r : TRi Γ N0 cX6_sworn K) {a1 : Int32} (hM : N0 0 ≠ 0) : ∀ (n : Nat) (a2 : Int32) (a3 : Int64) (a5 : Int32) (S : tS), M_sworn_l27 a1 K n a2 a3 a5 S → TJ Γ N0 0 0 27 [(0, .ref (xad Γ 0)), (1, .int a1), (2, .int a2), (3, .long a3), (5, .int a5)] [] S := by
  intro n
  induction n with
  | zero => intro a2 a3 a5 S hf; exact hf.elim
  | succ n ih =>
    intro a2 a3 a5 S hf
    unfold M_sworn_l27 at hf
    refine tj_iload C 4 rfl dX6_sworn_27 ?_
    refine tj_iconst C kc_1 dX6_sworn_29 ?_
    refine tj_aload_n C 0 rfl rfl dX6_sworn_30 ?_
    refine gf_X6_7 C hM dX6_sworn_31 ?_
    refine tj_iconst C kc_4 dX6_sworn_34 ?_
    refine tj_iald C 48 3548 rfl (ln_48 hw hM) 4 kn_4 (vp_in_nI (by decide) (by decide)) dX6_sworn_35 ?_
    refine tj_ishl C dX6_sworn_36 ?_
    refine tj_icmp_ge C 82 (by decide) dX6_sworn_37 (fun hc => ?_) (fun hc => ?_)
    · replace hf := hf.1 hc
      refine tj_aload_n C 0 rfl rfl dX6_sworn_82 ?_
      refine tj_iload_n C 2 rfl rfl dX6_sworn_83 ?_
      refine tj_callVi C (k := 0) [.int a2] [] (fun hN => c_M_orNone (by rw [hN]; exact hM) hf) lk_X6_302 ty_X6_orNone rfl (Nat.le_of_ble_eq_true rfl) (Nat.le_of_ble_eq_true rfl) (Nat.le_of_ble_eq_true rfl) hM rfl (by decide) rfl rfl dX6_sworn_84 (fun r6 S5 hf => ?_)
      exact r _ _ _ _ dX6_sworn_87 hf
    · replace hf := hf.2 hc
      refine tj_iload C 4 rfl dX6_sworn_40 ?_
      refine tj_callSi C [.int a5] [] (fun hN => c_M_bits hf) lk_X6_344 ty_X6_bits rfl (Nat.le_of_ble_eq_true rfl) (Nat.le_of_ble_eq_true rfl) (Nat.le_of_ble_eq_true rfl) rfl dX6_sworn_42 (fun r8 S7 hf => ?_)
      refine tj_iload_n C 1 rfl rfl dX6_sworn_45 ?_
      refine tj_icmp_eq C 52 (by decide) dX6_sworn_46 (fun hc => ?_) (fun hc => ?_)
      · replace hf := hf.1 hc
        refine tj_aload_n C 0 rfl rfl dX6_sworn_52 ?_
        refine tj_iload C 4 rfl dX6_sworn_53 ?_
        refine tj_callVl C (k := 0) [.int a5] [] (fun hN => c_M_rightOf (by rw [hN]; exact hM) hf) lk_X6_431 ty_X6_rightOf rfl (Nat.le_of_ble_eq_true rfl) (Nat.le_of_ble_eq_true rfl) (Nat.le_of_ble_eq_true rfl) hM rfl (by decide) rfl rfl dX6_sworn_55 (fun r10 S9 hf => ?_)
        refine tj_lstore C (by rw [hR]; decide) [(6, .long r10), (0, .ref (xad Γ 0)), (1, .int a1), (2, .int a2), (3, .long a3), (5, .int a5)] rfl dX6_sworn_58 ?_
        refine tj_lload C 0 rfl dX6_sworn_60 ?_
        refine tj_lload_n C 4 rfl rfl dX6_sworn_62 ?_
        refine tj_lcmp C dX6_sworn_63 ?_
        refine tj_if_gt C 70 (by decide) dX6_sworn_64 (fun hc => ?_) (fun hc => ?_)
        · replace hf := hf.1 hc
          refine tj_lload C 0 rfl dX6_sworn_70 ?_
          refine tj_lstore_n C (by rw [hR]; decide) [(3, .long r10), (6, .long r10), (0, .ref (xad Γ 0)), (1, .int a1), (2, .int a2), (5, .int a5)] rfl rfl dX6_sworn_72 ?_
          refine tj_iload C 5 rfl dX6_sworn_73 ?_
          refine tj_istore_n C (by rw [hR]; decide) [(2, .int a5), (3, .long r10), (6, .long r10), (0, .ref (xad Γ 0)), (1, .int a1), (5, .int a5)] rfl rfl dX6_sworn_75 ?_
          exact tj_sub [3, 4, 0, 1, 5] (w_M_sworn_b76 C hw hR r hM ih hf) rfl
        · replace hf := hf.2 hc
          refine tj_goto C 76 (by decide) dX6_sworn_67 ?_
          exact tj_sub [1, 2, 3, 4, 5] (w_M_sworn_b76 C hw hR r hM ih hf) rfl
      · replace hf := hf.2 hc
        refine tj_goto C 76 (by decide) dX6_sworn_49 ?_
        exact w_M_sworn_b76 C hw hR r hM ih hf
theorem w_M_sworn_b0 {Γ : tX} {N0 : Nat → Nat} {K : Int32 → tS → Prop} (C : TC Γ cX6_sworn RX6 2 51) (hw : tWf N0) (hR : xnL Γ = 8) (r : TRi Γ N0 cX6_sworn K) {a1 : Int32} (hM : N0 0 ≠ 0) {S : tS} (hf : M_sworn a1 S K) : TJ Γ N0 0 0 0 [(0, .ref (xad Γ 0)), (1, .int a1)] [] S := by
  unfold M_sworn at hf
  refine tj_iload_n C 1 rfl rfl dX6_sworn_0 ?_
  refine tj_i2l C dX6_sworn_1 ?_
  refine tj_lconst C (v := lN 1) rfl dX6_sworn_2 ?_
  refine tj_ldc2 C kl_X6_435 dX6_sworn_3 ?_
  refine tj_callSz C [.long (a1.toInt64), .long (lN 1), .long (lN 6)] [] (fun hN => c_M_isFrom hf) lk_X6_337 ty_X6_isFrom rfl (Nat.le_of_ble_eq_true rfl) (Nat.le_of_ble_eq_true rfl) (Nat.le_of_ble_eq_true rfl) rfl dX6_sworn_6 (fun r2 S1 hf => ?_)
  have hz_r2 := hf.1
  replace hf := hf.2
  refine tj_if_ne C 18 (by decide) dX6_sworn_9 (fun hc => ?_) (fun hc => ?_)
  · replace hf := hf.2 hc
    refine tj_iconst C kc_m1 dX6_sworn_18 ?_
    refine tj_istore_n C (by rw [hR]; decide) [(2, .int (-1)), (0, .ref (xad Γ 0)), (1, .int a1)] rfl rfl dX6_sworn_19 ?_
    refine tj_ldc2 C kl_X6_113 dX6_sworn_20 ?_
    refine tj_lstore_n C (by rw [hR]; decide) [(3, .long (-1)), (2, .int (-1)), (0, .ref (xad Γ 0)), (1, .int a1)] rfl rfl dX6_sworn_23 ?_
    refine tj_iconst C kc_1 dX6_sworn_24 ?_
    refine tj_istore C (by rw [hR]; decide) [(5, .int (nI 1)), (3, .long (-1)), (2, .int (-1)), (0, .ref (xad Γ 0)), (1, .int a1)] rfl dX6_sworn_25 ?_
    exact tj_sub [3, 4, 2, 1, 0] (hf.elim fun k hf => w_M_sworn_l27 C hw hR r hM k _ _ _ _ hf) rfl
  · replace hf := hf.1 hc
    refine tj_aload_n C 0 rfl rfl dX6_sworn_12 ?_
    refine tj_iconst C kc_1 dX6_sworn_13 ?_
    refine tj_callVi C (k := 0) [.int (nI 1)] [] (fun hN => c_M_refuse (by rw [hN]; exact hM) hf) lk_X6_91 ty_X6_refuse rfl (Nat.le_of_ble_eq_true rfl) (Nat.le_of_ble_eq_true rfl) (Nat.le_of_ble_eq_true rfl) hM rfl (by decide) rfl rfl dX6_sworn_14 (fun r4 S3 hf => ?_)
    exact r _ _ _ _ dX6_sworn_17 hf
theorem c_M_sworn {l : Launch} {G : tG} {ad : Nat → Nat} {A : Nat → Prop} {S : tS} {K : Int32 → tS → Prop} {a1 : Int32} (hM : gN S 0 ≠ 0) (hf : M_sworn a1 S K) : Met l yX6_sworn (ws_ yX6_sworn cX6_sworn 8 (some .int)) (tRm 2 51) (va_Pc [.ref (ad 0), .int a1] (tPre G ad A S)) (va_Qi K (tB G ad A (gN S)) A) 0 0 A :=
  tj_met_i [(0, .ref (ad 0)), (1, .int a1)] pn_X6 rfl (Nat.le_of_ble_eq_true rfl) (fun p e R s m args below meth c Q C hw r => w_M_sworn_b0 C hw rfl r hM hf)
theorem w_M_tells_b70 {Γ : tX} {N0 : Nat → Nat} {K : Int32 → tS → Prop} (C : TC Γ cX6_tells RX6 5 117) (hw : tWf N0) (hR : xnL Γ = 5) (r : TRz Γ N0 cX6_tells K) {a1 : Int32} (hM : N0 0 ≠ 0) {κ25 : Int32 → Int32 → Int32 → tS → Prop} (hκ25 : ∀ (a2 : Int32) (a3 : Int32) (a4 : Int32) (S : tS), κ25 a2 a3 a4 S → TJ Γ N0 0 0 25 [(0, .ref (xad Γ 0)), (1, .int a1), (2, .int a2), (3, .int a3), (4, .int a4)] [] S) {a2 : Int32} {a3 : Int32} {a4 : Int32} {S : tS} (hf : M_tells_b70 a1 K κ25 a2 a3 a4 S) : TJ Γ N0 0 0 70 [(0, .ref (xad Γ 0)), (1, .int a1), (2, .int a2), (3, .int a3), (4, .int a4)] [] S := by
  unfold M_tells_b70 at hf
  obtain ⟨x14, ex⟩ : ∃ y : Int32, y = a4 + nI 1 := ⟨_, rfl⟩
  refine tj_iinc C (by rw [hR]; decide) 4 [(4, .int x14), (0, .ref (xad Γ 0)), (1, .int a1), (2, .int a2), (3, .int a3)] rfl (by rw [ex]; exact ki_1 _) rfl dX6_tells_70 ?_
  replace hf := hf x14 ex
  refine tj_goto C 25 (by decide) dX6_tells_73 ?_
  exact tj_sub [1, 2, 3, 4, 0] (hκ25 _ _ _ _ hf) rfl
theorem w_M_tells_l25 {Γ : tX} {N0 : Nat → Nat} {K : Int32 → tS → Prop} (C : TC Γ cX6_tells RX6 5 117) (hw : tWf N0) (hR : xnL Γ = 5) (r : TRz Γ N0 cX6_tells K) {a1 : Int32} (hM : N0 0 ≠ 0) : ∀ (n : Nat) (a2 : Int32) (a3 : Int32) (a4 : Int32) (S : tS), M_tells_l25 a1 K n a2 a3 a4 S → TJ Γ N0 0 0 25 [(0, .ref (xad Γ 0)), (1, .int a1), (2, .int a2), (3, .int a3), (4, .int a4)] [] S := by
  intro n
  induction n with
  | zero => intro a2 a3 a4 S hf; exact hf.elim
  | succ n ih =>
    intro a2 a3 a4 S hf
    unfold M_tells_l25 at hf
    refine tj_iload C 4 rfl dX6_tells_25 ?_
    refine tj_aload_n C 0 rfl rfl dX6_tells_27 ?_
    refine gf_X6_7 C hM dX6_tells_28 ?_
    refine tj_iconst C kc_2 dX6_tells_31 ?_
    refine tj_iald C 48 3548 rfl (ln_48 hw hM) 2 kn_2 (vp_in_nI (by decide) (by decide)) dX6_tells_32 ?_
    refine tj_icmp_ge C 76 (by decide) dX6_tells_33 (fun hc => ?_) (fun hc => ?_)
    · replace hf := hf.1 hc
      refine tj_iload_n C 2 rfl rfl dX6_tells_76 ?_
      refine tj_if_ne C 89 (by decide) dX6_tells_77 (fun hc => ?_) (fun hc => ?_)
      · replace hf := hf.2 hc
        refine tj_aload_n C 0 rfl rfl dX6_tells_89 ?_
        refine tj_iload_n C 3 rfl rfl dX6_tells_90 ?_
        refine tj_i2l C dX6_tells_91 ?_
        refine tj_iload_n C 2 rfl rfl dX6_tells_92 ?_
        refine tj_i2l C dX6_tells_93 ?_
        refine tj_callVz C (k := 0) [.long (a3.toInt64), .long (a2.toInt64)] [] (fun hN => c_M_tellsBy (by rw [hN]; exact hM) hf) lk_X6_405 ty_X6_tellsBy rfl (Nat.le_of_ble_eq_true rfl) (Nat.le_of_ble_eq_true rfl) (Nat.le_of_ble_eq_true rfl) hM rfl (by decide) rfl rfl dX6_tells_94 (fun r7 S6 hf => ?_)
        have hz_r7 := hf.1
        replace hf := hf.2
        exact r _ _ _ _ dX6_tells_97 hz_r7 hf
      · replace hf := hf.1 hc
        refine tj_aload_n C 0 rfl rfl dX6_tells_80 ?_
        refine tj_bipush C kb_6 dX6_tells_81 ?_
        refine tj_callVz C (k := 0) [.int (nI 6)] [] (fun hN => c_M_is (by rw [hN]; exact hM) hf) lk_X6_98 ty_X6_is rfl (Nat.le_of_ble_eq_true rfl) (Nat.le_of_ble_eq_true rfl) (Nat.le_of_ble_eq_true rfl) hM rfl (by decide) rfl rfl dX6_tells_83 (fun r9 S8 hf => ?_)
        have hz_r9 := hf.1
        replace hf := hf.2
        refine tj_goto C 97 (by decide) dX6_tells_86 ?_
        exact r _ _ _ _ dX6_tells_97 hz_r9 hf
    · replace hf := hf.2 hc
      refine tj_aload_n C 0 rfl rfl dX6_tells_36 ?_
      refine tj_iload C 4 rfl dX6_tells_37 ?_
      refine tj_iconst C kc_0 dX6_tells_39 ?_
      refine tj_callVi C (k := 0) [.int a4, .int (nI 0)] [] (fun hN => c_M_ruleOf (by rw [hN]; exact hM) hf) lk_X6_299 ty_X6_ruleOf rfl (Nat.le_of_ble_eq_true rfl) (Nat.le_of_ble_eq_true rfl) (Nat.le_of_ble_eq_true rfl) hM rfl (by decide) rfl rfl dX6_tells_40 (fun r11 S10 hf => ?_)
      refine tj_iload_n C 1 rfl rfl dX6_tells_43 ?_
      refine tj_icmp_eq C 50 (by decide) dX6_tells_44 (fun hc => ?_) (fun hc => ?_)
      · replace hf := hf.1 hc
        refine tj_iload_n C 2 rfl rfl dX6_tells_50 ?_
        refine tj_aload_n C 0 rfl rfl dX6_tells_51 ?_
        refine gf_X6_54 C hM dX6_tells_52 ?_
        refine tj_iload C 4 rfl dX6_tells_55 ?_
        refine tj_iald C 368 9 rfl (ln_368 hw hM) _ rfl hf.1 dX6_tells_57 ?_
        replace hf := hf.2
        refine tj_iadd C dX6_tells_58 ?_
        refine tj_topi (fun x12 ex => ?_)
        replace hf := hf x12 ex
        refine tj_istore_n C (by rw [hR]; decide) [(2, .int x12), (0, .ref (xad Γ 0)), (1, .int a1), (3, .int a3), (4, .int a4)] rfl rfl dX6_tells_59 ?_
        refine tj_iload_n C 3 rfl rfl dX6_tells_60 ?_
        refine tj_aload_n C 1 rfl rfl dX6_tells_61 ?_
        refine gf_X6_57 C hM dX6_tells_62 ?_
        refine tj_iload C 4 rfl dX6_tells_65 ?_
        refine tj_iald C 400 9 rfl (ln_400 hw hM) _ rfl hf.1 dX6_tells_67 ?_
        replace hf := hf.2
        refine tj_iadd C dX6_tells_68 ?_
        refine tj_topi (fun x13 ex => ?_)
        replace hf := hf x13 ex
        refine tj_istore_n C (by rw [hR]; decide) [(3, .int x13), (2, .int x12), (0, .ref (xad Γ 0)), (1, .int a1), (4, .int a4)] rfl rfl dX6_tells_69 ?_
        exact tj_sub [2, 3, 1, 0, 4] (w_M_tells_b70 C hw hR r hM ih hf) rfl
      · replace hf := hf.2 hc
        refine tj_goto C 70 (by decide) dX6_tells_47 ?_
        exact w_M_tells_b70 C hw hR r hM ih hf
theorem w_M_tells_b0 {Γ : tX} {N0 : Nat → Nat} {K : Int32 → tS → Prop} (C : TC Γ cX6_tells RX6 5 117) (hw : tWf N0) (hR : xnL Γ = 5) (r : TRz Γ N0 cX6_tells K) {a1 : Int32} (hM : N0 0 ≠ 0) {S : tS} (hf : M_tells a1 S K) : TJ Γ N0 0 0 0 [(0, .ref (xad Γ 0)), (1, .int a1)] [] S := by
  unfold M_tells at hf
  refine tj_aload_n C 0 rfl rfl dX6_tells_0 ?_
  refine tj_iload_n C 1 rfl rfl dX6_tells_1 ?_
  refine tj_callVz C (k := 0) [.int a1] [] (fun hN => c_M_isCue (by rw [hN]; exact hM) hf) lk_X6_293 ty_X6_isCue rfl (Nat.le_of_ble_eq_true rfl) (Nat.le_of_ble_eq_true rfl) (Nat.le_of_ble_eq_true rfl) hM rfl (by decide) rfl rfl dX6_tells_2 (fun r2 S1 hf => ?_)
  have hz_r2 := hf.1
  replace hf := hf.2
  refine tj_if_ne C 14 (by decide) dX6_tells_5 (fun hc => ?_) (fun hc => ?_)
  · replace hf := hf.2 hc
    refine tj_aload_n C 0 rfl rfl dX6_tells_14 ?_
    refine tj_callVv C (k := 0) [] [] (fun hN => c_M_laysWorlds (by rw [hN]; exact hM) hf) lk_X6_428 ty_X6_laysWorlds rfl (Nat.le_of_ble_eq_true rfl) (Nat.le_of_ble_eq_true rfl) (Nat.le_of_ble_eq_true rfl) hM rfl (by decide) rfl rfl dX6_tells_15 (fun S3 hf => ?_)
    refine tj_iconst C kc_0 dX6_tells_18 ?_
    refine tj_istore_n C (by rw [hR]; decide) [(2, .int (nI 0)), (0, .ref (xad Γ 0)), (1, .int a1)] rfl rfl dX6_tells_19 ?_
    refine tj_iconst C kc_0 dX6_tells_20 ?_
    refine tj_istore_n C (by rw [hR]; decide) [(3, .int (nI 0)), (2, .int (nI 0)), (0, .ref (xad Γ 0)), (1, .int a1)] rfl rfl dX6_tells_21 ?_
    refine tj_iconst C kc_0 dX6_tells_22 ?_
    refine tj_istore C (by rw [hR]; decide) [(4, .int (nI 0)), (3, .int (nI 0)), (2, .int (nI 0)), (0, .ref (xad Γ 0)), (1, .int a1)] rfl dX6_tells_23 ?_
    exact tj_sub [3, 4, 2, 1, 0] (hf.elim fun k hf => w_M_tells_l25 C hw hR r hM k _ _ _ _ hf) rfl
  · replace hf := hf.1 hc
    refine tj_aload_n C 0 rfl rfl dX6_tells_8 ?_
    refine tj_iconst C kc_1 dX6_tells_9 ?_
    refine tj_callVz C (k := 0) [.int (nI 1)] [] (fun hN => c_M_is (by rw [hN]; exact hM) hf) lk_X6_98 ty_X6_is rfl (Nat.le_of_ble_eq_true rfl) (Nat.le_of_ble_eq_true rfl) (Nat.le_of_ble_eq_true rfl) hM rfl (by decide) rfl rfl dX6_tells_10 (fun r5 S4 hf => ?_)
    have hz_r5 := hf.1
    replace hf := hf.2
    exact r _ _ _ _ dX6_tells_13 hz_r5 hf
theorem c_M_tells {l : Launch} {G : tG} {ad : Nat → Nat} {A : Nat → Prop} {S : tS} {K : Int32 → tS → Prop} {a1 : Int32} (hM : gN S 0 ≠ 0) (hf : M_tells a1 S K) : Met l yX6_tells (ws_ yX6_tells cX6_tells 5 (some .boolean)) (tRm 5 117) (va_Pc [.ref (ad 0), .int a1] (tPre G ad A S)) (va_Qi (fun r u => r &&& 1 = r ∧ K r u) (tB G ad A (gN S)) A) 0 0 A :=
  tj_met_z [(0, .ref (ad 0)), (1, .int a1)] pn_X6 rfl (Nat.le_of_ble_eq_true rfl) (fun p e R s m args below meth c Q C hw r => w_M_tells_b0 C hw rfl r hM hf)
theorem w_M_term_b0 {Γ : tX} {N0 : Nat → Nat} {K : Int32 → tS → Prop} (C : TC Γ cX6_term RX6 8 186) (hw : tWf N0) (hR : xnL Γ = 1) (r : TRi Γ N0 cX6_term K) (hM : N0 0 ≠ 0) {S : tS} (hf : M_term S K) : TJ Γ N0 0 0 0 [(0, .ref (xad Γ 0))] [] S := by
  unfold M_term at hf
  refine tj_aload_n C 0 rfl rfl dX6_term_0 ?_
  refine tj_callVz C (k := 0) [] [] (fun hN => c_M_isTooMuch (by rw [hN]; exact hM) hf) lk_X6_347 ty_X6_isTooMuch rfl (Nat.le_of_ble_eq_true rfl) (Nat.le_of_ble_eq_true rfl) (Nat.le_of_ble_eq_true rfl) hM rfl (by decide) rfl rfl dX6_term_1 (fun r2 S1 hf => ?_)
  have hz_r2 := hf.1
  replace hf := hf.2
  refine tj_if_eq C 13 (by decide) dX6_term_4 (fun hc => ?_) (fun hc => ?_)
  · replace hf := hf.1 hc
    refine tj_aload_n C 0 rfl rfl dX6_term_13 ?_
    refine tj_iconst C kc_0 dX6_term_14 ?_
    refine tj_callVi C (k := 0) [.int (nI 0)] [] (fun hN => c_M_peopleThat (by rw [hN]; exact hM) hf) lk_X6_290 ty_X6_peopleThat rfl (Nat.le_of_ble_eq_true rfl) (Nat.le_of_ble_eq_true rfl) (Nat.le_of_ble_eq_true rfl) hM rfl (by decide) rfl rfl dX6_term_15 (fun r4 S3 hf => ?_)
    refine tj_if_ne C 30 (by decide) dX6_term_18 (fun hc => ?_) (fun hc => ?_)
    · replace hf := hf.2 hc
      refine tj_aload_n C 0 rfl rfl dX6_term_30 ?_
      refine tj_aload_n C 0 rfl rfl dX6_term_31 ?_
      refine tj_callVi C (k := 0) [] [.ref (xad Γ 0)] (fun hN => c_M_terms (by rw [hN]; exact hM) hf) lk_X6_350 ty_X6_terms rfl (Nat.le_of_ble_eq_true rfl) (Nat.le_of_ble_eq_true rfl) (Nat.le_of_ble_eq_true rfl) hM rfl (by decide) rfl rfl dX6_term_32 (fun r6 S5 hf => ?_)
      refine tj_callVi C (k := 0) [.int r6] [] (fun hN => c_M_gives (by rw [hN]; exact hM) hf) lk_X6_95 ty_X6_gives rfl (Nat.le_of_ble_eq_true rfl) (Nat.le_of_ble_eq_true rfl) (Nat.le_of_ble_eq_true rfl) hM rfl (by decide) rfl rfl dX6_term_35 (fun r8 S7 hf => ?_)
      exact r _ _ _ _ dX6_term_38 hf
    · replace hf := hf.1 hc
      refine tj_aload_n C 0 rfl rfl dX6_term_21 ?_
      refine tj_bipush C kb_7 dX6_term_22 ?_
      refine tj_callVi C (k := 0) [.int (nI 7)] [] (fun hN => c_M_refuse (by rw [hN]; exact hM) hf) lk_X6_91 ty_X6_refuse rfl (Nat.le_of_ble_eq_true rfl) (Nat.le_of_ble_eq_true rfl) (Nat.le_of_ble_eq_true rfl) hM rfl (by decide) rfl rfl dX6_term_24 (fun r10 S9 hf => ?_)
      refine tj_goto C 38 (by decide) dX6_term_27 ?_
      exact r _ _ _ _ dX6_term_38 hf
  · replace hf := hf.2 hc
    refine tj_aload_n C 0 rfl rfl dX6_term_7 ?_
    refine tj_iconst C kc_4 dX6_term_8 ?_
    refine tj_callVi C (k := 0) [.int (nI 4)] [] (fun hN => c_M_refuse (by rw [hN]; exact hM) hf) lk_X6_91 ty_X6_refuse rfl (Nat.le_of_ble_eq_true rfl) (Nat.le_of_ble_eq_true rfl) (Nat.le_of_ble_eq_true rfl) hM rfl (by decide) rfl rfl dX6_term_9 (fun r12 S11 hf => ?_)
    exact r _ _ _ _ dX6_term_12 hf
theorem c_M_term {l : Launch} {G : tG} {ad : Nat → Nat} {A : Nat → Prop} {S : tS} {K : Int32 → tS → Prop} (hM : gN S 0 ≠ 0) (hf : M_term S K) : Met l yX6_term (ws_ yX6_term cX6_term 1 (some .int)) (tRm 8 186) (va_Pc [.ref (ad 0)] (tPre G ad A S)) (va_Qi K (tB G ad A (gN S)) A) 0 0 A :=
  tj_met_i [(0, .ref (ad 0))] pn_X6 rfl (Nat.le_of_ble_eq_true rfl) (fun p e R s m args below meth c Q C hw r => w_M_term_b0 C hw rfl r hM hf)
theorem w_M_test_b126 {Γ : tX} {N0 : Nat → Nat} {K : Int32 → tS → Prop} (C : TC Γ cX6_test RX6 8 176) (hw : tWf N0) (hR : xnL Γ = 3) (r : TRz Γ N0 cX6_test K) {a1 : Int32} (hM : N0 0 ≠ 0) {S : tS} (hf : M_test_b126 a1 K  S) : TJ Γ N0 0 0 126 [(0, .ref (xad Γ 0)), (1, .int a1)] [] S := by
  unfold M_test_b126 at hf
  refine tj_aload_n C 0 rfl rfl dX6_test_126 ?_
  refine gf_X6_7 C hM dX6_test_127 ?_
  refine tj_iload_n C 1 rfl rfl dX6_test_130 ?_
  refine tj_iconst C kc_5 dX6_test_131 ?_
  refine tj_iadd C dX6_test_132 ?_
  refine tj_aload_n C 0 rfl rfl dX6_test_133 ?_
  refine gf_X6_133 C hM dX6_test_134 ?_
  refine tj_iast C 48 3548 rfl (ln_48 hw hM) _ rfl hf.1 dX6_test_137 ?_
  replace hf := hf.2
  refine tj_topS (fun S21 eS => ?_)
  replace hf := hf S21 eS
  refine tj_aload_n C 0 rfl rfl dX6_test_138 ?_
  refine tj_callVv C (k := 0) [] [] (fun hN => c_M_ahead (by rw [hN]; exact hM) hf) lk_X6_167 ty_X6_ahead rfl (Nat.le_of_ble_eq_true rfl) (Nat.le_of_ble_eq_true rfl) (Nat.le_of_ble_eq_true rfl) hM rfl (by decide) rfl rfl dX6_test_139 (fun S22 hf => ?_)
  refine tj_aload_n C 0 rfl rfl dX6_test_142 ?_
  refine tj_iload_n C 1 rfl rfl dX6_test_143 ?_
  refine tj_iconst C kc_2 dX6_test_144 ?_
  refine tj_iadd C dX6_test_145 ?_
  refine tj_iconst C kc_0 dX6_test_146 ?_
  refine tj_bipush C kb_9 dX6_test_147 ?_
  refine tj_callVz C (k := 0) [.int (a1 + (nI 2)), .int (nI 0), .int (nI 9)] [] (fun hN => c_M_number (by rw [hN]; exact hM) hf) lk_X6_212 ty_X6_number rfl (Nat.le_of_ble_eq_true rfl) (Nat.le_of_ble_eq_true rfl) (Nat.le_of_ble_eq_true rfl) hM rfl (by decide) rfl rfl dX6_test_149 (fun r24 S23 hf => ?_)
  have hz_r24 := hf.1
  replace hf := hf.2
  exact r _ _ _ _ dX6_test_152 hz_r24 hf
theorem w_M_test_b25 {Γ : tX} {N0 : Nat → Nat} {K : Int32 → tS → Prop} (C : TC Γ cX6_test RX6 8 176) (hw : tWf N0) (hR : xnL Γ = 3) (r : TRz Γ N0 cX6_test K) {a1 : Int32} (hM : N0 0 ≠ 0) {a2 : Int32} {S : tS} (hf : M_test_b25 a1 K a2 S) : TJ Γ N0 0 0 25 [(0, .ref (xad Γ 0)), (1, .int a1), (2, .int a2)] [] S := by
  unfold M_test_b25 at hf
  refine tj_aload_n C 0 rfl rfl dX6_test_25 ?_
  refine gf_X6_7 C hM dX6_test_26 ?_
  refine tj_iload_n C 1 rfl rfl dX6_test_29 ?_
  refine tj_sipush C ks_2200 dX6_test_30 ?_
  refine tj_iload_n C 2 rfl rfl dX6_test_33 ?_
  refine tj_iadd C dX6_test_34 ?_
  refine tj_iast C 48 3548 rfl (ln_48 hw hM) _ rfl hf.1 dX6_test_35 ?_
  replace hf := hf.2
  refine tj_topS (fun S5 eS => ?_)
  replace hf := hf S5 eS
  refine tj_aload_n C 0 rfl rfl dX6_test_36 ?_
  refine tj_callVv C (k := 0) [] [] (fun hN => c_M_ahead (by rw [hN]; exact hM) hf) lk_X6_167 ty_X6_ahead rfl (Nat.le_of_ble_eq_true rfl) (Nat.le_of_ble_eq_true rfl) (Nat.le_of_ble_eq_true rfl) hM rfl (by decide) rfl rfl dX6_test_37 (fun S6 hf => ?_)
  refine tj_iload_n C 2 rfl rfl dX6_test_40 ?_
  refine tj_bipush C kb_26 dX6_test_41 ?_
  refine tj_icmp_ne C 79 (by decide) dX6_test_43 (fun hc => ?_) (fun hc => ?_)
  · replace hf := hf.2 hc
    refine tj_iload_n C 2 rfl rfl dX6_test_79 ?_
    refine tj_bipush C kb_11 dX6_test_80 ?_
    refine tj_icmp_eq C 93 (by decide) dX6_test_82 (fun hc => ?_) (fun hc => ?_)
    · replace hf := hf.1 hc
      refine tj_aload_n C 0 rfl rfl dX6_test_93 ?_
      refine tj_bipush C kb_60 dX6_test_94 ?_
      refine tj_callVz C (k := 0) [.int (nI 60)] [] (fun hN => c_M_isSign (by rw [hN]; exact hM) hf) lk_X6_170 ty_X6_isSign rfl (Nat.le_of_ble_eq_true rfl) (Nat.le_of_ble_eq_true rfl) (Nat.le_of_ble_eq_true rfl) hM rfl (by decide) rfl rfl dX6_test_96 (fun r8 S7 hf => ?_)
      have hz_r8 := hf.1
      replace hf := hf.2
      refine tj_if_ne C 126 (by decide) dX6_test_99 (fun hc => ?_) (fun hc => ?_)
      · replace hf := hf.2 hc
        exact tj_sub [0, 1] (w_M_test_b126 C hw hR r hM hf) rfl
      · replace hf := hf.1 hc
        refine tj_aload_n C 0 rfl rfl dX6_test_102 ?_
        refine tj_bipush C kb_62 dX6_test_103 ?_
        refine tj_callVz C (k := 0) [.int (nI 62)] [] (fun hN => c_M_isSign (by rw [hN]; exact hM) hf) lk_X6_170 ty_X6_isSign rfl (Nat.le_of_ble_eq_true rfl) (Nat.le_of_ble_eq_true rfl) (Nat.le_of_ble_eq_true rfl) hM rfl (by decide) rfl rfl dX6_test_105 (fun r10 S9 hf => ?_)
        have hz_r10 := hf.1
        replace hf := hf.2
        refine tj_if_ne C 126 (by decide) dX6_test_108 (fun hc => ?_) (fun hc => ?_)
        · replace hf := hf.2 hc
          exact tj_sub [0, 1] (w_M_test_b126 C hw hR r hM hf) rfl
        · replace hf := hf.1 hc
          refine tj_aload_n C 0 rfl rfl dX6_test_111 ?_
          refine tj_bipush C kb_61 dX6_test_112 ?_
          refine tj_callVz C (k := 0) [.int (nI 61)] [] (fun hN => c_M_isSign (by rw [hN]; exact hM) hf) lk_X6_170 ty_X6_isSign rfl (Nat.le_of_ble_eq_true rfl) (Nat.le_of_ble_eq_true rfl) (Nat.le_of_ble_eq_true rfl) hM rfl (by decide) rfl rfl dX6_test_114 (fun r12 S11 hf => ?_)
          have hz_r12 := hf.1
          replace hf := hf.2
          refine tj_if_ne C 126 (by decide) dX6_test_117 (fun hc => ?_) (fun hc => ?_)
          · replace hf := hf.2 hc
            exact tj_sub [0, 1] (w_M_test_b126 C hw hR r hM hf) rfl
          · replace hf := hf.1 hc
            refine tj_aload_n C 0 rfl rfl dX6_test_120 ?_
            refine tj_iconst C kc_2 dX6_test_121 ?_
            refine tj_callVz C (k := 0) [.int (nI 2)] [] (fun hN => c_M_fails (by rw [hN]; exact hM) hf) lk_X6_173 ty_X6_fails rfl (Nat.le_of_ble_eq_true rfl) (Nat.le_of_ble_eq_true rfl) (Nat.le_of_ble_eq_true rfl) hM rfl (by decide) rfl rfl dX6_test_122 (fun r14 S13 hf => ?_)
            have hz_r14 := hf.1
            replace hf := hf.2
            exact r _ _ _ _ dX6_test_125 hz_r14 hf
    · replace hf := hf.2 hc
      refine tj_aload_n C 0 rfl rfl dX6_test_85 ?_
      refine tj_iload_n C 1 rfl rfl dX6_test_86 ?_
      refine tj_iconst C kc_1 dX6_test_87 ?_
      refine tj_iadd C dX6_test_88 ?_
      refine tj_callVz C (k := 0) [.int (a1 + (nI 1))] [] (fun hN => c_M_personTo (by rw [hN]; exact hM) hf) lk_X6_260 ty_X6_personTo rfl (Nat.le_of_ble_eq_true rfl) (Nat.le_of_ble_eq_true rfl) (Nat.le_of_ble_eq_true rfl) hM rfl (by decide) rfl rfl dX6_test_89 (fun r16 S15 hf => ?_)
      have hz_r16 := hf.1
      replace hf := hf.2
      exact r _ _ _ _ dX6_test_92 hz_r16 hf
  · replace hf := hf.1 hc
    refine tj_aload_n C 0 rfl rfl dX6_test_46 ?_
    refine tj_iload_n C 1 rfl rfl dX6_test_47 ?_
    refine tj_iconst C kc_1 dX6_test_48 ?_
    refine tj_iadd C dX6_test_49 ?_
    refine tj_callVz C (k := 0) [.int (a1 + (nI 1))] [] (fun hN => c_M_personTo (by rw [hN]; exact hM) hf) lk_X6_260 ty_X6_personTo rfl (Nat.le_of_ble_eq_true rfl) (Nat.le_of_ble_eq_true rfl) (Nat.le_of_ble_eq_true rfl) hM rfl (by decide) rfl rfl dX6_test_50 (fun r18 S17 hf => ?_)
    have hz_r18 := hf.1
    replace hf := hf.2
    refine tj_if_eq C 77 (by decide) dX6_test_53 (fun hc => ?_) (fun hc => ?_)
    · replace hf := hf.1 hc
      refine tj_iconst C kc_0 dX6_test_77 ?_
      exact r _ _ _ _ dX6_test_78 zb0 hf
    · replace hf := hf.2 hc
      refine tj_aload_n C 0 rfl rfl dX6_test_56 ?_
      refine tj_iconst C kc_5 dX6_test_57 ?_
      refine tj_aload_n C 0 rfl rfl dX6_test_58 ?_
      refine gf_X6_7 C hM dX6_test_59 ?_
      refine tj_iconst C kc_1 dX6_test_62 ?_
      refine tj_iald C 48 3548 rfl (ln_48 hw hM) 1 kn_1 (vp_in_nI (by decide) (by decide)) dX6_test_63 ?_
      refine tj_iload_n C 1 rfl rfl dX6_test_64 ?_
      refine tj_iconst C kc_2 dX6_test_65 ?_
      refine tj_iadd C dX6_test_66 ?_
      refine tj_callVz C (k := 0) [.int (nI 5), .int (gI S17 48 1), .int (a1 + (nI 2))] [] (fun hN => c_M_oldOne (by rw [hN]; exact hM) hf) lk_X6_218 ty_X6_oldOne rfl (Nat.le_of_ble_eq_true rfl) (Nat.le_of_ble_eq_true rfl) (Nat.le_of_ble_eq_true rfl) hM rfl (by decide) rfl rfl dX6_test_67 (fun r20 S19 hf => ?_)
      have hz_r20 := hf.1
      replace hf := hf.2
      refine tj_if_eq C 77 (by decide) dX6_test_70 (fun hc => ?_) (fun hc => ?_)
      · replace hf := hf.1 hc
        refine tj_iconst C kc_0 dX6_test_77 ?_
        exact r _ _ _ _ dX6_test_78 zb0 hf
      · replace hf := hf.2 hc
        refine tj_iconst C kc_1 dX6_test_73 ?_
        refine tj_goto C 78 (by decide) dX6_test_74 ?_
        exact r _ _ _ _ dX6_test_78 zb1 hf
theorem w_M_test_b0 {Γ : tX} {N0 : Nat → Nat} {K : Int32 → tS → Prop} (C : TC Γ cX6_test RX6 8 176) (hw : tWf N0) (hR : xnL Γ = 3) (r : TRz Γ N0 cX6_test K) {a1 : Int32} (hM : N0 0 ≠ 0) {S : tS} (hf : M_test a1 S K) : TJ Γ N0 0 0 0 [(0, .ref (xad Γ 0)), (1, .int a1)] [] S := by
  unfold M_test at hf
  refine tj_aload_n C 0 rfl rfl dX6_test_0 ?_
  refine tj_ldcS C 0 rfl dX6_test_1 ?_
  refine tj_callVi C (k := 0) [.ref (xK Γ 0)] [] (fun hN => c_M_inWords (by rw [hN]; exact hM) (by decide) hf) lk_X6_176 ty_X6_inWords rfl (Nat.le_of_ble_eq_true rfl) (Nat.le_of_ble_eq_true rfl) (Nat.le_of_ble_eq_true rfl) hM rfl (by decide) rfl rfl dX6_test_3 (fun r2 S1 hf => ?_)
  refine tj_istore_n C (by rw [hR]; decide) [(2, .int r2), (0, .ref (xad Γ 0)), (1, .int a1)] rfl rfl dX6_test_6 ?_
  refine tj_iload_n C 0 rfl rfl dX6_test_7 ?_
  refine tj_bipush C kb_11 dX6_test_8 ?_
  refine tj_icmp_eq C 25 (by decide) dX6_test_10 (fun hc => ?_) (fun hc => ?_)
  · replace hf := hf.1 hc
    exact tj_sub [1, 2, 0] (w_M_test_b25 C hw hR r hM hf) rfl
  · replace hf := hf.2 hc
    refine tj_iload_n C 0 rfl rfl dX6_test_13 ?_
    refine tj_bipush C kb_26 dX6_test_14 ?_
    refine tj_icmp_ge C 25 (by decide) dX6_test_16 (fun hc => ?_) (fun hc => ?_)
    · replace hf := hf.1 hc
      exact tj_sub [1, 2, 0] (w_M_test_b25 C hw hR r hM hf) rfl
    · replace hf := hf.2 hc
      refine tj_aload_n C 1 rfl rfl dX6_test_19 ?_
      refine tj_iconst C kc_2 dX6_test_20 ?_
      refine tj_callVz C (k := 0) [.int (nI 2)] [] (fun hN => c_M_fails (by rw [hN]; exact hM) hf) lk_X6_173 ty_X6_fails rfl (Nat.le_of_ble_eq_true rfl) (Nat.le_of_ble_eq_true rfl) (Nat.le_of_ble_eq_true rfl) hM rfl (by decide) rfl rfl dX6_test_21 (fun r4 S3 hf => ?_)
      have hz_r4 := hf.1
      replace hf := hf.2
      exact r _ _ _ _ dX6_test_24 hz_r4 hf
theorem c_M_test {l : Launch} {G : tG} {ad : Nat → Nat} {A : Nat → Prop} {S : tS} {K : Int32 → tS → Prop} {a1 : Int32} (hM : gN S 0 ≠ 0) (hf : M_test a1 S K) : Met l yX6_test (ws_ yX6_test cX6_test 3 (some .boolean)) (tRm 8 176) (va_Pc [.ref (ad 0), .int a1] (tPre G ad A S)) (va_Qi (fun r u => r &&& 1 = r ∧ K r u) (tB G ad A (gN S)) A) 0 0 A :=
  tj_met_z [(0, .ref (ad 0)), (1, .int a1)] pn_X6 rfl (Nat.le_of_ble_eq_true rfl) (fun p e R s m args below meth c Q C hw r => w_M_test_b0 C hw rfl r hM hf)
theorem w_M_told_b55 {Γ : tX} {N0 : Nat → Nat} {K : Int32 → tS → Prop} (C : TC Γ cX6_told RX6 3 66) (hw : tWf N0) (hR : xnL Γ = 2) (r : TRi Γ N0 cX6_told K) {a1 : Int32} (hM : N0 0 ≠ 0) {s1 : Int32} {S : tS} (hf : M_told_b55 a1 K s1 S) : TJ Γ N0 0 0 55 [] [.int s1, .ref (xad Γ 0)] S := by
  unfold M_told_b55 at hf
  refine tj_callVi C (k := 0) [.int s1] [] (fun hN => c_M_gives (by rw [hN]; exact hM) hf) lk_X6_95 ty_X6_gives rfl (Nat.le_of_ble_eq_true rfl) (Nat.le_of_ble_eq_true rfl) (Nat.le_of_ble_eq_true rfl) hM rfl (by decide) rfl rfl dX6_told_55 (fun r10 S9 hf => ?_)
  exact r _ _ _ _ dX6_told_58 hf
theorem w_M_told_b10 {Γ : tX} {N0 : Nat → Nat} {K : Int32 → tS → Prop} (C : TC Γ cX6_told RX6 3 66) (hw : tWf N0) (hR : xnL Γ = 2) (r : TRi Γ N0 cX6_told K) {a1 : Int32} (hM : N0 0 ≠ 0) {S : tS} (hf : M_told_b10 a1 K  S) : TJ Γ N0 0 0 10 [(0, .ref (xad Γ 0))] [] S := by
  unfold M_told_b10 at hf
  refine tj_aload_n C 0 rfl rfl dX6_told_10 ?_
  refine tj_iconst C kc_1 dX6_told_11 ?_
  refine tj_callVi C (k := 0) [.int (nI 1)] [] (fun hN => c_M_refuse (by rw [hN]; exact hM) hf) lk_X6_91 ty_X6_refuse rfl (Nat.le_of_ble_eq_true rfl) (Nat.le_of_ble_eq_true rfl) (Nat.le_of_ble_eq_true rfl) hM rfl (by decide) rfl rfl dX6_told_12 (fun r8 S7 hf => ?_)
  exact r _ _ _ _ dX6_told_15 hf
theorem w_M_told_b0 {Γ : tX} {N0 : Nat → Nat} {K : Int32 → tS → Prop} (C : TC Γ cX6_told RX6 3 66) (hw : tWf N0) (hR : xnL Γ = 2) (r : TRi Γ N0 cX6_told K) {a1 : Int32} (hM : N0 0 ≠ 0) {S : tS} (hf : M_told a1 S K) : TJ Γ N0 0 0 0 [(0, .ref (xad Γ 0)), (1, .int a1)] [] S := by
  unfold M_told at hf
  refine tj_iload_n C 1 rfl rfl dX6_told_0 ?_
  refine tj_if_lt C 10 (by decide) dX6_told_1 (fun hc => ?_) (fun hc => ?_)
  · replace hf := hf.1 hc
    exact tj_sub [0] (w_M_told_b10 C hw hR r hM hf) rfl
  · replace hf := hf.2 hc
    refine tj_iload_n C 1 rfl rfl dX6_told_4 ?_
    refine tj_bipush C kb_12 dX6_told_5 ?_
    refine tj_icmp_le C 16 (by decide) dX6_told_7 (fun hc => ?_) (fun hc => ?_)
    · replace hf := hf.1 hc
      refine tj_iload_n C 1 rfl rfl dX6_told_16 ?_
      refine tj_bipush C kb_8 dX6_told_17 ?_
      refine tj_icmp_ge C 33 (by decide) dX6_told_19 (fun hc => ?_) (fun hc => ?_)
      · replace hf := hf.1 hc
        refine tj_aload_n C 0 rfl rfl dX6_told_33 ?_
        refine tj_iload_n C 1 rfl rfl dX6_told_34 ?_
        refine tj_bipush C kb_12 dX6_told_35 ?_
        refine tj_icmp_ne C 47 (by decide) dX6_told_37 (fun hc => ?_) (fun hc => ?_)
        · replace hf := hf.2 hc
          refine tj_aload_n C 0 rfl rfl dX6_told_47 ?_
          refine tj_iload_n C 1 rfl rfl dX6_told_48 ?_
          refine tj_bipush C kb_8 dX6_told_49 ?_
          refine tj_isub C dX6_told_51 ?_
          refine tj_callVi C (k := 0) [.int (a1 - (nI 8))] [.ref (xad Γ 0)] (fun hN => c_M_peopleThat (by rw [hN]; exact hM) hf) lk_X6_290 ty_X6_peopleThat rfl (Nat.le_of_ble_eq_true rfl) (Nat.le_of_ble_eq_true rfl) (Nat.le_of_ble_eq_true rfl) hM rfl (by decide) rfl rfl dX6_told_52 (fun r2 S1 hf => ?_)
          exact tj_sub [] (w_M_told_b55 C hw hR r hM hf) rfl
        · replace hf := hf.1 hc
          refine tj_aload_n C 0 rfl rfl dX6_told_40 ?_
          refine tj_callVi C (k := 0) [] [.ref (xad Γ 0)] (fun hN => c_M_allVotes (by rw [hN]; exact hM) hf) lk_X6_287 ty_X6_allVotes rfl (Nat.le_of_ble_eq_true rfl) (Nat.le_of_ble_eq_true rfl) (Nat.le_of_ble_eq_true rfl) hM rfl (by decide) rfl rfl dX6_told_41 (fun r4 S3 hf => ?_)
          refine tj_goto C 55 (by decide) dX6_told_44 ?_
          exact tj_sub [] (w_M_told_b55 C hw hR r hM hf) rfl
      · replace hf := hf.2 hc
        refine tj_aload_n C 0 rfl rfl dX6_told_22 ?_
        refine tj_aload_n C 0 rfl rfl dX6_told_23 ?_
        refine gf_X6_7 C hM dX6_told_24 ?_
        refine tj_iload_n C 1 rfl rfl dX6_told_27 ?_
        refine tj_iald C 48 3548 rfl (ln_48 hw hM) _ rfl hf.1 dX6_told_28 ?_
        replace hf := hf.2
        refine tj_callVi C (k := 0) [.int (gI S 48 (a1.toNatClampNeg))] [] (fun hN => c_M_gives (by rw [hN]; exact hM) hf) lk_X6_95 ty_X6_gives rfl (Nat.le_of_ble_eq_true rfl) (Nat.le_of_ble_eq_true rfl) (Nat.le_of_ble_eq_true rfl) hM rfl (by decide) rfl rfl dX6_told_29 (fun r6 S5 hf => ?_)
        exact r _ _ _ _ dX6_told_32 hf
    · replace hf := hf.2 hc
      exact tj_sub [0] (w_M_told_b10 C hw hR r hM hf) rfl
theorem c_M_told {l : Launch} {G : tG} {ad : Nat → Nat} {A : Nat → Prop} {S : tS} {K : Int32 → tS → Prop} {a1 : Int32} (hM : gN S 0 ≠ 0) (hf : M_told a1 S K) : Met l yX6_told (ws_ yX6_told cX6_told 2 (some .int)) (tRm 3 66) (va_Pc [.ref (ad 0), .int a1] (tPre G ad A S)) (va_Qi K (tB G ad A (gN S)) A) 0 0 A :=
  tj_met_i [(0, .ref (ad 0)), (1, .int a1)] pn_X6 rfl (Nat.le_of_ble_eq_true rfl) (fun p e R s m args below meth c Q C hw r => w_M_told_b0 C hw rfl r hM hf)
theorem w_M_top_b0 {Γ : tX} {N0 : Nat → Nat} {K : Int64 → tS → Prop} (C : TC Γ cX6_top RX6 0 0) (hw : tWf N0) (hR : xnL Γ = 1) (r : TRl Γ N0 cX6_top K) (hM : N0 0 ≠ 0) {S : tS} (hf : M_top S K) : TJ Γ N0 0 0 0 [(0, .ref (xad Γ 0))] [] S := by
  unfold M_top at hf
  refine tj_aload_n C 0 rfl rfl dX6_top_0 ?_
  refine gf_X6_88 C hM dX6_top_1 ?_
  exact r _ _ _ _ dX6_top_4 hf
theorem c_M_top {l : Launch} {G : tG} {ad : Nat → Nat} {A : Nat → Prop} {S : tS} {K : Int64 → tS → Prop} (hM : gN S 0 ≠ 0) (hf : M_top S K) : Met l yX6_top (ws_ yX6_top cX6_top 1 (some .long)) (tRm 0 0) (va_Pc [.ref (ad 0)] (tPre G ad A S)) (va_Ql K (tB G ad A (gN S)) A) 0 0 A :=
  tj_met_l [(0, .ref (ad 0))] pn_X6 rfl (Nat.le_of_ble_eq_true rfl) (fun p e R s m args below meth c Q C hw r => w_M_top_b0 C hw rfl r hM hf)
theorem w_M_tray_l49 {Γ : tX} {N0 : Nat → Nat} {K : Int32 → tS → Prop} (C : TC Γ cX6_tray RX6 1 21) (hw : tWf N0) (hR : xnL Γ = 5) (r : TRz Γ N0 cX6_tray K) {a1 : Int32} {a2 : Int32} {a3 : Int32} (hM : N0 0 ≠ 0) : ∀ (n : Nat) (a4 : Int32) (S : tS), M_tray_l49 a1 a2 a3 K n a4 S → TJ Γ N0 0 0 49 [(0, .ref (xad Γ 0)), (1, .int a1), (3, .int a3), (4, .int a4)] [] S := by
  intro n
  induction n with
  | zero => intro a4 S hf; exact hf.elim
  | succ n ih =>
    intro a4 S hf
    unfold M_tray_l49 at hf
    refine tj_iload C 3 rfl dX6_tray_49 ?_
    refine tj_iload_n C 2 rfl rfl dX6_tray_51 ?_
    refine tj_icmp_ge C 74 (by decide) dX6_tray_52 (fun hc => ?_) (fun hc => ?_)
    · replace hf := hf.1 hc
      refine tj_aload_n C 0 rfl rfl dX6_tray_74 ?_
      refine tj_iconst C kc_0 dX6_tray_75 ?_
      refine tj_callVz C (k := 0) [.int (nI 0)] [] (fun hN => c_M_is (by rw [hN]; exact hM) hf) lk_X6_98 ty_X6_is rfl (Nat.le_of_ble_eq_true rfl) (Nat.le_of_ble_eq_true rfl) (Nat.le_of_ble_eq_true rfl) hM rfl (by decide) rfl rfl dX6_tray_76 (fun r8 S7 hf => ?_)
      have hz_r8 := hf.1
      replace hf := hf.2
      exact r _ _ _ _ dX6_tray_79 hz_r8 hf
    · replace hf := hf.2 hc
      refine tj_aload_n C 0 rfl rfl dX6_tray_55 ?_
      refine gf_X6_27 C hM dX6_tray_56 ?_
      refine tj_bipush C kb_60 dX6_tray_59 ?_
      refine tj_iload_n C 1 rfl rfl dX6_tray_61 ?_
      refine tj_imul C dX6_tray_62 ?_
      refine tj_iload C 3 rfl dX6_tray_63 ?_
      refine tj_iadd C dX6_tray_65 ?_
      refine tj_lconst C (v := lN 0) rfl dX6_tray_66 ?_
      refine tj_last C 177 240 rfl (ln_177 hw hM) _ rfl hf.1 dX6_tray_67 ?_
      replace hf := hf.2
      refine tj_topS (fun S9 eS => ?_)
      replace hf := hf S9 eS
      obtain ⟨x10, ex⟩ : ∃ y : Int32, y = a4 + nI 1 := ⟨_, rfl⟩
      refine tj_iinc C (by rw [hR]; decide) 3 [(4, .int x10), (0, .ref (xad Γ 0)), (1, .int a1), (3, .int a3)] rfl (by rw [ex]; exact ki_1 _) rfl dX6_tray_68 ?_
      replace hf := hf x10 ex
      refine tj_goto C 49 (by decide) dX6_tray_71 ?_
      exact tj_sub [1, 2, 3, 0] (ih _ _ hf) rfl
theorem w_M_tray_b26 {Γ : tX} {N0 : Nat → Nat} {K : Int32 → tS → Prop} (C : TC Γ cX6_tray RX6 1 21) (hw : tWf N0) (hR : xnL Γ = 5) (r : TRz Γ N0 cX6_tray K) {a1 : Int32} {a2 : Int32} {a3 : Int32} (hM : N0 0 ≠ 0) {S : tS} (hf : M_tray_b26 a1 a2 a3 K  S) : TJ Γ N0 0 0 26 [(0, .ref (xad Γ 0))] [] S := by
  unfold M_tray_b26 at hf
  refine tj_aload_n C 0 rfl rfl dX6_tray_26 ?_
  refine tj_iconst C kc_1 dX6_tray_27 ?_
  refine tj_callVz C (k := 0) [.int (nI 1)] [] (fun hN => c_M_is (by rw [hN]; exact hM) hf) lk_X6_98 ty_X6_is rfl (Nat.le_of_ble_eq_true rfl) (Nat.le_of_ble_eq_true rfl) (Nat.le_of_ble_eq_true rfl) hM rfl (by decide) rfl rfl dX6_tray_28 (fun r6 S5 hf => ?_)
  have hz_r6 := hf.1
  replace hf := hf.2
  exact r _ _ _ _ dX6_tray_31 hz_r6 hf
theorem w_M_tray_b0 {Γ : tX} {N0 : Nat → Nat} {K : Int32 → tS → Prop} (C : TC Γ cX6_tray RX6 1 21) (hw : tWf N0) (hR : xnL Γ = 5) (r : TRz Γ N0 cX6_tray K) {a1 : Int32} {a2 : Int32} {a3 : Int32} (hM : N0 0 ≠ 0) {S : tS} (hf : M_tray a1 a2 a3 S K) : TJ Γ N0 0 0 0 [(0, .ref (xad Γ 0)), (1, .int a1), (2, .int a2), (3, .int a3)] [] S := by
  unfold M_tray at hf
  refine tj_iload_n C 1 rfl rfl dX6_tray_0 ?_
  refine tj_callSz C [.int a1] [] (fun hN => c_M_isTray hf) lk_X6_102 ty_X6_isTray rfl (Nat.le_of_ble_eq_true rfl) (Nat.le_of_ble_eq_true rfl) (Nat.le_of_ble_eq_true rfl) rfl dX6_tray_1 (fun r2 S1 hf => ?_)
  have hz_r2 := hf.1
  replace hf := hf.2
  refine tj_if_eq C 26 (by decide) dX6_tray_4 (fun hc => ?_) (fun hc => ?_)
  · replace hf := hf.1 hc
    exact tj_sub [0] (w_M_tray_b26 C hw hR r hM hf) rfl
  · replace hf := hf.2 hc
    refine tj_iload_n C 2 rfl rfl dX6_tray_7 ?_
    refine tj_if_lt C 26 (by decide) dX6_tray_8 (fun hc => ?_) (fun hc => ?_)
    · replace hf := hf.1 hc
      exact tj_sub [0] (w_M_tray_b26 C hw hR r hM hf) rfl
    · replace hf := hf.2 hc
      refine tj_iload_n C 2 rfl rfl dX6_tray_11 ?_
      refine tj_iconst C kc_3 dX6_tray_12 ?_
      refine tj_icmp_gt C 26 (by decide) dX6_tray_13 (fun hc => ?_) (fun hc => ?_)
      · replace hf := hf.1 hc
        exact tj_sub [0] (w_M_tray_b26 C hw hR r hM hf) rfl
      · replace hf := hf.2 hc
        refine tj_iload_n C 3 rfl rfl dX6_tray_16 ?_
        refine tj_if_lt C 26 (by decide) dX6_tray_17 (fun hc => ?_) (fun hc => ?_)
        · replace hf := hf.1 hc
          exact tj_sub [0] (w_M_tray_b26 C hw hR r hM hf) rfl
        · replace hf := hf.2 hc
          refine tj_iload_n C 3 rfl rfl dX6_tray_20 ?_
          refine tj_bipush C kb_60 dX6_tray_21 ?_
          refine tj_icmp_le C 32 (by decide) dX6_tray_23 (fun hc => ?_) (fun hc => ?_)
          · replace hf := hf.1 hc
            refine tj_aload_n C 0 rfl rfl dX6_tray_32 ?_
            refine gf_X6_21 C hM dX6_tray_33 ?_
            refine tj_iload_n C 1 rfl rfl dX6_tray_36 ?_
            refine tj_iload_n C 2 rfl rfl dX6_tray_37 ?_
            refine tj_iast C 112 4 rfl (ln_112 hw hM) _ rfl hf.1 dX6_tray_38 ?_
            replace hf := hf.2
            refine tj_topS (fun S3 eS => ?_)
            replace hf := hf S3 eS
            refine tj_aload_n C 0 rfl rfl dX6_tray_39 ?_
            refine gf_X6_24 C hM dX6_tray_40 ?_
            refine tj_iload_n C 1 rfl rfl dX6_tray_43 ?_
            refine tj_iload_n C 3 rfl rfl dX6_tray_44 ?_
            refine tj_iast C 144 4 rfl (ln_144 hw hM) _ rfl hf.1 dX6_tray_45 ?_
            replace hf := hf.2
            refine tj_topS (fun S4 eS => ?_)
            replace hf := hf S4 eS
            refine tj_iconst C kc_0 dX6_tray_46 ?_
            refine tj_istore C (by rw [hR]; decide) [(4, .int (nI 0)), (0, .ref (xad Γ 0)), (1, .int a1), (2, .int a2), (3, .int a3)] rfl dX6_tray_47 ?_
            exact tj_sub [1, 2, 4, 0] (hf.elim fun k hf => w_M_tray_l49 C hw hR r hM k _ _ hf) rfl
          · replace hf := hf.2 hc
            exact tj_sub [0] (w_M_tray_b26 C hw hR r hM hf) rfl
theorem c_M_tray {l : Launch} {G : tG} {ad : Nat → Nat} {A : Nat → Prop} {S : tS} {K : Int32 → tS → Prop} {a1 : Int32} {a2 : Int32} {a3 : Int32} (hM : gN S 0 ≠ 0) (hf : M_tray a1 a2 a3 S K) : Met l yX6_tray (ws_ yX6_tray cX6_tray 5 (some .boolean)) (tRm 1 21) (va_Pc [.ref (ad 0), .int a1, .int a2, .int a3] (tPre G ad A S)) (va_Qi (fun r u => r &&& 1 = r ∧ K r u) (tB G ad A (gN S)) A) 0 0 A :=
  tj_met_z [(0, .ref (ad 0)), (1, .int a1), (2, .int a2), (3, .int a3)] pn_X6 rfl (Nat.le_of_ble_eq_true rfl) (fun p e R s m args below meth c Q C hw r => w_M_tray_b0 C hw rfl r hM hf)
theorem w_M_undo_b0 {Γ : tX} {N0 : Nat → Nat} {K : Int32 → tS → Prop} (C : TC Γ cX6_undo RX6 1 23) (hw : tWf N0) (hR : xnL Γ = 1) (r : TRi Γ N0 cX6_undo K) (hM : N0 0 ≠ 0) {S : tS} (hf : M_undo S K) : TJ Γ N0 0 0 0 [(0, .ref (xad Γ 0))] [] S := by
  unfold M_undo at hf
  refine tj_aload_n C 0 rfl rfl dX6_undo_0 ?_
  refine gf_X6_515 C hM dX6_undo_1 ?_
  refine tj_if_ne C 14 (by decide) dX6_undo_4 (fun hc => ?_) (fun hc => ?_)
  · replace hf := hf.2 hc
    refine tj_aload_n C 0 rfl rfl dX6_undo_14 ?_
    refine tj_aload_n C 0 rfl rfl dX6_undo_15 ?_
    refine gf_X6_515 C hM dX6_undo_16 ?_
    refine tj_iconst C kc_0 dX6_undo_19 ?_
    refine tj_callVv C (k := 0) [.int (gI S 0 41), .int (nI 0)] [] (fun hN => c_M_copies (by rw [hN]; exact hM) hf) lk_X6_518 ty_X6_copies rfl (Nat.le_of_ble_eq_true rfl) (Nat.le_of_ble_eq_true rfl) (Nat.le_of_ble_eq_true rfl) hM rfl (by decide) rfl rfl dX6_undo_20 (fun S1 hf => ?_)
    refine tj_aload_n C 0 rfl rfl dX6_undo_23 ?_
    refine tj_dup C rfl dX6_undo_24 ?_
    refine gf_X6_515 C hM dX6_undo_25 ?_
    refine tj_iconst C kc_1 dX6_undo_28 ?_
    refine tj_isub C dX6_undo_29 ?_
    refine pf_X6_515 C hM dX6_undo_30 ?_
    refine tj_topS (fun S2 eS => ?_)
    replace hf := hf S2 eS
    refine tj_aload_n C 0 rfl rfl dX6_undo_33 ?_
    refine tj_aload_n C 0 rfl rfl dX6_undo_34 ?_
    refine gf_X6_515 C hM dX6_undo_35 ?_
    refine tj_callVi C (k := 0) [.int (gI S2 0 41)] [] (fun hN => c_M_gives (by rw [hN]; exact hM) hf) lk_X6_95 ty_X6_gives rfl (Nat.le_of_ble_eq_true rfl) (Nat.le_of_ble_eq_true rfl) (Nat.le_of_ble_eq_true rfl) hM rfl (by decide) rfl rfl dX6_undo_38 (fun r4 S3 hf => ?_)
    exact r _ _ _ _ dX6_undo_41 hf
  · replace hf := hf.1 hc
    refine tj_aload_n C 0 rfl rfl dX6_undo_7 ?_
    refine tj_bipush C kb_6 dX6_undo_8 ?_
    refine tj_callVi C (k := 0) [.int (nI 6)] [] (fun hN => c_M_refuse (by rw [hN]; exact hM) hf) lk_X6_91 ty_X6_refuse rfl (Nat.le_of_ble_eq_true rfl) (Nat.le_of_ble_eq_true rfl) (Nat.le_of_ble_eq_true rfl) hM rfl (by decide) rfl rfl dX6_undo_10 (fun r6 S5 hf => ?_)
    exact r _ _ _ _ dX6_undo_13 hf
theorem c_M_undo {l : Launch} {G : tG} {ad : Nat → Nat} {A : Nat → Prop} {S : tS} {K : Int32 → tS → Prop} (hM : gN S 0 ≠ 0) (hf : M_undo S K) : Met l yX6_undo (ws_ yX6_undo cX6_undo 1 (some .int)) (tRm 1 23) (va_Pc [.ref (ad 0)] (tPre G ad A S)) (va_Qi K (tB G ad A (gN S)) A) 0 0 A :=
  tj_met_i [(0, .ref (ad 0))] pn_X6 rfl (Nat.le_of_ble_eq_true rfl) (fun p e R s m args below meth c Q C hw r => w_M_undo_b0 C hw rfl r hM hf)
theorem w_M_verdict_b0 {Γ : tX} {N0 : Nat → Nat} {K : Int32 → tS → Prop} (C : TC Γ cX6_verdict RX6 2 51) (hw : tWf N0) (hR : xnL Γ = 2) (r : TRz Γ N0 cX6_verdict K) {a1 : Int32} (hM : N0 0 ≠ 0) {S : tS} (hf : M_verdict a1 S K) : TJ Γ N0 0 0 0 [(0, .ref (xad Γ 0)), (1, .int a1)] [] S := by
  unfold M_verdict at hf
  refine tj_iload_n C 1 rfl rfl dX6_verdict_0 ?_
  refine tj_i2l C dX6_verdict_1 ?_
  refine tj_lconst C (v := lN 1) rfl dX6_verdict_2 ?_
  refine tj_lconst C (v := lN 1) rfl dX6_verdict_3 ?_
  refine tj_aload_n C 0 rfl rfl dX6_verdict_4 ?_
  refine gf_X6_7 C hM dX6_verdict_5 ?_
  refine tj_iconst C kc_4 dX6_verdict_8 ?_
  refine tj_iald C 48 3548 rfl (ln_48 hw hM) 4 kn_4 (vp_in_nI (by decide) (by decide)) dX6_verdict_9 ?_
  refine tj_lshl C dX6_verdict_10 ?_
  refine tj_lconst C (v := lN 1) rfl dX6_verdict_11 ?_
  refine tj_lsub C dX6_verdict_12 ?_
  refine tj_callSz C [.long (a1.toInt64), .long (lN 1), .long (((lN 1) <<< ((gI S 48 4).toInt64 &&& 63)) - (lN 1))] [] (fun hN => c_M_isFrom hf) lk_X6_337 ty_X6_isFrom rfl (Nat.le_of_ble_eq_true rfl) (Nat.le_of_ble_eq_true rfl) (Nat.le_of_ble_eq_true rfl) rfl dX6_verdict_13 (fun r2 S1 hf => ?_)
  have hz_r2 := hf.1
  replace hf := hf.2
  refine tj_if_ne C 25 (by decide) dX6_verdict_16 (fun hc => ?_) (fun hc => ?_)
  · replace hf := hf.2 hc
    refine tj_aload_n C 0 rfl rfl dX6_verdict_25 ?_
    refine tj_aload_n C 0 rfl rfl dX6_verdict_26 ?_
    refine tj_iload_n C 1 rfl rfl dX6_verdict_27 ?_
    refine tj_callVl C (k := 0) [.int a1] [.ref (xad Γ 0)] (fun hN => c_M_rightOf (by rw [hN]; exact hM) hf) lk_X6_431 ty_X6_rightOf rfl (Nat.le_of_ble_eq_true rfl) (Nat.le_of_ble_eq_true rfl) (Nat.le_of_ble_eq_true rfl) hM rfl (by decide) rfl rfl dX6_verdict_28 (fun r4 S3 hf => ?_)
    refine tj_lconst C (v := lN 1) rfl dX6_verdict_31 ?_
    refine tj_iconst C kc_4 dX6_verdict_32 ?_
    refine tj_iload_n C 1 rfl rfl dX6_verdict_33 ?_
    refine tj_callSi C [.int a1] [.int (nI 4), .long (lN 1), .long r4, .ref (xad Γ 0)] (fun hN => c_M_bits hf) lk_X6_344 ty_X6_bits rfl (Nat.le_of_ble_eq_true rfl) (Nat.le_of_ble_eq_true rfl) (Nat.le_of_ble_eq_true rfl) rfl dX6_verdict_34 (fun r6 S5 hf => ?_)
    refine tj_imul C dX6_verdict_37 ?_
    refine tj_lshl C dX6_verdict_38 ?_
    refine tj_callVz C (k := 0) [.long r4, .long ((lN 1) <<< (((nI 4) * r6).toInt64 &&& 63))] [] (fun hN => c_M_tellsBy (by rw [hN]; exact hM) hf) lk_X6_405 ty_X6_tellsBy rfl (Nat.le_of_ble_eq_true rfl) (Nat.le_of_ble_eq_true rfl) (Nat.le_of_ble_eq_true rfl) hM rfl (by decide) rfl rfl dX6_verdict_39 (fun r8 S7 hf => ?_)
    have hz_r8 := hf.1
    replace hf := hf.2
    exact r _ _ _ _ dX6_verdict_42 hz_r8 hf
  · replace hf := hf.1 hc
    refine tj_aload_n C 0 rfl rfl dX6_verdict_19 ?_
    refine tj_iconst C kc_1 dX6_verdict_20 ?_
    refine tj_callVz C (k := 0) [.int (nI 1)] [] (fun hN => c_M_is (by rw [hN]; exact hM) hf) lk_X6_98 ty_X6_is rfl (Nat.le_of_ble_eq_true rfl) (Nat.le_of_ble_eq_true rfl) (Nat.le_of_ble_eq_true rfl) hM rfl (by decide) rfl rfl dX6_verdict_21 (fun r10 S9 hf => ?_)
    have hz_r10 := hf.1
    replace hf := hf.2
    exact r _ _ _ _ dX6_verdict_24 hz_r10 hf
theorem c_M_verdict {l : Launch} {G : tG} {ad : Nat → Nat} {A : Nat → Prop} {S : tS} {K : Int32 → tS → Prop} {a1 : Int32} (hM : gN S 0 ≠ 0) (hf : M_verdict a1 S K) : Met l yX6_verdict (ws_ yX6_verdict cX6_verdict 2 (some .boolean)) (tRm 2 51) (va_Pc [.ref (ad 0), .int a1] (tPre G ad A S)) (va_Qi (fun r u => r &&& 1 = r ∧ K r u) (tB G ad A (gN S)) A) 0 0 A :=
  tj_met_z [(0, .ref (ad 0)), (1, .int a1)] pn_X6 rfl (Nat.le_of_ble_eq_true rfl) (fun p e R s m args below meth c Q C hw r => w_M_verdict_b0 C hw rfl r hM hf)
theorem w_M_weekOrder_b0 {Γ : tX} {N0 : Nat → Nat} {K : Int32 → tS → Prop} (C : TC Γ cX6_weekOrder RX6 9 198) (hw : tWf N0) (hR : xnL Γ = 3) (r : TRz Γ N0 cX6_weekOrder K) {a1 : Int32} {a2 : Int32} (hM : N0 0 ≠ 0) {S : tS} (hf : M_weekOrder a1 a2 S K) : TJ Γ N0 0 0 0 [(0, .ref (xad Γ 0)), (1, .int a1), (2, .int a2)] [] S := by
  unfold M_weekOrder at hf
  refine tj_iload_n C 1 rfl rfl dX6_weekOrder_0 ?_
  by_cases h0 : a1 = nI 15
  · replace hf := hf.1 h0
    refine tj_tswIn C 15 (off := 51) 52 (by decide) h0 (by decide) (by decide) (by decide) (by decide) dX6_weekOrder_1 ?_
    refine tj_aload_n C 0 rfl rfl dX6_weekOrder_52 ?_
    refine tj_iload_n C 2 rfl rfl dX6_weekOrder_53 ?_
    refine tj_iconst C kc_1 dX6_weekOrder_54 ?_
    refine tj_iadd C dX6_weekOrder_55 ?_
    refine tj_callVz C (k := 0) [.int (a2 + (nI 1))] [] (fun hN => c_M_personTo (by rw [hN]; exact hM) hf) lk_X6_260 ty_X6_personTo rfl (Nat.le_of_ble_eq_true rfl) (Nat.le_of_ble_eq_true rfl) (Nat.le_of_ble_eq_true rfl) hM rfl (by decide) rfl rfl dX6_weekOrder_56 (fun r2 S1 hf => ?_)
    have hz_r2 := hf.1
    replace hf := hf.2
    exact r _ _ _ _ dX6_weekOrder_59 hz_r2 hf
  · replace hf := hf.2 h0
    by_cases h1 : a1 = nI 16
    · replace hf := hf.1 h1
      refine tj_tswIn C 16 (off := 131) 132 (by decide) h1 (by decide) (by decide) (by decide) (by decide) dX6_weekOrder_1 ?_
      refine tj_iconst C kc_1 dX6_weekOrder_132 ?_
      exact r _ _ _ _ dX6_weekOrder_133 zb1 hf
    · replace hf := hf.2 h1
      by_cases h2 : a1 = nI 17
      · replace hf := hf.1 h2
        refine tj_tswIn C 17 (off := 59) 60 (by decide) h2 (by decide) (by decide) (by decide) (by decide) dX6_weekOrder_1 ?_
        refine tj_aload_n C 0 rfl rfl dX6_weekOrder_60 ?_
        refine tj_iload_n C 2 rfl rfl dX6_weekOrder_61 ?_
        refine tj_iconst C kc_1 dX6_weekOrder_62 ?_
        refine tj_iadd C dX6_weekOrder_63 ?_
        refine tj_callVz C (k := 0) [.int (a2 + (nI 1))] [] (fun hN => c_M_personTo (by rw [hN]; exact hM) hf) lk_X6_260 ty_X6_personTo rfl (Nat.le_of_ble_eq_true rfl) (Nat.le_of_ble_eq_true rfl) (Nat.le_of_ble_eq_true rfl) hM rfl (by decide) rfl rfl dX6_weekOrder_64 (fun r4 S3 hf => ?_)
        have hz_r4 := hf.1
        replace hf := hf.2
        refine tj_if_eq C 87 (by decide) dX6_weekOrder_67 (fun hc => ?_) (fun hc => ?_)
        · replace hf := hf.1 hc
          refine tj_iconst C kc_0 dX6_weekOrder_87 ?_
          exact r _ _ _ _ dX6_weekOrder_88 zb0 hf
        · replace hf := hf.2 hc
          refine tj_aload_n C 0 rfl rfl dX6_weekOrder_70 ?_
          refine tj_iload_n C 2 rfl rfl dX6_weekOrder_71 ?_
          refine tj_iconst C kc_2 dX6_weekOrder_72 ?_
          refine tj_iadd C dX6_weekOrder_73 ?_
          refine tj_iconst C kc_1 dX6_weekOrder_74 ?_
          refine tj_bipush C kb_9 dX6_weekOrder_75 ?_
          refine tj_callVz C (k := 0) [.int (a2 + (nI 2)), .int (nI 1), .int (nI 9)] [] (fun hN => c_M_number (by rw [hN]; exact hM) hf) lk_X6_212 ty_X6_number rfl (Nat.le_of_ble_eq_true rfl) (Nat.le_of_ble_eq_true rfl) (Nat.le_of_ble_eq_true rfl) hM rfl (by decide) rfl rfl dX6_weekOrder_77 (fun r6 S5 hf => ?_)
          have hz_r6 := hf.1
          replace hf := hf.2
          refine tj_if_eq C 87 (by decide) dX6_weekOrder_80 (fun hc => ?_) (fun hc => ?_)
          · replace hf := hf.1 hc
            refine tj_iconst C kc_0 dX6_weekOrder_87 ?_
            exact r _ _ _ _ dX6_weekOrder_88 zb0 hf
          · replace hf := hf.2 hc
            refine tj_iconst C kc_1 dX6_weekOrder_83 ?_
            refine tj_goto C 88 (by decide) dX6_weekOrder_84 ?_
            exact r _ _ _ _ dX6_weekOrder_88 zb1 hf
      · replace hf := hf.2 h2
        by_cases h3 : a1 = nI 18
        · replace hf := hf.1 h3
          refine tj_tswIn C 18 (off := 88) 89 (by decide) h3 (by decide) (by decide) (by decide) (by decide) dX6_weekOrder_1 ?_
          refine tj_aload_n C 0 rfl rfl dX6_weekOrder_89 ?_
          refine tj_iload_n C 2 rfl rfl dX6_weekOrder_90 ?_
          refine tj_iconst C kc_1 dX6_weekOrder_91 ?_
          refine tj_iadd C dX6_weekOrder_92 ?_
          refine tj_callVz C (k := 0) [.int (a2 + (nI 1))] [] (fun hN => c_M_personTo (by rw [hN]; exact hM) hf) lk_X6_260 ty_X6_personTo rfl (Nat.le_of_ble_eq_true rfl) (Nat.le_of_ble_eq_true rfl) (Nat.le_of_ble_eq_true rfl) hM rfl (by decide) rfl rfl dX6_weekOrder_93 (fun r8 S7 hf => ?_)
          have hz_r8 := hf.1
          replace hf := hf.2
          refine tj_if_eq C 113 (by decide) dX6_weekOrder_96 (fun hc => ?_) (fun hc => ?_)
          · replace hf := hf.1 hc
            refine tj_iconst C kc_0 dX6_weekOrder_113 ?_
            exact r _ _ _ _ dX6_weekOrder_114 zb0 hf
          · replace hf := hf.2 hc
            refine tj_aload_n C 0 rfl rfl dX6_weekOrder_99 ?_
            refine tj_iload_n C 2 rfl rfl dX6_weekOrder_100 ?_
            refine tj_iconst C kc_2 dX6_weekOrder_101 ?_
            refine tj_iadd C dX6_weekOrder_102 ?_
            refine tj_callVz C (k := 0) [.int (a2 + (nI 2))] [] (fun hN => c_M_smellTo (by rw [hN]; exact hM) hf) lk_X6_263 ty_X6_smellTo rfl (Nat.le_of_ble_eq_true rfl) (Nat.le_of_ble_eq_true rfl) (Nat.le_of_ble_eq_true rfl) hM rfl (by decide) rfl rfl dX6_weekOrder_103 (fun r10 S9 hf => ?_)
            have hz_r10 := hf.1
            replace hf := hf.2
            refine tj_if_eq C 113 (by decide) dX6_weekOrder_106 (fun hc => ?_) (fun hc => ?_)
            · replace hf := hf.1 hc
              refine tj_iconst C kc_0 dX6_weekOrder_113 ?_
              exact r _ _ _ _ dX6_weekOrder_114 zb0 hf
            · replace hf := hf.2 hc
              refine tj_iconst C kc_1 dX6_weekOrder_109 ?_
              refine tj_goto C 114 (by decide) dX6_weekOrder_110 ?_
              exact r _ _ _ _ dX6_weekOrder_114 zb1 hf
        · replace hf := hf.2 h3
          by_cases h4 : a1 = nI 19
          · replace hf := hf.1 h4
            refine tj_tswIn C 19 (off := 88) 89 (by decide) h4 (by decide) (by decide) (by decide) (by decide) dX6_weekOrder_1 ?_
            refine tj_aload_n C 0 rfl rfl dX6_weekOrder_89 ?_
            refine tj_iload_n C 2 rfl rfl dX6_weekOrder_90 ?_
            refine tj_iconst C kc_1 dX6_weekOrder_91 ?_
            refine tj_iadd C dX6_weekOrder_92 ?_
            refine tj_callVz C (k := 0) [.int (a2 + (nI 1))] [] (fun hN => c_M_personTo (by rw [hN]; exact hM) hf) lk_X6_260 ty_X6_personTo rfl (Nat.le_of_ble_eq_true rfl) (Nat.le_of_ble_eq_true rfl) (Nat.le_of_ble_eq_true rfl) hM rfl (by decide) rfl rfl dX6_weekOrder_93 (fun r12 S11 hf => ?_)
            have hz_r12 := hf.1
            replace hf := hf.2
            refine tj_if_eq C 113 (by decide) dX6_weekOrder_96 (fun hc => ?_) (fun hc => ?_)
            · replace hf := hf.1 hc
              refine tj_iconst C kc_0 dX6_weekOrder_113 ?_
              exact r _ _ _ _ dX6_weekOrder_114 zb0 hf
            · replace hf := hf.2 hc
              refine tj_aload_n C 0 rfl rfl dX6_weekOrder_99 ?_
              refine tj_iload_n C 2 rfl rfl dX6_weekOrder_100 ?_
              refine tj_iconst C kc_2 dX6_weekOrder_101 ?_
              refine tj_iadd C dX6_weekOrder_102 ?_
              refine tj_callVz C (k := 0) [.int (a2 + (nI 2))] [] (fun hN => c_M_smellTo (by rw [hN]; exact hM) hf) lk_X6_263 ty_X6_smellTo rfl (Nat.le_of_ble_eq_true rfl) (Nat.le_of_ble_eq_true rfl) (Nat.le_of_ble_eq_true rfl) hM rfl (by decide) rfl rfl dX6_weekOrder_103 (fun r14 S13 hf => ?_)
              have hz_r14 := hf.1
              replace hf := hf.2
              refine tj_if_eq C 113 (by decide) dX6_weekOrder_106 (fun hc => ?_) (fun hc => ?_)
              · replace hf := hf.1 hc
                refine tj_iconst C kc_0 dX6_weekOrder_113 ?_
                exact r _ _ _ _ dX6_weekOrder_114 zb0 hf
              · replace hf := hf.2 hc
                refine tj_iconst C kc_1 dX6_weekOrder_109 ?_
                refine tj_goto C 114 (by decide) dX6_weekOrder_110 ?_
                exact r _ _ _ _ dX6_weekOrder_114 zb1 hf
          · replace hf := hf.2 h4
            by_cases h5 : a1 = nI 20
            · replace hf := hf.1 h5
              refine tj_tswIn C 20 (off := 131) 132 (by decide) h5 (by decide) (by decide) (by decide) (by decide) dX6_weekOrder_1 ?_
              refine tj_iconst C kc_1 dX6_weekOrder_132 ?_
              exact r _ _ _ _ dX6_weekOrder_133 zb1 hf
            · replace hf := hf.2 h5
              by_cases h6 : a1 = nI 21
              · replace hf := hf.1 h6
                refine tj_tswIn C 21 (off := 131) 132 (by decide) h6 (by decide) (by decide) (by decide) (by decide) dX6_weekOrder_1 ?_
                refine tj_iconst C kc_1 dX6_weekOrder_132 ?_
                exact r _ _ _ _ dX6_weekOrder_133 zb1 hf
              · replace hf := hf.2 h6
                by_cases h7 : a1 = nI 22
                · replace hf := hf.1 h7
                  refine tj_tswIn C 22 (off := 125) 126 (by decide) h7 (by decide) (by decide) (by decide) (by decide) dX6_weekOrder_1 ?_
                  refine tj_aload_n C 0 rfl rfl dX6_weekOrder_126 ?_
                  refine tj_iload_n C 2 rfl rfl dX6_weekOrder_127 ?_
                  refine tj_callVz C (k := 0) [.int a2] [] (fun hN => c_M_test (by rw [hN]; exact hM) hf) lk_X6_266 ty_X6_test rfl (Nat.le_of_ble_eq_true rfl) (Nat.le_of_ble_eq_true rfl) (Nat.le_of_ble_eq_true rfl) hM rfl (by decide) rfl rfl dX6_weekOrder_128 (fun r16 S15 hf => ?_)
                  have hz_r16 := hf.1
                  replace hf := hf.2
                  exact r _ _ _ _ dX6_weekOrder_131 hz_r16 hf
                · replace hf := hf.2 h7
                  by_cases h8 : a1 = nI 23
                  · replace hf := hf.1 h8
                    refine tj_tswIn C 23 (off := 114) 115 (by decide) h8 (by decide) (by decide) (by decide) (by decide) dX6_weekOrder_1 ?_
                    refine tj_aload_n C 0 rfl rfl dX6_weekOrder_115 ?_
                    refine tj_iload_n C 2 rfl rfl dX6_weekOrder_116 ?_
                    refine tj_iconst C kc_1 dX6_weekOrder_117 ?_
                    refine tj_iadd C dX6_weekOrder_118 ?_
                    refine tj_iconst C kc_1 dX6_weekOrder_119 ?_
                    refine tj_bipush C kb_99 dX6_weekOrder_120 ?_
                    refine tj_callVz C (k := 0) [.int (a2 + (nI 1)), .int (nI 1), .int (nI 99)] [] (fun hN => c_M_number (by rw [hN]; exact hM) hf) lk_X6_212 ty_X6_number rfl (Nat.le_of_ble_eq_true rfl) (Nat.le_of_ble_eq_true rfl) (Nat.le_of_ble_eq_true rfl) hM rfl (by decide) rfl rfl dX6_weekOrder_122 (fun r18 S17 hf => ?_)
                    have hz_r18 := hf.1
                    replace hf := hf.2
                    exact r _ _ _ _ dX6_weekOrder_125 hz_r18 hf
                  · replace hf := hf.2 h8
                    refine tj_tswOut C 15 9 132 (by decide) (fun k hk => match k, hk with | 0, _ => h0 | 1, _ => h1 | 2, _ => h2 | 3, _ => h3 | 4, _ => h4 | 5, _ => h5 | 6, _ => h6 | 7, _ => h7 | 8, _ => h8 | k + 9, hk => absurd hk (by omega)) (by decide) (by decide) (by decide) dX6_weekOrder_1 ?_
                    refine tj_iconst C kc_1 dX6_weekOrder_132 ?_
                    exact r _ _ _ _ dX6_weekOrder_133 zb1 hf
theorem c_M_weekOrder {l : Launch} {G : tG} {ad : Nat → Nat} {A : Nat → Prop} {S : tS} {K : Int32 → tS → Prop} {a1 : Int32} {a2 : Int32} (hM : gN S 0 ≠ 0) (hf : M_weekOrder a1 a2 S K) : Met l yX6_weekOrder (ws_ yX6_weekOrder cX6_weekOrder 3 (some .boolean)) (tRm 9 198) (va_Pc [.ref (ad 0), .int a1, .int a2] (tPre G ad A S)) (va_Qi (fun r u => r &&& 1 = r ∧ K r u) (tB G ad A (gN S)) A) 0 0 A :=
  tj_met_z [(0, .ref (ad 0)), (1, .int a1), (2, .int a2)] pn_X6 rfl (Nat.le_of_ble_eq_true rfl) (fun p e R s m args below meth c Q C hw r => w_M_weekOrder_b0 C hw rfl r hM hf)
theorem w_M_weekStep_b279 {Γ : tX} {N0 : Nat → Nat} {K : Int32 → tS → Prop} (C : TC Γ cX6_weekStep RX6 10 220) (hw : tWf N0) (hR : xnL Γ = 6) (r : TRz Γ N0 cX6_weekStep K) (hM : N0 0 ≠ 0) {S : tS} (hf : M_weekStep_b279 K  S) : TJ Γ N0 0 0 279 [(0, .ref (xad Γ 0))] [] S := by
  unfold M_weekStep_b279 at hf
  refine tj_aload_n C 0 rfl rfl dX6_weekStep_279 ?_
  refine tj_bipush C kb_59 dX6_weekStep_280 ?_
  refine tj_callVz C (k := 0) [.int (nI 59)] [] (fun hN => c_M_wantSign (by rw [hN]; exact hM) hf) lk_X6_248 ty_X6_wantSign rfl (Nat.le_of_ble_eq_true rfl) (Nat.le_of_ble_eq_true rfl) (Nat.le_of_ble_eq_true rfl) hM rfl (by decide) rfl rfl dX6_weekStep_282 (fun r25 S24 hf => ?_)
  have hz_r25 := hf.1
  replace hf := hf.2
  exact r _ _ _ _ dX6_weekStep_285 hz_r25 hf
theorem w_M_weekStep_b222 {Γ : tX} {N0 : Nat → Nat} {K : Int32 → tS → Prop} (C : TC Γ cX6_weekStep RX6 10 220) (hw : tWf N0) (hR : xnL Γ = 6) (r : TRz Γ N0 cX6_weekStep K) (hM : N0 0 ≠ 0) {a1 : Int32} {a2 : Int32} {a3 : Int32} {S : tS} (hf : M_weekStep_b222 K a1 a2 a3 S) : TJ Γ N0 0 0 222 [(0, .ref (xad Γ 0)), (1, .int a1), (2, .int a2), (3, .int a3)] [] S := by
  unfold M_weekStep_b222 at hf
  refine tj_iload_n C 1 rfl rfl dX6_weekStep_222 ?_
  refine tj_bipush C kb_24 dX6_weekStep_223 ?_
  refine tj_icmp_ne C 279 (by decide) dX6_weekStep_225 (fun hc => ?_) (fun hc => ?_)
  · replace hf := hf.2 hc
    exact tj_sub [0] (w_M_weekStep_b279 C hw hR r hM hf) rfl
  · replace hf := hf.1 hc
    refine tj_aload_n C 0 rfl rfl dX6_weekStep_228 ?_
    refine tj_dup C rfl dX6_weekStep_229 ?_
    refine gf_X6_269 C hM dX6_weekStep_230 ?_
    refine tj_iconst C kc_1 dX6_weekStep_233 ?_
    refine tj_isub C dX6_weekStep_234 ?_
    refine pf_X6_269 C hM dX6_weekStep_235 ?_
    refine tj_topS (fun S21 eS => ?_)
    replace hf := hf S21 eS
    refine tj_aload_n C 0 rfl rfl dX6_weekStep_238 ?_
    refine gf_X6_7 C hM dX6_weekStep_239 ?_
    refine tj_iload_n C 3 rfl rfl dX6_weekStep_242 ?_
    refine tj_iconst C kc_4 dX6_weekStep_243 ?_
    refine tj_iadd C dX6_weekStep_244 ?_
    refine tj_aload_n C 0 rfl rfl dX6_weekStep_245 ?_
    refine gf_X6_44 C hM dX6_weekStep_246 ?_
    refine tj_aload_n C 0 rfl rfl dX6_weekStep_249 ?_
    refine gf_X6_269 C hM dX6_weekStep_250 ?_
    refine tj_iald C 272 3 rfl (ln_272 hw hM) _ rfl hf.1 dX6_weekStep_253 ?_
    replace hf := hf.2
    refine tj_iast C 48 3548 rfl (ln_48 hw hM) _ rfl hf.1 dX6_weekStep_254 ?_
    replace hf := hf.2
    refine tj_topS (fun S22 eS => ?_)
    replace hf := hf S22 eS
    refine tj_aload_n C 0 rfl rfl dX6_weekStep_255 ?_
    refine gf_X6_7 C hM dX6_weekStep_256 ?_
    refine tj_sipush C ks_2142 dX6_weekStep_259 ?_
    refine tj_bipush C kb_6 dX6_weekStep_262 ?_
    refine tj_aload_n C 0 rfl rfl dX6_weekStep_264 ?_
    refine gf_X6_44 C hM dX6_weekStep_265 ?_
    refine tj_aload_n C 0 rfl rfl dX6_weekStep_268 ?_
    refine gf_X6_269 C hM dX6_weekStep_269 ?_
    refine tj_iald C 272 3 rfl (ln_272 hw hM) _ rfl hf.1 dX6_weekStep_272 ?_
    replace hf := hf.2
    refine tj_imul C dX6_weekStep_273 ?_
    refine tj_iadd C dX6_weekStep_274 ?_
    refine tj_iconst C kc_4 dX6_weekStep_275 ?_
    refine tj_iadd C dX6_weekStep_276 ?_
    refine tj_iload_n C 2 rfl rfl dX6_weekStep_277 ?_
    refine tj_iast C 48 3548 rfl (ln_48 hw hM) _ rfl hf.1 dX6_weekStep_278 ?_
    replace hf := hf.2
    refine tj_topS (fun S23 eS => ?_)
    replace hf := hf S23 eS
    exact tj_sub [0] (w_M_weekStep_b279 C hw hR r hM hf) rfl
theorem w_M_weekStep_l147 {Γ : tX} {N0 : Nat → Nat} {K : Int32 → tS → Prop} (C : TC Γ cX6_weekStep RX6 10 220) (hw : tWf N0) (hR : xnL Γ = 6) (r : TRz Γ N0 cX6_weekStep K) (hM : N0 0 ≠ 0) : ∀ (n : Nat) (a1 : Int32) (a2 : Int32) (a3 : Int32) (a4 : Int32) (a5 : Int32) (S : tS), M_weekStep_l147 K n a1 a2 a3 a4 a5 S → TJ Γ N0 0 0 147 [(0, .ref (xad Γ 0)), (1, .int a1), (2, .int a2), (3, .int a3), (4, .int a4), (5, .int a5)] [] S := by
  intro n
  induction n with
  | zero => intro a1 a2 a3 a4 a5 S hf; exact hf.elim
  | succ n ih =>
    intro a1 a2 a3 a4 a5 S hf
    unfold M_weekStep_l147 at hf
    refine tj_iload C 5 rfl dX6_weekStep_147 ?_
    refine tj_bipush C kb_6 dX6_weekStep_149 ?_
    refine tj_icmp_ge C 170 (by decide) dX6_weekStep_151 (fun hc => ?_) (fun hc => ?_)
    · replace hf := hf.1 hc
      refine tj_aload_n C 0 rfl rfl dX6_weekStep_170 ?_
      refine gf_X6_7 C hM dX6_weekStep_171 ?_
      refine tj_sipush C ks_2016 dX6_weekStep_174 ?_
      refine tj_dup2 C rfl rfl dX6_weekStep_177 ?_
      refine tj_iald C 48 3548 rfl (ln_48 hw hM) 2016 kn_2016 (vp_in_nI (by decide) (by decide)) dX6_weekStep_178 ?_
      refine tj_iconst C kc_1 dX6_weekStep_179 ?_
      refine tj_iadd C dX6_weekStep_180 ?_
      refine tj_iast C 48 3548 rfl (ln_48 hw hM) 2016 kn_2016 (vp_in_nI (by decide) (by decide)) dX6_weekStep_181 ?_
      refine tj_topS (fun S13 eS => ?_)
      replace hf := hf S13 eS
      refine tj_aload_n C 0 rfl rfl dX6_weekStep_182 ?_
      refine tj_callVv C (k := 0) [] [] (fun hN => c_M_ahead (by rw [hN]; exact hM) hf) lk_X6_167 ty_X6_ahead rfl (Nat.le_of_ble_eq_true rfl) (Nat.le_of_ble_eq_true rfl) (Nat.le_of_ble_eq_true rfl) hM rfl (by decide) rfl rfl dX6_weekStep_183 (fun S14 hf => ?_)
      refine tj_aload_n C 0 rfl rfl dX6_weekStep_186 ?_
      refine tj_iload_n C 1 rfl rfl dX6_weekStep_187 ?_
      refine tj_iload_n C 3 rfl rfl dX6_weekStep_188 ?_
      refine tj_callVz C (k := 0) [.int a1, .int a3] [] (fun hN => c_M_weekOrder (by rw [hN]; exact hM) hf) lk_X6_275 ty_X6_weekOrder rfl (Nat.le_of_ble_eq_true rfl) (Nat.le_of_ble_eq_true rfl) (Nat.le_of_ble_eq_true rfl) hM rfl (by decide) rfl rfl dX6_weekStep_189 (fun r16 S15 hf => ?_)
      have hz_r16 := hf.1
      replace hf := hf.2
      refine tj_if_ne C 197 (by decide) dX6_weekStep_192 (fun hc => ?_) (fun hc => ?_)
      · replace hf := hf.2 hc
        refine tj_iload C 4 rfl dX6_weekStep_197 ?_
        refine tj_if_eq C 222 (by decide) dX6_weekStep_199 (fun hc => ?_) (fun hc => ?_)
        · replace hf := hf.1 hc
          exact tj_sub [0, 1, 2, 3] (w_M_weekStep_b222 C hw hR r hM hf) rfl
        · replace hf := hf.2 hc
          refine tj_aload_n C 0 rfl rfl dX6_weekStep_202 ?_
          refine gf_X6_44 C hM dX6_weekStep_203 ?_
          refine tj_aload_n C 0 rfl rfl dX6_weekStep_206 ?_
          refine gf_X6_269 C hM dX6_weekStep_207 ?_
          refine tj_iload_n C 2 rfl rfl dX6_weekStep_210 ?_
          refine tj_iast C 272 3 rfl (ln_272 hw hM) _ rfl hf.1 dX6_weekStep_211 ?_
          replace hf := hf.2
          refine tj_topS (fun S17 eS => ?_)
          replace hf := hf S17 eS
          refine tj_aload_n C 0 rfl rfl dX6_weekStep_212 ?_
          refine tj_dup C rfl dX6_weekStep_213 ?_
          refine gf_X6_269 C hM dX6_weekStep_214 ?_
          refine tj_iconst C kc_1 dX6_weekStep_217 ?_
          refine tj_iadd C dX6_weekStep_218 ?_
          refine pf_X6_269 C hM dX6_weekStep_219 ?_
          refine tj_topS (fun S18 eS => ?_)
          replace hf := hf S18 eS
          exact tj_sub [0, 1, 2, 3] (w_M_weekStep_b222 C hw hR r hM hf) rfl
      · replace hf := hf.1 hc
        refine tj_iconst C kc_0 dX6_weekStep_195 ?_
        exact r _ _ _ _ dX6_weekStep_196 zb0 hf
    · replace hf := hf.2 hc
      refine tj_aload_n C 0 rfl rfl dX6_weekStep_154 ?_
      refine gf_X6_7 C hM dX6_weekStep_155 ?_
      refine tj_iload_n C 3 rfl rfl dX6_weekStep_158 ?_
      refine tj_iload C 5 rfl dX6_weekStep_159 ?_
      refine tj_iadd C dX6_weekStep_161 ?_
      refine tj_iconst C kc_0 dX6_weekStep_162 ?_
      refine tj_iast C 48 3548 rfl (ln_48 hw hM) _ rfl hf.1 dX6_weekStep_163 ?_
      replace hf := hf.2
      refine tj_topS (fun S19 eS => ?_)
      replace hf := hf S19 eS
      obtain ⟨x20, ex⟩ : ∃ y : Int32, y = a5 + nI 1 := ⟨_, rfl⟩
      refine tj_iinc C (by rw [hR]; decide) 5 [(5, .int x20), (0, .ref (xad Γ 0)), (1, .int a1), (2, .int a2), (3, .int a3), (4, .int a4)] rfl (by rw [ex]; exact ki_1 _) rfl dX6_weekStep_164 ?_
      replace hf := hf x20 ex
      refine tj_goto C 147 (by decide) dX6_weekStep_167 ?_
      exact tj_sub [1, 2, 3, 4, 5, 0] (ih _ _ _ _ _ _ hf) rfl
theorem w_M_weekStep_b133 {Γ : tX} {N0 : Nat → Nat} {K : Int32 → tS → Prop} (C : TC Γ cX6_weekStep RX6 10 220) (hw : tWf N0) (hR : xnL Γ = 6) (r : TRz Γ N0 cX6_weekStep K) (hM : N0 0 ≠ 0) {a1 : Int32} {a2 : Int32} {a3 : Int32} {a4 : Int32} {s1 : Int32} {s2 : Int32} {S : tS} (hf : M_weekStep_b133 K a1 a2 a3 a4 s1 s2 S) : TJ Γ N0 0 0 133 [(0, .ref (xad Γ 0)), (1, .int a1), (2, .int a2), (3, .int a3), (4, .int a4)] [.int s2, .int s1, .ref (xad Γ 0)] S := by
  unfold M_weekStep_b133 at hf
  refine tj_iadd C dX6_weekStep_133 ?_
  refine pf_X6_272 C hM dX6_weekStep_134 ?_
  refine tj_topS (fun S11 eS => ?_)
  replace hf := hf S11 eS
  refine tj_aload_n C 0 rfl rfl dX6_weekStep_137 ?_
  refine gf_X6_7 C hM dX6_weekStep_138 ?_
  refine tj_iload_n C 3 rfl rfl dX6_weekStep_141 ?_
  refine tj_iload_n C 1 rfl rfl dX6_weekStep_142 ?_
  refine tj_iast C 48 3548 rfl (ln_48 hw hM) _ rfl hf.1 dX6_weekStep_143 ?_
  replace hf := hf.2
  refine tj_topS (fun S12 eS => ?_)
  replace hf := hf S12 eS
  refine tj_iconst C kc_1 dX6_weekStep_144 ?_
  refine tj_istore C (by rw [hR]; decide) [(5, .int (nI 1)), (0, .ref (xad Γ 0)), (1, .int a1), (2, .int a2), (3, .int a3), (4, .int a4)] rfl dX6_weekStep_145 ?_
  exact tj_sub [1, 2, 3, 4, 5, 0] (hf.elim fun k hf => w_M_weekStep_l147 C hw hR r hM k _ _ _ _ _ _ hf) rfl
theorem w_M_weekStep_b117 {Γ : tX} {N0 : Nat → Nat} {K : Int32 → tS → Prop} (C : TC Γ cX6_weekStep RX6 10 220) (hw : tWf N0) (hR : xnL Γ = 6) (r : TRz Γ N0 cX6_weekStep K) (hM : N0 0 ≠ 0) {a1 : Int32} {a2 : Int32} {a3 : Int32} {a4 : Int32} {S : tS} (hf : M_weekStep_b117 K a1 a2 a3 a4 S) : TJ Γ N0 0 0 117 [(0, .ref (xad Γ 0)), (1, .int a1), (2, .int a2), (3, .int a3), (4, .int a4)] [] S := by
  unfold M_weekStep_b117 at hf
  refine tj_aload_n C 0 rfl rfl dX6_weekStep_117 ?_
  refine tj_dup C rfl dX6_weekStep_118 ?_
  refine gf_X6_272 C hM dX6_weekStep_119 ?_
  refine tj_iload_n C 1 rfl rfl dX6_weekStep_122 ?_
  refine tj_bipush C kb_24 dX6_weekStep_123 ?_
  refine tj_icmp_ne C 132 (by decide) dX6_weekStep_125 (fun hc => ?_) (fun hc => ?_)
  · replace hf := hf.2 hc
    refine tj_iconst C kc_1 dX6_weekStep_132 ?_
    exact w_M_weekStep_b133 C hw hR r hM hf
  · replace hf := hf.1 hc
    refine tj_iconst C kc_0 dX6_weekStep_128 ?_
    refine tj_goto C 133 (by decide) dX6_weekStep_129 ?_
    exact w_M_weekStep_b133 C hw hR r hM hf
theorem w_M_weekStep_b97 {Γ : tX} {N0 : Nat → Nat} {K : Int32 → tS → Prop} (C : TC Γ cX6_weekStep RX6 10 220) (hw : tWf N0) (hR : xnL Γ = 6) (r : TRz Γ N0 cX6_weekStep K) (hM : N0 0 ≠ 0) {a1 : Int32} {a2 : Int32} {a3 : Int32} {a4 : Int32} {S : tS} (hf : M_weekStep_b97 K a1 a2 a3 a4 S) : TJ Γ N0 0 0 97 [(0, .ref (xad Γ 0)), (1, .int a1), (2, .int a2), (3, .int a3), (4, .int a4)] [] S := by
  unfold M_weekStep_b97 at hf
  refine tj_iload C 4 rfl dX6_weekStep_97 ?_
  refine tj_if_eq C 117 (by decide) dX6_weekStep_99 (fun hc => ?_) (fun hc => ?_)
  · replace hf := hf.1 hc
    exact w_M_weekStep_b117 C hw hR r hM hf
  · replace hf := hf.2 hc
    refine tj_aload_n C 0 rfl rfl dX6_weekStep_102 ?_
    refine gf_X6_269 C hM dX6_weekStep_103 ?_
    refine tj_iconst C kc_3 dX6_weekStep_106 ?_
    refine tj_icmp_ne C 117 (by decide) dX6_weekStep_107 (fun hc => ?_) (fun hc => ?_)
    · replace hf := hf.2 hc
      exact w_M_weekStep_b117 C hw hR r hM hf
    · replace hf := hf.1 hc
      refine tj_aload_n C 0 rfl rfl dX6_weekStep_110 ?_
      refine tj_bipush C kb_7 dX6_weekStep_111 ?_
      refine tj_callVz C (k := 0) [.int (nI 7)] [] (fun hN => c_M_fails (by rw [hN]; exact hM) hf) lk_X6_173 ty_X6_fails rfl (Nat.le_of_ble_eq_true rfl) (Nat.le_of_ble_eq_true rfl) (Nat.le_of_ble_eq_true rfl) hM rfl (by decide) rfl rfl dX6_weekStep_113 (fun r10 S9 hf => ?_)
      have hz_r10 := hf.1
      replace hf := hf.2
      exact r _ _ _ _ dX6_weekStep_116 hz_r10 hf
theorem w_M_weekStep_b75 {Γ : tX} {N0 : Nat → Nat} {K : Int32 → tS → Prop} (C : TC Γ cX6_weekStep RX6 10 220) (hw : tWf N0) (hR : xnL Γ = 6) (r : TRz Γ N0 cX6_weekStep K) (hM : N0 0 ≠ 0) {a1 : Int32} {a2 : Int32} {a3 : Int32} {a4 : Int32} {S : tS} (hf : M_weekStep_b75 K a1 a2 a3 a4 S) : TJ Γ N0 0 0 75 [(0, .ref (xad Γ 0)), (1, .int a1), (2, .int a2), (3, .int a3), (4, .int a4)] [] S := by
  unfold M_weekStep_b75 at hf
  refine tj_iload_n C 1 rfl rfl dX6_weekStep_75 ?_
  refine tj_bipush C kb_24 dX6_weekStep_76 ?_
  refine tj_icmp_eq C 97 (by decide) dX6_weekStep_78 (fun hc => ?_) (fun hc => ?_)
  · replace hf := hf.1 hc
    exact w_M_weekStep_b97 C hw hR r hM hf
  · replace hf := hf.2 hc
    refine tj_aload_n C 0 rfl rfl dX6_weekStep_81 ?_
    refine gf_X6_272 C hM dX6_weekStep_82 ?_
    refine tj_bipush C kb_30 dX6_weekStep_85 ?_
    refine tj_icmp_ne C 97 (by decide) dX6_weekStep_87 (fun hc => ?_) (fun hc => ?_)
    · replace hf := hf.2 hc
      exact w_M_weekStep_b97 C hw hR r hM hf
    · replace hf := hf.1 hc
      refine tj_aload_n C 0 rfl rfl dX6_weekStep_90 ?_
      refine tj_bipush C kb_6 dX6_weekStep_91 ?_
      refine tj_callVz C (k := 0) [.int (nI 6)] [] (fun hN => c_M_fails (by rw [hN]; exact hM) hf) lk_X6_173 ty_X6_fails rfl (Nat.le_of_ble_eq_true rfl) (Nat.le_of_ble_eq_true rfl) (Nat.le_of_ble_eq_true rfl) hM rfl (by decide) rfl rfl dX6_weekStep_93 (fun r8 S7 hf => ?_)
      have hz_r8 := hf.1
      replace hf := hf.2
      exact r _ _ _ _ dX6_weekStep_96 hz_r8 hf
theorem w_M_weekStep_b69 {Γ : tX} {N0 : Nat → Nat} {K : Int32 → tS → Prop} (C : TC Γ cX6_weekStep RX6 10 220) (hw : tWf N0) (hR : xnL Γ = 6) (r : TRz Γ N0 cX6_weekStep K) (hM : N0 0 ≠ 0) {S : tS} (hf : M_weekStep_b69 K  S) : TJ Γ N0 0 0 69 [(0, .ref (xad Γ 0))] [] S := by
  unfold M_weekStep_b69 at hf
  refine tj_aload_n C 0 rfl rfl dX6_weekStep_69 ?_
  refine tj_iconst C kc_2 dX6_weekStep_70 ?_
  refine tj_callVz C (k := 0) [.int (nI 2)] [] (fun hN => c_M_fails (by rw [hN]; exact hM) hf) lk_X6_173 ty_X6_fails rfl (Nat.le_of_ble_eq_true rfl) (Nat.le_of_ble_eq_true rfl) (Nat.le_of_ble_eq_true rfl) hM rfl (by decide) rfl rfl dX6_weekStep_71 (fun r6 S5 hf => ?_)
  have hz_r6 := hf.1
  replace hf := hf.2
  exact r _ _ _ _ dX6_weekStep_74 hz_r6 hf
theorem w_M_weekStep_b42 {Γ : tX} {N0 : Nat → Nat} {K : Int32 → tS → Prop} (C : TC Γ cX6_weekStep RX6 10 220) (hw : tWf N0) (hR : xnL Γ = 6) (r : TRz Γ N0 cX6_weekStep K) (hM : N0 0 ≠ 0) {a1 : Int32} {a2 : Int32} {a3 : Int32} {s0 : Int32} {S : tS} (hf : M_weekStep_b42 K a1 a2 a3 s0 S) : TJ Γ N0 0 0 42 [(0, .ref (xad Γ 0)), (1, .int a1), (2, .int a2), (3, .int a3)] [.int s0] S := by
  unfold M_weekStep_b42 at hf
  refine tj_istore C (by rw [hR]; decide) [(4, .int s0), (0, .ref (xad Γ 0)), (1, .int a1), (2, .int a2), (3, .int a3)] rfl dX6_weekStep_42 ?_
  refine tj_iload_n C 2 rfl rfl dX6_weekStep_44 ?_
  refine tj_bipush C kb_15 dX6_weekStep_45 ?_
  refine tj_icmp_lt C 69 (by decide) dX6_weekStep_47 (fun hc => ?_) (fun hc => ?_)
  · replace hf := hf.1 hc
    exact tj_sub [1] (w_M_weekStep_b69 C hw hR r hM hf) rfl
  · replace hf := hf.2 hc
    refine tj_iload_n C 2 rfl rfl dX6_weekStep_50 ?_
    refine tj_bipush C kb_25 dX6_weekStep_51 ?_
    refine tj_icmp_gt C 69 (by decide) dX6_weekStep_53 (fun hc => ?_) (fun hc => ?_)
    · replace hf := hf.1 hc
      exact tj_sub [1] (w_M_weekStep_b69 C hw hR r hM hf) rfl
    · replace hf := hf.2 hc
      refine tj_iload_n C 2 rfl rfl dX6_weekStep_56 ?_
      refine tj_bipush C kb_24 dX6_weekStep_57 ?_
      refine tj_icmp_ne C 75 (by decide) dX6_weekStep_59 (fun hc => ?_) (fun hc => ?_)
      · replace hf := hf.2 hc
        exact tj_sub [1, 2, 3, 4, 0] (w_M_weekStep_b75 C hw hR r hM hf) rfl
      · replace hf := hf.1 hc
        refine tj_aload_n C 1 rfl rfl dX6_weekStep_62 ?_
        refine gf_X6_269 C hM dX6_weekStep_63 ?_
        refine tj_if_ne C 75 (by decide) dX6_weekStep_66 (fun hc => ?_) (fun hc => ?_)
        · replace hf := hf.2 hc
          exact tj_sub [1, 2, 3, 4, 0] (w_M_weekStep_b75 C hw hR r hM hf) rfl
        · replace hf := hf.1 hc
          exact tj_sub [1] (w_M_weekStep_b69 C hw hR r hM hf) rfl
theorem w_M_weekStep_b37 {Γ : tX} {N0 : Nat → Nat} {K : Int32 → tS → Prop} (C : TC Γ cX6_weekStep RX6 10 220) (hw : tWf N0) (hR : xnL Γ = 6) (r : TRz Γ N0 cX6_weekStep K) (hM : N0 0 ≠ 0) {a1 : Int32} {a2 : Int32} {a3 : Int32} {S : tS} (hf : M_weekStep_b37 K a1 a2 a3 S) : TJ Γ N0 0 0 37 [(0, .ref (xad Γ 0)), (1, .int a1), (2, .int a2), (3, .int a3)] [] S := by
  unfold M_weekStep_b37 at hf
  refine tj_iconst C kc_1 dX6_weekStep_37 ?_
  refine tj_goto C 42 (by decide) dX6_weekStep_38 ?_
  exact w_M_weekStep_b42 C hw hR r hM hf
theorem w_M_weekStep_b0 {Γ : tX} {N0 : Nat → Nat} {K : Int32 → tS → Prop} (C : TC Γ cX6_weekStep RX6 10 220) (hw : tWf N0) (hR : xnL Γ = 6) (r : TRz Γ N0 cX6_weekStep K) (hM : N0 0 ≠ 0) {S : tS} (hf : M_weekStep S K) : TJ Γ N0 0 0 0 [(0, .ref (xad Γ 0))] [] S := by
  unfold M_weekStep at hf
  refine tj_aload_n C 0 rfl rfl dX6_weekStep_0 ?_
  refine tj_ldcS C 0 rfl dX6_weekStep_1 ?_
  refine tj_callVi C (k := 0) [.ref (xK Γ 0)] [] (fun hN => c_M_inWords (by rw [hN]; exact hM) (by decide) hf) lk_X6_176 ty_X6_inWords rfl (Nat.le_of_ble_eq_true rfl) (Nat.le_of_ble_eq_true rfl) (Nat.le_of_ble_eq_true rfl) hM rfl (by decide) rfl rfl dX6_weekStep_3 (fun r2 S1 hf => ?_)
  refine tj_istore_n C (by rw [hR]; decide) [(1, .int r2), (0, .ref (xad Γ 0))] rfl rfl dX6_weekStep_6 ?_
  refine tj_aload_n C 1 rfl rfl dX6_weekStep_7 ?_
  refine gf_X6_7 C hM dX6_weekStep_8 ?_
  refine tj_sipush C ks_2016 dX6_weekStep_11 ?_
  refine tj_iald C 48 3548 rfl (ln_48 hw hM) 2016 kn_2016 (vp_in_nI (by decide) (by decide)) dX6_weekStep_14 ?_
  refine tj_topi (fun x3 ex => ?_)
  replace hf := hf x3 ex
  refine tj_istore_n C (by rw [hR]; decide) [(2, .int x3), (1, .int r2), (0, .ref (xad Γ 0))] rfl rfl dX6_weekStep_15 ?_
  refine tj_sipush C ks_2142 dX6_weekStep_16 ?_
  refine tj_bipush C kb_6 dX6_weekStep_19 ?_
  refine tj_iload_n C 0 rfl rfl dX6_weekStep_21 ?_
  refine tj_imul C dX6_weekStep_22 ?_
  refine tj_iadd C dX6_weekStep_23 ?_
  refine tj_topi (fun x4 ex => ?_)
  replace hf := hf x4 ex
  refine tj_istore_n C (by rw [hR]; decide) [(3, .int x4), (2, .int x3), (1, .int r2), (0, .ref (xad Γ 0))] rfl rfl dX6_weekStep_24 ?_
  refine tj_iload_n C 2 rfl rfl dX6_weekStep_25 ?_
  refine tj_bipush C kb_22 dX6_weekStep_26 ?_
  refine tj_icmp_eq C 37 (by decide) dX6_weekStep_28 (fun hc => ?_) (fun hc => ?_)
  · replace hf := hf.1 hc
    exact tj_sub [3, 2, 1, 0] (w_M_weekStep_b37 C hw hR r hM hf) rfl
  · replace hf := hf.2 hc
    refine tj_iload_n C 2 rfl rfl dX6_weekStep_31 ?_
    refine tj_bipush C kb_23 dX6_weekStep_32 ?_
    refine tj_icmp_ne C 41 (by decide) dX6_weekStep_34 (fun hc => ?_) (fun hc => ?_)
    · replace hf := hf.2 hc
      refine tj_iconst C kc_0 dX6_weekStep_41 ?_
      exact tj_sub [3, 2, 1, 0] (w_M_weekStep_b42 C hw hR r hM hf) rfl
    · replace hf := hf.1 hc
      exact tj_sub [3, 2, 1, 0] (w_M_weekStep_b37 C hw hR r hM hf) rfl
theorem c_M_weekStep {l : Launch} {G : tG} {ad : Nat → Nat} {A : Nat → Prop} {S : tS} {K : Int32 → tS → Prop} (hM : gN S 0 ≠ 0) (hf : M_weekStep S K) : Met l yX6_weekStep (ws_ yX6_weekStep cX6_weekStep 6 (some .boolean)) (tRm 10 220) (va_Pc [.ref (ad 0)] (tPre G ad A S)) (va_Qi (fun r u => r &&& 1 = r ∧ K r u) (tB G ad A (gN S)) A) 0 0 A :=
  tj_met_z [(0, .ref (ad 0))] pn_X6 rfl (Nat.le_of_ble_eq_true rfl) (fun p e R s m args below meth c Q C hw r => w_M_weekStep_b0 C hw rfl r hM hf)
theorem w_M_weeks_b132 {Γ : tX} {N0 : Nat → Nat} {K : Int32 → tS → Prop} (C : TC Γ cX6_weeks RX6 11 245) (hw : tWf N0) (hR : xnL Γ = 4) (r : TRi Γ N0 cX6_weeks K) {a1 : Int32} (hM : N0 0 ≠ 0) {S : tS} (hf : M_weeks_b132 a1 K  S) : TJ Γ N0 0 0 132 [(0, .ref (xad Γ 0))] [] S := by
  unfold M_weeks_b132 at hf
  refine tj_aload_n C 0 rfl rfl dX6_weeks_132 ?_
  refine tj_aload_n C 0 rfl rfl dX6_weeks_133 ?_
  refine gf_X6_272 C hM dX6_weeks_134 ?_
  refine tj_callVi C (k := 0) [.int (gI S 0 22)] [] (fun hN => c_M_taken (by rw [hN]; exact hM) hf) lk_X6_257 ty_X6_taken rfl (Nat.le_of_ble_eq_true rfl) (Nat.le_of_ble_eq_true rfl) (Nat.le_of_ble_eq_true rfl) hM rfl (by decide) rfl rfl dX6_weeks_137 (fun r14 S13 hf => ?_)
  exact r _ _ _ _ dX6_weeks_140 hf
theorem w_M_weeks_l103 {Γ : tX} {N0 : Nat → Nat} {K : Int32 → tS → Prop} (C : TC Γ cX6_weeks RX6 11 245) (hw : tWf N0) (hR : xnL Γ = 4) (r : TRi Γ N0 cX6_weeks K) {a1 : Int32} (hM : N0 0 ≠ 0) : ∀ (n : Nat) (a3 : Int32) (S : tS), M_weeks_l103 a1 K n a3 S → TJ Γ N0 0 0 103 [(0, .ref (xad Γ 0)), (3, .int a3)] [] S := by
  intro n
  induction n with
  | zero => intro a3 S hf; exact hf.elim
  | succ n ih =>
    intro a3 S hf
    unfold M_weeks_l103 at hf
    refine tj_iload_n C 1 rfl rfl dX6_weeks_103 ?_
    refine tj_sipush C ks_494 dX6_weeks_104 ?_
    refine tj_icmp_ge C 132 (by decide) dX6_weeks_107 (fun hc => ?_) (fun hc => ?_)
    · replace hf := hf.1 hc
      exact tj_sub [0] (w_M_weeks_b132 C hw hR r hM hf) rfl
    · replace hf := hf.2 hc
      refine tj_aload_n C 0 rfl rfl dX6_weeks_110 ?_
      refine gf_X6_7 C hM dX6_weeks_111 ?_
      refine tj_iload_n C 1 rfl rfl dX6_weeks_114 ?_
      refine tj_aload_n C 0 rfl rfl dX6_weeks_115 ?_
      refine gf_X6_7 C hM dX6_weeks_116 ?_
      refine tj_sipush C ks_2008 dX6_weeks_119 ?_
      refine tj_iload_n C 1 rfl rfl dX6_weeks_122 ?_
      refine tj_iadd C dX6_weeks_123 ?_
      refine tj_iald C 48 3548 rfl (ln_48 hw hM) _ rfl hf.1 dX6_weeks_124 ?_
      replace hf := hf.2
      refine tj_iast C 48 3548 rfl (ln_48 hw hM) _ rfl hf.1 dX6_weeks_125 ?_
      replace hf := hf.2
      refine tj_topS (fun S15 eS => ?_)
      replace hf := hf S15 eS
      obtain ⟨x16, ex⟩ : ∃ y : Int32, y = a3 + nI 1 := ⟨_, rfl⟩
      refine tj_iinc C (by rw [hR]; decide) 1 [(3, .int x16), (0, .ref (xad Γ 0))] rfl (by rw [ex]; exact ki_1 _) rfl dX6_weeks_126 ?_
      replace hf := hf x16 ex
      refine tj_goto C 103 (by decide) dX6_weeks_129 ?_
      exact tj_sub [1, 0] (ih _ _ hf) rfl
theorem w_M_weeks_b77 {Γ : tX} {N0 : Nat → Nat} {K : Int32 → tS → Prop} (C : TC Γ cX6_weeks RX6 11 245) (hw : tWf N0) (hR : xnL Γ = 4) (r : TRi Γ N0 cX6_weeks K) {a1 : Int32} (hM : N0 0 ≠ 0) {S : tS} (hf : M_weeks_b77 a1 K  S) : TJ Γ N0 0 0 77 [(0, .ref (xad Γ 0))] [] S := by
  unfold M_weeks_b77 at hf
  refine tj_aload_n C 0 rfl rfl dX6_weeks_77 ?_
  refine gf_X6_161 C hM dX6_weeks_78 ?_
  refine tj_if_ne C 132 (by decide) dX6_weeks_81 (fun hc => ?_) (fun hc => ?_)
  · replace hf := hf.2 hc
    exact w_M_weeks_b132 C hw hR r hM hf
  · replace hf := hf.1 hc
    refine tj_aload_n C 0 rfl rfl dX6_weeks_84 ?_
    refine gf_X6_7 C hM dX6_weeks_85 ?_
    refine tj_bipush C kb_8 dX6_weeks_88 ?_
    refine tj_aload_n C 0 rfl rfl dX6_weeks_90 ?_
    refine gf_X6_7 C hM dX6_weeks_91 ?_
    refine tj_sipush C ks_2016 dX6_weeks_94 ?_
    refine tj_iald C 48 3548 rfl (ln_48 hw hM) 2016 kn_2016 (vp_in_nI (by decide) (by decide)) dX6_weeks_97 ?_
    refine tj_iast C 48 3548 rfl (ln_48 hw hM) 8 kn_8 (vp_in_nI (by decide) (by decide)) dX6_weeks_98 ?_
    refine tj_topS (fun S12 eS => ?_)
    replace hf := hf S12 eS
    refine tj_sipush C ks_134 dX6_weeks_99 ?_
    refine tj_istore_n C (by rw [hR]; decide) [(3, .int (nI 134)), (0, .ref (xad Γ 0))] rfl rfl dX6_weeks_102 ?_
    exact tj_sub [1, 0] (hf.elim fun k hf => w_M_weeks_l103 C hw hR r hM k _ _ hf) rfl
theorem w_M_weeks_b57 {Γ : tX} {N0 : Nat → Nat} {K : Int32 → tS → Prop} (C : TC Γ cX6_weeks RX6 11 245) (hw : tWf N0) (hR : xnL Γ = 4) (r : TRi Γ N0 cX6_weeks K) {a1 : Int32} (hM : N0 0 ≠ 0) {S : tS} (hf : M_weeks_b57 a1 K  S) : TJ Γ N0 0 0 57 [(0, .ref (xad Γ 0))] [] S := by
  unfold M_weeks_b57 at hf
  refine tj_aload_n C 0 rfl rfl dX6_weeks_57 ?_
  refine gf_X6_161 C hM dX6_weeks_58 ?_
  refine tj_if_ne C 77 (by decide) dX6_weeks_61 (fun hc => ?_) (fun hc => ?_)
  · replace hf := hf.2 hc
    exact w_M_weeks_b77 C hw hR r hM hf
  · replace hf := hf.1 hc
    refine tj_aload_n C 0 rfl rfl dX6_weeks_64 ?_
    refine gf_X6_269 C hM dX6_weeks_65 ?_
    refine tj_if_le C 77 (by decide) dX6_weeks_68 (fun hc => ?_) (fun hc => ?_)
    · replace hf := hf.1 hc
      exact w_M_weeks_b77 C hw hR r hM hf
    · replace hf := hf.2 hc
      refine tj_aload_n C 0 rfl rfl dX6_weeks_71 ?_
      refine tj_iconst C kc_2 dX6_weeks_72 ?_
      refine tj_callVz C (k := 0) [.int (nI 2)] [] (fun hN => c_M_fails (by rw [hN]; exact hM) hf) lk_X6_173 ty_X6_fails rfl (Nat.le_of_ble_eq_true rfl) (Nat.le_of_ble_eq_true rfl) (Nat.le_of_ble_eq_true rfl) hM rfl (by decide) rfl rfl dX6_weeks_73 (fun r11 S10 hf => ?_)
      have hz_r11 := hf.1
      replace hf := hf.2
      refine tj_pop C rfl dX6_weeks_76 ?_
      exact w_M_weeks_b77 C hw hR r hM hf
theorem w_M_weeks_l38 {Γ : tX} {N0 : Nat → Nat} {K : Int32 → tS → Prop} (C : TC Γ cX6_weeks RX6 11 245) (hw : tWf N0) (hR : xnL Γ = 4) (r : TRi Γ N0 cX6_weeks K) {a1 : Int32} (hM : N0 0 ≠ 0) : ∀ (n : Nat) (a2 : Int32) (S : tS), M_weeks_l38 a1 K n a2 S → TJ Γ N0 0 0 38 [(0, .ref (xad Γ 0)), (2, .int a2)] [] S := by
  intro n
  induction n with
  | zero => intro a2 S hf; exact hf.elim
  | succ n ih =>
    intro a2 S hf
    unfold M_weeks_l38 at hf
    refine tj_iload_n C 1 rfl rfl dX6_weeks_38 ?_
    refine tj_if_eq C 57 (by decide) dX6_weeks_39 (fun hc => ?_) (fun hc => ?_)
    · replace hf := hf.1 hc
      exact tj_sub [0] (w_M_weeks_b57 C hw hR r hM hf) rfl
    · replace hf := hf.2 hc
      refine tj_aload_n C 0 rfl rfl dX6_weeks_42 ?_
      refine gf_X6_136 C hM dX6_weeks_43 ?_
      refine tj_if_eq C 57 (by decide) dX6_weeks_46 (fun hc => ?_) (fun hc => ?_)
      · replace hf := hf.1 hc
        exact tj_sub [0] (w_M_weeks_b57 C hw hR r hM hf) rfl
      · replace hf := hf.2 hc
        refine tj_aload_n C 0 rfl rfl dX6_weeks_49 ?_
        refine tj_callVz C (k := 0) [] [] (fun hN => c_M_weekStep (by rw [hN]; exact hM) hf) lk_X6_278 ty_X6_weekStep rfl (Nat.le_of_ble_eq_true rfl) (Nat.le_of_ble_eq_true rfl) (Nat.le_of_ble_eq_true rfl) hM rfl (by decide) rfl rfl dX6_weeks_50 (fun r9 S8 hf => ?_)
        have hz_r9 := hf.1
        replace hf := hf.2
        refine tj_istore_n C (by rw [hR]; decide) [(2, .int r9), (0, .ref (xad Γ 0))] rfl rfl dX6_weeks_53 ?_
        refine tj_goto C 38 (by decide) dX6_weeks_54 ?_
        exact tj_sub [1, 0] (ih _ _ hf) rfl
theorem w_M_weeks_b0 {Γ : tX} {N0 : Nat → Nat} {K : Int32 → tS → Prop} (C : TC Γ cX6_weeks RX6 11 245) (hw : tWf N0) (hR : xnL Γ = 4) (r : TRi Γ N0 cX6_weeks K) {a1 : Int32} (hM : N0 0 ≠ 0) {S : tS} (hf : M_weeks a1 S K) : TJ Γ N0 0 0 0 [(0, .ref (xad Γ 0)), (1, .int a1)] [] S := by
  unfold M_weeks at hf
  refine tj_aload_n C 0 rfl rfl dX6_weeks_0 ?_
  refine tj_iload_n C 1 rfl rfl dX6_weeks_1 ?_
  refine tj_sipush C ks_300 dX6_weeks_2 ?_
  refine tj_callVz C (k := 0) [.int a1, .int (nI 300)] [] (fun hN => c_M_begins (by rw [hN]; exact hM) hf) lk_X6_251 ty_X6_begins rfl (Nat.le_of_ble_eq_true rfl) (Nat.le_of_ble_eq_true rfl) (Nat.le_of_ble_eq_true rfl) hM rfl (by decide) rfl rfl dX6_weeks_5 (fun r2 S1 hf => ?_)
  have hz_r2 := hf.1
  replace hf := hf.2
  refine tj_if_ne C 17 (by decide) dX6_weeks_8 (fun hc => ?_) (fun hc => ?_)
  · replace hf := hf.2 hc
    refine tj_aload_n C 0 rfl rfl dX6_weeks_17 ?_
    refine gf_X6_7 C hM dX6_weeks_18 ?_
    refine tj_sipush C ks_2016 dX6_weeks_21 ?_
    refine tj_iconst C kc_0 dX6_weeks_24 ?_
    refine tj_iast C 48 3548 rfl (ln_48 hw hM) 2016 kn_2016 (vp_in_nI (by decide) (by decide)) dX6_weeks_25 ?_
    refine tj_topS (fun S3 eS => ?_)
    replace hf := hf S3 eS
    refine tj_aload_n C 0 rfl rfl dX6_weeks_26 ?_
    refine tj_iconst C kc_0 dX6_weeks_27 ?_
    refine pf_X6_269 C hM dX6_weeks_28 ?_
    refine tj_topS (fun S4 eS => ?_)
    replace hf := hf S4 eS
    refine tj_aload_n C 0 rfl rfl dX6_weeks_31 ?_
    refine tj_iconst C kc_0 dX6_weeks_32 ?_
    refine pf_X6_272 C hM dX6_weeks_33 ?_
    refine tj_topS (fun S5 eS => ?_)
    replace hf := hf S5 eS
    refine tj_iconst C kc_1 dX6_weeks_36 ?_
    refine tj_istore_n C (by rw [hR]; decide) [(2, .int (nI 1)), (0, .ref (xad Γ 0)), (1, .int a1)] rfl rfl dX6_weeks_37 ?_
    exact tj_sub [1, 0] (hf.elim fun k hf => w_M_weeks_l38 C hw hR r hM k _ _ hf) rfl
  · replace hf := hf.1 hc
    refine tj_aload_n C 0 rfl rfl dX6_weeks_11 ?_
    refine tj_iconst C kc_1 dX6_weeks_12 ?_
    refine tj_callVi C (k := 0) [.int (nI 1)] [] (fun hN => c_M_refuse (by rw [hN]; exact hM) hf) lk_X6_91 ty_X6_refuse rfl (Nat.le_of_ble_eq_true rfl) (Nat.le_of_ble_eq_true rfl) (Nat.le_of_ble_eq_true rfl) hM rfl (by decide) rfl rfl dX6_weeks_13 (fun r7 S6 hf => ?_)
    exact r _ _ _ _ dX6_weeks_16 hf
theorem c_M_weeks {l : Launch} {G : tG} {ad : Nat → Nat} {A : Nat → Prop} {S : tS} {K : Int32 → tS → Prop} {a1 : Int32} (hM : gN S 0 ≠ 0) (hf : M_weeks a1 S K) : Met l yX6_weeks (ws_ yX6_weeks cX6_weeks 4 (some .int)) (tRm 11 245) (va_Pc [.ref (ad 0), .int a1] (tPre G ad A S)) (va_Qi K (tB G ad A (gN S)) A) 0 0 A :=
  tj_met_i [(0, .ref (ad 0)), (1, .int a1)] pn_X6 rfl (Nat.le_of_ble_eq_true rfl) (fun p e R s m args below meth c Q C hw r => w_M_weeks_b0 C hw rfl r hM hf)
theorem w_M_word_b23 {Γ : tX} {N0 : Nat → Nat} {K : Int32 → tS → Prop} (C : TC Γ cX6_word RX6 1 21) (hw : tWf N0) (hR : xnL Γ = 3) (r : TRi Γ N0 cX6_word K) {a1 : Int32} {a2 : Int32} (hM : N0 0 ≠ 0) {S : tS} (hf : M_word_b23 a1 a2 K  S) : TJ Γ N0 0 0 23 [(0, .ref (xad Γ 0))] [] S := by
  unfold M_word_b23 at hf
  refine tj_aload_n C 0 rfl rfl dX6_word_23 ?_
  refine tj_iconst C kc_1 dX6_word_24 ?_
  refine tj_callVi C (k := 0) [.int (nI 1)] [] (fun hN => c_M_refuse (by rw [hN]; exact hM) hf) lk_X6_91 ty_X6_refuse rfl (Nat.le_of_ble_eq_true rfl) (Nat.le_of_ble_eq_true rfl) (Nat.le_of_ble_eq_true rfl) hM rfl (by decide) rfl rfl dX6_word_25 (fun r4 S3 hf => ?_)
  exact r _ _ _ _ dX6_word_28 hf
theorem w_M_word_b0 {Γ : tX} {N0 : Nat → Nat} {K : Int32 → tS → Prop} (C : TC Γ cX6_word RX6 1 21) (hw : tWf N0) (hR : xnL Γ = 3) (r : TRi Γ N0 cX6_word K) {a1 : Int32} {a2 : Int32} (hM : N0 0 ≠ 0) {S : tS} (hf : M_word a1 a2 S K) : TJ Γ N0 0 0 0 [(0, .ref (xad Γ 0)), (1, .int a1), (2, .int a2)] [] S := by
  unfold M_word at hf
  refine tj_iload_n C 1 rfl rfl dX6_word_0 ?_
  refine tj_if_lt C 23 (by decide) dX6_word_1 (fun hc => ?_) (fun hc => ?_)
  · replace hf := hf.1 hc
    exact tj_sub [0] (w_M_word_b23 C hw hR r hM hf) rfl
  · replace hf := hf.2 hc
    refine tj_iload_n C 1 rfl rfl dX6_word_4 ?_
    refine tj_aload_n C 0 rfl rfl dX6_word_5 ?_
    refine gf_X6_7 C hM dX6_word_6 ?_
    refine tj_iconst C kc_5 dX6_word_9 ?_
    refine tj_iald C 48 3548 rfl (ln_48 hw hM) 5 kn_5 (vp_in_nI (by decide) (by decide)) dX6_word_10 ?_
    refine tj_icmp_ge C 23 (by decide) dX6_word_11 (fun hc => ?_) (fun hc => ?_)
    · replace hf := hf.1 hc
      exact tj_sub [0] (w_M_word_b23 C hw hR r hM hf) rfl
    · replace hf := hf.2 hc
      refine tj_iload_n C 2 rfl rfl dX6_word_14 ?_
      refine tj_if_lt C 23 (by decide) dX6_word_15 (fun hc => ?_) (fun hc => ?_)
      · replace hf := hf.1 hc
        exact tj_sub [0] (w_M_word_b23 C hw hR r hM hf) rfl
      · replace hf := hf.2 hc
        refine tj_iload_n C 2 rfl rfl dX6_word_18 ?_
        refine tj_iconst C kc_1 dX6_word_19 ?_
        refine tj_icmp_le C 29 (by decide) dX6_word_20 (fun hc => ?_) (fun hc => ?_)
        · replace hf := hf.1 hc
          refine tj_aload_n C 0 rfl rfl dX6_word_29 ?_
          refine tj_aload_n C 0 rfl rfl dX6_word_30 ?_
          refine gf_X6_7 C hM dX6_word_31 ?_
          refine tj_bipush C kb_114 dX6_word_34 ?_
          refine tj_iconst C kc_2 dX6_word_36 ?_
          refine tj_iload_n C 1 rfl rfl dX6_word_37 ?_
          refine tj_imul C dX6_word_38 ?_
          refine tj_iadd C dX6_word_39 ?_
          refine tj_iload_n C 2 rfl rfl dX6_word_40 ?_
          refine tj_iadd C dX6_word_41 ?_
          refine tj_iald C 48 3548 rfl (ln_48 hw hM) _ rfl hf.1 dX6_word_42 ?_
          replace hf := hf.2
          refine tj_callVi C (k := 0) [.int (gI S 48 ((((nI 114) + ((nI 2) * a1)) + a2).toNatClampNeg))] [] (fun hN => c_M_gives (by rw [hN]; exact hM) hf) lk_X6_95 ty_X6_gives rfl (Nat.le_of_ble_eq_true rfl) (Nat.le_of_ble_eq_true rfl) (Nat.le_of_ble_eq_true rfl) hM rfl (by decide) rfl rfl dX6_word_43 (fun r2 S1 hf => ?_)
          exact r _ _ _ _ dX6_word_46 hf
        · replace hf := hf.2 hc
          exact tj_sub [0] (w_M_word_b23 C hw hR r hM hf) rfl
theorem c_M_word {l : Launch} {G : tG} {ad : Nat → Nat} {A : Nat → Prop} {S : tS} {K : Int32 → tS → Prop} {a1 : Int32} {a2 : Int32} (hM : gN S 0 ≠ 0) (hf : M_word a1 a2 S K) : Met l yX6_word (ws_ yX6_word cX6_word 3 (some .int)) (tRm 1 21) (va_Pc [.ref (ad 0), .int a1, .int a2] (tPre G ad A S)) (va_Qi K (tB G ad A (gN S)) A) 0 0 A :=
  tj_met_i [(0, .ref (ad 0)), (1, .int a1), (2, .int a2)] pn_X6 rfl (Nat.le_of_ble_eq_true rfl) (fun p e R s m args below meth c Q C hw r => w_M_word_b0 C hw rfl r hM hf)
