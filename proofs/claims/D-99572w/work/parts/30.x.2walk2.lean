set_option maxRecDepth 100000
theorem w_X_gameOf_b0 {Γ : tX} {N0 : Nat → Nat} {K : Int32 → tS → Prop} (C : TC Γ cX0_gameOf RX0 16 423) (hw : tWf N0) (hR : xnL Γ = 2) (r : TRi Γ N0 cX0_gameOf K) {a1 : Int32} (hX : N0 1025 ≠ 0) {S : tS} (hf : X_gameOf a1 S K) : TJ Γ N0 0 0 0 [(0, .ref (xad Γ 1025)), (1, .int a1)] [] S := by
  unfold X_gameOf at hf
  refine tj_aload_n C 0 rfl rfl dX0_gameOf_0 ?_
  refine gf_X0_66 C hX dX0_gameOf_1 ?_
  refine tj_aload_n C 0 rfl rfl dX0_gameOf_4 ?_
  refine tj_callVa C (k := 1) [] [.ref (xad Γ 1766)] (fun hN => c_X_at (by rw [hN]; exact hX) hf) lk_X0_168 ty_X0_at rfl (Nat.le_of_ble_eq_true rfl) (Nat.le_of_ble_eq_true rfl) (Nat.le_of_ble_eq_true rfl) hX rfl (by decide) rfl rfl dX0_gameOf_5 (fun S1 hf => ?_)
  refine tj_callVv C (k := 6) [.ref (xad Γ 1222)] [] (fun hN => c_Co_be (by rw [hN]; exact ⟨(ne0 (ln_1766 hw hX)), rfl⟩) (by rw [hN]; exact ⟨(ne0 (ln_1222 hw hX)), rfl⟩) hf) lk_X0_216 ty_X5_be rfl (Nat.le_of_ble_eq_true rfl) (Nat.le_of_ble_eq_true rfl) (Nat.le_of_ble_eq_true rfl) (ne0 (ln_1766 hw hX)) rfl (by decide) rfl rfl dX0_gameOf_8 (fun S2 hf => ?_)
  refine tj_aload_n C 0 rfl rfl dX0_gameOf_11 ?_
  refine tj_iconst C kc_0 dX0_gameOf_12 ?_
  refine tj_iload_n C 1 rfl rfl dX0_gameOf_13 ?_
  obtain ⟨d, hd8, hf⟩ := hf
  refine tj_callVi C (k := 1) [.int (nI 0), .int a1] [] (fun hN => c_X_plays d _ _ _ _ (by rw [hN]; exact hX) hf) lk_X0_486 ty_X0_plays rfl (by omega) (by omega) (Nat.le_of_ble_eq_true rfl) hX rfl (by decide) rfl rfl dX0_gameOf_14 (fun r4 S3 hf => ?_)
  exact r _ _ _ _ dX0_gameOf_17 hf
theorem c_X_gameOf {l : Launch} {G : tG} {ad : Nat → Nat} {A : Nat → Prop} {S : tS} {K : Int32 → tS → Prop} {a1 : Int32} (hX : gN S 1025 ≠ 0) (hf : X_gameOf a1 S K) : Met l yX0_gameOf (ws_ yX0_gameOf cX0_gameOf 2 (some .int)) (tRm 16 423) (va_Pc [.ref (ad 1025), .int a1] (tPre G ad A S)) (va_Qi K (tB G ad A (gN S)) A) 0 0 A :=
  tj_met_i [(0, .ref (ad 1025)), (1, .int a1)] pn_X0 rfl (Nat.le_of_ble_eq_true rfl) (fun p e R s m args below meth c Q C hw r => w_X_gameOf_b0 C hw rfl r hX hf)
theorem w_X_game_b18 {Γ : tX} {N0 : Nat → Nat} {K : Int32 → tS → Prop} (C : TC Γ cX0_game RX0 17 444) (hw : tWf N0) (hR : xnL Γ = 2) (r : TRi Γ N0 cX0_game K) {a1 : Int32} (hX : N0 1025 ≠ 0) {s1 : Int32} {S : tS} (hf : X_game_b18 a1 K s1 S) : TJ Γ N0 0 0 18 [(0, .ref (xad Γ 1025)), (1, .int a1)] [.int s1, .ref (xad Γ 1025)] S := by
  unfold X_game_b18 at hf
  refine pf_X0_91 C hX dX0_game_18 ?_
  refine tj_topS (fun S3 eS => ?_)
  replace hf := hf S3 eS
  refine tj_aload_n C 0 rfl rfl dX0_game_21 ?_
  refine gf_X0_91 C hX dX0_game_22 ?_
  refine tj_if_le C 32 (by decide) dX0_game_25 (fun hc => ?_) (fun hc => ?_)
  · replace hf := hf.1 hc
    refine tj_aload_n C 0 rfl rfl dX0_game_32 ?_
    refine tj_iload_n C 1 rfl rfl dX0_game_33 ?_
    refine tj_callVi C (k := 1) [.int a1] [] (fun hN => c_X_gameOf (by rw [hN]; exact hX) hf) lk_X0_495 ty_X0_gameOf rfl (Nat.le_of_ble_eq_true rfl) (Nat.le_of_ble_eq_true rfl) (Nat.le_of_ble_eq_true rfl) hX rfl (by decide) rfl rfl dX0_game_34 (fun r5 S4 hf => ?_)
    exact r _ _ _ _ dX0_game_37 hf
  · replace hf := hf.2 hc
    refine tj_iconst C kc_m1 dX0_game_28 ?_
    refine tj_goto C 37 (by decide) dX0_game_29 ?_
    exact r _ _ _ _ dX0_game_37 hf
theorem w_X_game_b0 {Γ : tX} {N0 : Nat → Nat} {K : Int32 → tS → Prop} (C : TC Γ cX0_game RX0 17 444) (hw : tWf N0) (hR : xnL Γ = 2) (r : TRi Γ N0 cX0_game K) {a1 : Int32} (hX : N0 1025 ≠ 0) {S : tS} (hf : X_game a1 S K) : TJ Γ N0 0 0 0 [(0, .ref (xad Γ 1025)), (1, .int a1)] [] S := by
  unfold X_game at hf
  refine tj_aload_n C 0 rfl rfl dX0_game_0 ?_
  refine tj_iload_n C 1 rfl rfl dX0_game_1 ?_
  refine tj_i2l C dX0_game_2 ?_
  refine tj_lconst C (v := lN 0) rfl dX0_game_3 ?_
  refine tj_ldc2 C kl_X0_388 dX0_game_4 ?_
  refine tj_callSz C [.long (a1.toInt64), .long (lN 0), .long (lN 3)] [.ref (xad Γ 1025)] (fun hN => c_X_isIn hf) lk_X0_175 ty_X0_isIn rfl (Nat.le_of_ble_eq_true rfl) (Nat.le_of_ble_eq_true rfl) (Nat.le_of_ble_eq_true rfl) rfl dX0_game_7 (fun r2 S1 hf => ?_)
  have hz_r2 := hf.1
  replace hf := hf.2
  refine tj_if_eq C 17 (by decide) dX0_game_10 (fun hc => ?_) (fun hc => ?_)
  · replace hf := hf.1 hc
    refine tj_iconst C kc_1 dX0_game_17 ?_
    exact w_X_game_b18 C hw hR r hX hf
  · replace hf := hf.2 hc
    refine tj_iconst C kc_0 dX0_game_13 ?_
    refine tj_goto C 18 (by decide) dX0_game_14 ?_
    exact w_X_game_b18 C hw hR r hX hf
theorem c_X_game {l : Launch} {G : tG} {ad : Nat → Nat} {A : Nat → Prop} {S : tS} {K : Int32 → tS → Prop} {a1 : Int32} (hX : gN S 1025 ≠ 0) (hf : X_game a1 S K) : Met l yX0_game (ws_ yX0_game cX0_game 2 (some .int)) (tRm 17 444) (va_Pc [.ref (ad 1025), .int a1] (tPre G ad A S)) (va_Qi K (tB G ad A (gN S)) A) 0 0 A :=
  tj_met_i [(0, .ref (ad 1025)), (1, .int a1)] pn_X0 rfl (Nat.le_of_ble_eq_true rfl) (fun p e R s m args below meth c Q C hw r => w_X_game_b0 C hw rfl r hX hf)
theorem w_X_guilties_l4 {Γ : tX} {N0 : Nat → Nat} {K : Int32 → tS → Prop} (C : TC Γ cX0_guilties RX0 1 20) (hw : tWf N0) (hR : xnL Γ = 3) (r : TRi Γ N0 cX0_guilties K) (hX : N0 1025 ≠ 0) : ∀ (n : Nat) (a1 : Int32) (a2 : Int32) (S : tS), X_guilties_l4 K n a1 a2 S → TJ Γ N0 0 0 4 [(0, .ref (xad Γ 1025)), (1, .int a1), (2, .int a2)] [] S := by
  intro n
  induction n with
  | zero => intro a1 a2 S hf; exact hf.elim
  | succ n ih =>
    intro a1 a2 S hf
    unfold X_guilties_l4 at hf
    refine tj_iload_n C 2 rfl rfl dX0_guilties_4 ?_
    refine tj_aload_n C 0 rfl rfl dX0_guilties_5 ?_
    refine tj_callVa C (k := 1) [] [.int a2] (fun hN => c_X_at (by rw [hN]; exact hX) hf) lk_X0_168 ty_X0_at rfl (Nat.le_of_ble_eq_true rfl) (Nat.le_of_ble_eq_true rfl) (Nat.le_of_ble_eq_true rfl) hX rfl (by decide) rfl rfl dX0_guilties_6 (fun S1 hf => ?_)
    refine gf_X0_185 C rfl (ne0 (ln_1222 hw hX)) dX0_guilties_9 ?_
    refine tj_icmp_ge C 35 (by decide) dX0_guilties_12 (fun hc => ?_) (fun hc => ?_)
    · replace hf := hf.1 hc
      refine tj_iload_n C 1 rfl rfl dX0_guilties_35 ?_
      exact r _ _ _ _ dX0_guilties_36 hf
    · replace hf := hf.2 hc
      refine tj_iload_n C 1 rfl rfl dX0_guilties_15 ?_
      refine tj_aload_n C 0 rfl rfl dX0_guilties_16 ?_
      refine tj_callVa C (k := 1) [] [.int a1] (fun hN => c_X_at (by rw [hN]; exact hX) hf) lk_X0_168 ty_X0_at rfl (Nat.le_of_ble_eq_true rfl) (Nat.le_of_ble_eq_true rfl) (Nat.le_of_ble_eq_true rfl) hX rfl (by decide) rfl rfl dX0_guilties_17 (fun S2 hf => ?_)
      refine gf_X0_237 C rfl (ne0 (ln_1222 hw hX)) dX0_guilties_20 ?_
      refine tj_iload_n C 2 rfl rfl dX0_guilties_23 ?_
      refine tj_iald C 1520 6 rfl (ln_1520 hw hX) _ rfl hf.1 dX0_guilties_24 ?_
      replace hf := hf.2
      refine tj_iload_n C 2 rfl rfl dX0_guilties_25 ?_
      refine tj_ishl C dX0_guilties_26 ?_
      refine tj_ior C dX0_guilties_27 ?_
      refine tj_topi (fun x3 ex => ?_)
      replace hf := hf x3 ex
      refine tj_istore_n C (by rw [hR]; decide) [(1, .int x3), (0, .ref (xad Γ 1025)), (2, .int a2)] rfl rfl dX0_guilties_28 ?_
      obtain ⟨x4, ex⟩ : ∃ y : Int32, y = a2 + nI 1 := ⟨_, rfl⟩
      refine tj_iinc C (by rw [hR]; decide) 2 [(2, .int x4), (1, .int x3), (0, .ref (xad Γ 1025))] rfl (by rw [ex]; exact ki_1 _) rfl dX0_guilties_29 ?_
      replace hf := hf x4 ex
      refine tj_goto C 4 (by decide) dX0_guilties_32 ?_
      exact tj_sub [2, 1, 0] (ih _ _ _ hf) rfl
theorem w_X_guilties_b0 {Γ : tX} {N0 : Nat → Nat} {K : Int32 → tS → Prop} (C : TC Γ cX0_guilties RX0 1 20) (hw : tWf N0) (hR : xnL Γ = 3) (r : TRi Γ N0 cX0_guilties K) (hX : N0 1025 ≠ 0) {S : tS} (hf : X_guilties S K) : TJ Γ N0 0 0 0 [(0, .ref (xad Γ 1025))] [] S := by
  unfold X_guilties at hf
  refine tj_iconst C kc_0 dX0_guilties_0 ?_
  refine tj_istore_n C (by rw [hR]; decide) [(1, .int (nI 0)), (0, .ref (xad Γ 1025))] rfl rfl dX0_guilties_1 ?_
  refine tj_iconst C kc_0 dX0_guilties_2 ?_
  refine tj_istore_n C (by rw [hR]; decide) [(2, .int (nI 0)), (1, .int (nI 0)), (0, .ref (xad Γ 1025))] rfl rfl dX0_guilties_3 ?_
  exact tj_sub [2, 1, 0] (hf.elim fun k hf => w_X_guilties_l4 C hw hR r hX k _ _ _ hf) rfl
theorem c_X_guilties {l : Launch} {G : tG} {ad : Nat → Nat} {A : Nat → Prop} {S : tS} {K : Int32 → tS → Prop} (hX : gN S 1025 ≠ 0) (hf : X_guilties S K) : Met l yX0_guilties (ws_ yX0_guilties cX0_guilties 3 (some .int)) (tRm 1 20) (va_Pc [.ref (ad 1025)] (tPre G ad A S)) (va_Qi K (tB G ad A (gN S)) A) 0 0 A :=
  tj_met_i [(0, .ref (ad 1025))] pn_X0 rfl (Nat.le_of_ble_eq_true rfl) (fun p e R s m args below meth c Q C hw r => w_X_guilties_b0 C hw rfl r hX hf)
theorem w_Co_allSmells_b0 {Γ : tX} {N0 : Nat → Nat} {K : Int32 → tS → Prop} (C : TC Γ cX5_allSmells RX5 0 0) (hw : tWf N0) (hR : xnL Γ = 1) (r : TRi Γ N0 cX5_allSmells K) {t0 : Nat} (h_t0 : N0 t0 ≠ 0 ∧ t0 % 32 = 6) {S : tS} (hf : Co_allSmells t0 S K) : TJ Γ N0 0 0 0 [(0, .ref (xad Γ t0))] [] S := by
  unfold Co_allSmells at hf
  refine tj_iconst C kc_1 dX5_allSmells_0 ?_
  refine tj_aload_n C 0 rfl rfl dX5_allSmells_1 ?_
  refine gf_X5_61 C h_t0.2 h_t0.1 dX5_allSmells_2 ?_
  refine tj_ishl C dX5_allSmells_5 ?_
  exact r _ _ _ _ dX5_allSmells_6 hf
theorem c_Co_allSmells {l : Launch} {G : tG} {ad : Nat → Nat} {A : Nat → Prop} {S : tS} {K : Int32 → tS → Prop} {t0 : Nat} (h_t0 : gN S t0 ≠ 0 ∧ t0 % 32 = 6) (hf : Co_allSmells t0 S K) : Met l yX5_allSmells (ws_ yX5_allSmells cX5_allSmells 1 (some .int)) (tRm 0 0) (va_Pc [.ref (ad t0)] (tPre G ad A S)) (va_Qi K (tB G ad A (gN S)) A) 0 0 A :=
  tj_met_i [(0, .ref (ad t0))] pn_X5 rfl (Nat.le_of_ble_eq_true rfl) (fun p e R s m args below meth c Q C hw r => w_Co_allSmells_b0 C hw rfl r h_t0 hf)
theorem w_X_laysWorlds_b131 {Γ : tX} {N0 : Nat → Nat} {K : tS → Prop} (C : TC Γ cX0_laysWorlds RX0 3 71) (hw : tWf N0) (hR : xnL Γ = 7) (r : TRv Γ N0 cX0_laysWorlds K) (hX : N0 1025 ≠ 0) {κ26 : Int32 → tS → Prop} (hκ26 : ∀ (a1 : Int32) (S : tS), κ26 a1 S → TJ Γ N0 0 0 26 [(0, .ref (xad Γ 1025)), (1, .int a1)] [] S) {κ33 : Int32 → Int32 → tS → Prop} (hκ33 : ∀ (a1 : Int32) (a2 : Int32) (S : tS), κ33 a1 a2 S → TJ Γ N0 0 0 33 [(0, .ref (xad Γ 1025)), (1, .int a1), (2, .int a2)] [] S) {κ41 : Int32 → Int32 → Int32 → tS → Prop} (hκ41 : ∀ (a1 : Int32) (a2 : Int32) (a3 : Int32) (S : tS), κ41 a1 a2 a3 S → TJ Γ N0 0 0 41 [(0, .ref (xad Γ 1025)), (1, .int a1), (2, .int a2), (3, .int a3)] [] S) {κ50 : Int32 → Int32 → Int32 → Int32 → tS → Prop} (hκ50 : ∀ (a1 : Int32) (a2 : Int32) (a3 : Int32) (a4 : Int32) (S : tS), κ50 a1 a2 a3 a4 S → TJ Γ N0 0 0 50 [(0, .ref (xad Γ 1025)), (1, .int a1), (2, .int a2), (3, .int a3), (4, .int a4)] [] S) {a1 : Int32} {a2 : Int32} {a3 : Int32} {a4 : Int32} {a6 : Int32} {S : tS} (hf : X_laysWorlds_b131 K κ26 κ33 κ41 κ50 a1 a2 a3 a4 a6 S) : TJ Γ N0 0 0 131 [(0, .ref (xad Γ 1025)), (1, .int a1), (2, .int a2), (3, .int a3), (4, .int a4), (6, .int a6)] [] S := by
  unfold X_laysWorlds_b131 at hf
  refine tj_aload_n C 0 rfl rfl dX0_laysWorlds_131 ?_
  refine gf_X0_76 C hX dX0_laysWorlds_132 ?_
  refine tj_iload C 5 rfl dX0_laysWorlds_135 ?_
  refine tj_dup2 C rfl rfl dX0_laysWorlds_137 ?_
  refine tj_iald C 2352 7 rfl (ln_2352 hw hX) _ rfl hf.1 dX0_laysWorlds_138 ?_
  replace hf := hf.2
  refine tj_iconst C kc_1 dX0_laysWorlds_139 ?_
  refine tj_iadd C dX0_laysWorlds_140 ?_
  refine tj_iast C 2352 7 rfl (ln_2352 hw hX) _ rfl hf.1 dX0_laysWorlds_141 ?_
  replace hf := hf.2
  refine tj_topS (fun S17 eS => ?_)
  replace hf := hf S17 eS
  refine tj_aload_n C 0 rfl rfl dX0_laysWorlds_142 ?_
  refine gf_X0_79 C hX dX0_laysWorlds_143 ?_
  refine tj_iload C 5 rfl dX0_laysWorlds_146 ?_
  refine tj_dup2 C rfl rfl dX0_laysWorlds_148 ?_
  refine tj_iald C 2384 7 rfl (ln_2384 hw hX) _ rfl hf.1 dX0_laysWorlds_149 ?_
  replace hf := hf.2
  refine tj_iload_n C 1 rfl rfl dX0_laysWorlds_150 ?_
  refine tj_iadd C dX0_laysWorlds_151 ?_
  refine tj_iast C 2384 7 rfl (ln_2384 hw hX) _ rfl hf.1 dX0_laysWorlds_152 ?_
  replace hf := hf.2
  refine tj_topS (fun S18 eS => ?_)
  replace hf := hf S18 eS
  obtain ⟨x19, ex⟩ : ∃ y : Int32, y = a4 + nI 1 := ⟨_, rfl⟩
  refine tj_iinc C (by rw [hR]; decide) 4 [(4, .int x19), (0, .ref (xad Γ 1025)), (1, .int a1), (2, .int a2), (3, .int a3), (6, .int a6)] rfl (by rw [ex]; exact ki_1 _) rfl dX0_laysWorlds_153 ?_
  replace hf := hf x19 ex
  refine tj_goto C 50 (by decide) dX0_laysWorlds_156 ?_
  exact tj_sub [1, 2, 3, 4, 0] (hκ50 _ _ _ _ _ hf) rfl
theorem w_X_laysWorlds_b113 {Γ : tX} {N0 : Nat → Nat} {K : tS → Prop} (C : TC Γ cX0_laysWorlds RX0 3 71) (hw : tWf N0) (hR : xnL Γ = 7) (r : TRv Γ N0 cX0_laysWorlds K) (hX : N0 1025 ≠ 0) {κ26 : Int32 → tS → Prop} (hκ26 : ∀ (a1 : Int32) (S : tS), κ26 a1 S → TJ Γ N0 0 0 26 [(0, .ref (xad Γ 1025)), (1, .int a1)] [] S) {κ33 : Int32 → Int32 → tS → Prop} (hκ33 : ∀ (a1 : Int32) (a2 : Int32) (S : tS), κ33 a1 a2 S → TJ Γ N0 0 0 33 [(0, .ref (xad Γ 1025)), (1, .int a1), (2, .int a2)] [] S) {κ41 : Int32 → Int32 → Int32 → tS → Prop} (hκ41 : ∀ (a1 : Int32) (a2 : Int32) (a3 : Int32) (S : tS), κ41 a1 a2 a3 S → TJ Γ N0 0 0 41 [(0, .ref (xad Γ 1025)), (1, .int a1), (2, .int a2), (3, .int a3)] [] S) {κ50 : Int32 → Int32 → Int32 → Int32 → tS → Prop} (hκ50 : ∀ (a1 : Int32) (a2 : Int32) (a3 : Int32) (a4 : Int32) (S : tS), κ50 a1 a2 a3 a4 S → TJ Γ N0 0 0 50 [(0, .ref (xad Γ 1025)), (1, .int a1), (2, .int a2), (3, .int a3), (4, .int a4)] [] S) {a1 : Int32} {a2 : Int32} {a3 : Int32} {a4 : Int32} {a5 : Int32} {s0 : Int32} {S : tS} (hf : X_laysWorlds_b113 K κ26 κ33 κ41 κ50 a1 a2 a3 a4 a5 s0 S) : TJ Γ N0 0 0 113 [(0, .ref (xad Γ 1025)), (1, .int a1), (2, .int a2), (3, .int a3), (4, .int a4), (5, .int a5)] [.int s0] S := by
  unfold X_laysWorlds_b113 at hf
  refine tj_istore C (by rw [hR]; decide) [(6, .int s0), (0, .ref (xad Γ 1025)), (1, .int a1), (2, .int a2), (3, .int a3), (4, .int a4), (5, .int a5)] rfl dX0_laysWorlds_113 ?_
  refine tj_iload C 6 rfl dX0_laysWorlds_115 ?_
  refine tj_if_lt C 131 (by decide) dX0_laysWorlds_117 (fun hc => ?_) (fun hc => ?_)
  · replace hf := hf.1 hc
    exact tj_sub [1, 2, 3, 4, 5, 0] (w_X_laysWorlds_b131 C hw hR r hX hκ26 hκ33 hκ41 hκ50 hf) rfl
  · replace hf := hf.2 hc
    refine tj_aload_n C 1 rfl rfl dX0_laysWorlds_120 ?_
    refine gf_X0_73 C hX dX0_laysWorlds_121 ?_
    refine tj_iload C 6 rfl dX0_laysWorlds_124 ?_
    refine tj_dup2 C rfl rfl dX0_laysWorlds_126 ?_
    refine tj_iald C 2320 8 rfl (ln_2320 hw hX) _ rfl hf.1 dX0_laysWorlds_127 ?_
    replace hf := hf.2
    refine tj_iconst C kc_1 dX0_laysWorlds_128 ?_
    refine tj_iadd C dX0_laysWorlds_129 ?_
    refine tj_iast C 2320 8 rfl (ln_2320 hw hX) _ rfl hf.1 dX0_laysWorlds_130 ?_
    replace hf := hf.2
    refine tj_topS (fun S16 eS => ?_)
    replace hf := hf S16 eS
    exact tj_sub [1, 2, 3, 4, 5, 0] (w_X_laysWorlds_b131 C hw hR r hX hκ26 hκ33 hκ41 hκ50 hf) rfl
theorem w_X_laysWorlds_b76 {Γ : tX} {N0 : Nat → Nat} {K : tS → Prop} (C : TC Γ cX0_laysWorlds RX0 3 71) (hw : tWf N0) (hR : xnL Γ = 7) (r : TRv Γ N0 cX0_laysWorlds K) (hX : N0 1025 ≠ 0) {κ26 : Int32 → tS → Prop} (hκ26 : ∀ (a1 : Int32) (S : tS), κ26 a1 S → TJ Γ N0 0 0 26 [(0, .ref (xad Γ 1025)), (1, .int a1)] [] S) {κ33 : Int32 → Int32 → tS → Prop} (hκ33 : ∀ (a1 : Int32) (a2 : Int32) (S : tS), κ33 a1 a2 S → TJ Γ N0 0 0 33 [(0, .ref (xad Γ 1025)), (1, .int a1), (2, .int a2)] [] S) {κ41 : Int32 → Int32 → Int32 → tS → Prop} (hκ41 : ∀ (a1 : Int32) (a2 : Int32) (a3 : Int32) (S : tS), κ41 a1 a2 a3 S → TJ Γ N0 0 0 41 [(0, .ref (xad Γ 1025)), (1, .int a1), (2, .int a2), (3, .int a3)] [] S) {κ50 : Int32 → Int32 → Int32 → Int32 → tS → Prop} (hκ50 : ∀ (a1 : Int32) (a2 : Int32) (a3 : Int32) (a4 : Int32) (S : tS), κ50 a1 a2 a3 a4 S → TJ Γ N0 0 0 50 [(0, .ref (xad Γ 1025)), (1, .int a1), (2, .int a2), (3, .int a3), (4, .int a4)] [] S) {a1 : Int32} {a2 : Int32} {a3 : Int32} {a4 : Int32} {s1 : Int32} {S : tS} (hf : X_laysWorlds_b76 K κ26 κ33 κ41 κ50 a1 a2 a3 a4 s1 S) : TJ Γ N0 0 0 76 [(0, .ref (xad Γ 1025)), (1, .int a1), (2, .int a2), (3, .int a3), (4, .int a4)] [.int s1, .ref (xad Γ 1222)] S := by
  unfold X_laysWorlds_b76 at hf
  refine tj_iload_n C 2 rfl rfl dX0_laysWorlds_76 ?_
  refine tj_iload_n C 3 rfl rfl dX0_laysWorlds_77 ?_
  refine tj_iload C 4 rfl dX0_laysWorlds_78 ?_
  refine tj_callVi C (k := 6) [.int s1, .int a2, .int a3, .int a4] [] (fun hN => c_Co_first (by rw [hN]; exact ⟨(ne0 (ln_1222 hw hX)), rfl⟩) hf) lk_X0_376 ty_X5_first rfl (Nat.le_of_ble_eq_true rfl) (Nat.le_of_ble_eq_true rfl) (Nat.le_of_ble_eq_true rfl) (ne0 (ln_1222 hw hX)) rfl (by decide) rfl rfl dX0_laysWorlds_80 (fun r12 S11 hf => ?_)
  refine tj_istore C (by rw [hR]; decide) [(5, .int r12), (0, .ref (xad Γ 1025)), (1, .int a1), (2, .int a2), (3, .int a3), (4, .int a4)] rfl dX0_laysWorlds_83 ?_
  refine tj_iload C 0 rfl dX0_laysWorlds_85 ?_
  refine tj_if_ge C 100 (by decide) dX0_laysWorlds_87 (fun hc => ?_) (fun hc => ?_)
  · replace hf := hf.1 hc
    refine tj_aload_n C 1 rfl rfl dX0_laysWorlds_100 ?_
    refine tj_callVa C (k := 1) [] [] (fun hN => c_X_at (by rw [hN]; exact hX) hf) lk_X0_168 ty_X0_at rfl (Nat.le_of_ble_eq_true rfl) (Nat.le_of_ble_eq_true rfl) (Nat.le_of_ble_eq_true rfl) hX rfl (by decide) rfl rfl dX0_laysWorlds_101 (fun S13 hf => ?_)
    refine gf_X0_274 C rfl (ne0 (ln_1222 hw hX)) dX0_laysWorlds_104 ?_
    refine tj_iload C 0 rfl dX0_laysWorlds_107 ?_
    refine tj_aald23 C 1719 8 rfl (ln_1719 hw hX) _ rfl hf.1 dX0_laysWorlds_109 ?_
    replace hf := hf.2
    refine tj_hN (fun hN => ?_)
    obtain ⟨t14, he, h_t14, hf⟩ := hf
    rw [hN] at h_t14
    refine tj_some he ?_
    refine gf_X0_278 C h_t14.2 h_t14.1 dX0_laysWorlds_110 ?_
    exact tj_sub [1, 2, 3, 4, 5, 0] (w_X_laysWorlds_b113 C hw hR r hX hκ26 hκ33 hκ41 hκ50 hf) rfl
  · replace hf := hf.2 hc
    refine tj_aload_n C 1 rfl rfl dX0_laysWorlds_90 ?_
    refine tj_callVa C (k := 1) [] [] (fun hN => c_X_at (by rw [hN]; exact hX) hf) lk_X0_168 ty_X0_at rfl (Nat.le_of_ble_eq_true rfl) (Nat.le_of_ble_eq_true rfl) (Nat.le_of_ble_eq_true rfl) hX rfl (by decide) rfl rfl dX0_laysWorlds_91 (fun S15 hf => ?_)
    refine gf_X0_179 C rfl (ne0 (ln_1222 hw hX)) dX0_laysWorlds_94 ?_
    refine tj_goto C 113 (by decide) dX0_laysWorlds_97 ?_
    exact tj_sub [1, 2, 3, 4, 5, 0] (w_X_laysWorlds_b113 C hw hR r hX hκ26 hκ33 hκ41 hκ50 hf) rfl
theorem w_X_laysWorlds_l50 {Γ : tX} {N0 : Nat → Nat} {K : tS → Prop} (C : TC Γ cX0_laysWorlds RX0 3 71) (hw : tWf N0) (hR : xnL Γ = 7) (r : TRv Γ N0 cX0_laysWorlds K) (hX : N0 1025 ≠ 0) {κ26 : Int32 → tS → Prop} (hκ26 : ∀ (a1 : Int32) (S : tS), κ26 a1 S → TJ Γ N0 0 0 26 [(0, .ref (xad Γ 1025)), (1, .int a1)] [] S) {κ33 : Int32 → Int32 → tS → Prop} (hκ33 : ∀ (a1 : Int32) (a2 : Int32) (S : tS), κ33 a1 a2 S → TJ Γ N0 0 0 33 [(0, .ref (xad Γ 1025)), (1, .int a1), (2, .int a2)] [] S) {κ41 : Int32 → Int32 → Int32 → tS → Prop} (hκ41 : ∀ (a1 : Int32) (a2 : Int32) (a3 : Int32) (S : tS), κ41 a1 a2 a3 S → TJ Γ N0 0 0 41 [(0, .ref (xad Γ 1025)), (1, .int a1), (2, .int a2), (3, .int a3)] [] S) : ∀ (n : Nat) (a1 : Int32) (a2 : Int32) (a3 : Int32) (a4 : Int32) (S : tS), X_laysWorlds_l50 K κ26 κ33 κ41 n a1 a2 a3 a4 S → TJ Γ N0 0 0 50 [(0, .ref (xad Γ 1025)), (1, .int a1), (2, .int a2), (3, .int a3), (4, .int a4)] [] S := by
  intro n
  induction n with
  | zero => intro a1 a2 a3 a4 S hf; exact hf.elim
  | succ n ih =>
    intro a1 a2 a3 a4 S hf
    unfold X_laysWorlds_l50 at hf
    refine tj_iload C 4 rfl dX0_laysWorlds_50 ?_
    refine tj_aload_n C 0 rfl rfl dX0_laysWorlds_52 ?_
    refine tj_callVa C (k := 1) [] [.int a4] (fun hN => c_X_at (by rw [hN]; exact hX) hf) lk_X0_168 ty_X0_at rfl (Nat.le_of_ble_eq_true rfl) (Nat.le_of_ble_eq_true rfl) (Nat.le_of_ble_eq_true rfl) hX rfl (by decide) rfl rfl dX0_laysWorlds_53 (fun S6 hf => ?_)
    refine tj_callVi C (k := 6) [] [.int a4] (fun hN => c_Co_allSmells (by rw [hN]; exact ⟨(ne0 (ln_1222 hw hX)), rfl⟩) hf) lk_X0_410 ty_X5_allSmells rfl (Nat.le_of_ble_eq_true rfl) (Nat.le_of_ble_eq_true rfl) (Nat.le_of_ble_eq_true rfl) (ne0 (ln_1222 hw hX)) rfl (by decide) rfl rfl dX0_laysWorlds_56 (fun r8 S7 hf => ?_)
    refine tj_icmp_ge C 159 (by decide) dX0_laysWorlds_59 (fun hc => ?_) (fun hc => ?_)
    · replace hf := hf.1 hc
      obtain ⟨x9, ex⟩ : ∃ y : Int32, y = a3 + nI 1 := ⟨_, rfl⟩
      refine tj_iinc C (by rw [hR]; decide) 3 [(3, .int x9), (0, .ref (xad Γ 1025)), (1, .int a1), (2, .int a2), (4, .int a4)] rfl (by rw [ex]; exact ki_1 _) rfl dX0_laysWorlds_159 ?_
      replace hf := hf x9 ex
      refine tj_goto C 41 (by decide) dX0_laysWorlds_162 ?_
      exact tj_sub [1, 2, 3, 0] (hκ41 _ _ _ _ hf) rfl
    · replace hf := hf.2 hc
      refine tj_aload_n C 0 rfl rfl dX0_laysWorlds_62 ?_
      refine tj_callVa C (k := 1) [] [] (fun hN => c_X_at (by rw [hN]; exact hX) hf) lk_X0_168 ty_X0_at rfl (Nat.le_of_ble_eq_true rfl) (Nat.le_of_ble_eq_true rfl) (Nat.le_of_ble_eq_true rfl) hX rfl (by decide) rfl rfl dX0_laysWorlds_63 (fun S10 hf => ?_)
      refine tj_iload_n C 1 rfl rfl dX0_laysWorlds_66 ?_
      refine tj_iconst C kc_1 dX0_laysWorlds_67 ?_
      refine tj_icmp_ne C 75 (by decide) dX0_laysWorlds_68 (fun hc => ?_) (fun hc => ?_)
      · replace hf := hf.2 hc
        refine tj_iconst C kc_0 dX0_laysWorlds_75 ?_
        exact w_X_laysWorlds_b76 C hw hR r hX hκ26 hκ33 hκ41 ih hf
      · replace hf := hf.1 hc
        refine tj_iconst C kc_1 dX0_laysWorlds_71 ?_
        refine tj_goto C 76 (by decide) dX0_laysWorlds_72 ?_
        exact w_X_laysWorlds_b76 C hw hR r hX hκ26 hκ33 hκ41 ih hf
theorem w_X_laysWorlds_l41 {Γ : tX} {N0 : Nat → Nat} {K : tS → Prop} (C : TC Γ cX0_laysWorlds RX0 3 71) (hw : tWf N0) (hR : xnL Γ = 7) (r : TRv Γ N0 cX0_laysWorlds K) (hX : N0 1025 ≠ 0) {κ26 : Int32 → tS → Prop} (hκ26 : ∀ (a1 : Int32) (S : tS), κ26 a1 S → TJ Γ N0 0 0 26 [(0, .ref (xad Γ 1025)), (1, .int a1)] [] S) {κ33 : Int32 → Int32 → tS → Prop} (hκ33 : ∀ (a1 : Int32) (a2 : Int32) (S : tS), κ33 a1 a2 S → TJ Γ N0 0 0 33 [(0, .ref (xad Γ 1025)), (1, .int a1), (2, .int a2)] [] S) : ∀ (n : Nat) (a1 : Int32) (a2 : Int32) (a3 : Int32) (S : tS), X_laysWorlds_l41 K κ26 κ33 n a1 a2 a3 S → TJ Γ N0 0 0 41 [(0, .ref (xad Γ 1025)), (1, .int a1), (2, .int a2), (3, .int a3)] [] S := by
  intro n
  induction n with
  | zero => intro a1 a2 a3 S hf; exact hf.elim
  | succ n ih =>
    intro a1 a2 a3 S hf
    unfold X_laysWorlds_l41 at hf
    refine tj_iload_n C 3 rfl rfl dX0_laysWorlds_41 ?_
    refine tj_bipush C kb_9 dX0_laysWorlds_42 ?_
    refine tj_icmp_gt C 165 (by decide) dX0_laysWorlds_44 (fun hc => ?_) (fun hc => ?_)
    · replace hf := hf.1 hc
      obtain ⟨x5, ex⟩ : ∃ y : Int32, y = a2 + nI 1 := ⟨_, rfl⟩
      refine tj_iinc C (by rw [hR]; decide) 2 [(2, .int x5), (0, .ref (xad Γ 1025)), (1, .int a1), (3, .int a3)] rfl (by rw [ex]; exact ki_1 _) rfl dX0_laysWorlds_165 ?_
      replace hf := hf x5 ex
      refine tj_goto C 33 (by decide) dX0_laysWorlds_168 ?_
      exact tj_sub [1, 2, 0] (hκ33 _ _ _ hf) rfl
    · replace hf := hf.2 hc
      refine tj_iconst C kc_0 dX0_laysWorlds_47 ?_
      refine tj_istore C (by rw [hR]; decide) [(4, .int (nI 0)), (0, .ref (xad Γ 1025)), (1, .int a1), (2, .int a2), (3, .int a3)] rfl dX0_laysWorlds_48 ?_
      exact tj_sub [1, 2, 3, 4, 0] (hf.elim fun k hf => w_X_laysWorlds_l50 C hw hR r hX hκ26 hκ33 ih k _ _ _ _ _ hf) rfl
theorem w_X_laysWorlds_l33 {Γ : tX} {N0 : Nat → Nat} {K : tS → Prop} (C : TC Γ cX0_laysWorlds RX0 3 71) (hw : tWf N0) (hR : xnL Γ = 7) (r : TRv Γ N0 cX0_laysWorlds K) (hX : N0 1025 ≠ 0) {κ26 : Int32 → tS → Prop} (hκ26 : ∀ (a1 : Int32) (S : tS), κ26 a1 S → TJ Γ N0 0 0 26 [(0, .ref (xad Γ 1025)), (1, .int a1)] [] S) : ∀ (n : Nat) (a1 : Int32) (a2 : Int32) (S : tS), X_laysWorlds_l33 K κ26 n a1 a2 S → TJ Γ N0 0 0 33 [(0, .ref (xad Γ 1025)), (1, .int a1), (2, .int a2)] [] S := by
  intro n
  induction n with
  | zero => intro a1 a2 S hf; exact hf.elim
  | succ n ih =>
    intro a1 a2 S hf
    unfold X_laysWorlds_l33 at hf
    refine tj_iload_n C 2 rfl rfl dX0_laysWorlds_33 ?_
    refine tj_bipush C kb_20 dX0_laysWorlds_34 ?_
    refine tj_icmp_gt C 171 (by decide) dX0_laysWorlds_36 (fun hc => ?_) (fun hc => ?_)
    · replace hf := hf.1 hc
      obtain ⟨x4, ex⟩ : ∃ y : Int32, y = a1 + nI 1 := ⟨_, rfl⟩
      refine tj_iinc C (by rw [hR]; decide) 1 [(1, .int x4), (0, .ref (xad Γ 1025)), (2, .int a2)] rfl (by rw [ex]; exact ki_1 _) rfl dX0_laysWorlds_171 ?_
      replace hf := hf x4 ex
      refine tj_goto C 26 (by decide) dX0_laysWorlds_174 ?_
      exact tj_sub [1, 0] (hκ26 _ _ hf) rfl
    · replace hf := hf.2 hc
      refine tj_iconst C kc_0 dX0_laysWorlds_39 ?_
      refine tj_istore_n C (by rw [hR]; decide) [(3, .int (nI 0)), (0, .ref (xad Γ 1025)), (1, .int a1), (2, .int a2)] rfl rfl dX0_laysWorlds_40 ?_
      exact tj_sub [1, 2, 3, 0] (hf.elim fun k hf => w_X_laysWorlds_l41 C hw hR r hX hκ26 ih k _ _ _ _ hf) rfl
theorem w_X_laysWorlds_l26 {Γ : tX} {N0 : Nat → Nat} {K : tS → Prop} (C : TC Γ cX0_laysWorlds RX0 3 71) (hw : tWf N0) (hR : xnL Γ = 7) (r : TRv Γ N0 cX0_laysWorlds K) (hX : N0 1025 ≠ 0) : ∀ (n : Nat) (a1 : Int32) (S : tS), X_laysWorlds_l26 K n a1 S → TJ Γ N0 0 0 26 [(0, .ref (xad Γ 1025)), (1, .int a1)] [] S := by
  intro n
  induction n with
  | zero => intro a1 S hf; exact hf.elim
  | succ n ih =>
    intro a1 S hf
    unfold X_laysWorlds_l26 at hf
    refine tj_iload_n C 1 rfl rfl dX0_laysWorlds_26 ?_
    refine tj_iconst C kc_2 dX0_laysWorlds_27 ?_
    refine tj_icmp_ge C 177 (by decide) dX0_laysWorlds_28 (fun hc => ?_) (fun hc => ?_)
    · replace hf := hf.1 hc
      exact r _ _ _ dX0_laysWorlds_177 hf
    · replace hf := hf.2 hc
      refine tj_iconst C kc_0 dX0_laysWorlds_31 ?_
      refine tj_istore_n C (by rw [hR]; decide) [(2, .int (nI 0)), (0, .ref (xad Γ 1025)), (1, .int a1)] rfl rfl dX0_laysWorlds_32 ?_
      exact tj_sub [1, 2, 0] (hf.elim fun k hf => w_X_laysWorlds_l33 C hw hR r hX ih k _ _ _ hf) rfl
theorem w_X_laysWorlds_b0 {Γ : tX} {N0 : Nat → Nat} {K : tS → Prop} (C : TC Γ cX0_laysWorlds RX0 3 71) (hw : tWf N0) (hR : xnL Γ = 7) (r : TRv Γ N0 cX0_laysWorlds K) (hX : N0 1025 ≠ 0) {S : tS} (hf : X_laysWorlds S K) : TJ Γ N0 0 0 0 [(0, .ref (xad Γ 1025))] [] S := by
  unfold X_laysWorlds at hf
  refine tj_aload_n C 0 rfl rfl dX0_laysWorlds_0 ?_
  refine gf_X0_73 C hX dX0_laysWorlds_1 ?_
  refine tj_iconst C kc_0 dX0_laysWorlds_4 ?_
  refine tj_callSv C [.ref (xad Γ 2320), .int (nI 0)] [] (fun hN => c_Ar_fill (by rw [hN]; exact ⟨(ne0 (ln_2320 hw hX)), rfl⟩) hf) lk_X0_422 ty_J13_fill rfl (Nat.le_of_ble_eq_true rfl) (Nat.le_of_ble_eq_true rfl) (Nat.le_of_ble_eq_true rfl) rfl dX0_laysWorlds_5 (fun S1 hf => ?_)
  refine tj_aload_n C 0 rfl rfl dX0_laysWorlds_8 ?_
  refine gf_X0_76 C hX dX0_laysWorlds_9 ?_
  refine tj_iconst C kc_0 dX0_laysWorlds_12 ?_
  refine tj_callSv C [.ref (xad Γ 2352), .int (nI 0)] [] (fun hN => c_Ar_fill (by rw [hN]; exact ⟨(ne0 (ln_2352 hw hX)), rfl⟩) hf) lk_X0_422 ty_J13_fill rfl (Nat.le_of_ble_eq_true rfl) (Nat.le_of_ble_eq_true rfl) (Nat.le_of_ble_eq_true rfl) rfl dX0_laysWorlds_13 (fun S2 hf => ?_)
  refine tj_aload_n C 0 rfl rfl dX0_laysWorlds_16 ?_
  refine gf_X0_79 C hX dX0_laysWorlds_17 ?_
  refine tj_iconst C kc_0 dX0_laysWorlds_20 ?_
  refine tj_callSv C [.ref (xad Γ 2384), .int (nI 0)] [] (fun hN => c_Ar_fill (by rw [hN]; exact ⟨(ne0 (ln_2384 hw hX)), rfl⟩) hf) lk_X0_422 ty_J13_fill rfl (Nat.le_of_ble_eq_true rfl) (Nat.le_of_ble_eq_true rfl) (Nat.le_of_ble_eq_true rfl) rfl dX0_laysWorlds_21 (fun S3 hf => ?_)
  refine tj_iconst C kc_0 dX0_laysWorlds_24 ?_
  refine tj_istore_n C (by rw [hR]; decide) [(1, .int (nI 0)), (0, .ref (xad Γ 1025))] rfl rfl dX0_laysWorlds_25 ?_
  exact tj_sub [1, 0] (hf.elim fun k hf => w_X_laysWorlds_l26 C hw hR r hX k _ _ hf) rfl
theorem c_X_laysWorlds {l : Launch} {G : tG} {ad : Nat → Nat} {A : Nat → Prop} {S : tS} {K : tS → Prop} (hX : gN S 1025 ≠ 0) (hf : X_laysWorlds S K) : Met l yX0_laysWorlds (ws_ yX0_laysWorlds cX0_laysWorlds 7 (none)) (tRm 3 71) (va_Pc [.ref (ad 1025)] (tPre G ad A S)) (va_Qv K (tB G ad A (gN S)) A) 0 0 A :=
  tj_met_v [(0, .ref (ad 1025))] pn_X0 rfl (Nat.le_of_ble_eq_true rfl) (fun p e R s m args below meth c Q C hw r => w_X_laysWorlds_b0 C hw rfl r hX hf)
theorem w_X_idle_b41 {Γ : tX} {N0 : Nat → Nat} {K : Int32 → tS → Prop} (C : TC Γ cX0_idle RX0 4 97) (hw : tWf N0) (hR : xnL Γ = 3) (r : TRi Γ N0 cX0_idle K) (hX : N0 1025 ≠ 0) {κ13 : Int32 → Int32 → tS → Prop} (hκ13 : ∀ (a1 : Int32) (a2 : Int32) (S : tS), κ13 a1 a2 S → TJ Γ N0 0 0 13 [(0, .ref (xad Γ 1025)), (1, .int a1), (2, .int a2)] [] S) {a2 : Int32} {s0 : Int32} {s1 : Int32} {S : tS} (hf : X_idle_b41 K κ13 a2 s0 s1 S) : TJ Γ N0 0 0 41 [(0, .ref (xad Γ 1025)), (2, .int a2)] [.int s1, .int s0] S := by
  unfold X_idle_b41 at hf
  refine tj_ior C dX0_idle_41 ?_
  refine tj_topi (fun x4 ex => ?_)
  replace hf := hf x4 ex
  refine tj_istore_n C (by rw [hR]; decide) [(1, .int x4), (0, .ref (xad Γ 1025)), (2, .int a2)] rfl rfl dX0_idle_42 ?_
  obtain ⟨x5, ex⟩ : ∃ y : Int32, y = a2 + nI 1 := ⟨_, rfl⟩
  refine tj_iinc C (by rw [hR]; decide) 2 [(2, .int x5), (1, .int x4), (0, .ref (xad Γ 1025))] rfl (by rw [ex]; exact ki_1 _) rfl dX0_idle_43 ?_
  replace hf := hf x5 ex
  refine tj_goto C 13 (by decide) dX0_idle_46 ?_
  exact tj_sub [2, 1, 0] (hκ13 _ _ _ hf) rfl
theorem w_X_idle_l13 {Γ : tX} {N0 : Nat → Nat} {K : Int32 → tS → Prop} (C : TC Γ cX0_idle RX0 4 97) (hw : tWf N0) (hR : xnL Γ = 3) (r : TRi Γ N0 cX0_idle K) (hX : N0 1025 ≠ 0) : ∀ (n : Nat) (a1 : Int32) (a2 : Int32) (S : tS), X_idle_l13 K n a1 a2 S → TJ Γ N0 0 0 13 [(0, .ref (xad Γ 1025)), (1, .int a1), (2, .int a2)] [] S := by
  intro n
  induction n with
  | zero => intro a1 a2 S hf; exact hf.elim
  | succ n ih =>
    intro a1 a2 S hf
    unfold X_idle_l13 at hf
    refine tj_iload_n C 2 rfl rfl dX0_idle_13 ?_
    refine tj_aload_n C 0 rfl rfl dX0_idle_14 ?_
    refine tj_callVa C (k := 1) [] [.int a2] (fun hN => c_X_at (by rw [hN]; exact hX) hf) lk_X0_168 ty_X0_at rfl (Nat.le_of_ble_eq_true rfl) (Nat.le_of_ble_eq_true rfl) (Nat.le_of_ble_eq_true rfl) hX rfl (by decide) rfl rfl dX0_idle_15 (fun S3 hf => ?_)
    refine gf_X0_182 C rfl (ne0 (ln_1222 hw hX)) dX0_idle_18 ?_
    refine tj_icmp_ge C 49 (by decide) dX0_idle_21 (fun hc => ?_) (fun hc => ?_)
    · replace hf := hf.1 hc
      refine tj_iload_n C 1 rfl rfl dX0_idle_49 ?_
      exact r _ _ _ _ dX0_idle_50 hf
    · replace hf := hf.2 hc
      refine tj_iload_n C 1 rfl rfl dX0_idle_24 ?_
      refine tj_aload_n C 0 rfl rfl dX0_idle_25 ?_
      refine gf_X0_73 C hX dX0_idle_26 ?_
      refine tj_iload_n C 2 rfl rfl dX0_idle_29 ?_
      refine tj_iald C 2320 8 rfl (ln_2320 hw hX) _ rfl hf.1 dX0_idle_30 ?_
      replace hf := hf.2
      refine tj_if_ne C 40 (by decide) dX0_idle_31 (fun hc => ?_) (fun hc => ?_)
      · replace hf := hf.2 hc
        refine tj_iconst C kc_0 dX0_idle_40 ?_
        exact tj_sub [0, 2] (w_X_idle_b41 C hw hR r hX ih hf) rfl
      · replace hf := hf.1 hc
        refine tj_iconst C kc_1 dX0_idle_34 ?_
        refine tj_iload_n C 2 rfl rfl dX0_idle_35 ?_
        refine tj_ishl C dX0_idle_36 ?_
        refine tj_goto C 41 (by decide) dX0_idle_37 ?_
        exact tj_sub [0, 2] (w_X_idle_b41 C hw hR r hX ih hf) rfl
theorem w_X_idle_b0 {Γ : tX} {N0 : Nat → Nat} {K : Int32 → tS → Prop} (C : TC Γ cX0_idle RX0 4 97) (hw : tWf N0) (hR : xnL Γ = 3) (r : TRi Γ N0 cX0_idle K) (hX : N0 1025 ≠ 0) {S : tS} (hf : X_idle S K) : TJ Γ N0 0 0 0 [(0, .ref (xad Γ 1025))] [] S := by
  unfold X_idle at hf
  refine tj_aload_n C 0 rfl rfl dX0_idle_0 ?_
  refine tj_iconst C kc_0 dX0_idle_1 ?_
  refine pf_X0_91 C hX dX0_idle_2 ?_
  refine tj_topS (fun S1 eS => ?_)
  replace hf := hf S1 eS
  refine tj_aload_n C 0 rfl rfl dX0_idle_5 ?_
  refine tj_callVv C (k := 1) [] [] (fun hN => c_X_laysWorlds (by rw [hN]; exact hX) hf) lk_X0_428 ty_X0_laysWorlds rfl (Nat.le_of_ble_eq_true rfl) (Nat.le_of_ble_eq_true rfl) (Nat.le_of_ble_eq_true rfl) hX rfl (by decide) rfl rfl dX0_idle_6 (fun S2 hf => ?_)
  refine tj_iconst C kc_0 dX0_idle_9 ?_
  refine tj_istore_n C (by rw [hR]; decide) [(1, .int (nI 0)), (0, .ref (xad Γ 1025))] rfl rfl dX0_idle_10 ?_
  refine tj_iconst C kc_0 dX0_idle_11 ?_
  refine tj_istore_n C (by rw [hR]; decide) [(2, .int (nI 0)), (1, .int (nI 0)), (0, .ref (xad Γ 1025))] rfl rfl dX0_idle_12 ?_
  exact tj_sub [2, 1, 0] (hf.elim fun k hf => w_X_idle_l13 C hw hR r hX k _ _ _ hf) rfl
theorem c_X_idle {l : Launch} {G : tG} {ad : Nat → Nat} {A : Nat → Prop} {S : tS} {K : Int32 → tS → Prop} (hX : gN S 1025 ≠ 0) (hf : X_idle S K) : Met l yX0_idle (ws_ yX0_idle cX0_idle 3 (some .int)) (tRm 4 97) (va_Pc [.ref (ad 1025)] (tPre G ad A S)) (va_Qi K (tB G ad A (gN S)) A) 0 0 A :=
  tj_met_i [(0, .ref (ad 1025))] pn_X0 rfl (Nat.le_of_ble_eq_true rfl) (fun p e R s m args below meth c Q C hw r => w_X_idle_b0 C hw rfl r hX hf)
theorem w_X_isReader_b0 {Γ : tX} {N0 : Nat → Nat} {K : Int32 → tS → Prop} (C : TC Γ cX0_isReader RX0 1 25) (hw : tWf N0) (hR : xnL Γ = 2) (r : TRz Γ N0 cX0_isReader K) {a1 : Int32} (hX : N0 1025 ≠ 0) {S : tS} (hf : X_isReader a1 S K) : TJ Γ N0 0 0 0 [(0, .ref (xad Γ 1025)), (1, .int a1)] [] S := by
  unfold X_isReader at hf
  refine tj_iload_n C 1 rfl rfl dX0_isReader_0 ?_
  refine tj_i2l C dX0_isReader_1 ?_
  refine tj_lconst C (v := lN 0) rfl dX0_isReader_2 ?_
  refine tj_aload_n C 0 rfl rfl dX0_isReader_3 ?_
  refine tj_callVa C (k := 1) [] [.long (lN 0), .long (a1.toInt64)] (fun hN => c_X_at (by rw [hN]; exact hX) hf) lk_X0_168 ty_X0_at rfl (Nat.le_of_ble_eq_true rfl) (Nat.le_of_ble_eq_true rfl) (Nat.le_of_ble_eq_true rfl) hX rfl (by decide) rfl rfl dX0_isReader_4 (fun S1 hf => ?_)
  refine gf_X0_188 C rfl (ne0 (ln_1222 hw hX)) dX0_isReader_7 ?_
  refine tj_iconst C kc_1 dX0_isReader_10 ?_
  refine tj_isub C dX0_isReader_11 ?_
  refine tj_i2l C dX0_isReader_12 ?_
  refine tj_callSz C [.long (a1.toInt64), .long (lN 0), .long (((gI S1 1222 4) - (nI 1)).toInt64)] [] (fun hN => c_X_isIn hf) lk_X0_175 ty_X0_isIn rfl (Nat.le_of_ble_eq_true rfl) (Nat.le_of_ble_eq_true rfl) (Nat.le_of_ble_eq_true rfl) rfl dX0_isReader_13 (fun r3 S2 hf => ?_)
  have hz_r3 := hf.1
  replace hf := hf.2
  exact r _ _ _ _ dX0_isReader_16 hz_r3 hf
theorem c_X_isReader {l : Launch} {G : tG} {ad : Nat → Nat} {A : Nat → Prop} {S : tS} {K : Int32 → tS → Prop} {a1 : Int32} (hX : gN S 1025 ≠ 0) (hf : X_isReader a1 S K) : Met l yX0_isReader (ws_ yX0_isReader cX0_isReader 2 (some .boolean)) (tRm 1 25) (va_Pc [.ref (ad 1025), .int a1] (tPre G ad A S)) (va_Qi (fun r u => r &&& 1 = r ∧ K r u) (tB G ad A (gN S)) A) 0 0 A :=
  tj_met_z [(0, .ref (ad 1025)), (1, .int a1)] pn_X0 rfl (Nat.le_of_ble_eq_true rfl) (fun p e R s m args below meth c Q C hw r => w_X_isReader_b0 C hw rfl r hX hf)
theorem w_X_isRule_b0 {Γ : tX} {N0 : Nat → Nat} {K : Int32 → tS → Prop} (C : TC Γ cX0_isRule RX0 1 25) (hw : tWf N0) (hR : xnL Γ = 2) (r : TRz Γ N0 cX0_isRule K) {a1 : Int32} (hX : N0 1025 ≠ 0) {S : tS} (hf : X_isRule a1 S K) : TJ Γ N0 0 0 0 [(0, .ref (xad Γ 1025)), (1, .int a1)] [] S := by
  unfold X_isRule at hf
  refine tj_iload_n C 1 rfl rfl dX0_isRule_0 ?_
  refine tj_i2l C dX0_isRule_1 ?_
  refine tj_lconst C (v := lN 0) rfl dX0_isRule_2 ?_
  refine tj_aload_n C 0 rfl rfl dX0_isRule_3 ?_
  refine tj_callVa C (k := 1) [] [.long (lN 0), .long (a1.toInt64)] (fun hN => c_X_at (by rw [hN]; exact hX) hf) lk_X0_168 ty_X0_at rfl (Nat.le_of_ble_eq_true rfl) (Nat.le_of_ble_eq_true rfl) (Nat.le_of_ble_eq_true rfl) hX rfl (by decide) rfl rfl dX0_isRule_4 (fun S1 hf => ?_)
  refine gf_X0_182 C rfl (ne0 (ln_1222 hw hX)) dX0_isRule_7 ?_
  refine tj_iconst C kc_1 dX0_isRule_10 ?_
  refine tj_isub C dX0_isRule_11 ?_
  refine tj_i2l C dX0_isRule_12 ?_
  refine tj_callSz C [.long (a1.toInt64), .long (lN 0), .long (((gI S1 1222 2) - (nI 1)).toInt64)] [] (fun hN => c_X_isIn hf) lk_X0_175 ty_X0_isIn rfl (Nat.le_of_ble_eq_true rfl) (Nat.le_of_ble_eq_true rfl) (Nat.le_of_ble_eq_true rfl) rfl dX0_isRule_13 (fun r3 S2 hf => ?_)
  have hz_r3 := hf.1
  replace hf := hf.2
  exact r _ _ _ _ dX0_isRule_16 hz_r3 hf
theorem c_X_isRule {l : Launch} {G : tG} {ad : Nat → Nat} {A : Nat → Prop} {S : tS} {K : Int32 → tS → Prop} {a1 : Int32} (hX : gN S 1025 ≠ 0) (hf : X_isRule a1 S K) : Met l yX0_isRule (ws_ yX0_isRule cX0_isRule 2 (some .boolean)) (tRm 1 25) (va_Pc [.ref (ad 1025), .int a1] (tPre G ad A S)) (va_Qi (fun r u => r &&& 1 = r ∧ K r u) (tB G ad A (gN S)) A) 0 0 A :=
  tj_met_z [(0, .ref (ad 1025)), (1, .int a1)] pn_X0 rfl (Nat.le_of_ble_eq_true rfl) (fun p e R s m args below meth c Q C hw r => w_X_isRule_b0 C hw rfl r hX hf)
theorem w_X_judgedIn_l57 {Γ : tX} {N0 : Nat → Nat} {K : Int32 → tS → Prop} (C : TC Γ cX0_judgedIn RX0 9 205) (hw : tWf N0) (hR : xnL Γ = 3) (r : TRi Γ N0 cX0_judgedIn K) {a1 : Int32} (hX : N0 1025 ≠ 0) : ∀ (n : Nat) (a2 : Int32) (S : tS), X_judgedIn_l57 a1 K n a2 S → TJ Γ N0 0 0 57 [(0, .ref (xad Γ 1025)), (1, .int a1), (2, .int a2)] [] S := by
  intro n
  induction n with
  | zero => intro a2 S hf; exact hf.elim
  | succ n ih =>
    intro a2 S hf
    unfold X_judgedIn_l57 at hf
    refine tj_iload_n C 2 rfl rfl dX0_judgedIn_57 ?_
    refine tj_bipush C kb_40 dX0_judgedIn_58 ?_
    refine tj_icmp_gt C 95 (by decide) dX0_judgedIn_60 (fun hc => ?_) (fun hc => ?_)
    · replace hf := hf.1 hc
      refine tj_aload_n C 0 rfl rfl dX0_judgedIn_95 ?_
      refine tj_iconst C kc_m1 dX0_judgedIn_96 ?_
      refine tj_callVi C (k := 1) [.int (-1)] [] (fun hN => c_X_answer (by rw [hN]; exact hX) hf) lk_X0_292 ty_X0_answer rfl (Nat.le_of_ble_eq_true rfl) (Nat.le_of_ble_eq_true rfl) (Nat.le_of_ble_eq_true rfl) hX rfl (by decide) rfl rfl dX0_judgedIn_97 (fun r8 S7 hf => ?_)
      exact r _ _ _ _ dX0_judgedIn_100 hf
    · replace hf := hf.2 hc
      refine tj_aload_n C 0 rfl rfl dX0_judgedIn_63 ?_
      refine gf_X0_66 C hX dX0_judgedIn_64 ?_
      refine tj_callVi C (k := 6) [] [] (fun hN => c_Co_term (by rw [hN]; exact ⟨(ne0 (ln_1766 hw hX)), rfl⟩) hf) lk_X0_343 ty_X5_term rfl (Nat.le_of_ble_eq_true rfl) (Nat.le_of_ble_eq_true rfl) (Nat.le_of_ble_eq_true rfl) (ne0 (ln_1766 hw hX)) rfl (by decide) rfl rfl dX0_judgedIn_67 (fun r10 S9 hf => ?_)
      refine tj_pop C rfl dX0_judgedIn_70 ?_
      refine tj_aload_n C 0 rfl rfl dX0_judgedIn_71 ?_
      refine gf_X0_66 C hX dX0_judgedIn_72 ?_
      refine gf_X0_314 C rfl (ne0 (ln_1766 hw hX)) dX0_judgedIn_75 ?_
      refine tj_iload_n C 1 rfl rfl dX0_judgedIn_78 ?_
      refine tj_iald C 2032 6 rfl (ln_2032 hw hX) _ rfl hf.1 dX0_judgedIn_79 ?_
      replace hf := hf.2
      refine tj_if_eq C 89 (by decide) dX0_judgedIn_80 (fun hc => ?_) (fun hc => ?_)
      · replace hf := hf.1 hc
        obtain ⟨x11, ex⟩ : ∃ y : Int32, y = a2 + nI 1 := ⟨_, rfl⟩
        refine tj_iinc C (by rw [hR]; decide) 2 [(2, .int x11), (0, .ref (xad Γ 1025)), (1, .int a1)] rfl (by rw [ex]; exact ki_1 _) rfl dX0_judgedIn_89 ?_
        replace hf := hf x11 ex
        refine tj_goto C 57 (by decide) dX0_judgedIn_92 ?_
        exact tj_sub [1, 2, 0] (ih _ _ hf) rfl
      · replace hf := hf.2 hc
        refine tj_aload_n C 0 rfl rfl dX0_judgedIn_83 ?_
        refine tj_iload_n C 2 rfl rfl dX0_judgedIn_84 ?_
        refine tj_callVi C (k := 1) [.int a2] [] (fun hN => c_X_answer (by rw [hN]; exact hX) hf) lk_X0_292 ty_X0_answer rfl (Nat.le_of_ble_eq_true rfl) (Nat.le_of_ble_eq_true rfl) (Nat.le_of_ble_eq_true rfl) hX rfl (by decide) rfl rfl dX0_judgedIn_85 (fun r13 S12 hf => ?_)
        exact r _ _ _ _ dX0_judgedIn_88 hf
theorem w_X_judgedIn_b32 {Γ : tX} {N0 : Nat → Nat} {K : Int32 → tS → Prop} (C : TC Γ cX0_judgedIn RX0 9 205) (hw : tWf N0) (hR : xnL Γ = 3) (r : TRi Γ N0 cX0_judgedIn K) {a1 : Int32} (hX : N0 1025 ≠ 0) {s1 : Int32} {S : tS} (hf : X_judgedIn_b32 a1 K s1 S) : TJ Γ N0 0 0 32 [(0, .ref (xad Γ 1025)), (1, .int a1)] [.int s1, .ref (xad Γ 1025)] S := by
  unfold X_judgedIn_b32 at hf
  refine pf_X0_91 C hX dX0_judgedIn_32 ?_
  refine tj_topS (fun S4 eS => ?_)
  replace hf := hf S4 eS
  refine tj_aload_n C 0 rfl rfl dX0_judgedIn_35 ?_
  refine gf_X0_91 C hX dX0_judgedIn_36 ?_
  refine tj_if_le C 44 (by decide) dX0_judgedIn_39 (fun hc => ?_) (fun hc => ?_)
  · replace hf := hf.1 hc
    refine tj_aload_n C 0 rfl rfl dX0_judgedIn_44 ?_
    refine gf_X0_66 C hX dX0_judgedIn_45 ?_
    refine tj_aload_n C 0 rfl rfl dX0_judgedIn_48 ?_
    refine tj_callVa C (k := 1) [] [.ref (xad Γ 1766)] (fun hN => c_X_at (by rw [hN]; exact hX) hf) lk_X0_168 ty_X0_at rfl (Nat.le_of_ble_eq_true rfl) (Nat.le_of_ble_eq_true rfl) (Nat.le_of_ble_eq_true rfl) hX rfl (by decide) rfl rfl dX0_judgedIn_49 (fun S5 hf => ?_)
    refine tj_callVv C (k := 6) [.ref (xad Γ 1222)] [] (fun hN => c_Co_be (by rw [hN]; exact ⟨(ne0 (ln_1766 hw hX)), rfl⟩) (by rw [hN]; exact ⟨(ne0 (ln_1222 hw hX)), rfl⟩) hf) lk_X0_216 ty_X5_be rfl (Nat.le_of_ble_eq_true rfl) (Nat.le_of_ble_eq_true rfl) (Nat.le_of_ble_eq_true rfl) (ne0 (ln_1766 hw hX)) rfl (by decide) rfl rfl dX0_judgedIn_52 (fun S6 hf => ?_)
    refine tj_iconst C kc_1 dX0_judgedIn_55 ?_
    refine tj_istore_n C (by rw [hR]; decide) [(2, .int (nI 1)), (0, .ref (xad Γ 1025)), (1, .int a1)] rfl rfl dX0_judgedIn_56 ?_
    exact tj_sub [1, 2, 0] (hf.elim fun k hf => w_X_judgedIn_l57 C hw hR r hX k _ _ hf) rfl
  · replace hf := hf.2 hc
    refine tj_iconst C kc_m1 dX0_judgedIn_42 ?_
    exact r _ _ _ _ dX0_judgedIn_43 hf
theorem w_X_judgedIn_b0 {Γ : tX} {N0 : Nat → Nat} {K : Int32 → tS → Prop} (C : TC Γ cX0_judgedIn RX0 9 205) (hw : tWf N0) (hR : xnL Γ = 3) (r : TRi Γ N0 cX0_judgedIn K) {a1 : Int32} (hX : N0 1025 ≠ 0) {S : tS} (hf : X_judgedIn a1 S K) : TJ Γ N0 0 0 0 [(0, .ref (xad Γ 1025)), (1, .int a1)] [] S := by
  unfold X_judgedIn at hf
  refine tj_aload_n C 0 rfl rfl dX0_judgedIn_0 ?_
  refine tj_aload_n C 0 rfl rfl dX0_judgedIn_1 ?_
  refine tj_iload_n C 1 rfl rfl dX0_judgedIn_2 ?_
  refine tj_i2l C dX0_judgedIn_3 ?_
  refine tj_callVz C (k := 1) [.long (a1.toInt64)] [.ref (xad Γ 1025)] (fun hN => c_X_isPerson (by rw [hN]; exact hX) hf) lk_X0_304 ty_X0_isPerson rfl (Nat.le_of_ble_eq_true rfl) (Nat.le_of_ble_eq_true rfl) (Nat.le_of_ble_eq_true rfl) hX rfl (by decide) rfl rfl dX0_judgedIn_4 (fun r2 S1 hf => ?_)
  have hz_r2 := hf.1
  replace hf := hf.2
  refine tj_if_ne C 14 (by decide) dX0_judgedIn_7 (fun hc => ?_) (fun hc => ?_)
  · replace hf := hf.2 hc
    refine tj_aload_n C 0 rfl rfl dX0_judgedIn_14 ?_
    refine tj_callVa C (k := 1) [] [.ref (xad Γ 1025)] (fun hN => c_X_at (by rw [hN]; exact hX) hf) lk_X0_168 ty_X0_at rfl (Nat.le_of_ble_eq_true rfl) (Nat.le_of_ble_eq_true rfl) (Nat.le_of_ble_eq_true rfl) hX rfl (by decide) rfl rfl dX0_judgedIn_15 (fun S3 hf => ?_)
    refine gf_X0_314 C rfl (ne0 (ln_1222 hw hX)) dX0_judgedIn_18 ?_
    refine tj_iload_n C 1 rfl rfl dX0_judgedIn_21 ?_
    refine tj_iald C 1488 6 rfl (ln_1488 hw hX) _ rfl hf.1 dX0_judgedIn_22 ?_
    replace hf := hf.2
    refine tj_if_ne C 30 (by decide) dX0_judgedIn_23 (fun hc => ?_) (fun hc => ?_)
    · replace hf := hf.2 hc
      refine tj_bipush C kb_7 dX0_judgedIn_30 ?_
      exact w_X_judgedIn_b32 C hw hR r hX hf
    · replace hf := hf.1 hc
      refine tj_iconst C kc_0 dX0_judgedIn_26 ?_
      refine tj_goto C 32 (by decide) dX0_judgedIn_27 ?_
      exact w_X_judgedIn_b32 C hw hR r hX hf
  · replace hf := hf.1 hc
    refine tj_iconst C kc_1 dX0_judgedIn_10 ?_
    refine tj_goto C 32 (by decide) dX0_judgedIn_11 ?_
    exact w_X_judgedIn_b32 C hw hR r hX hf
theorem c_X_judgedIn {l : Launch} {G : tG} {ad : Nat → Nat} {A : Nat → Prop} {S : tS} {K : Int32 → tS → Prop} {a1 : Int32} (hX : gN S 1025 ≠ 0) (hf : X_judgedIn a1 S K) : Met l yX0_judgedIn (ws_ yX0_judgedIn cX0_judgedIn 3 (some .int)) (tRm 9 205) (va_Pc [.ref (ad 1025), .int a1] (tPre G ad A S)) (va_Qi K (tB G ad A (gN S)) A) 0 0 A :=
  tj_met_i [(0, .ref (ad 1025)), (1, .int a1)] pn_X0 rfl (Nat.le_of_ble_eq_true rfl) (fun p e R s m args below meth c Q C hw r => w_X_judgedIn_b0 C hw rfl r hX hf)
theorem w_X_leastOf_b142 {Γ : tX} {N0 : Nat → Nat} {K : Int32 → tS → Prop} (C : TC Γ cX0_leastOf RX0 4 96) (hw : tWf N0) (hR : xnL Γ = 7) (r : TRi Γ N0 cX0_leastOf K) {a1 : Int32} {a2 : Int32} (hX : N0 1025 ≠ 0) {κ5 : Int32 → Int32 → tS → Prop} (hκ5 : ∀ (a3 : Int32) (a4 : Int32) (S : tS), κ5 a3 a4 S → TJ Γ N0 0 0 5 [(0, .ref (xad Γ 1025)), (1, .int a1), (2, .int a2), (3, .int a3), (4, .int a4)] [] S) {κ32 : Int32 → Int32 → Int32 → tS → Prop} (hκ32 : ∀ (a3 : Int32) (a4 : Int32) (a5 : Int32) (S : tS), κ32 a3 a4 a5 S → TJ Γ N0 0 0 32 [(0, .ref (xad Γ 1025)), (1, .int a1), (2, .int a2), (3, .int a3), (4, .int a4), (5, .int a5)] [] S) {a3 : Int32} {a4 : Int32} {a5 : Int32} {S : tS} (hf : X_leastOf_b142 a1 a2 K κ5 κ32 a3 a4 a5 S) : TJ Γ N0 0 0 142 [(0, .ref (xad Γ 1025)), (1, .int a1), (2, .int a2), (3, .int a3), (4, .int a4), (5, .int a5)] [] S := by
  unfold X_leastOf_b142 at hf
  obtain ⟨x12, ex⟩ : ∃ y : Int32, y = a5 + nI 1 := ⟨_, rfl⟩
  refine tj_iinc C (by rw [hR]; decide) 5 [(5, .int x12), (0, .ref (xad Γ 1025)), (1, .int a1), (2, .int a2), (3, .int a3), (4, .int a4)] rfl (by rw [ex]; exact ki_1 _) rfl dX0_leastOf_142 ?_
  replace hf := hf x12 ex
  refine tj_goto C 32 (by decide) dX0_leastOf_145 ?_
  exact tj_sub [1, 2, 3, 4, 5, 0] (hκ32 _ _ _ _ hf) rfl
theorem w_X_leastOf_b96 {Γ : tX} {N0 : Nat → Nat} {K : Int32 → tS → Prop} (C : TC Γ cX0_leastOf RX0 4 96) (hw : tWf N0) (hR : xnL Γ = 7) (r : TRi Γ N0 cX0_leastOf K) {a1 : Int32} {a2 : Int32} (hX : N0 1025 ≠ 0) {κ5 : Int32 → Int32 → tS → Prop} (hκ5 : ∀ (a3 : Int32) (a4 : Int32) (S : tS), κ5 a3 a4 S → TJ Γ N0 0 0 5 [(0, .ref (xad Γ 1025)), (1, .int a1), (2, .int a2), (3, .int a3), (4, .int a4)] [] S) {κ32 : Int32 → Int32 → Int32 → tS → Prop} (hκ32 : ∀ (a3 : Int32) (a4 : Int32) (a5 : Int32) (S : tS), κ32 a3 a4 a5 S → TJ Γ N0 0 0 32 [(0, .ref (xad Γ 1025)), (1, .int a1), (2, .int a2), (3, .int a3), (4, .int a4), (5, .int a5)] [] S) {a3 : Int32} {a4 : Int32} {a5 : Int32} {a6 : Int32} {s1 : Int32} {S : tS} (hf : X_leastOf_b96 a1 a2 K κ5 κ32 a3 a4 a5 a6 s1 S) : TJ Γ N0 0 0 96 [(0, .ref (xad Γ 1025)), (1, .int a1), (2, .int a2), (3, .int a3), (4, .int a4), (5, .int a5), (6, .int a6)] [.int s1, .ref (xad Γ 1222)] S := by
  unfold X_leastOf_b96 at hf
  refine tj_aload_n C 0 rfl rfl dX0_leastOf_96 ?_
  refine tj_callVa C (k := 1) [] [.int s1, .ref (xad Γ 1222)] (fun hN => c_X_at (by rw [hN]; exact hX) hf) lk_X0_168 ty_X0_at rfl (Nat.le_of_ble_eq_true rfl) (Nat.le_of_ble_eq_true rfl) (Nat.le_of_ble_eq_true rfl) hX rfl (by decide) rfl rfl dX0_leastOf_97 (fun S13 hf => ?_)
  refine gf_X0_308 C rfl (ne0 (ln_1222 hw hX)) dX0_leastOf_100 ?_
  refine tj_iload_n C 1 rfl rfl dX0_leastOf_103 ?_
  refine tj_iald C 1424 6 rfl (ln_1424 hw hX) _ rfl hf.1 dX0_leastOf_104 ?_
  replace hf := hf.2
  refine tj_iload C 4 rfl dX0_leastOf_105 ?_
  refine tj_iadd C dX0_leastOf_107 ?_
  refine tj_aload_n C 0 rfl rfl dX0_leastOf_108 ?_
  refine tj_callVa C (k := 1) [] [.int ((gI S13 1424 (a1.toNatClampNeg)) + a4), .int s1, .ref (xad Γ 1222)] (fun hN => c_X_at (by rw [hN]; exact hX) hf) lk_X0_168 ty_X0_at rfl (Nat.le_of_ble_eq_true rfl) (Nat.le_of_ble_eq_true rfl) (Nat.le_of_ble_eq_true rfl) hX rfl (by decide) rfl rfl dX0_leastOf_109 (fun S14 hf => ?_)
  refine gf_X0_245 C rfl (ne0 (ln_1222 hw hX)) dX0_leastOf_112 ?_
  refine tj_iload C 5 rfl dX0_leastOf_115 ?_
  refine tj_callVi C (k := 6) [.int s1, .int ((gI S13 1424 (a1.toNatClampNeg)) + a4), .int (gI S14 1222 6), .int a5] [] (fun hN => c_Co_shows (by rw [hN]; exact ⟨(ne0 (ln_1222 hw hX)), rfl⟩) hf) lk_X0_397 ty_X5_shows rfl (Nat.le_of_ble_eq_true rfl) (Nat.le_of_ble_eq_true rfl) (Nat.le_of_ble_eq_true rfl) (ne0 (ln_1222 hw hX)) rfl (by decide) rfl rfl dX0_leastOf_117 (fun r16 S15 hf => ?_)
  refine tj_iload_n C 2 rfl rfl dX0_leastOf_120 ?_
  refine tj_icmp_eq C 127 (by decide) dX0_leastOf_121 (fun hc => ?_) (fun hc => ?_)
  · replace hf := hf.1 hc
    refine tj_iload C 6 rfl dX0_leastOf_127 ?_
    refine tj_istore_n C (by rw [hR]; decide) [(3, .int a6), (0, .ref (xad Γ 1025)), (1, .int a1), (2, .int a2), (4, .int a4), (5, .int a5), (6, .int a6)] rfl rfl dX0_leastOf_129 ?_
    refine tj_aload_n C 1 rfl rfl dX0_leastOf_130 ?_
    refine tj_iload C 4 rfl dX0_leastOf_131 ?_
    refine pf_X0_413 C hX dX0_leastOf_133 ?_
    refine tj_topS (fun S17 eS => ?_)
    replace hf := hf S17 eS
    refine tj_aload_n C 1 rfl rfl dX0_leastOf_136 ?_
    refine tj_iload C 5 rfl dX0_leastOf_137 ?_
    refine pf_X0_416 C hX dX0_leastOf_139 ?_
    refine tj_topS (fun S18 eS => ?_)
    replace hf := hf S18 eS
    exact tj_sub [1, 2, 3, 0, 4, 5] (w_X_leastOf_b142 C hw hR r hX hκ5 hκ32 hf) rfl
  · replace hf := hf.2 hc
    refine tj_goto C 142 (by decide) dX0_leastOf_124 ?_
    exact tj_sub [0, 1, 2, 3, 4, 5] (w_X_leastOf_b142 C hw hR r hX hκ5 hκ32 hf) rfl
theorem w_X_leastOf_b74 {Γ : tX} {N0 : Nat → Nat} {K : Int32 → tS → Prop} (C : TC Γ cX0_leastOf RX0 4 96) (hw : tWf N0) (hR : xnL Γ = 7) (r : TRi Γ N0 cX0_leastOf K) {a1 : Int32} {a2 : Int32} (hX : N0 1025 ≠ 0) {κ5 : Int32 → Int32 → tS → Prop} (hκ5 : ∀ (a3 : Int32) (a4 : Int32) (S : tS), κ5 a3 a4 S → TJ Γ N0 0 0 5 [(0, .ref (xad Γ 1025)), (1, .int a1), (2, .int a2), (3, .int a3), (4, .int a4)] [] S) {κ32 : Int32 → Int32 → Int32 → tS → Prop} (hκ32 : ∀ (a3 : Int32) (a4 : Int32) (a5 : Int32) (S : tS), κ32 a3 a4 a5 S → TJ Γ N0 0 0 32 [(0, .ref (xad Γ 1025)), (1, .int a1), (2, .int a2), (3, .int a3), (4, .int a4), (5, .int a5)] [] S) {a3 : Int32} {a4 : Int32} {a5 : Int32} {a6 : Int32} {S : tS} (hf : X_leastOf_b74 a1 a2 K κ5 κ32 a3 a4 a5 a6 S) : TJ Γ N0 0 0 74 [(0, .ref (xad Γ 1025)), (1, .int a1), (2, .int a2), (3, .int a3), (4, .int a4), (5, .int a5), (6, .int a6)] [] S := by
  unfold X_leastOf_b74 at hf
  refine tj_aload_n C 0 rfl rfl dX0_leastOf_74 ?_
  refine tj_callVa C (k := 1) [] [] (fun hN => c_X_at (by rw [hN]; exact hX) hf) lk_X0_168 ty_X0_at rfl (Nat.le_of_ble_eq_true rfl) (Nat.le_of_ble_eq_true rfl) (Nat.le_of_ble_eq_true rfl) hX rfl (by decide) rfl rfl dX0_leastOf_75 (fun S10 hf => ?_)
  refine tj_aload_n C 0 rfl rfl dX0_leastOf_78 ?_
  refine tj_callVa C (k := 1) [] [.ref (xad Γ 1222)] (fun hN => c_X_at (by rw [hN]; exact hX) hf) lk_X0_168 ty_X0_at rfl (Nat.le_of_ble_eq_true rfl) (Nat.le_of_ble_eq_true rfl) (Nat.le_of_ble_eq_true rfl) hX rfl (by decide) rfl rfl dX0_leastOf_79 (fun S11 hf => ?_)
  refine gf_X0_237 C rfl (ne0 (ln_1222 hw hX)) dX0_leastOf_82 ?_
  refine tj_iload_n C 1 rfl rfl dX0_leastOf_85 ?_
  refine tj_iald C 1520 6 rfl (ln_1520 hw hX) _ rfl hf.1 dX0_leastOf_86 ?_
  replace hf := hf.2
  refine tj_iconst C kc_1 dX0_leastOf_87 ?_
  refine tj_icmp_ne C 95 (by decide) dX0_leastOf_88 (fun hc => ?_) (fun hc => ?_)
  · replace hf := hf.2 hc
    refine tj_iconst C kc_0 dX0_leastOf_95 ?_
    exact w_X_leastOf_b96 C hw hR r hX hκ5 hκ32 hf
  · replace hf := hf.1 hc
    refine tj_iconst C kc_1 dX0_leastOf_91 ?_
    refine tj_goto C 96 (by decide) dX0_leastOf_92 ?_
    exact w_X_leastOf_b96 C hw hR r hX hκ5 hκ32 hf
theorem w_X_leastOf_l32 {Γ : tX} {N0 : Nat → Nat} {K : Int32 → tS → Prop} (C : TC Γ cX0_leastOf RX0 4 96) (hw : tWf N0) (hR : xnL Γ = 7) (r : TRi Γ N0 cX0_leastOf K) {a1 : Int32} {a2 : Int32} (hX : N0 1025 ≠ 0) {κ5 : Int32 → Int32 → tS → Prop} (hκ5 : ∀ (a3 : Int32) (a4 : Int32) (S : tS), κ5 a3 a4 S → TJ Γ N0 0 0 5 [(0, .ref (xad Γ 1025)), (1, .int a1), (2, .int a2), (3, .int a3), (4, .int a4)] [] S) : ∀ (n : Nat) (a3 : Int32) (a4 : Int32) (a5 : Int32) (S : tS), X_leastOf_l32 a1 a2 K κ5 n a3 a4 a5 S → TJ Γ N0 0 0 32 [(0, .ref (xad Γ 1025)), (1, .int a1), (2, .int a2), (3, .int a3), (4, .int a4), (5, .int a5)] [] S := by
  intro n
  induction n with
  | zero => intro a3 a4 a5 S hf; exact hf.elim
  | succ n ih =>
    intro a3 a4 a5 S hf
    unfold X_leastOf_l32 at hf
    refine tj_iload C 5 rfl dX0_leastOf_32 ?_
    refine tj_aload_n C 0 rfl rfl dX0_leastOf_34 ?_
    refine tj_callVa C (k := 1) [] [.int a5] (fun hN => c_X_at (by rw [hN]; exact hX) hf) lk_X0_168 ty_X0_at rfl (Nat.le_of_ble_eq_true rfl) (Nat.le_of_ble_eq_true rfl) (Nat.le_of_ble_eq_true rfl) hX rfl (by decide) rfl rfl dX0_leastOf_35 (fun S2 hf => ?_)
    refine tj_callVi C (k := 6) [] [.int a5] (fun hN => c_Co_allSmells (by rw [hN]; exact ⟨(ne0 (ln_1222 hw hX)), rfl⟩) hf) lk_X0_410 ty_X5_allSmells rfl (Nat.le_of_ble_eq_true rfl) (Nat.le_of_ble_eq_true rfl) (Nat.le_of_ble_eq_true rfl) (ne0 (ln_1222 hw hX)) rfl (by decide) rfl rfl dX0_leastOf_38 (fun r4 S3 hf => ?_)
    refine tj_icmp_ge C 148 (by decide) dX0_leastOf_41 (fun hc => ?_) (fun hc => ?_)
    · replace hf := hf.1 hc
      obtain ⟨x5, ex⟩ : ∃ y : Int32, y = a4 + nI 1 := ⟨_, rfl⟩
      refine tj_iinc C (by rw [hR]; decide) 4 [(4, .int x5), (0, .ref (xad Γ 1025)), (1, .int a1), (2, .int a2), (3, .int a3), (5, .int a5)] rfl (by rw [ex]; exact ki_1 _) rfl dX0_leastOf_148 ?_
      replace hf := hf x5 ex
      refine tj_goto C 5 (by decide) dX0_leastOf_151 ?_
      exact tj_sub [1, 2, 3, 4, 0] (hκ5 _ _ _ hf) rfl
    · replace hf := hf.2 hc
      refine tj_iload C 4 rfl dX0_leastOf_44 ?_
      refine tj_iload C 5 rfl dX0_leastOf_46 ?_
      refine tj_aload_n C 0 rfl rfl dX0_leastOf_48 ?_
      refine tj_callVa C (k := 1) [] [.int a5, .int a4] (fun hN => c_X_at (by rw [hN]; exact hX) hf) lk_X0_168 ty_X0_at rfl (Nat.le_of_ble_eq_true rfl) (Nat.le_of_ble_eq_true rfl) (Nat.le_of_ble_eq_true rfl) hX rfl (by decide) rfl rfl dX0_leastOf_49 (fun S6 hf => ?_)
      refine gf_X0_311 C rfl (ne0 (ln_1222 hw hX)) dX0_leastOf_52 ?_
      refine tj_iload_n C 1 rfl rfl dX0_leastOf_55 ?_
      refine tj_iald C 1456 6 rfl (ln_1456 hw hX) _ rfl hf.1 dX0_leastOf_56 ?_
      replace hf := hf.2
      refine tj_ixor C dX0_leastOf_57 ?_
      refine tj_callSi C [.int (a5 ^^^ (gI S6 1456 (a1.toNatClampNeg)))] [.int a4] (fun hN => c_In_bitCount hf) lk_X0_338 ty_J11_bitCount rfl (Nat.le_of_ble_eq_true rfl) (Nat.le_of_ble_eq_true rfl) (Nat.le_of_ble_eq_true rfl) rfl dX0_leastOf_58 (fun r8 S7 hf => ?_)
      refine tj_iadd C dX0_leastOf_61 ?_
      refine tj_topi (fun x9 ex => ?_)
      replace hf := hf x9 ex
      refine tj_istore C (by rw [hR]; decide) [(6, .int x9), (0, .ref (xad Γ 1025)), (1, .int a1), (2, .int a2), (3, .int a3), (4, .int a4), (5, .int a5)] rfl dX0_leastOf_62 ?_
      refine tj_iload_n C 4 rfl rfl dX0_leastOf_64 ?_
      refine tj_if_lt C 74 (by decide) dX0_leastOf_65 (fun hc => ?_) (fun hc => ?_)
      · replace hf := hf.1 hc
        exact tj_sub [1, 2, 3, 4, 5, 6, 0] (w_X_leastOf_b74 C hw hR r hX hκ5 ih hf) rfl
      · replace hf := hf.2 hc
        refine tj_iload C 0 rfl dX0_leastOf_68 ?_
        refine tj_iload_n C 4 rfl rfl dX0_leastOf_70 ?_
        refine tj_icmp_ge C 142 (by decide) dX0_leastOf_71 (fun hc => ?_) (fun hc => ?_)
        · replace hf := hf.1 hc
          exact tj_sub [1, 2, 3, 4, 5, 6] (w_X_leastOf_b142 C hw hR r hX hκ5 ih hf) rfl
        · replace hf := hf.2 hc
          exact tj_sub [1, 2, 3, 4, 5, 6, 0] (w_X_leastOf_b74 C hw hR r hX hκ5 ih hf) rfl
theorem w_X_leastOf_l5 {Γ : tX} {N0 : Nat → Nat} {K : Int32 → tS → Prop} (C : TC Γ cX0_leastOf RX0 4 96) (hw : tWf N0) (hR : xnL Γ = 7) (r : TRi Γ N0 cX0_leastOf K) {a1 : Int32} {a2 : Int32} (hX : N0 1025 ≠ 0) : ∀ (n : Nat) (a3 : Int32) (a4 : Int32) (S : tS), X_leastOf_l5 a1 a2 K n a3 a4 S → TJ Γ N0 0 0 5 [(0, .ref (xad Γ 1025)), (1, .int a1), (2, .int a2), (3, .int a3), (4, .int a4)] [] S := by
  intro n
  induction n with
  | zero => intro a3 a4 S hf; exact hf.elim
  | succ n ih =>
    intro a3 a4 S hf
    unfold X_leastOf_l5 at hf
    refine tj_iload C 4 rfl dX0_leastOf_5 ?_
    refine tj_bipush C kb_20 dX0_leastOf_7 ?_
    refine tj_icmp_gt C 154 (by decide) dX0_leastOf_9 (fun hc => ?_) (fun hc => ?_)
    · replace hf := hf.1 hc
      refine tj_iload_n C 3 rfl rfl dX0_leastOf_154 ?_
      exact r _ _ _ _ dX0_leastOf_155 hf
    · replace hf := hf.2 hc
      refine tj_aload_n C 0 rfl rfl dX0_leastOf_12 ?_
      refine tj_callVa C (k := 1) [] [] (fun hN => c_X_at (by rw [hN]; exact hX) hf) lk_X0_168 ty_X0_at rfl (Nat.le_of_ble_eq_true rfl) (Nat.le_of_ble_eq_true rfl) (Nat.le_of_ble_eq_true rfl) hX rfl (by decide) rfl rfl dX0_leastOf_13 (fun S1 hf => ?_)
      refine gf_X0_308 C rfl (ne0 (ln_1222 hw hX)) dX0_leastOf_16 ?_
      refine tj_iload_n C 1 rfl rfl dX0_leastOf_19 ?_
      refine tj_iald C 1424 6 rfl (ln_1424 hw hX) _ rfl hf.1 dX0_leastOf_20 ?_
      replace hf := hf.2
      refine tj_iload C 4 rfl dX0_leastOf_21 ?_
      refine tj_iadd C dX0_leastOf_23 ?_
      refine tj_bipush C kb_99 dX0_leastOf_24 ?_
      refine tj_icmp_gt C 154 (by decide) dX0_leastOf_26 (fun hc => ?_) (fun hc => ?_)
      · replace hf := hf.1 hc
        refine tj_iload_n C 3 rfl rfl dX0_leastOf_154 ?_
        exact r _ _ _ _ dX0_leastOf_155 hf
      · replace hf := hf.2 hc
        refine tj_iconst C kc_0 dX0_leastOf_29 ?_
        refine tj_istore C (by rw [hR]; decide) [(5, .int (nI 0)), (0, .ref (xad Γ 1025)), (1, .int a1), (2, .int a2), (3, .int a3), (4, .int a4)] rfl dX0_leastOf_30 ?_
        exact tj_sub [1, 2, 3, 4, 5, 0] (hf.elim fun k hf => w_X_leastOf_l32 C hw hR r hX ih k _ _ _ _ hf) rfl
theorem w_X_leastOf_b0 {Γ : tX} {N0 : Nat → Nat} {K : Int32 → tS → Prop} (C : TC Γ cX0_leastOf RX0 4 96) (hw : tWf N0) (hR : xnL Γ = 7) (r : TRi Γ N0 cX0_leastOf K) {a1 : Int32} {a2 : Int32} (hX : N0 1025 ≠ 0) {S : tS} (hf : X_leastOf a1 a2 S K) : TJ Γ N0 0 0 0 [(0, .ref (xad Γ 1025)), (1, .int a1), (2, .int a2)] [] S := by
  unfold X_leastOf at hf
  refine tj_iconst C kc_m1 dX0_leastOf_0 ?_
  refine tj_istore_n C (by rw [hR]; decide) [(3, .int (-1)), (0, .ref (xad Γ 1025)), (1, .int a1), (2, .int a2)] rfl rfl dX0_leastOf_1 ?_
  refine tj_iconst C kc_0 dX0_leastOf_2 ?_
  refine tj_istore C (by rw [hR]; decide) [(4, .int (nI 0)), (3, .int (-1)), (0, .ref (xad Γ 1025)), (1, .int a1), (2, .int a2)] rfl dX0_leastOf_3 ?_
  exact tj_sub [2, 3, 4, 1, 0] (hf.elim fun k hf => w_X_leastOf_l5 C hw hR r hX k _ _ _ hf) rfl
theorem c_X_leastOf {l : Launch} {G : tG} {ad : Nat → Nat} {A : Nat → Prop} {S : tS} {K : Int32 → tS → Prop} {a1 : Int32} {a2 : Int32} (hX : gN S 1025 ≠ 0) (hf : X_leastOf a1 a2 S K) : Met l yX0_leastOf (ws_ yX0_leastOf cX0_leastOf 7 (some .int)) (tRm 4 96) (va_Pc [.ref (ad 1025), .int a1, .int a2] (tPre G ad A S)) (va_Qi K (tB G ad A (gN S)) A) 0 0 A :=
  tj_met_i [(0, .ref (ad 1025)), (1, .int a1), (2, .int a2)] pn_X0 rfl (Nat.le_of_ble_eq_true rfl) (fun p e R s m args below meth c Q C hw r => w_X_leastOf_b0 C hw rfl r hX hf)
theorem w_X_least_b23 {Γ : tX} {N0 : Nat → Nat} {K : Int32 → tS → Prop} (C : TC Γ cX0_least RX0 5 122) (hw : tWf N0) (hR : xnL Γ = 3) (r : TRi Γ N0 cX0_least K) {a1 : Int32} {a2 : Int32} (hX : N0 1025 ≠ 0) {s1 : Int32} {S : tS} (hf : X_least_b23 a1 a2 K s1 S) : TJ Γ N0 0 0 23 [(0, .ref (xad Γ 1025)), (1, .int a1), (2, .int a2)] [.int s1, .ref (xad Γ 1025)] S := by
  unfold X_least_b23 at hf
  refine pf_X0_91 C hX dX0_least_23 ?_
  refine tj_topS (fun S5 eS => ?_)
  replace hf := hf S5 eS
  refine tj_aload_n C 0 rfl rfl dX0_least_26 ?_
  refine gf_X0_91 C hX dX0_least_27 ?_
  refine tj_if_le C 37 (by decide) dX0_least_30 (fun hc => ?_) (fun hc => ?_)
  · replace hf := hf.1 hc
    refine tj_aload_n C 0 rfl rfl dX0_least_37 ?_
    refine tj_aload_n C 0 rfl rfl dX0_least_38 ?_
    refine tj_iload_n C 1 rfl rfl dX0_least_39 ?_
    refine tj_iload_n C 2 rfl rfl dX0_least_40 ?_
    refine tj_callVi C (k := 1) [.int a1, .int a2] [.ref (xad Γ 1025)] (fun hN => c_X_leastOf (by rw [hN]; exact hX) hf) lk_X0_419 ty_X0_leastOf rfl (Nat.le_of_ble_eq_true rfl) (Nat.le_of_ble_eq_true rfl) (Nat.le_of_ble_eq_true rfl) hX rfl (by decide) rfl rfl dX0_least_41 (fun r7 S6 hf => ?_)
    refine tj_callVi C (k := 1) [.int r7] [] (fun hN => c_X_answer (by rw [hN]; exact hX) hf) lk_X0_292 ty_X0_answer rfl (Nat.le_of_ble_eq_true rfl) (Nat.le_of_ble_eq_true rfl) (Nat.le_of_ble_eq_true rfl) hX rfl (by decide) rfl rfl dX0_least_44 (fun r9 S8 hf => ?_)
    exact r _ _ _ _ dX0_least_47 hf
  · replace hf := hf.2 hc
    refine tj_iconst C kc_m1 dX0_least_33 ?_
    refine tj_goto C 47 (by decide) dX0_least_34 ?_
    exact r _ _ _ _ dX0_least_47 hf
theorem w_X_least_b22 {Γ : tX} {N0 : Nat → Nat} {K : Int32 → tS → Prop} (C : TC Γ cX0_least RX0 5 122) (hw : tWf N0) (hR : xnL Γ = 3) (r : TRi Γ N0 cX0_least K) {a1 : Int32} {a2 : Int32} (hX : N0 1025 ≠ 0) {S : tS} (hf : X_least_b22 a1 a2 K  S) : TJ Γ N0 0 0 22 [(0, .ref (xad Γ 1025)), (1, .int a1), (2, .int a2)] [.ref (xad Γ 1025)] S := by
  unfold X_least_b22 at hf
  refine tj_iconst C kc_1 dX0_least_22 ?_
  exact w_X_least_b23 C hw hR r hX hf
theorem w_X_least_b0 {Γ : tX} {N0 : Nat → Nat} {K : Int32 → tS → Prop} (C : TC Γ cX0_least RX0 5 122) (hw : tWf N0) (hR : xnL Γ = 3) (r : TRi Γ N0 cX0_least K) {a1 : Int32} {a2 : Int32} (hX : N0 1025 ≠ 0) {S : tS} (hf : X_least a1 a2 S K) : TJ Γ N0 0 0 0 [(0, .ref (xad Γ 1025)), (1, .int a1), (2, .int a2)] [] S := by
  unfold X_least at hf
  refine tj_aload_n C 0 rfl rfl dX0_least_0 ?_
  refine tj_aload_n C 0 rfl rfl dX0_least_1 ?_
  refine tj_iload_n C 1 rfl rfl dX0_least_2 ?_
  refine tj_i2l C dX0_least_3 ?_
  refine tj_callVz C (k := 1) [.long (a1.toInt64)] [.ref (xad Γ 1025)] (fun hN => c_X_isPerson (by rw [hN]; exact hX) hf) lk_X0_304 ty_X0_isPerson rfl (Nat.le_of_ble_eq_true rfl) (Nat.le_of_ble_eq_true rfl) (Nat.le_of_ble_eq_true rfl) hX rfl (by decide) rfl rfl dX0_least_4 (fun r2 S1 hf => ?_)
  have hz_r2 := hf.1
  replace hf := hf.2
  refine tj_if_eq C 22 (by decide) dX0_least_7 (fun hc => ?_) (fun hc => ?_)
  · replace hf := hf.1 hc
    exact w_X_least_b22 C hw hR r hX hf
  · replace hf := hf.2 hc
    refine tj_aload_n C 0 rfl rfl dX0_least_10 ?_
    refine tj_iload_n C 2 rfl rfl dX0_least_11 ?_
    refine tj_callVz C (k := 1) [.int a2] [.ref (xad Γ 1025)] (fun hN => c_X_isCue (by rw [hN]; exact hX) hf) lk_X0_262 ty_X0_isCue rfl (Nat.le_of_ble_eq_true rfl) (Nat.le_of_ble_eq_true rfl) (Nat.le_of_ble_eq_true rfl) hX rfl (by decide) rfl rfl dX0_least_12 (fun r4 S3 hf => ?_)
    have hz_r4 := hf.1
    replace hf := hf.2
    refine tj_if_eq C 22 (by decide) dX0_least_15 (fun hc => ?_) (fun hc => ?_)
    · replace hf := hf.1 hc
      exact w_X_least_b22 C hw hR r hX hf
    · replace hf := hf.2 hc
      refine tj_iconst C kc_0 dX0_least_18 ?_
      refine tj_goto C 23 (by decide) dX0_least_19 ?_
      exact w_X_least_b23 C hw hR r hX hf
theorem c_X_least {l : Launch} {G : tG} {ad : Nat → Nat} {A : Nat → Prop} {S : tS} {K : Int32 → tS → Prop} {a1 : Int32} {a2 : Int32} (hX : gN S 1025 ≠ 0) (hf : X_least a1 a2 S K) : Met l yX0_least (ws_ yX0_least cX0_least 3 (some .int)) (tRm 5 122) (va_Pc [.ref (ad 1025), .int a1, .int a2] (tPre G ad A S)) (va_Qi K (tB G ad A (gN S)) A) 0 0 A :=
  tj_met_i [(0, .ref (ad 1025)), (1, .int a1), (2, .int a2)] pn_X0 rfl (Nat.le_of_ble_eq_true rfl) (fun p e R s m args below meth c Q C hw r => w_X_least_b0 C hw rfl r hX hf)
theorem w_X_leastBy_b74 {Γ : tX} {N0 : Nat → Nat} {K : Int32 → tS → Prop} (C : TC Γ cX0_leastBy RX0 5 122) (hw : tWf N0) (hR : xnL Γ = 4) (r : TRi Γ N0 cX0_leastBy K) {a1 : Int32} {a2 : Int32} {a3 : Int32} (hX : N0 1025 ≠ 0) {s1 : Int32} {S : tS} (hf : X_leastBy_b74 a1 a2 a3 K s1 S) : TJ Γ N0 0 0 74 [] [.int s1, .ref (xad Γ 1025)] S := by
  unfold X_leastBy_b74 at hf
  refine tj_callVi C (k := 1) [.int s1] [] (fun hN => c_X_answer (by rw [hN]; exact hX) hf) lk_X0_292 ty_X0_answer rfl (Nat.le_of_ble_eq_true rfl) (Nat.le_of_ble_eq_true rfl) (Nat.le_of_ble_eq_true rfl) hX rfl (by decide) rfl rfl dX0_leastBy_74 (fun r11 S10 hf => ?_)
  exact r _ _ _ _ dX0_leastBy_77 hf
theorem w_X_leastBy_b33 {Γ : tX} {N0 : Nat → Nat} {K : Int32 → tS → Prop} (C : TC Γ cX0_leastBy RX0 5 122) (hw : tWf N0) (hR : xnL Γ = 4) (r : TRi Γ N0 cX0_leastBy K) {a1 : Int32} {a2 : Int32} {a3 : Int32} (hX : N0 1025 ≠ 0) {s1 : Int32} {S : tS} (hf : X_leastBy_b33 a1 a2 a3 K s1 S) : TJ Γ N0 0 0 33 [(0, .ref (xad Γ 1025)), (1, .int a1), (2, .int a2), (3, .int a3)] [.int s1, .ref (xad Γ 1025)] S := by
  unfold X_leastBy_b33 at hf
  refine pf_X0_91 C hX dX0_leastBy_33 ?_
  refine tj_topS (fun S7 eS => ?_)
  replace hf := hf S7 eS
  refine tj_aload_n C 0 rfl rfl dX0_leastBy_36 ?_
  refine gf_X0_91 C hX dX0_leastBy_37 ?_
  refine tj_if_le C 45 (by decide) dX0_leastBy_40 (fun hc => ?_) (fun hc => ?_)
  · replace hf := hf.1 hc
    refine tj_aload_n C 0 rfl rfl dX0_leastBy_45 ?_
    refine tj_aload_n C 0 rfl rfl dX0_leastBy_46 ?_
    refine tj_iload_n C 1 rfl rfl dX0_leastBy_47 ?_
    refine tj_iload_n C 2 rfl rfl dX0_leastBy_48 ?_
    refine tj_callVi C (k := 1) [.int a1, .int a2] [.ref (xad Γ 1025)] (fun hN => c_X_leastOf (by rw [hN]; exact hX) hf) lk_X0_419 ty_X0_leastOf rfl (Nat.le_of_ble_eq_true rfl) (Nat.le_of_ble_eq_true rfl) (Nat.le_of_ble_eq_true rfl) hX rfl (by decide) rfl rfl dX0_leastBy_49 (fun r9 S8 hf => ?_)
    refine tj_if_ge C 59 (by decide) dX0_leastBy_52 (fun hc => ?_) (fun hc => ?_)
    · replace hf := hf.1 hc
      refine tj_iload_n C 3 rfl rfl dX0_leastBy_59 ?_
      refine tj_if_ne C 70 (by decide) dX0_leastBy_60 (fun hc => ?_) (fun hc => ?_)
      · replace hf := hf.2 hc
        refine tj_aload_n C 0 rfl rfl dX0_leastBy_70 ?_
        refine gf_X0_416 C hX dX0_leastBy_71 ?_
        exact tj_sub [] (w_X_leastBy_b74 C hw hR r hX hf) rfl
      · replace hf := hf.1 hc
        refine tj_aload_n C 0 rfl rfl dX0_leastBy_63 ?_
        refine gf_X0_413 C hX dX0_leastBy_64 ?_
        refine tj_goto C 74 (by decide) dX0_leastBy_67 ?_
        exact tj_sub [] (w_X_leastBy_b74 C hw hR r hX hf) rfl
    · replace hf := hf.2 hc
      refine tj_iconst C kc_m1 dX0_leastBy_55 ?_
      refine tj_goto C 74 (by decide) dX0_leastBy_56 ?_
      exact tj_sub [] (w_X_leastBy_b74 C hw hR r hX hf) rfl
  · replace hf := hf.2 hc
    refine tj_iconst C kc_m1 dX0_leastBy_43 ?_
    exact r _ _ _ _ dX0_leastBy_44 hf
theorem w_X_leastBy_b32 {Γ : tX} {N0 : Nat → Nat} {K : Int32 → tS → Prop} (C : TC Γ cX0_leastBy RX0 5 122) (hw : tWf N0) (hR : xnL Γ = 4) (r : TRi Γ N0 cX0_leastBy K) {a1 : Int32} {a2 : Int32} {a3 : Int32} (hX : N0 1025 ≠ 0) {S : tS} (hf : X_leastBy_b32 a1 a2 a3 K  S) : TJ Γ N0 0 0 32 [(0, .ref (xad Γ 1025)), (1, .int a1), (2, .int a2), (3, .int a3)] [.ref (xad Γ 1025)] S := by
  unfold X_leastBy_b32 at hf
  refine tj_iconst C kc_1 dX0_leastBy_32 ?_
  exact w_X_leastBy_b33 C hw hR r hX hf
theorem w_X_leastBy_b0 {Γ : tX} {N0 : Nat → Nat} {K : Int32 → tS → Prop} (C : TC Γ cX0_leastBy RX0 5 122) (hw : tWf N0) (hR : xnL Γ = 4) (r : TRi Γ N0 cX0_leastBy K) {a1 : Int32} {a2 : Int32} {a3 : Int32} (hX : N0 1025 ≠ 0) {S : tS} (hf : X_leastBy a1 a2 a3 S K) : TJ Γ N0 0 0 0 [(0, .ref (xad Γ 1025)), (1, .int a1), (2, .int a2), (3, .int a3)] [] S := by
  unfold X_leastBy at hf
  refine tj_aload_n C 0 rfl rfl dX0_leastBy_0 ?_
  refine tj_aload_n C 0 rfl rfl dX0_leastBy_1 ?_
  refine tj_iload_n C 1 rfl rfl dX0_leastBy_2 ?_
  refine tj_i2l C dX0_leastBy_3 ?_
  refine tj_callVz C (k := 1) [.long (a1.toInt64)] [.ref (xad Γ 1025)] (fun hN => c_X_isPerson (by rw [hN]; exact hX) hf) lk_X0_304 ty_X0_isPerson rfl (Nat.le_of_ble_eq_true rfl) (Nat.le_of_ble_eq_true rfl) (Nat.le_of_ble_eq_true rfl) hX rfl (by decide) rfl rfl dX0_leastBy_4 (fun r2 S1 hf => ?_)
  have hz_r2 := hf.1
  replace hf := hf.2
  refine tj_if_eq C 32 (by decide) dX0_leastBy_7 (fun hc => ?_) (fun hc => ?_)
  · replace hf := hf.1 hc
    exact w_X_leastBy_b32 C hw hR r hX hf
  · replace hf := hf.2 hc
    refine tj_aload_n C 0 rfl rfl dX0_leastBy_10 ?_
    refine tj_iload_n C 2 rfl rfl dX0_leastBy_11 ?_
    refine tj_callVz C (k := 1) [.int a2] [.ref (xad Γ 1025)] (fun hN => c_X_isCue (by rw [hN]; exact hX) hf) lk_X0_262 ty_X0_isCue rfl (Nat.le_of_ble_eq_true rfl) (Nat.le_of_ble_eq_true rfl) (Nat.le_of_ble_eq_true rfl) hX rfl (by decide) rfl rfl dX0_leastBy_12 (fun r4 S3 hf => ?_)
    have hz_r4 := hf.1
    replace hf := hf.2
    refine tj_if_eq C 32 (by decide) dX0_leastBy_15 (fun hc => ?_) (fun hc => ?_)
    · replace hf := hf.1 hc
      exact w_X_leastBy_b32 C hw hR r hX hf
    · replace hf := hf.2 hc
      refine tj_iload_n C 3 rfl rfl dX0_leastBy_18 ?_
      refine tj_i2l C dX0_leastBy_19 ?_
      refine tj_lconst C (v := lN 0) rfl dX0_leastBy_20 ?_
      refine tj_lconst C (v := lN 1) rfl dX0_leastBy_21 ?_
      refine tj_callSz C [.long (a3.toInt64), .long (lN 0), .long (lN 1)] [.ref (xad Γ 1025)] (fun hN => c_X_isIn hf) lk_X0_175 ty_X0_isIn rfl (Nat.le_of_ble_eq_true rfl) (Nat.le_of_ble_eq_true rfl) (Nat.le_of_ble_eq_true rfl) rfl dX0_leastBy_22 (fun r6 S5 hf => ?_)
      have hz_r6 := hf.1
      replace hf := hf.2
      refine tj_if_eq C 32 (by decide) dX0_leastBy_25 (fun hc => ?_) (fun hc => ?_)
      · replace hf := hf.1 hc
        exact w_X_leastBy_b32 C hw hR r hX hf
      · replace hf := hf.2 hc
        refine tj_iconst C kc_0 dX0_leastBy_28 ?_
        refine tj_goto C 33 (by decide) dX0_leastBy_29 ?_
        exact w_X_leastBy_b33 C hw hR r hX hf
theorem c_X_leastBy {l : Launch} {G : tG} {ad : Nat → Nat} {A : Nat → Prop} {S : tS} {K : Int32 → tS → Prop} {a1 : Int32} {a2 : Int32} {a3 : Int32} (hX : gN S 1025 ≠ 0) (hf : X_leastBy a1 a2 a3 S K) : Met l yX0_leastBy (ws_ yX0_leastBy cX0_leastBy 4 (some .int)) (tRm 5 122) (va_Pc [.ref (ad 1025), .int a1, .int a2, .int a3] (tPre G ad A S)) (va_Qi K (tB G ad A (gN S)) A) 0 0 A :=
  tj_met_i [(0, .ref (ad 1025)), (1, .int a1), (2, .int a2), (3, .int a3)] pn_X0 rfl (Nat.le_of_ble_eq_true rfl) (fun p e R s m args below meth c Q C hw r => w_X_leastBy_b0 C hw rfl r hX hf)
theorem w_X_lived_b30 {Γ : tX} {N0 : Nat → Nat} {K : Int32 → tS → Prop} (C : TC Γ cX0_lived RX0 1 25) (hw : tWf N0) (hR : xnL Γ = 2) (r : TRi Γ N0 cX0_lived K) {a1 : Int32} (hX : N0 1025 ≠ 0) {s1 : Int32} {S : tS} (hf : X_lived_b30 a1 K s1 S) : TJ Γ N0 0 0 30 [(0, .ref (xad Γ 1025)), (1, .int a1)] [.int s1, .ref (xad Γ 1025)] S := by
  unfold X_lived_b30 at hf
  refine pf_X0_91 C hX dX0_lived_30 ?_
  refine tj_topS (fun S3 eS => ?_)
  replace hf := hf S3 eS
  refine tj_aload_n C 0 rfl rfl dX0_lived_33 ?_
  refine gf_X0_91 C hX dX0_lived_34 ?_
  refine tj_if_le C 44 (by decide) dX0_lived_37 (fun hc => ?_) (fun hc => ?_)
  · replace hf := hf.1 hc
    refine tj_aload_n C 0 rfl rfl dX0_lived_44 ?_
    refine gf_X0_88 C hX dX0_lived_45 ?_
    refine tj_iload_n C 1 rfl rfl dX0_lived_48 ?_
    refine tj_iald C 2480 5 rfl (ln_2480 hw hX) _ rfl hf.1 dX0_lived_49 ?_
    replace hf := hf.2
    exact r _ _ _ _ dX0_lived_50 hf
  · replace hf := hf.2 hc
    refine tj_iconst C kc_m1 dX0_lived_40 ?_
    refine tj_goto C 50 (by decide) dX0_lived_41 ?_
    exact r _ _ _ _ dX0_lived_50 hf
theorem w_X_lived_b0 {Γ : tX} {N0 : Nat → Nat} {K : Int32 → tS → Prop} (C : TC Γ cX0_lived RX0 1 25) (hw : tWf N0) (hR : xnL Γ = 2) (r : TRi Γ N0 cX0_lived K) {a1 : Int32} (hX : N0 1025 ≠ 0) {S : tS} (hf : X_lived a1 S K) : TJ Γ N0 0 0 0 [(0, .ref (xad Γ 1025)), (1, .int a1)] [] S := by
  unfold X_lived at hf
  refine tj_aload_n C 0 rfl rfl dX0_lived_0 ?_
  refine tj_iload_n C 1 rfl rfl dX0_lived_1 ?_
  refine tj_i2l C dX0_lived_2 ?_
  refine tj_lconst C (v := lN 0) rfl dX0_lived_3 ?_
  refine tj_ldc2 C kl_X0_272 dX0_lived_4 ?_
  refine tj_callSz C [.long (a1.toInt64), .long (lN 0), .long (lN 4)] [.ref (xad Γ 1025)] (fun hN => c_X_isIn hf) lk_X0_175 ty_X0_isIn rfl (Nat.le_of_ble_eq_true rfl) (Nat.le_of_ble_eq_true rfl) (Nat.le_of_ble_eq_true rfl) rfl dX0_lived_7 (fun r2 S1 hf => ?_)
  have hz_r2 := hf.1
  replace hf := hf.2
  refine tj_if_ne C 17 (by decide) dX0_lived_10 (fun hc => ?_) (fun hc => ?_)
  · replace hf := hf.2 hc
    refine tj_aload_n C 0 rfl rfl dX0_lived_17 ?_
    refine gf_X0_527 C hX dX0_lived_18 ?_
    refine tj_if_eq C 28 (by decide) dX0_lived_21 (fun hc => ?_) (fun hc => ?_)
    · replace hf := hf.1 hc
      refine tj_bipush C kb_6 dX0_lived_28 ?_
      exact w_X_lived_b30 C hw hR r hX hf
    · replace hf := hf.2 hc
      refine tj_iconst C kc_0 dX0_lived_24 ?_
      refine tj_goto C 30 (by decide) dX0_lived_25 ?_
      exact w_X_lived_b30 C hw hR r hX hf
  · replace hf := hf.1 hc
    refine tj_iconst C kc_1 dX0_lived_13 ?_
    refine tj_goto C 30 (by decide) dX0_lived_14 ?_
    exact w_X_lived_b30 C hw hR r hX hf
theorem c_X_lived {l : Launch} {G : tG} {ad : Nat → Nat} {A : Nat → Prop} {S : tS} {K : Int32 → tS → Prop} {a1 : Int32} (hX : gN S 1025 ≠ 0) (hf : X_lived a1 S K) : Met l yX0_lived (ws_ yX0_lived cX0_lived 2 (some .int)) (tRm 1 25) (va_Pc [.ref (ad 1025), .int a1] (tPre G ad A S)) (va_Qi K (tB G ad A (gN S)) A) 0 0 A :=
  tj_met_i [(0, .ref (ad 1025)), (1, .int a1)] pn_X0 rfl (Nat.le_of_ble_eq_true rfl) (fun p e R s m args below meth c Q C hw r => w_X_lived_b0 C hw rfl r hX hf)
theorem w_Ho_be_b0 {Γ : tX} {N0 : Nat → Nat} {K : tS → Prop} (C : TC Γ cX4_be RX4 3 102) (hw : tWf N0) (hR : xnL Γ = 2) (r : TRv Γ N0 cX4_be K) {t0 : Nat} {a1 : Nat} (h_t0 : N0 t0 ≠ 0 ∧ t0 % 32 = 5) (h_a1 : N0 a1 ≠ 0 ∧ a1 % 32 = 5) {S : tS} (hf : Ho_be t0 a1 S K) : TJ Γ N0 0 0 0 [(0, .ref (xad Γ t0)), (1, .ref (xad Γ a1))] [] S := by
  unfold Ho_be at hf
  refine tj_aload_n C 0 rfl rfl dX4_be_0 ?_
  refine gf_X4_10 C h_t0.2 h_t0.1 dX4_be_1 ?_
  refine tj_aload_n C 1 rfl rfl dX4_be_4 ?_
  refine gf_X4_10 C h_a1.2 h_a1.1 dX4_be_5 ?_
  refine tj_callVv C (k := 6) [.ref (xad Γ (a1 + 33))] [] (fun hN => c_Co_be (by rw [hN]; exact ⟨(ne0 (lnc_33 hw h_t0.2 h_t0.1)), (by have := h_t0.2; omega)⟩) (by rw [hN]; exact ⟨(ne0 (lnc_33 hw h_a1.2 h_a1.1)), (by have := h_a1.2; omega)⟩) hf) lk_X4_16 ty_X5_be rfl (Nat.le_of_ble_eq_true rfl) (Nat.le_of_ble_eq_true rfl) (Nat.le_of_ble_eq_true rfl) (ne0 (lnc_33 hw h_t0.2 h_t0.1)) (by have := h_t0.2; omega) (by decide) rfl rfl dX4_be_8 (fun S1 hf => ?_)
  refine tj_aload_n C 0 rfl rfl dX4_be_11 ?_
  refine tj_aload_n C 1 rfl rfl dX4_be_12 ?_
  refine gf_X4_20 C h_a1.2 h_a1.1 dX4_be_13 ?_
  refine pf_X4_20 C h_t0.2 h_t0.1 dX4_be_16 ?_
  refine tj_topS (fun S2 eS => ?_)
  replace hf := hf S2 eS
  exact r _ _ _ dX4_be_19 hf
theorem c_Ho_be {l : Launch} {G : tG} {ad : Nat → Nat} {A : Nat → Prop} {S : tS} {K : tS → Prop} {t0 : Nat} {a1 : Nat} (h_t0 : gN S t0 ≠ 0 ∧ t0 % 32 = 5) (h_a1 : gN S a1 ≠ 0 ∧ a1 % 32 = 5) (hf : Ho_be t0 a1 S K) : Met l yX4_be (ws_ yX4_be cX4_be 2 (none)) (tRm 3 102) (va_Pc [.ref (ad t0), .ref (ad a1)] (tPre G ad A S)) (va_Qv K (tB G ad A (gN S)) A) 0 0 A :=
  tj_met_v [(0, .ref (ad t0)), (1, .ref (ad a1))] pn_X4 rfl (Nat.le_of_ble_eq_true rfl) (fun p e R s m args below meth c Q C hw r => w_Ho_be_b0 C hw rfl r h_t0 h_a1 hf)
theorem w_Co_feeds_b0 {Γ : tX} {N0 : Nat → Nat} {K : Int32 → tS → Prop} (C : TC Γ cX5_feeds RX5 1 40) (hw : tWf N0) (hR : xnL Γ = 3) (r : TRz Γ N0 cX5_feeds K) {t0 : Nat} {a1 : Int32} {a2 : Int32} (h_t0 : N0 t0 ≠ 0 ∧ t0 % 32 = 6) {S : tS} (hf : Co_feeds t0 a1 a2 S K) : TJ Γ N0 0 0 0 [(0, .ref (xad Γ t0)), (1, .int a1), (2, .int a2)] [] S := by
  unfold Co_feeds at hf
  refine tj_iload_n C 2 rfl rfl dX5_feeds_0 ?_
  refine tj_if_eq C 15 (by decide) dX5_feeds_1 (fun hc => ?_) (fun hc => ?_)
  · replace hf := hf.1 hc
    refine tj_iconst C kc_0 dX5_feeds_15 ?_
    exact r _ _ _ _ dX5_feeds_16 zb0 hf
  · replace hf := hf.2 hc
    refine tj_aload_n C 0 rfl rfl dX5_feeds_4 ?_
    refine gf_X5_28 C h_t0.2 h_t0.1 dX5_feeds_5 ?_
    refine tj_iload_n C 1 rfl rfl dX5_feeds_8 ?_
    refine tj_iald C (t0 + 202) 6 (by have := h_t0.2; omega) (lnc_202 hw h_t0.2 h_t0.1) _ rfl hf.1 dX5_feeds_9 ?_
    replace hf := hf.2
    refine tj_bipush C kb_99 dX5_feeds_10 ?_
    refine tj_icmp_ne C 17 (by decide) dX5_feeds_12 (fun hc => ?_) (fun hc => ?_)
    · replace hf := hf.2 hc
      refine tj_aload_n C 0 rfl rfl dX5_feeds_17 ?_
      refine gf_X5_28 C h_t0.2 h_t0.1 dX5_feeds_18 ?_
      refine tj_iload_n C 1 rfl rfl dX5_feeds_21 ?_
      refine tj_bipush C kb_99 dX5_feeds_22 ?_
      refine tj_aload_n C 0 rfl rfl dX5_feeds_24 ?_
      refine gf_X5_28 C h_t0.2 h_t0.1 dX5_feeds_25 ?_
      refine tj_iload_n C 1 rfl rfl dX5_feeds_28 ?_
      refine tj_iald C (t0 + 202) 6 (by have := h_t0.2; omega) (lnc_202 hw h_t0.2 h_t0.1) _ rfl hf.1 dX5_feeds_29 ?_
      replace hf := hf.2
      refine tj_iload_n C 2 rfl rfl dX5_feeds_30 ?_
      refine tj_iadd C dX5_feeds_31 ?_
      refine tj_mmin C q1169 (Nat.le_of_ble_eq_true rfl) (Nat.le_of_ble_eq_true rfl) (Nat.le_of_ble_eq_true rfl) dX5_feeds_32 ?_
      refine tj_iast C (t0 + 202) 6 (by have := h_t0.2; omega) (lnc_202 hw h_t0.2 h_t0.1) _ rfl hf.1 dX5_feeds_35 ?_
      replace hf := hf.2
      refine tj_topS (fun S1 eS => ?_)
      replace hf := hf S1 eS
      refine tj_iconst C kc_1 dX5_feeds_36 ?_
      exact r _ _ _ _ dX5_feeds_37 zb1 hf
    · replace hf := hf.1 hc
      refine tj_iconst C kc_0 dX5_feeds_15 ?_
      exact r _ _ _ _ dX5_feeds_16 zb0 hf
theorem c_Co_feeds {l : Launch} {G : tG} {ad : Nat → Nat} {A : Nat → Prop} {S : tS} {K : Int32 → tS → Prop} {t0 : Nat} {a1 : Int32} {a2 : Int32} (h_t0 : gN S t0 ≠ 0 ∧ t0 % 32 = 6) (hf : Co_feeds t0 a1 a2 S K) : Met l yX5_feeds (ws_ yX5_feeds cX5_feeds 3 (some .boolean)) (tRm 1 40) (va_Pc [.ref (ad t0), .int a1, .int a2] (tPre G ad A S)) (va_Qi (fun r u => r &&& 1 = r ∧ K r u) (tB G ad A (gN S)) A) 0 0 A :=
  tj_met_z [(0, .ref (ad t0)), (1, .int a1), (2, .int a2)] pn_X5 rfl (Nat.le_of_ble_eq_true rfl) (fun p e R s m args below meth c Q C hw r => w_Co_feeds_b0 C hw rfl r h_t0 hf)
theorem w_X_meal_b44 {Γ : tX} {N0 : Nat → Nat} {K : Int32 → tS → Prop} (C : TC Γ cX0_meal RX0 2 62) (hw : tWf N0) (hR : xnL Γ = 3) (r : TRi Γ N0 cX0_meal K) {a1 : Int32} {a2 : Int32} (hX : N0 1025 ≠ 0) {s1 : Int32} {S : tS} (hf : X_meal_b44 a1 a2 K s1 S) : TJ Γ N0 0 0 44 [(0, .ref (xad Γ 1025)), (1, .int a1)] [.int s1, .ref (xad Γ 1025)] S := by
  unfold X_meal_b44 at hf
  refine pf_X0_91 C hX dX0_meal_44 ?_
  refine tj_topS (fun S8 eS => ?_)
  replace hf := hf S8 eS
  refine tj_aload_n C 0 rfl rfl dX0_meal_47 ?_
  refine gf_X0_91 C hX dX0_meal_48 ?_
  refine tj_if_le C 58 (by decide) dX0_meal_51 (fun hc => ?_) (fun hc => ?_)
  · replace hf := hf.1 hc
    refine tj_aload_n C 0 rfl rfl dX0_meal_58 ?_
    refine tj_callVa C (k := 1) [] [] (fun hN => c_X_at (by rw [hN]; exact hX) hf) lk_X0_168 ty_X0_at rfl (Nat.le_of_ble_eq_true rfl) (Nat.le_of_ble_eq_true rfl) (Nat.le_of_ble_eq_true rfl) hX rfl (by decide) rfl rfl dX0_meal_59 (fun S9 hf => ?_)
    refine gf_X0_308 C rfl (ne0 (ln_1222 hw hX)) dX0_meal_62 ?_
    refine tj_iload_n C 1 rfl rfl dX0_meal_65 ?_
    refine tj_iald C 1424 6 rfl (ln_1424 hw hX) _ rfl hf.1 dX0_meal_66 ?_
    replace hf := hf.2
    exact r _ _ _ _ dX0_meal_67 hf
  · replace hf := hf.2 hc
    refine tj_iconst C kc_m1 dX0_meal_54 ?_
    refine tj_goto C 67 (by decide) dX0_meal_55 ?_
    exact r _ _ _ _ dX0_meal_67 hf
theorem w_X_meal_b22 {Γ : tX} {N0 : Nat → Nat} {K : Int32 → tS → Prop} (C : TC Γ cX0_meal RX0 2 62) (hw : tWf N0) (hR : xnL Γ = 3) (r : TRi Γ N0 cX0_meal K) {a1 : Int32} {a2 : Int32} (hX : N0 1025 ≠ 0) {S : tS} (hf : X_meal_b22 a1 a2 K  S) : TJ Γ N0 0 0 22 [(0, .ref (xad Γ 1025)), (1, .int a1)] [.ref (xad Γ 1025)] S := by
  unfold X_meal_b22 at hf
  refine tj_iconst C kc_1 dX0_meal_22 ?_
  refine tj_goto C 44 (by decide) dX0_meal_23 ?_
  exact w_X_meal_b44 C hw hR r hX hf
theorem w_X_meal_b0 {Γ : tX} {N0 : Nat → Nat} {K : Int32 → tS → Prop} (C : TC Γ cX0_meal RX0 2 62) (hw : tWf N0) (hR : xnL Γ = 3) (r : TRi Γ N0 cX0_meal K) {a1 : Int32} {a2 : Int32} (hX : N0 1025 ≠ 0) {S : tS} (hf : X_meal a1 a2 S K) : TJ Γ N0 0 0 0 [(0, .ref (xad Γ 1025)), (1, .int a1), (2, .int a2)] [] S := by
  unfold X_meal at hf
  refine tj_aload_n C 0 rfl rfl dX0_meal_0 ?_
  refine tj_aload_n C 0 rfl rfl dX0_meal_1 ?_
  refine tj_iload_n C 1 rfl rfl dX0_meal_2 ?_
  refine tj_i2l C dX0_meal_3 ?_
  refine tj_callVz C (k := 1) [.long (a1.toInt64)] [.ref (xad Γ 1025)] (fun hN => c_X_isPerson (by rw [hN]; exact hX) hf) lk_X0_304 ty_X0_isPerson rfl (Nat.le_of_ble_eq_true rfl) (Nat.le_of_ble_eq_true rfl) (Nat.le_of_ble_eq_true rfl) hX rfl (by decide) rfl rfl dX0_meal_4 (fun r2 S1 hf => ?_)
  have hz_r2 := hf.1
  replace hf := hf.2
  refine tj_if_eq C 22 (by decide) dX0_meal_7 (fun hc => ?_) (fun hc => ?_)
  · replace hf := hf.1 hc
    exact tj_sub [0, 1] (w_X_meal_b22 C hw hR r hX hf) rfl
  · replace hf := hf.2 hc
    refine tj_iload_n C 2 rfl rfl dX0_meal_10 ?_
    refine tj_i2l C dX0_meal_11 ?_
    refine tj_lconst C (v := lN 1) rfl dX0_meal_12 ?_
    refine tj_ldc2 C kl_X0_346 dX0_meal_13 ?_
    refine tj_callSz C [.long (a2.toInt64), .long (lN 1), .long (lN 99)] [.ref (xad Γ 1025)] (fun hN => c_X_isIn hf) lk_X0_175 ty_X0_isIn rfl (Nat.le_of_ble_eq_true rfl) (Nat.le_of_ble_eq_true rfl) (Nat.le_of_ble_eq_true rfl) rfl dX0_meal_16 (fun r4 S3 hf => ?_)
    have hz_r4 := hf.1
    replace hf := hf.2
    refine tj_if_ne C 26 (by decide) dX0_meal_19 (fun hc => ?_) (fun hc => ?_)
    · replace hf := hf.2 hc
      refine tj_aload_n C 0 rfl rfl dX0_meal_26 ?_
      refine tj_callVa C (k := 1) [] [.ref (xad Γ 1025)] (fun hN => c_X_at (by rw [hN]; exact hX) hf) lk_X0_168 ty_X0_at rfl (Nat.le_of_ble_eq_true rfl) (Nat.le_of_ble_eq_true rfl) (Nat.le_of_ble_eq_true rfl) hX rfl (by decide) rfl rfl dX0_meal_27 (fun S5 hf => ?_)
      refine tj_iload_n C 1 rfl rfl dX0_meal_30 ?_
      refine tj_iload_n C 2 rfl rfl dX0_meal_31 ?_
      refine tj_callVz C (k := 6) [.int a1, .int a2] [.ref (xad Γ 1025)] (fun hN => c_Co_feeds (by rw [hN]; exact ⟨(ne0 (ln_1222 hw hX)), rfl⟩) hf) lk_X0_348 ty_X5_feeds rfl (Nat.le_of_ble_eq_true rfl) (Nat.le_of_ble_eq_true rfl) (Nat.le_of_ble_eq_true rfl) (ne0 (ln_1222 hw hX)) rfl (by decide) rfl rfl dX0_meal_32 (fun r7 S6 hf => ?_)
      have hz_r7 := hf.1
      replace hf := hf.2
      refine tj_if_eq C 42 (by decide) dX0_meal_35 (fun hc => ?_) (fun hc => ?_)
      · replace hf := hf.1 hc
        refine tj_bipush C kb_7 dX0_meal_42 ?_
        exact tj_sub [0, 1] (w_X_meal_b44 C hw hR r hX hf) rfl
      · replace hf := hf.2 hc
        refine tj_iconst C kc_0 dX0_meal_38 ?_
        refine tj_goto C 44 (by decide) dX0_meal_39 ?_
        exact tj_sub [0, 1] (w_X_meal_b44 C hw hR r hX hf) rfl
    · replace hf := hf.1 hc
      exact tj_sub [0, 1] (w_X_meal_b22 C hw hR r hX hf) rfl
theorem c_X_meal {l : Launch} {G : tG} {ad : Nat → Nat} {A : Nat → Prop} {S : tS} {K : Int32 → tS → Prop} {a1 : Int32} {a2 : Int32} (hX : gN S 1025 ≠ 0) (hf : X_meal a1 a2 S K) : Met l yX0_meal (ws_ yX0_meal cX0_meal 3 (some .int)) (tRm 2 62) (va_Pc [.ref (ad 1025), .int a1, .int a2] (tPre G ad A S)) (va_Qi K (tB G ad A (gN S)) A) 0 0 A :=
  tj_met_i [(0, .ref (ad 1025)), (1, .int a1), (2, .int a2)] pn_X0 rfl (Nat.le_of_ble_eq_true rfl) (fun p e R s m args below meth c Q C hw r => w_X_meal_b0 C hw rfl r hX hf)
theorem w_Co_allFed_l4 {Γ : tX} {N0 : Nat → Nat} {K : Int32 → tS → Prop} (C : TC Γ cX5_allFed RX5 0 0) (hw : tWf N0) (hR : xnL Γ = 3) (r : TRi Γ N0 cX5_allFed K) {t0 : Nat} (h_t0 : N0 t0 ≠ 0 ∧ t0 % 32 = 6) : ∀ (n : Nat) (a1 : Int32) (a2 : Int32) (S : tS), Co_allFed_l4 t0 K n a1 a2 S → TJ Γ N0 0 0 4 [(0, .ref (xad Γ t0)), (1, .int a1), (2, .int a2)] [] S := by
  intro n
  induction n with
  | zero => intro a1 a2 S hf; exact hf.elim
  | succ n ih =>
    intro a1 a2 S hf
    unfold Co_allFed_l4 at hf
    refine tj_iload_n C 2 rfl rfl dX5_allFed_4 ?_
    refine tj_aload_n C 0 rfl rfl dX5_allFed_5 ?_
    refine gf_X5_71 C h_t0.2 h_t0.1 dX5_allFed_6 ?_
    refine tj_icmp_ge C 27 (by decide) dX5_allFed_9 (fun hc => ?_) (fun hc => ?_)
    · replace hf := hf.1 hc
      refine tj_iload_n C 1 rfl rfl dX5_allFed_27 ?_
      exact r _ _ _ _ dX5_allFed_28 hf
    · replace hf := hf.2 hc
      refine tj_iload_n C 1 rfl rfl dX5_allFed_12 ?_
      refine tj_aload_n C 0 rfl rfl dX5_allFed_13 ?_
      refine gf_X5_28 C h_t0.2 h_t0.1 dX5_allFed_14 ?_
      refine tj_iload_n C 2 rfl rfl dX5_allFed_17 ?_
      refine tj_iald C (t0 + 202) 6 (by have := h_t0.2; omega) (lnc_202 hw h_t0.2 h_t0.1) _ rfl hf.1 dX5_allFed_18 ?_
      replace hf := hf.2
      refine tj_iadd C dX5_allFed_19 ?_
      refine tj_topi (fun x1 ex => ?_)
      replace hf := hf x1 ex
      refine tj_istore_n C (by rw [hR]; decide) [(1, .int x1), (0, .ref (xad Γ t0)), (2, .int a2)] rfl rfl dX5_allFed_20 ?_
      obtain ⟨x2, ex⟩ : ∃ y : Int32, y = a2 + nI 1 := ⟨_, rfl⟩
      refine tj_iinc C (by rw [hR]; decide) 2 [(2, .int x2), (1, .int x1), (0, .ref (xad Γ t0))] rfl (by rw [ex]; exact ki_1 _) rfl dX5_allFed_21 ?_
      replace hf := hf x2 ex
      refine tj_goto C 4 (by decide) dX5_allFed_24 ?_
      exact tj_sub [2, 1, 0] (ih _ _ _ hf) rfl
theorem w_Co_allFed_b0 {Γ : tX} {N0 : Nat → Nat} {K : Int32 → tS → Prop} (C : TC Γ cX5_allFed RX5 0 0) (hw : tWf N0) (hR : xnL Γ = 3) (r : TRi Γ N0 cX5_allFed K) {t0 : Nat} (h_t0 : N0 t0 ≠ 0 ∧ t0 % 32 = 6) {S : tS} (hf : Co_allFed t0 S K) : TJ Γ N0 0 0 0 [(0, .ref (xad Γ t0))] [] S := by
  unfold Co_allFed at hf
  refine tj_iconst C kc_0 dX5_allFed_0 ?_
  refine tj_istore_n C (by rw [hR]; decide) [(1, .int (nI 0)), (0, .ref (xad Γ t0))] rfl rfl dX5_allFed_1 ?_
  refine tj_iconst C kc_0 dX5_allFed_2 ?_
  refine tj_istore_n C (by rw [hR]; decide) [(2, .int (nI 0)), (1, .int (nI 0)), (0, .ref (xad Γ t0))] rfl rfl dX5_allFed_3 ?_
  exact tj_sub [2, 1, 0] (hf.elim fun k hf => w_Co_allFed_l4 C hw hR r h_t0 k _ _ _ hf) rfl
theorem c_Co_allFed {l : Launch} {G : tG} {ad : Nat → Nat} {A : Nat → Prop} {S : tS} {K : Int32 → tS → Prop} {t0 : Nat} (h_t0 : gN S t0 ≠ 0 ∧ t0 % 32 = 6) (hf : Co_allFed t0 S K) : Met l yX5_allFed (ws_ yX5_allFed cX5_allFed 3 (some .int)) (tRm 0 0) (va_Pc [.ref (ad t0)] (tPre G ad A S)) (va_Qi K (tB G ad A (gN S)) A) 0 0 A :=
  tj_met_i [(0, .ref (ad t0))] pn_X5 rfl (Nat.le_of_ble_eq_true rfl) (fun p e R s m args below meth c Q C hw r => w_Co_allFed_b0 C hw rfl r h_t0 hf)
theorem w_X_moveOf_b73 {Γ : tX} {N0 : Nat → Nat} {K : Int32 → tS → Prop} (C : TC Γ cX0_moveOf RX0 17 444) (hw : tWf N0) (hR : xnL Γ = 3) (r : TRi Γ N0 cX0_moveOf K) {a1 : Int32} {a2 : Int32} (hX : N0 1025 ≠ 0) {s1 : Int32} {S : tS} (hf : X_moveOf_b73 a1 a2 K s1 S) : TJ Γ N0 0 0 73 [] [.int s1, .ref (xad Γ 1025)] S := by
  unfold X_moveOf_b73 at hf
  refine tj_callVi C (k := 1) [.int s1] [] (fun hN => c_X_answer (by rw [hN]; exact hX) hf) lk_X0_292 ty_X0_answer rfl (Nat.le_of_ble_eq_true rfl) (Nat.le_of_ble_eq_true rfl) (Nat.le_of_ble_eq_true rfl) hX rfl (by decide) rfl rfl dX0_moveOf_73 (fun r9 S8 hf => ?_)
  exact r _ _ _ _ dX0_moveOf_76 hf
theorem w_X_moveOf_b28 {Γ : tX} {N0 : Nat → Nat} {K : Int32 → tS → Prop} (C : TC Γ cX0_moveOf RX0 17 444) (hw : tWf N0) (hR : xnL Γ = 3) (r : TRi Γ N0 cX0_moveOf K) {a1 : Int32} {a2 : Int32} (hX : N0 1025 ≠ 0) {s1 : Int32} {S : tS} (hf : X_moveOf_b28 a1 a2 K s1 S) : TJ Γ N0 0 0 28 [(0, .ref (xad Γ 1025)), (1, .int a1), (2, .int a2)] [.int s1, .ref (xad Γ 1025)] S := by
  unfold X_moveOf_b28 at hf
  refine pf_X0_91 C hX dX0_moveOf_28 ?_
  refine tj_topS (fun S5 eS => ?_)
  replace hf := hf S5 eS
  refine tj_aload_n C 0 rfl rfl dX0_moveOf_31 ?_
  refine gf_X0_91 C hX dX0_moveOf_32 ?_
  refine tj_if_le C 40 (by decide) dX0_moveOf_35 (fun hc => ?_) (fun hc => ?_)
  · replace hf := hf.1 hc
    refine tj_aload_n C 0 rfl rfl dX0_moveOf_40 ?_
    refine tj_iload_n C 1 rfl rfl dX0_moveOf_41 ?_
    refine tj_callVi C (k := 1) [.int a1] [] (fun hN => c_X_gameOf (by rw [hN]; exact hX) hf) lk_X0_495 ty_X0_gameOf rfl (Nat.le_of_ble_eq_true rfl) (Nat.le_of_ble_eq_true rfl) (Nat.le_of_ble_eq_true rfl) hX rfl (by decide) rfl rfl dX0_moveOf_42 (fun r7 S6 hf => ?_)
    refine tj_pop C rfl dX0_moveOf_45 ?_
    refine tj_aload_n C 0 rfl rfl dX0_moveOf_46 ?_
    refine tj_aload_n C 0 rfl rfl dX0_moveOf_47 ?_
    refine gf_X0_489 C hX dX0_moveOf_48 ?_
    refine tj_if_ge C 58 (by decide) dX0_moveOf_51 (fun hc => ?_) (fun hc => ?_)
    · replace hf := hf.1 hc
      refine tj_iload_n C 2 rfl rfl dX0_moveOf_58 ?_
      refine tj_if_ne C 69 (by decide) dX0_moveOf_59 (fun hc => ?_) (fun hc => ?_)
      · replace hf := hf.2 hc
        refine tj_aload_n C 0 rfl rfl dX0_moveOf_69 ?_
        refine gf_X0_492 C hX dX0_moveOf_70 ?_
        exact tj_sub [] (w_X_moveOf_b73 C hw hR r hX hf) rfl
      · replace hf := hf.1 hc
        refine tj_aload_n C 0 rfl rfl dX0_moveOf_62 ?_
        refine gf_X0_489 C hX dX0_moveOf_63 ?_
        refine tj_goto C 73 (by decide) dX0_moveOf_66 ?_
        exact tj_sub [] (w_X_moveOf_b73 C hw hR r hX hf) rfl
    · replace hf := hf.2 hc
      refine tj_iconst C kc_m1 dX0_moveOf_54 ?_
      refine tj_goto C 73 (by decide) dX0_moveOf_55 ?_
      exact tj_sub [] (w_X_moveOf_b73 C hw hR r hX hf) rfl
  · replace hf := hf.2 hc
    refine tj_iconst C kc_m1 dX0_moveOf_38 ?_
    exact r _ _ _ _ dX0_moveOf_39 hf
theorem w_X_moveOf_b27 {Γ : tX} {N0 : Nat → Nat} {K : Int32 → tS → Prop} (C : TC Γ cX0_moveOf RX0 17 444) (hw : tWf N0) (hR : xnL Γ = 3) (r : TRi Γ N0 cX0_moveOf K) {a1 : Int32} {a2 : Int32} (hX : N0 1025 ≠ 0) {S : tS} (hf : X_moveOf_b27 a1 a2 K  S) : TJ Γ N0 0 0 27 [(0, .ref (xad Γ 1025)), (1, .int a1), (2, .int a2)] [.ref (xad Γ 1025)] S := by
  unfold X_moveOf_b27 at hf
  refine tj_iconst C kc_1 dX0_moveOf_27 ?_
  exact w_X_moveOf_b28 C hw hR r hX hf
theorem w_X_moveOf_b0 {Γ : tX} {N0 : Nat → Nat} {K : Int32 → tS → Prop} (C : TC Γ cX0_moveOf RX0 17 444) (hw : tWf N0) (hR : xnL Γ = 3) (r : TRi Γ N0 cX0_moveOf K) {a1 : Int32} {a2 : Int32} (hX : N0 1025 ≠ 0) {S : tS} (hf : X_moveOf a1 a2 S K) : TJ Γ N0 0 0 0 [(0, .ref (xad Γ 1025)), (1, .int a1), (2, .int a2)] [] S := by
  unfold X_moveOf at hf
  refine tj_aload_n C 0 rfl rfl dX0_moveOf_0 ?_
  refine tj_iload_n C 1 rfl rfl dX0_moveOf_1 ?_
  refine tj_i2l C dX0_moveOf_2 ?_
  refine tj_lconst C (v := lN 1) rfl dX0_moveOf_3 ?_
  refine tj_ldc2 C kl_X0_388 dX0_moveOf_4 ?_
  refine tj_callSz C [.long (a1.toInt64), .long (lN 1), .long (lN 3)] [.ref (xad Γ 1025)] (fun hN => c_X_isIn hf) lk_X0_175 ty_X0_isIn rfl (Nat.le_of_ble_eq_true rfl) (Nat.le_of_ble_eq_true rfl) (Nat.le_of_ble_eq_true rfl) rfl dX0_moveOf_7 (fun r2 S1 hf => ?_)
  have hz_r2 := hf.1
  replace hf := hf.2
  refine tj_if_eq C 27 (by decide) dX0_moveOf_10 (fun hc => ?_) (fun hc => ?_)
  · replace hf := hf.1 hc
    exact w_X_moveOf_b27 C hw hR r hX hf
  · replace hf := hf.2 hc
    refine tj_iload_n C 2 rfl rfl dX0_moveOf_13 ?_
    refine tj_i2l C dX0_moveOf_14 ?_
    refine tj_lconst C (v := lN 0) rfl dX0_moveOf_15 ?_
    refine tj_lconst C (v := lN 1) rfl dX0_moveOf_16 ?_
    refine tj_callSz C [.long (a2.toInt64), .long (lN 0), .long (lN 1)] [.ref (xad Γ 1025)] (fun hN => c_X_isIn hf) lk_X0_175 ty_X0_isIn rfl (Nat.le_of_ble_eq_true rfl) (Nat.le_of_ble_eq_true rfl) (Nat.le_of_ble_eq_true rfl) rfl dX0_moveOf_17 (fun r4 S3 hf => ?_)
    have hz_r4 := hf.1
    replace hf := hf.2
    refine tj_if_eq C 27 (by decide) dX0_moveOf_20 (fun hc => ?_) (fun hc => ?_)
    · replace hf := hf.1 hc
      exact w_X_moveOf_b27 C hw hR r hX hf
    · replace hf := hf.2 hc
      refine tj_iconst C kc_0 dX0_moveOf_23 ?_
      refine tj_goto C 28 (by decide) dX0_moveOf_24 ?_
      exact w_X_moveOf_b28 C hw hR r hX hf
theorem c_X_moveOf {l : Launch} {G : tG} {ad : Nat → Nat} {A : Nat → Prop} {S : tS} {K : Int32 → tS → Prop} {a1 : Int32} {a2 : Int32} (hX : gN S 1025 ≠ 0) (hf : X_moveOf a1 a2 S K) : Met l yX0_moveOf (ws_ yX0_moveOf cX0_moveOf 3 (some .int)) (tRm 17 444) (va_Pc [.ref (ad 1025), .int a1, .int a2] (tPre G ad A S)) (va_Qi K (tB G ad A (gN S)) A) 0 0 A :=
  tj_met_i [(0, .ref (ad 1025)), (1, .int a1), (2, .int a2)] pn_X0 rfl (Nat.le_of_ble_eq_true rfl) (fun p e R s m args below meth c Q C hw r => w_X_moveOf_b0 C hw rfl r hX hf)
theorem w_X_mute_b0 {Γ : tX} {N0 : Nat → Nat} {K : Int32 → tS → Prop} (C : TC Γ cX0_mute RX0 4 97) (hw : tWf N0) (hR : xnL Γ = 1) (r : TRi Γ N0 cX0_mute K) (hX : N0 1025 ≠ 0) {S : tS} (hf : X_mute S K) : TJ Γ N0 0 0 0 [(0, .ref (xad Γ 1025))] [] S := by
  unfold X_mute at hf
  refine tj_aload_n C 0 rfl rfl dX0_mute_0 ?_
  refine tj_iconst C kc_0 dX0_mute_1 ?_
  refine pf_X0_91 C hX dX0_mute_2 ?_
  refine tj_topS (fun S1 eS => ?_)
  replace hf := hf S1 eS
  refine tj_aload_n C 0 rfl rfl dX0_mute_5 ?_
  refine tj_callVv C (k := 1) [] [] (fun hN => c_X_laysWorlds (by rw [hN]; exact hX) hf) lk_X0_428 ty_X0_laysWorlds rfl (Nat.le_of_ble_eq_true rfl) (Nat.le_of_ble_eq_true rfl) (Nat.le_of_ble_eq_true rfl) hX rfl (by decide) rfl rfl dX0_mute_6 (fun S2 hf => ?_)
  refine tj_aload_n C 0 rfl rfl dX0_mute_9 ?_
  refine gf_X0_76 C hX dX0_mute_10 ?_
  refine tj_aload_n C 0 rfl rfl dX0_mute_13 ?_
  refine tj_callVa C (k := 1) [] [.ref (xad Γ 2352)] (fun hN => c_X_at (by rw [hN]; exact hX) hf) lk_X0_168 ty_X0_at rfl (Nat.le_of_ble_eq_true rfl) (Nat.le_of_ble_eq_true rfl) (Nat.le_of_ble_eq_true rfl) hX rfl (by decide) rfl rfl dX0_mute_14 (fun S3 hf => ?_)
  refine gf_X0_179 C rfl (ne0 (ln_1222 hw hX)) dX0_mute_17 ?_
  refine tj_iald C 2352 7 rfl (ln_2352 hw hX) _ rfl hf.1 dX0_mute_20 ?_
  replace hf := hf.2
  exact r _ _ _ _ dX0_mute_21 hf
theorem c_X_mute {l : Launch} {G : tG} {ad : Nat → Nat} {A : Nat → Prop} {S : tS} {K : Int32 → tS → Prop} (hX : gN S 1025 ≠ 0) (hf : X_mute S K) : Met l yX0_mute (ws_ yX0_mute cX0_mute 1 (some .int)) (tRm 4 97) (va_Pc [.ref (ad 1025)] (tPre G ad A S)) (va_Qi K (tB G ad A (gN S)) A) 0 0 A :=
  tj_met_i [(0, .ref (ad 1025))] pn_X0 rfl (Nat.le_of_ble_eq_true rfl) (fun p e R s m args below meth c Q C hw r => w_X_mute_b0 C hw rfl r hX hf)
theorem w_X_night_b19 {Γ : tX} {N0 : Nat → Nat} {K : Int32 → tS → Prop} (C : TC Γ cX0_night RX0 1 20) (hw : tWf N0) (hR : xnL Γ = 2) (r : TRi Γ N0 cX0_night K) (hX : N0 1025 ≠ 0) {a1 : Int32} {s1 : Int32} {S : tS} (hf : X_night_b19 K a1 s1 S) : TJ Γ N0 0 0 19 [(0, .ref (xad Γ 1025)), (1, .int a1)] [.int s1, .ref (xad Γ 1025)] S := by
  unfold X_night_b19 at hf
  refine pf_X0_91 C hX dX0_night_19 ?_
  refine tj_topS (fun S3 eS => ?_)
  replace hf := hf S3 eS
  refine tj_aload_n C 0 rfl rfl dX0_night_22 ?_
  refine tj_callVa C (k := 1) [] [] (fun hN => c_X_at (by rw [hN]; exact hX) hf) lk_X0_168 ty_X0_at rfl (Nat.le_of_ble_eq_true rfl) (Nat.le_of_ble_eq_true rfl) (Nat.le_of_ble_eq_true rfl) hX rfl (by decide) rfl rfl dX0_night_23 (fun S4 hf => ?_)
  refine tj_iconst C kc_0 dX0_night_26 ?_
  refine pf_X0_245 C rfl (ne0 (ln_1222 hw hX)) dX0_night_27 ?_
  refine tj_topS (fun S5 eS => ?_)
  replace hf := hf S5 eS
  refine tj_iload_n C 1 rfl rfl dX0_night_30 ?_
  refine tj_if_ne C 38 (by decide) dX0_night_31 (fun hc => ?_) (fun hc => ?_)
  · replace hf := hf.2 hc
    refine tj_iload_n C 1 rfl rfl dX0_night_38 ?_
    exact r _ _ _ _ dX0_night_39 hf
  · replace hf := hf.1 hc
    refine tj_iconst C kc_m1 dX0_night_34 ?_
    refine tj_goto C 39 (by decide) dX0_night_35 ?_
    exact r _ _ _ _ dX0_night_39 hf
theorem w_X_night_b0 {Γ : tX} {N0 : Nat → Nat} {K : Int32 → tS → Prop} (C : TC Γ cX0_night RX0 1 20) (hw : tWf N0) (hR : xnL Γ = 2) (r : TRi Γ N0 cX0_night K) (hX : N0 1025 ≠ 0) {S : tS} (hf : X_night S K) : TJ Γ N0 0 0 0 [(0, .ref (xad Γ 1025))] [] S := by
  unfold X_night at hf
  refine tj_aload_n C 0 rfl rfl dX0_night_0 ?_
  refine tj_callVa C (k := 1) [] [] (fun hN => c_X_at (by rw [hN]; exact hX) hf) lk_X0_168 ty_X0_at rfl (Nat.le_of_ble_eq_true rfl) (Nat.le_of_ble_eq_true rfl) (Nat.le_of_ble_eq_true rfl) hX rfl (by decide) rfl rfl dX0_night_1 (fun S1 hf => ?_)
  refine gf_X0_245 C rfl (ne0 (ln_1222 hw hX)) dX0_night_4 ?_
  refine tj_topi (fun x2 ex => ?_)
  replace hf := hf x2 ex
  refine tj_istore_n C (by rw [hR]; decide) [(1, .int x2), (0, .ref (xad Γ 1025))] rfl rfl dX0_night_7 ?_
  refine tj_aload_n C 1 rfl rfl dX0_night_8 ?_
  refine tj_iload_n C 0 rfl rfl dX0_night_9 ?_
  refine tj_if_ne C 18 (by decide) dX0_night_10 (fun hc => ?_) (fun hc => ?_)
  · replace hf := hf.2 hc
    refine tj_iconst C kc_0 dX0_night_18 ?_
    exact tj_sub [1, 0] (w_X_night_b19 C hw hR r hX hf) rfl
  · replace hf := hf.1 hc
    refine tj_bipush C kb_7 dX0_night_13 ?_
    refine tj_goto C 19 (by decide) dX0_night_15 ?_
    exact tj_sub [1, 0] (w_X_night_b19 C hw hR r hX hf) rfl
theorem c_X_night {l : Launch} {G : tG} {ad : Nat → Nat} {A : Nat → Prop} {S : tS} {K : Int32 → tS → Prop} (hX : gN S 1025 ≠ 0) (hf : X_night S K) : Met l yX0_night (ws_ yX0_night cX0_night 2 (some .int)) (tRm 1 20) (va_Pc [.ref (ad 1025)] (tPre G ad A S)) (va_Qi K (tB G ad A (gN S)) A) 0 0 A :=
  tj_met_i [(0, .ref (ad 1025))] pn_X0 rfl (Nat.le_of_ble_eq_true rfl) (fun p e R s m args below meth c Q C hw r => w_X_night_b0 C hw rfl r hX hf)
theorem w_X_odds_b66 {Γ : tX} {N0 : Nat → Nat} {K : Int32 → tS → Prop} (C : TC Γ cX0_odds RX0 6 145) (hw : tWf N0) (hR : xnL Γ = 5) (r : TRz Γ N0 cX0_odds K) {a1 : Int32} {a2 : Int32} {a3 : Int32} (hX : N0 1025 ≠ 0) (hT : (xc Γ).exceptionTable.toList = tableOf [(5, 65, 66, 41)]) {S : tS} (hf : X_odds_b66 a1 a2 a3 K  S) : TJ Γ N0 0 0 66 [(0, .ref (xad Γ 1025))] [.ref (xad Γ 1156)] S := by
  unfold X_odds_b66 at hf
  refine tj_astore C (by rw [hR]; decide) [(4, .ref (xad Γ 1156)), (0, .ref (xad Γ 1025))] rfl dX0_odds_66 ?_
  refine tj_aload_n C 1 rfl rfl dX0_odds_68 ?_
  refine tj_aload C 0 rfl dX0_odds_69 ?_
  refine tj_callVz C (k := 1) [.ref (xad Γ 1156)] [] (fun hN => c_X_no (by rw [hN]; exact hX) hf) lk_X0_129 ty_X0_no rfl (Nat.le_of_ble_eq_true rfl) (Nat.le_of_ble_eq_true rfl) (Nat.le_of_ble_eq_true rfl) hX rfl (by decide) rfl rfl dX0_odds_71 (fun r11 S10 hf => ?_)
  have hz_r11 := hf.1
  replace hf := hf.2
  exact r _ _ _ _ dX0_odds_74 hz_r11 hf
theorem w_X_odds_b35 {Γ : tX} {N0 : Nat → Nat} {K : Int32 → tS → Prop} (C : TC Γ cX0_odds RX0 6 145) (hw : tWf N0) (hR : xnL Γ = 5) (r : TRz Γ N0 cX0_odds K) {a1 : Int32} {a2 : Int32} {a3 : Int32} (hX : N0 1025 ≠ 0) (hT : (xc Γ).exceptionTable.toList = tableOf [(5, 65, 66, 41)]) {s1 : Int32} {S : tS} (hf : X_odds_b35 a1 a2 a3 K s1 S) : TJ Γ N0 0 0 35 [(0, .ref (xad Γ 1025)), (1, .int a1)] [.int s1, .ref (xad Γ 1025)] S := by
  unfold X_odds_b35 at hf
  refine tj_bipush C kb_6 dX0_odds_35 ?_
  refine tj_xVv C (k := 1) [.int s1, .int (nI 6)] [] (fun hN => c_X_want (by rw [hN]; exact hX) hf) lk_X0_116 ty_X0_want rfl (Nat.le_of_ble_eq_true rfl) (Nat.le_of_ble_eq_true rfl) (Nat.le_of_ble_eq_true rfl) hX rfl (by decide) rfl rfl dX0_odds_37 (fun S13 hf => ?_) (fun S12 hf => ?_)
  · refine tj_catch C [] ⟨5, 65, 66, 41⟩ [] hT (fun z hz => nomatch hz) (by decide) (by decide) q287 q289 ?_
    exact tj_sub [0] (w_X_odds_b66 C hw hR r hX hT hf) rfl
  · refine tj_aload_n C 0 rfl rfl dX0_odds_40 ?_
    refine tj_aload_n C 0 rfl rfl dX0_odds_41 ?_
    refine gf_X0_70 C hX dX0_odds_42 ?_
    refine tj_iload_n C 1 rfl rfl dX0_odds_45 ?_
    refine tj_iald C 2288 6 rfl (ln_2288 hw hX) _ rfl hf.1 dX0_odds_46 ?_
    replace hf := hf.2
    refine tj_iconst C kc_1 dX0_odds_47 ?_
    refine tj_ishr C dX0_odds_48 ?_
    refine tj_i2l C dX0_odds_49 ?_
    refine tj_aload_n C 0 rfl rfl dX0_odds_50 ?_
    refine gf_X0_70 C hX dX0_odds_51 ?_
    refine tj_iload_n C 1 rfl rfl dX0_odds_54 ?_
    refine tj_iald C 2288 6 rfl (ln_2288 hw hX) _ rfl hf.1 dX0_odds_55 ?_
    replace hf := hf.2
    refine tj_callSi C [.int (gI S12 2288 (a1.toNatClampNeg))] [.long (((gI S12 2288 (a1.toNatClampNeg)) >>> ((nI 1) &&& 31)).toInt64), .ref (xad Γ 1025)] (fun hN => c_In_bitCount hf) lk_X0_338 ty_J11_bitCount rfl (Nat.le_of_ble_eq_true rfl) (Nat.le_of_ble_eq_true rfl) (Nat.le_of_ble_eq_true rfl) rfl dX0_odds_56 (fun r15 S14 hf => ?_)
    refine tj_i2l C dX0_odds_59 ?_
    refine tj_callVi C (k := 1) [.long (((gI S12 2288 (a1.toNatClampNeg)) >>> ((nI 1) &&& 31)).toInt64), .long (r15.toInt64)] [] (fun hN => c_X_fraction (by rw [hN]; exact hX) hf) lk_X0_406 ty_X0_fraction rfl (Nat.le_of_ble_eq_true rfl) (Nat.le_of_ble_eq_true rfl) (Nat.le_of_ble_eq_true rfl) hX rfl (by decide) rfl rfl dX0_odds_60 (fun r17 S16 hf => ?_)
    refine tj_pop C rfl dX0_odds_63 ?_
    refine tj_iconst C kc_1 dX0_odds_64 ?_
    exact r _ _ _ _ dX0_odds_65 zb1 hf
theorem w_X_odds_b0 {Γ : tX} {N0 : Nat → Nat} {K : Int32 → tS → Prop} (C : TC Γ cX0_odds RX0 6 145) (hw : tWf N0) (hR : xnL Γ = 5) (r : TRz Γ N0 cX0_odds K) {a1 : Int32} {a2 : Int32} {a3 : Int32} (hX : N0 1025 ≠ 0) (hT : (xc Γ).exceptionTable.toList = tableOf [(5, 65, 66, 41)]) {S : tS} (hf : X_odds a1 a2 a3 S K) : TJ Γ N0 0 0 0 [(0, .ref (xad Γ 1025)), (1, .int a1), (2, .int a2), (3, .int a3)] [] S := by
  unfold X_odds at hf
  refine tj_aload_n C 0 rfl rfl dX0_odds_0 ?_
  refine tj_iconst C kc_0 dX0_odds_1 ?_
  refine pf_X0_91 C hX dX0_odds_2 ?_
  refine tj_topS (fun S1 eS => ?_)
  replace hf := hf S1 eS
  refine tj_aload_n C 0 rfl rfl dX0_odds_5 ?_
  refine tj_aload_n C 0 rfl rfl dX0_odds_6 ?_
  refine tj_iload_n C 1 rfl rfl dX0_odds_7 ?_
  refine tj_i2l C dX0_odds_8 ?_
  refine tj_callVz C (k := 1) [.long (a1.toInt64)] [.ref (xad Γ 1025)] (fun hN => c_X_isPerson (by rw [hN]; exact hX) hf) lk_X0_304 ty_X0_isPerson rfl (Nat.le_of_ble_eq_true rfl) (Nat.le_of_ble_eq_true rfl) (Nat.le_of_ble_eq_true rfl) hX rfl (by decide) rfl rfl dX0_odds_9 (fun r3 S2 hf => ?_)
  have hz_r3 := hf.1
  replace hf := hf.2
  refine tj_iconst C kc_1 dX0_odds_12 ?_
  refine tj_xVv C (k := 1) [.int r3, .int (nI 1)] [] (fun hN => c_X_want (by rw [hN]; exact hX) hf) lk_X0_116 ty_X0_want rfl (Nat.le_of_ble_eq_true rfl) (Nat.le_of_ble_eq_true rfl) (Nat.le_of_ble_eq_true rfl) hX rfl (by decide) rfl rfl dX0_odds_13 (fun S5 hf => ?_) (fun S4 hf => ?_)
  · refine tj_catch C [] ⟨5, 65, 66, 41⟩ [] hT (fun z hz => nomatch hz) (by decide) (by decide) q287 q289 ?_
    exact tj_sub [0] (w_X_odds_b66 C hw hR r hX hT hf) rfl
  · refine tj_aload_n C 0 rfl rfl dX0_odds_16 ?_
    refine tj_iload_n C 2 rfl rfl dX0_odds_17 ?_
    refine tj_iload_n C 3 rfl rfl dX0_odds_18 ?_
    refine tj_xVv C (k := 1) [.int a2, .int a3] [] (fun hN => c_X_laysFits (by rw [hN]; exact hX) hf) lk_X0_399 ty_X0_laysFits rfl (Nat.le_of_ble_eq_true rfl) (Nat.le_of_ble_eq_true rfl) (Nat.le_of_ble_eq_true rfl) hX rfl (by decide) rfl rfl dX0_odds_19 (fun S7 hf => ?_) (fun S6 hf => ?_)
    · refine tj_catch C [] ⟨5, 65, 66, 41⟩ [] hT (fun z hz => nomatch hz) (by decide) (by decide) q287 q289 ?_
      exact tj_sub [0] (w_X_odds_b66 C hw hR r hX hT hf) rfl
    · refine tj_aload_n C 0 rfl rfl dX0_odds_22 ?_
      refine tj_aload_n C 0 rfl rfl dX0_odds_23 ?_
      refine tj_callVi C (k := 1) [] [.ref (xad Γ 1025)] (fun hN => c_X_ways (by rw [hN]; exact hX) hf) lk_X0_403 ty_X0_ways rfl (Nat.le_of_ble_eq_true rfl) (Nat.le_of_ble_eq_true rfl) (Nat.le_of_ble_eq_true rfl) hX rfl (by decide) rfl rfl dX0_odds_24 (fun r9 S8 hf => ?_)
      refine tj_if_le C 34 (by decide) dX0_odds_27 (fun hc => ?_) (fun hc => ?_)
      · replace hf := hf.1 hc
        refine tj_iconst C kc_0 dX0_odds_34 ?_
        exact tj_sub [0, 1] (w_X_odds_b35 C hw hR r hX hT hf) rfl
      · replace hf := hf.2 hc
        refine tj_iconst C kc_1 dX0_odds_30 ?_
        refine tj_goto C 35 (by decide) dX0_odds_31 ?_
        exact tj_sub [0, 1] (w_X_odds_b35 C hw hR r hX hT hf) rfl
theorem c_X_odds {l : Launch} {G : tG} {ad : Nat → Nat} {A : Nat → Prop} {S : tS} {K : Int32 → tS → Prop} {a1 : Int32} {a2 : Int32} {a3 : Int32} (hX : gN S 1025 ≠ 0) (hf : X_odds a1 a2 a3 S K) : vx_Met l yX0_odds (wsW_ yX0_odds cX0_odds 5 (some .boolean) [(5, 65, 66, 41)]) (tRm 6 145) (va_Pc [.ref (ad 1025), .int a1, .int a2, .int a3] (tPre G ad A S)) (va_Qi (fun r u => r &&& 1 = r ∧ K r u) (tB G ad A (gN S)) A) (vx_X (fun _ => False) (tBX G ad A (gN S) RX3 1156) A) 0 0 A :=
  tj_xmetW_z [(0, .ref (ad 1025)), (1, .int a1), (2, .int a2), (3, .int a3)] pn_X0 rfl (Nat.le_of_ble_eq_true rfl) (fun p e R s m args below meth c Q C hw hT r => w_X_odds_b0 C hw rfl r hX hT hf)
theorem w_X_orders_b0 {Γ : tX} {d : Nat} {N0 : Nat → Nat} {K : Int32 → tS → Prop} (C : TC Γ cX0_orders RX0 (0 + (d + 1)) (0 + (d + 1) * 20)) (hw : tWf N0) (hR : xnL Γ = 1) (r : TRi Γ N0 cX0_orders K) {a0 : Int32} (hρ : ∀ (a0 : Int32) (S : tS) (K : Int32 → tS → Prop), X_orders d a0 S K → Met (xl Γ) yX0_orders (ws_ yX0_orders cX0_orders 1 (some .int)) (tRm (0 + d) (0 + d * 20)) (va_Pc [.int a0] (tPre (xG Γ) (xad Γ) (xA Γ) S)) (va_Qi K (tB (xG Γ) (xad Γ) (xA Γ) (gN S)) (xA Γ)) 0 0 (xA Γ)) {S : tS} (hf : X_orders (d + 1) a0 S K) : TJ Γ N0 0 0 0 [(0, .int a0)] [] S := by
  unfold X_orders at hf
  refine tj_iload_n C 0 rfl rfl dX0_orders_0 ?_
  refine tj_iconst C kc_2 dX0_orders_1 ?_
  refine tj_icmp_ge C 9 (by decide) dX0_orders_2 (fun hc => ?_) (fun hc => ?_)
  · replace hf := hf.1 hc
    refine tj_iload_n C 0 rfl rfl dX0_orders_9 ?_
    refine tj_iload_n C 0 rfl rfl dX0_orders_10 ?_
    refine tj_iconst C kc_1 dX0_orders_11 ?_
    refine tj_isub C dX0_orders_12 ?_
    refine tj_callSi C [.int (a0 - (nI 1))] [.int a0] (fun hN => hρ _ _ _ hf) lk_X0_446 ty_X0_orders rfl (by omega) (by omega) (Nat.le_of_ble_eq_true rfl) rfl dX0_orders_13 (fun r2 S1 hf => ?_)
    refine tj_imul C dX0_orders_16 ?_
    exact r _ _ _ _ dX0_orders_17 hf
  · replace hf := hf.2 hc
    refine tj_iconst C kc_1 dX0_orders_5 ?_
    refine tj_goto C 17 (by decide) dX0_orders_6 ?_
    exact r _ _ _ _ dX0_orders_17 hf
theorem c_X_orders {l : Launch} {G : tG} {ad : Nat → Nat} {A : Nat → Prop} : ∀ (d : Nat) (a0 : Int32) (S : tS) (K : Int32 → tS → Prop), X_orders d a0 S K → Met l yX0_orders (ws_ yX0_orders cX0_orders 1 (some .int)) (tRm (0 + d) (0 + d * 20)) (va_Pc [.int a0] (tPre G ad A S)) (va_Qi K (tB G ad A (gN S)) A) 0 0 A := by
  intro d
  induction d with
  | zero => intro a0 S K hf; exact hf.elim
  | succ d ih =>
    intro a0 S K hf
    exact tj_met_i [(0, .int a0)] pn_X0 rfl (Nat.le_of_ble_eq_true rfl) (fun p e R s m args below meth c Q C hw r => w_X_orders_b0 C hw rfl r ih hf)
theorem w_X_person_b27 {Γ : tX} {N0 : Nat → Nat} {K : Int32 → tS → Prop} (C : TC Γ cX0_person RX0 2 47) (hw : tWf N0) (hR : xnL Γ = 3) (r : TRi Γ N0 cX0_person K) {a1 : Int32} {a2 : Int32} (hX : N0 1025 ≠ 0) {s1 : Int32} {S : tS} (hf : X_person_b27 a1 a2 K s1 S) : TJ Γ N0 0 0 27 [(0, .ref (xad Γ 1025)), (1, .int a1), (2, .int a2)] [.int s1, .ref (xad Γ 1025)] S := by
  unfold X_person_b27 at hf
  refine pf_X0_91 C hX dX0_person_27 ?_
  refine tj_topS (fun S5 eS => ?_)
  replace hf := hf S5 eS
  refine tj_aload_n C 0 rfl rfl dX0_person_30 ?_
  refine gf_X0_91 C hX dX0_person_31 ?_
  refine tj_if_le C 39 (by decide) dX0_person_34 (fun hc => ?_) (fun hc => ?_)
  · replace hf := hf.1 hc
    refine tj_iload_n C 2 rfl rfl dX0_person_39 ?_
    by_cases h0 : a2 = nI 0
    · replace hf := hf.1 h0
      refine tj_tswIn C 0 (off := 32) 72 (by decide) h0 (by decide) (by decide) (by decide) (by decide) dX0_person_40 ?_
      refine tj_aload_n C 0 rfl rfl dX0_person_72 ?_
      refine tj_callVa C (k := 1) [] [] (fun hN => c_X_at (by rw [hN]; exact hX) hf) lk_X0_168 ty_X0_at rfl (Nat.le_of_ble_eq_true rfl) (Nat.le_of_ble_eq_true rfl) (Nat.le_of_ble_eq_true rfl) hX rfl (by decide) rfl rfl dX0_person_73 (fun S6 hf => ?_)
      refine gf_X0_308 C rfl (ne0 (ln_1222 hw hX)) dX0_person_76 ?_
      refine tj_iload_n C 1 rfl rfl dX0_person_79 ?_
      refine tj_iald C 1424 6 rfl (ln_1424 hw hX) _ rfl hf.1 dX0_person_80 ?_
      replace hf := hf.2
      exact r _ _ _ _ dX0_person_81 hf
    · replace hf := hf.2 h0
      by_cases h1 : a2 = nI 1
      · replace hf := hf.1 h1
        refine tj_tswIn C 1 (off := 42) 82 (by decide) h1 (by decide) (by decide) (by decide) (by decide) dX0_person_40 ?_
        refine tj_aload_n C 0 rfl rfl dX0_person_82 ?_
        refine tj_callVa C (k := 1) [] [] (fun hN => c_X_at (by rw [hN]; exact hX) hf) lk_X0_168 ty_X0_at rfl (Nat.le_of_ble_eq_true rfl) (Nat.le_of_ble_eq_true rfl) (Nat.le_of_ble_eq_true rfl) hX rfl (by decide) rfl rfl dX0_person_83 (fun S7 hf => ?_)
        refine gf_X0_311 C rfl (ne0 (ln_1222 hw hX)) dX0_person_86 ?_
        refine tj_iload_n C 1 rfl rfl dX0_person_89 ?_
        refine tj_iald C 1456 6 rfl (ln_1456 hw hX) _ rfl hf.1 dX0_person_90 ?_
        replace hf := hf.2
        exact r _ _ _ _ dX0_person_91 hf
      · replace hf := hf.2 h1
        by_cases h2 : a2 = nI 2
        · replace hf := hf.1 h2
          refine tj_tswIn C 2 (off := 52) 92 (by decide) h2 (by decide) (by decide) (by decide) (by decide) dX0_person_40 ?_
          refine tj_aload_n C 0 rfl rfl dX0_person_92 ?_
          refine tj_callVa C (k := 1) [] [] (fun hN => c_X_at (by rw [hN]; exact hX) hf) lk_X0_168 ty_X0_at rfl (Nat.le_of_ble_eq_true rfl) (Nat.le_of_ble_eq_true rfl) (Nat.le_of_ble_eq_true rfl) hX rfl (by decide) rfl rfl dX0_person_93 (fun S8 hf => ?_)
          refine gf_X0_314 C rfl (ne0 (ln_1222 hw hX)) dX0_person_96 ?_
          refine tj_iload_n C 1 rfl rfl dX0_person_99 ?_
          refine tj_iald C 1488 6 rfl (ln_1488 hw hX) _ rfl hf.1 dX0_person_100 ?_
          replace hf := hf.2
          exact r _ _ _ _ dX0_person_101 hf
        · replace hf := hf.2 h2
          by_cases h3 : a2 = nI 3
          · replace hf := hf.1 h3
            refine tj_tswIn C 3 (off := 62) 102 (by decide) h3 (by decide) (by decide) (by decide) (by decide) dX0_person_40 ?_
            refine tj_aload_n C 0 rfl rfl dX0_person_102 ?_
            refine tj_callVa C (k := 1) [] [] (fun hN => c_X_at (by rw [hN]; exact hX) hf) lk_X0_168 ty_X0_at rfl (Nat.le_of_ble_eq_true rfl) (Nat.le_of_ble_eq_true rfl) (Nat.le_of_ble_eq_true rfl) hX rfl (by decide) rfl rfl dX0_person_103 (fun S9 hf => ?_)
            refine gf_X0_237 C rfl (ne0 (ln_1222 hw hX)) dX0_person_106 ?_
            refine tj_iload_n C 1 rfl rfl dX0_person_109 ?_
            refine tj_iald C 1520 6 rfl (ln_1520 hw hX) _ rfl hf.1 dX0_person_110 ?_
            replace hf := hf.2
            exact r _ _ _ _ dX0_person_111 hf
          · replace hf := hf.2 h3
            refine tj_tswOut C 0 4 112 (by decide) (fun k hk => match k, hk with | 0, _ => h0 | 1, _ => h1 | 2, _ => h2 | 3, _ => h3 | k + 4, hk => absurd hk (by omega)) (by decide) (by decide) (by decide) dX0_person_40 ?_
            refine tj_aload_n C 0 rfl rfl dX0_person_112 ?_
            refine tj_callVa C (k := 1) [] [] (fun hN => c_X_at (by rw [hN]; exact hX) hf) lk_X0_168 ty_X0_at rfl (Nat.le_of_ble_eq_true rfl) (Nat.le_of_ble_eq_true rfl) (Nat.le_of_ble_eq_true rfl) hX rfl (by decide) rfl rfl dX0_person_113 (fun S10 hf => ?_)
            refine gf_X0_317 C rfl (ne0 (ln_1222 hw hX)) dX0_person_116 ?_
            refine tj_iload_n C 1 rfl rfl dX0_person_119 ?_
            refine tj_iald C 1552 6 rfl (ln_1552 hw hX) _ rfl hf.1 dX0_person_120 ?_
            replace hf := hf.2
            exact r _ _ _ _ dX0_person_121 hf
  · replace hf := hf.2 hc
    refine tj_iconst C kc_m1 dX0_person_37 ?_
    exact r _ _ _ _ dX0_person_38 hf
theorem w_X_person_b26 {Γ : tX} {N0 : Nat → Nat} {K : Int32 → tS → Prop} (C : TC Γ cX0_person RX0 2 47) (hw : tWf N0) (hR : xnL Γ = 3) (r : TRi Γ N0 cX0_person K) {a1 : Int32} {a2 : Int32} (hX : N0 1025 ≠ 0) {S : tS} (hf : X_person_b26 a1 a2 K  S) : TJ Γ N0 0 0 26 [(0, .ref (xad Γ 1025)), (1, .int a1), (2, .int a2)] [.ref (xad Γ 1025)] S := by
  unfold X_person_b26 at hf
  refine tj_iconst C kc_1 dX0_person_26 ?_
  exact w_X_person_b27 C hw hR r hX hf
theorem w_X_person_b0 {Γ : tX} {N0 : Nat → Nat} {K : Int32 → tS → Prop} (C : TC Γ cX0_person RX0 2 47) (hw : tWf N0) (hR : xnL Γ = 3) (r : TRi Γ N0 cX0_person K) {a1 : Int32} {a2 : Int32} (hX : N0 1025 ≠ 0) {S : tS} (hf : X_person a1 a2 S K) : TJ Γ N0 0 0 0 [(0, .ref (xad Γ 1025)), (1, .int a1), (2, .int a2)] [] S := by
  unfold X_person at hf
  refine tj_aload_n C 0 rfl rfl dX0_person_0 ?_
  refine tj_aload_n C 0 rfl rfl dX0_person_1 ?_
  refine tj_iload_n C 1 rfl rfl dX0_person_2 ?_
  refine tj_i2l C dX0_person_3 ?_
  refine tj_callVz C (k := 1) [.long (a1.toInt64)] [.ref (xad Γ 1025)] (fun hN => c_X_isPerson (by rw [hN]; exact hX) hf) lk_X0_304 ty_X0_isPerson rfl (Nat.le_of_ble_eq_true rfl) (Nat.le_of_ble_eq_true rfl) (Nat.le_of_ble_eq_true rfl) hX rfl (by decide) rfl rfl dX0_person_4 (fun r2 S1 hf => ?_)
  have hz_r2 := hf.1
  replace hf := hf.2
  refine tj_if_eq C 26 (by decide) dX0_person_7 (fun hc => ?_) (fun hc => ?_)
  · replace hf := hf.1 hc
    exact w_X_person_b26 C hw hR r hX hf
  · replace hf := hf.2 hc
    refine tj_iload_n C 2 rfl rfl dX0_person_10 ?_
    refine tj_i2l C dX0_person_11 ?_
    refine tj_lconst C (v := lN 0) rfl dX0_person_12 ?_
    refine tj_ldc2 C kl_X0_272 dX0_person_13 ?_
    refine tj_callSz C [.long (a2.toInt64), .long (lN 0), .long (lN 4)] [.ref (xad Γ 1025)] (fun hN => c_X_isIn hf) lk_X0_175 ty_X0_isIn rfl (Nat.le_of_ble_eq_true rfl) (Nat.le_of_ble_eq_true rfl) (Nat.le_of_ble_eq_true rfl) rfl dX0_person_16 (fun r4 S3 hf => ?_)
    have hz_r4 := hf.1
    replace hf := hf.2
    refine tj_if_eq C 26 (by decide) dX0_person_19 (fun hc => ?_) (fun hc => ?_)
    · replace hf := hf.1 hc
      exact w_X_person_b26 C hw hR r hX hf
    · replace hf := hf.2 hc
      refine tj_iconst C kc_0 dX0_person_22 ?_
      refine tj_goto C 27 (by decide) dX0_person_23 ?_
      exact w_X_person_b27 C hw hR r hX hf
theorem c_X_person {l : Launch} {G : tG} {ad : Nat → Nat} {A : Nat → Prop} {S : tS} {K : Int32 → tS → Prop} {a1 : Int32} {a2 : Int32} (hX : gN S 1025 ≠ 0) (hf : X_person a1 a2 S K) : Met l yX0_person (ws_ yX0_person cX0_person 3 (some .int)) (tRm 2 47) (va_Pc [.ref (ad 1025), .int a1, .int a2] (tPre G ad A S)) (va_Qi K (tB G ad A (gN S)) A) 0 0 A :=
  tj_met_i [(0, .ref (ad 1025)), (1, .int a1), (2, .int a2)] pn_X0 rfl (Nat.le_of_ble_eq_true rfl) (fun p e R s m args below meth c Q C hw r => w_X_person_b0 C hw rfl r hX hf)
theorem w_Co_allVotes_l4 {Γ : tX} {N0 : Nat → Nat} {K : Int32 → tS → Prop} (C : TC Γ cX5_allVotes RX5 0 0) (hw : tWf N0) (hR : xnL Γ = 3) (r : TRi Γ N0 cX5_allVotes K) {t0 : Nat} (h_t0 : N0 t0 ≠ 0 ∧ t0 % 32 = 6) : ∀ (n : Nat) (a1 : Int32) (a2 : Int32) (S : tS), Co_allVotes_l4 t0 K n a1 a2 S → TJ Γ N0 0 0 4 [(0, .ref (xad Γ t0)), (1, .int a1), (2, .int a2)] [] S := by
  intro n
  induction n with
  | zero => intro a1 a2 S hf; exact hf.elim
  | succ n ih =>
    intro a1 a2 S hf
    unfold Co_allVotes_l4 at hf
    refine tj_iload_n C 2 rfl rfl dX5_allVotes_4 ?_
    refine tj_aload_n C 0 rfl rfl dX5_allVotes_5 ?_
    refine gf_X5_74 C h_t0.2 h_t0.1 dX5_allVotes_6 ?_
    refine tj_icmp_ge C 27 (by decide) dX5_allVotes_9 (fun hc => ?_) (fun hc => ?_)
    · replace hf := hf.1 hc
      refine tj_iload_n C 1 rfl rfl dX5_allVotes_27 ?_
      exact r _ _ _ _ dX5_allVotes_28 hf
    · replace hf := hf.2 hc
      refine tj_iload_n C 1 rfl rfl dX5_allVotes_12 ?_
      refine tj_aload_n C 0 rfl rfl dX5_allVotes_13 ?_
      refine gf_X5_46 C h_t0.2 h_t0.1 dX5_allVotes_14 ?_
      refine tj_iload_n C 2 rfl rfl dX5_allVotes_17 ?_
      refine tj_iald C (t0 + 394) 6 (by have := h_t0.2; omega) (lnc_394 hw h_t0.2 h_t0.1) _ rfl hf.1 dX5_allVotes_18 ?_
      replace hf := hf.2
      refine tj_iadd C dX5_allVotes_19 ?_
      refine tj_topi (fun x1 ex => ?_)
      replace hf := hf x1 ex
      refine tj_istore_n C (by rw [hR]; decide) [(1, .int x1), (0, .ref (xad Γ t0)), (2, .int a2)] rfl rfl dX5_allVotes_20 ?_
      obtain ⟨x2, ex⟩ : ∃ y : Int32, y = a2 + nI 1 := ⟨_, rfl⟩
      refine tj_iinc C (by rw [hR]; decide) 2 [(2, .int x2), (1, .int x1), (0, .ref (xad Γ t0))] rfl (by rw [ex]; exact ki_1 _) rfl dX5_allVotes_21 ?_
      replace hf := hf x2 ex
      refine tj_goto C 4 (by decide) dX5_allVotes_24 ?_
      exact tj_sub [2, 1, 0] (ih _ _ _ hf) rfl
theorem w_Co_allVotes_b0 {Γ : tX} {N0 : Nat → Nat} {K : Int32 → tS → Prop} (C : TC Γ cX5_allVotes RX5 0 0) (hw : tWf N0) (hR : xnL Γ = 3) (r : TRi Γ N0 cX5_allVotes K) {t0 : Nat} (h_t0 : N0 t0 ≠ 0 ∧ t0 % 32 = 6) {S : tS} (hf : Co_allVotes t0 S K) : TJ Γ N0 0 0 0 [(0, .ref (xad Γ t0))] [] S := by
  unfold Co_allVotes at hf
  refine tj_iconst C kc_0 dX5_allVotes_0 ?_
  refine tj_istore_n C (by rw [hR]; decide) [(1, .int (nI 0)), (0, .ref (xad Γ t0))] rfl rfl dX5_allVotes_1 ?_
  refine tj_iconst C kc_0 dX5_allVotes_2 ?_
  refine tj_istore_n C (by rw [hR]; decide) [(2, .int (nI 0)), (1, .int (nI 0)), (0, .ref (xad Γ t0))] rfl rfl dX5_allVotes_3 ?_
  exact tj_sub [2, 1, 0] (hf.elim fun k hf => w_Co_allVotes_l4 C hw hR r h_t0 k _ _ _ hf) rfl
theorem c_Co_allVotes {l : Launch} {G : tG} {ad : Nat → Nat} {A : Nat → Prop} {S : tS} {K : Int32 → tS → Prop} {t0 : Nat} (h_t0 : gN S t0 ≠ 0 ∧ t0 % 32 = 6) (hf : Co_allVotes t0 S K) : Met l yX5_allVotes (ws_ yX5_allVotes cX5_allVotes 3 (some .int)) (tRm 0 0) (va_Pc [.ref (ad t0)] (tPre G ad A S)) (va_Qi K (tB G ad A (gN S)) A) 0 0 A :=
  tj_met_i [(0, .ref (ad t0))] pn_X5 rfl (Nat.le_of_ble_eq_true rfl) (fun p e R s m args below meth c Q C hw r => w_Co_allVotes_b0 C hw rfl r h_t0 hf)
theorem w_X_pivots_b129 {Γ : tX} {d : Nat} {N0 : Nat → Nat} {K : Int32 → tS → Prop} (C : TC Γ cX0_pivots RX0 (9 + (d + 1)) (180 + (d + 1) * 26)) (hw : tWf N0) (hR : xnL Γ = 7) (r : TRi Γ N0 cX0_pivots K) {a1 : Int32} {a2 : Int32} {a3 : Int32} (hX : N0 1025 ≠ 0) {ρ : Int32 → Int32 → Int32 → tS → (Int32 → tS → Prop) → Prop} (hρ : ∀ (a1 : Int32) (a2 : Int32) (a3 : Int32) (S : tS) (K : Int32 → tS → Prop), (gN S 1025 ≠ 0) → ρ a1 a2 a3 S K → Met (xl Γ) yX0_pivots (ws_ yX0_pivots cX0_pivots 7 (some .int)) (tRm (9 + d) (180 + d * 26)) (va_Pc [.ref (xad Γ 1025), .int a1, .int a2, .int a3] (tPre (xG Γ) (xad Γ) (xA Γ) S)) (va_Qi K (tB (xG Γ) (xad Γ) (xA Γ) (gN S)) (xA Γ)) 0 0 (xA Γ)) {κ6 : Int32 → Int32 → tS → Prop} (hκ6 : ∀ (a4 : Int32) (a5 : Int32) (S : tS), κ6 a4 a5 S → TJ Γ N0 0 0 6 [(0, .ref (xad Γ 1025)), (1, .int a1), (2, .int a2), (3, .int a3), (4, .int a4), (5, .int a5)] [] S) {a4 : Int32} {a5 : Int32} {S : tS} (hf : X_pivots_b129 a1 a2 a3 ρ K κ6 a4 a5 S) : TJ Γ N0 0 0 129 [(0, .ref (xad Γ 1025)), (1, .int a1), (2, .int a2), (3, .int a3), (4, .int a4), (5, .int a5)] [] S := by
  unfold X_pivots_b129 at hf
  obtain ⟨x17, ex⟩ : ∃ y : Int32, y = a5 + nI 1 := ⟨_, rfl⟩
  refine tj_iinc C (by rw [hR]; decide) 5 [(5, .int x17), (0, .ref (xad Γ 1025)), (1, .int a1), (2, .int a2), (3, .int a3), (4, .int a4)] rfl (by rw [ex]; exact ki_1 _) rfl dX0_pivots_129 ?_
  replace hf := hf x17 ex
  refine tj_goto C 6 (by decide) dX0_pivots_132 ?_
  exact tj_sub [1, 2, 3, 4, 5, 0] (hκ6 _ _ _ hf) rfl
theorem w_X_pivots_b95 {Γ : tX} {d : Nat} {N0 : Nat → Nat} {K : Int32 → tS → Prop} (C : TC Γ cX0_pivots RX0 (9 + (d + 1)) (180 + (d + 1) * 26)) (hw : tWf N0) (hR : xnL Γ = 7) (r : TRi Γ N0 cX0_pivots K) {a1 : Int32} {a2 : Int32} {a3 : Int32} (hX : N0 1025 ≠ 0) {ρ : Int32 → Int32 → Int32 → tS → (Int32 → tS → Prop) → Prop} (hρ : ∀ (a1 : Int32) (a2 : Int32) (a3 : Int32) (S : tS) (K : Int32 → tS → Prop), (gN S 1025 ≠ 0) → ρ a1 a2 a3 S K → Met (xl Γ) yX0_pivots (ws_ yX0_pivots cX0_pivots 7 (some .int)) (tRm (9 + d) (180 + d * 26)) (va_Pc [.ref (xad Γ 1025), .int a1, .int a2, .int a3] (tPre (xG Γ) (xad Γ) (xA Γ) S)) (va_Qi K (tB (xG Γ) (xad Γ) (xA Γ) (gN S)) (xA Γ)) 0 0 (xA Γ)) {κ6 : Int32 → Int32 → tS → Prop} (hκ6 : ∀ (a4 : Int32) (a5 : Int32) (S : tS), κ6 a4 a5 S → TJ Γ N0 0 0 6 [(0, .ref (xad Γ 1025)), (1, .int a1), (2, .int a2), (3, .int a3), (4, .int a4), (5, .int a5)] [] S) {a5 : Int32} {s0 : Int32} {s1 : Int32} {S : tS} (hf : X_pivots_b95 a1 a2 a3 ρ K κ6 a5 s0 s1 S) : TJ Γ N0 0 0 95 [(0, .ref (xad Γ 1025)), (1, .int a1), (2, .int a2), (3, .int a3), (5, .int a5)] [.int s1, .int s0] S := by
  unfold X_pivots_b95 at hf
  refine tj_iadd C dX0_pivots_95 ?_
  refine tj_topi (fun x18 ex => ?_)
  replace hf := hf x18 ex
  refine tj_istore C (by rw [hR]; decide) [(4, .int x18), (0, .ref (xad Γ 1025)), (1, .int a1), (2, .int a2), (3, .int a3), (5, .int a5)] rfl dX0_pivots_96 ?_
  refine tj_goto C 129 (by decide) dX0_pivots_98 ?_
  exact tj_sub [1, 2, 3, 4, 0, 5] (w_X_pivots_b129 C hw hR r hX hρ hκ6 hf) rfl
theorem w_X_pivots_b59 {Γ : tX} {d : Nat} {N0 : Nat → Nat} {K : Int32 → tS → Prop} (C : TC Γ cX0_pivots RX0 (9 + (d + 1)) (180 + (d + 1) * 26)) (hw : tWf N0) (hR : xnL Γ = 7) (r : TRi Γ N0 cX0_pivots K) {a1 : Int32} {a2 : Int32} {a3 : Int32} (hX : N0 1025 ≠ 0) {ρ : Int32 → Int32 → Int32 → tS → (Int32 → tS → Prop) → Prop} (hρ : ∀ (a1 : Int32) (a2 : Int32) (a3 : Int32) (S : tS) (K : Int32 → tS → Prop), (gN S 1025 ≠ 0) → ρ a1 a2 a3 S K → Met (xl Γ) yX0_pivots (ws_ yX0_pivots cX0_pivots 7 (some .int)) (tRm (9 + d) (180 + d * 26)) (va_Pc [.ref (xad Γ 1025), .int a1, .int a2, .int a3] (tPre (xG Γ) (xad Γ) (xA Γ) S)) (va_Qi K (tB (xG Γ) (xad Γ) (xA Γ) (gN S)) (xA Γ)) 0 0 (xA Γ)) {κ6 : Int32 → Int32 → tS → Prop} (hκ6 : ∀ (a4 : Int32) (a5 : Int32) (S : tS), κ6 a4 a5 S → TJ Γ N0 0 0 6 [(0, .ref (xad Γ 1025)), (1, .int a1), (2, .int a2), (3, .int a3), (4, .int a4), (5, .int a5)] [] S) {a4 : Int32} {a5 : Int32} {s0 : Int32} {S : tS} (hf : X_pivots_b59 a1 a2 a3 ρ K κ6 a4 a5 s0 S) : TJ Γ N0 0 0 59 [(0, .ref (xad Γ 1025)), (1, .int a1), (2, .int a2), (3, .int a3), (4, .int a4), (5, .int a5)] [.int s0] S := by
  unfold X_pivots_b59 at hf
  refine tj_istore C (by rw [hR]; decide) [(6, .int s0), (0, .ref (xad Γ 1025)), (1, .int a1), (2, .int a2), (3, .int a3), (4, .int a4), (5, .int a5)] rfl dX0_pivots_59 ?_
  refine tj_iload C 0 rfl dX0_pivots_61 ?_
  refine tj_if_eq C 101 (by decide) dX0_pivots_63 (fun hc => ?_) (fun hc => ?_)
  · replace hf := hf.1 hc
    refine tj_iload C 5 rfl dX0_pivots_101 ?_
    refine tj_aload_n C 1 rfl rfl dX0_pivots_103 ?_
    refine tj_iload_n C 2 rfl rfl dX0_pivots_104 ?_
    refine tj_iload_n C 3 rfl rfl dX0_pivots_105 ?_
    refine tj_iconst C kc_1 dX0_pivots_106 ?_
    refine tj_iload C 6 rfl dX0_pivots_107 ?_
    refine tj_ishl C dX0_pivots_109 ?_
    refine tj_ior C dX0_pivots_110 ?_
    refine tj_iload_n C 4 rfl rfl dX0_pivots_111 ?_
    refine tj_aload_n C 1 rfl rfl dX0_pivots_112 ?_
    refine tj_callVa C (k := 1) [] [.int a3, .int (a2 ||| ((nI 1) <<< (a5 &&& 31))), .int a1, .ref (xad Γ 1025), .int a4] (fun hN => c_X_at (by rw [hN]; exact hX) hf) lk_X0_168 ty_X0_at rfl (by omega) (by omega) (Nat.le_of_ble_eq_true rfl) hX rfl (by decide) rfl rfl dX0_pivots_113 (fun S8 hf => ?_)
    refine gf_X0_326 C rfl (ne0 (ln_1222 hw hX)) dX0_pivots_116 ?_
    refine tj_iload C 6 rfl dX0_pivots_119 ?_
    refine tj_iald C 1616 6 rfl (ln_1616 hw hX) _ rfl hf.1 dX0_pivots_121 ?_
    replace hf := hf.2
    refine tj_iadd C dX0_pivots_122 ?_
    refine tj_callVi C (k := 1) [.int a1, .int (a2 ||| ((nI 1) <<< (a5 &&& 31))), .int (a3 + (gI S8 1616 (a5.toNatClampNeg)))] [.int a4] (fun hN => hρ _ _ _ _ _ (by rw [hN]; exact hX) hf) lk_X0_449 ty_X0_pivots rfl (by omega) (by omega) (Nat.le_of_ble_eq_true rfl) hX rfl (by decide) rfl rfl dX0_pivots_123 (fun r10 S9 hf => ?_)
    refine tj_iadd C dX0_pivots_126 ?_
    refine tj_topi (fun x11 ex => ?_)
    replace hf := hf x11 ex
    refine tj_istore C (by rw [hR]; decide) [(4, .int x11), (6, .int s0), (0, .ref (xad Γ 1025)), (1, .int a1), (2, .int a2), (3, .int a3), (5, .int a5)] rfl dX0_pivots_127 ?_
    exact tj_sub [2, 3, 4, 5, 0, 6] (w_X_pivots_b129 C hw hR r hX hρ hκ6 hf) rfl
  · replace hf := hf.2 hc
    refine tj_iload C 5 rfl dX0_pivots_66 ?_
    refine tj_iload C 6 rfl dX0_pivots_68 ?_
    refine tj_iload_n C 2 rfl rfl dX0_pivots_70 ?_
    refine tj_icmp_ne C 94 (by decide) dX0_pivots_71 (fun hc => ?_) (fun hc => ?_)
    · replace hf := hf.2 hc
      refine tj_iconst C kc_0 dX0_pivots_94 ?_
      exact tj_sub [1, 2, 3, 4, 6] (w_X_pivots_b95 C hw hR r hX hρ hκ6 hf) rfl
    · replace hf := hf.1 hc
      refine tj_aload_n C 1 rfl rfl dX0_pivots_74 ?_
      refine tj_callVa C (k := 1) [] [.int a4] (fun hN => c_X_at (by rw [hN]; exact hX) hf) lk_X0_168 ty_X0_at rfl (by omega) (by omega) (Nat.le_of_ble_eq_true rfl) hX rfl (by decide) rfl rfl dX0_pivots_75 (fun S12 hf => ?_)
      refine gf_X0_188 C rfl (ne0 (ln_1222 hw hX)) dX0_pivots_78 ?_
      refine tj_iload_n C 3 rfl rfl dX0_pivots_81 ?_
      refine tj_callSi C [.int a2] [.int (gI S12 1222 4), .int a4] (fun hN => c_In_bitCount hf) lk_X0_338 ty_J11_bitCount rfl (by omega) (by omega) (Nat.le_of_ble_eq_true rfl) rfl dX0_pivots_82 (fun r14 S13 hf => ?_)
      refine tj_isub C dX0_pivots_85 ?_
      refine tj_iconst C kc_1 dX0_pivots_86 ?_
      refine tj_isub C dX0_pivots_87 ?_
      obtain ⟨d, hd8, hf⟩ := hf
      refine tj_callSi C [.int (((gI S12 1222 4) - r14) - (nI 1))] [.int a4] (fun hN => c_X_orders d _ _ _ hf) lk_X0_446 ty_X0_orders rfl (by omega) (by omega) (Nat.le_of_ble_eq_true rfl) rfl dX0_pivots_88 (fun r16 S15 hf => ?_)
      refine tj_goto C 95 (by decide) dX0_pivots_91 ?_
      exact tj_sub [1, 2, 3, 4, 6] (w_X_pivots_b95 C hw hR r hX hρ hκ6 hf) rfl
theorem w_X_pivots_l6 {Γ : tX} {d : Nat} {N0 : Nat → Nat} {K : Int32 → tS → Prop} (C : TC Γ cX0_pivots RX0 (9 + (d + 1)) (180 + (d + 1) * 26)) (hw : tWf N0) (hR : xnL Γ = 7) (r : TRi Γ N0 cX0_pivots K) {a1 : Int32} {a2 : Int32} {a3 : Int32} (hX : N0 1025 ≠ 0) {ρ : Int32 → Int32 → Int32 → tS → (Int32 → tS → Prop) → Prop} (hρ : ∀ (a1 : Int32) (a2 : Int32) (a3 : Int32) (S : tS) (K : Int32 → tS → Prop), (gN S 1025 ≠ 0) → ρ a1 a2 a3 S K → Met (xl Γ) yX0_pivots (ws_ yX0_pivots cX0_pivots 7 (some .int)) (tRm (9 + d) (180 + d * 26)) (va_Pc [.ref (xad Γ 1025), .int a1, .int a2, .int a3] (tPre (xG Γ) (xad Γ) (xA Γ) S)) (va_Qi K (tB (xG Γ) (xad Γ) (xA Γ) (gN S)) (xA Γ)) 0 0 (xA Γ)) : ∀ (n : Nat) (a4 : Int32) (a5 : Int32) (S : tS), X_pivots_l6 a1 a2 a3 ρ K n a4 a5 S → TJ Γ N0 0 0 6 [(0, .ref (xad Γ 1025)), (1, .int a1), (2, .int a2), (3, .int a3), (4, .int a4), (5, .int a5)] [] S := by
  intro n
  induction n with
  | zero => intro a4 a5 S hf; exact hf.elim
  | succ n ih =>
    intro a4 a5 S hf
    unfold X_pivots_l6 at hf
    refine tj_iload C 5 rfl dX0_pivots_6 ?_
    refine tj_aload_n C 0 rfl rfl dX0_pivots_8 ?_
    refine tj_callVa C (k := 1) [] [.int a5] (fun hN => c_X_at (by rw [hN]; exact hX) hf) lk_X0_168 ty_X0_at rfl (by omega) (by omega) (Nat.le_of_ble_eq_true rfl) hX rfl (by decide) rfl rfl dX0_pivots_9 (fun S1 hf => ?_)
    refine gf_X0_188 C rfl (ne0 (ln_1222 hw hX)) dX0_pivots_12 ?_
    refine tj_icmp_ge C 135 (by decide) dX0_pivots_15 (fun hc => ?_) (fun hc => ?_)
    · replace hf := hf.1 hc
      refine tj_iload C 4 rfl dX0_pivots_135 ?_
      exact r _ _ _ _ dX0_pivots_137 hf
    · replace hf := hf.2 hc
      refine tj_iload_n C 2 rfl rfl dX0_pivots_18 ?_
      refine tj_iload C 5 rfl dX0_pivots_19 ?_
      refine tj_callSz C [.int a2, .int a5] [] (fun hN => c_X_has hf) lk_X0_431 ty_X0_has rfl (by omega) (by omega) (Nat.le_of_ble_eq_true rfl) rfl dX0_pivots_21 (fun r3 S2 hf => ?_)
      have hz_r3 := hf.1
      replace hf := hf.2
      refine tj_if_eq C 30 (by decide) dX0_pivots_24 (fun hc => ?_) (fun hc => ?_)
      · replace hf := hf.1 hc
        refine tj_iconst C kc_2 dX0_pivots_30 ?_
        refine tj_iload_n C 3 rfl rfl dX0_pivots_31 ?_
        refine tj_aload_n C 0 rfl rfl dX0_pivots_32 ?_
        refine tj_callVa C (k := 1) [] [.int a3, .int (nI 2)] (fun hN => c_X_at (by rw [hN]; exact hX) hf) lk_X0_168 ty_X0_at rfl (by omega) (by omega) (Nat.le_of_ble_eq_true rfl) hX rfl (by decide) rfl rfl dX0_pivots_33 (fun S4 hf => ?_)
        refine gf_X0_326 C rfl (ne0 (ln_1222 hw hX)) dX0_pivots_36 ?_
        refine tj_iload C 5 rfl dX0_pivots_39 ?_
        refine tj_iald C 1616 6 rfl (ln_1616 hw hX) _ rfl hf.1 dX0_pivots_41 ?_
        replace hf := hf.2
        refine tj_iadd C dX0_pivots_42 ?_
        refine tj_imul C dX0_pivots_43 ?_
        refine tj_aload_n C 0 rfl rfl dX0_pivots_44 ?_
        refine tj_callVa C (k := 1) [] [.int ((nI 2) * (a3 + (gI S4 1616 (a5.toNatClampNeg))))] (fun hN => c_X_at (by rw [hN]; exact hX) hf) lk_X0_168 ty_X0_at rfl (by omega) (by omega) (Nat.le_of_ble_eq_true rfl) hX rfl (by decide) rfl rfl dX0_pivots_45 (fun S5 hf => ?_)
        refine tj_callVi C (k := 6) [] [.int ((nI 2) * (a3 + (gI S4 1616 (a5.toNatClampNeg))))] (fun hN => c_Co_allVotes (by rw [hN]; exact ⟨(ne0 (ln_1222 hw hX)), rfl⟩) hf) lk_X0_255 ty_X5_allVotes rfl (by omega) (by omega) (Nat.le_of_ble_eq_true rfl) (ne0 (ln_1222 hw hX)) rfl (by decide) rfl rfl dX0_pivots_48 (fun r7 S6 hf => ?_)
        refine tj_icmp_le C 58 (by decide) dX0_pivots_51 (fun hc => ?_) (fun hc => ?_)
        · replace hf := hf.1 hc
          refine tj_iconst C kc_0 dX0_pivots_58 ?_
          exact w_X_pivots_b59 C hw hR r hX hρ ih hf
        · replace hf := hf.2 hc
          refine tj_iconst C kc_1 dX0_pivots_54 ?_
          refine tj_goto C 59 (by decide) dX0_pivots_55 ?_
          exact w_X_pivots_b59 C hw hR r hX hρ ih hf
      · replace hf := hf.2 hc
        refine tj_goto C 129 (by decide) dX0_pivots_27 ?_
        exact w_X_pivots_b129 C hw hR r hX hρ ih hf
theorem w_X_pivots_b0 {Γ : tX} {d : Nat} {N0 : Nat → Nat} {K : Int32 → tS → Prop} (C : TC Γ cX0_pivots RX0 (9 + (d + 1)) (180 + (d + 1) * 26)) (hw : tWf N0) (hR : xnL Γ = 7) (r : TRi Γ N0 cX0_pivots K) {a1 : Int32} {a2 : Int32} {a3 : Int32} (hX : N0 1025 ≠ 0) (hρ : ∀ (a1 : Int32) (a2 : Int32) (a3 : Int32) (S : tS) (K : Int32 → tS → Prop), (gN S 1025 ≠ 0) → X_pivots d a1 a2 a3 S K → Met (xl Γ) yX0_pivots (ws_ yX0_pivots cX0_pivots 7 (some .int)) (tRm (9 + d) (180 + d * 26)) (va_Pc [.ref (xad Γ 1025), .int a1, .int a2, .int a3] (tPre (xG Γ) (xad Γ) (xA Γ) S)) (va_Qi K (tB (xG Γ) (xad Γ) (xA Γ) (gN S)) (xA Γ)) 0 0 (xA Γ)) {S : tS} (hf : X_pivots (d + 1) a1 a2 a3 S K) : TJ Γ N0 0 0 0 [(0, .ref (xad Γ 1025)), (1, .int a1), (2, .int a2), (3, .int a3)] [] S := by
  unfold X_pivots at hf
  refine tj_iconst C kc_0 dX0_pivots_0 ?_
  refine tj_istore C (by rw [hR]; decide) [(4, .int (nI 0)), (0, .ref (xad Γ 1025)), (1, .int a1), (2, .int a2), (3, .int a3)] rfl dX0_pivots_1 ?_
  refine tj_iconst C kc_0 dX0_pivots_3 ?_
  refine tj_istore C (by rw [hR]; decide) [(5, .int (nI 0)), (4, .int (nI 0)), (0, .ref (xad Γ 1025)), (1, .int a1), (2, .int a2), (3, .int a3)] rfl dX0_pivots_4 ?_
  exact tj_sub [2, 3, 4, 5, 1, 0] (hf.elim fun k hf => w_X_pivots_l6 C hw hR r hX hρ k _ _ _ hf) rfl
theorem c_X_pivots {l : Launch} {G : tG} {ad : Nat → Nat} {A : Nat → Prop} : ∀ (d : Nat) (a1 : Int32) (a2 : Int32) (a3 : Int32) (S : tS) (K : Int32 → tS → Prop), (gN S 1025 ≠ 0) → X_pivots d a1 a2 a3 S K → Met l yX0_pivots (ws_ yX0_pivots cX0_pivots 7 (some .int)) (tRm (9 + d) (180 + d * 26)) (va_Pc [.ref (ad 1025), .int a1, .int a2, .int a3] (tPre G ad A S)) (va_Qi K (tB G ad A (gN S)) A) 0 0 A := by
  intro d
  induction d with
  | zero => intro a1 a2 a3 S K hX hf; exact hf.elim
  | succ d ih =>
    intro a1 a2 a3 S K hX hf
    exact tj_met_i [(0, .ref (ad 1025)), (1, .int a1), (2, .int a2), (3, .int a3)] pn_X0 rfl (Nat.le_of_ble_eq_true rfl) (fun p e R s m args below meth c Q C hw r => w_X_pivots_b0 C hw rfl r hX ih hf)
theorem w_X_sortOf_b0 {Γ : tX} {N0 : Nat → Nat} {K : Int32 → tS → Prop} (C : TC Γ cX0_sortOf RX0 0 0) (hw : tWf N0) (hR : xnL Γ = 1) (r : TRi Γ N0 cX0_sortOf K) {a0 : Nat} (h_a0 : N0 a0 ≠ 0 ∧ (16 ≤ a0 % 32 ∧ a0 % 32 ≤ 19)) {S : tS} (hf : X_sortOf a0 S K) : TJ Γ N0 0 0 0 [(0, .ref (xad Γ a0))] [] S := by
  unfold X_sortOf at hf
  refine tj_aload_n C 0 rfl rfl dX0_sortOf_0 ?_
  by_cases hk1 : a0 % 32 = 18
  · replace hf := hf.1 hk1
    refine tj_instY C 18 a0 hk1 (by decide) (by decide) rfl h_a0.1 q625 dX0_sortOf_1 ?_
    refine tj_if_eq C 11 (by decide) dX0_sortOf_4 (fun hc => absurd hc (by decide +kernel)) (fun hc => ?_)
    refine tj_iconst C kc_0 dX0_sortOf_7 ?_
    refine tj_goto C 34 (by decide) dX0_sortOf_8 ?_
    exact r _ _ _ _ dX0_sortOf_34 hf
  · replace hf := hf.2 hk1
    refine tj_instN C 18 a0 h_a0.2.1 h_a0.2.2 (by decide) hk1 rfl h_a0.1 q625 dX0_sortOf_1 ?_
    refine tj_if_eq C 11 (by decide) dX0_sortOf_4 (fun hc => ?_) (fun hc => absurd hc (by decide +kernel))
    refine tj_aload_n C 0 rfl rfl dX0_sortOf_11 ?_
    by_cases hk2 : a0 % 32 = 19
    · replace hf := hf.1 hk2
      refine tj_instY C 19 a0 hk2 (by decide) (by decide) rfl h_a0.1 q626 dX0_sortOf_12 ?_
      refine tj_if_eq C 22 (by decide) dX0_sortOf_15 (fun hc => absurd hc (by decide +kernel)) (fun hc => ?_)
      refine tj_iconst C kc_1 dX0_sortOf_18 ?_
      refine tj_goto C 34 (by decide) dX0_sortOf_19 ?_
      exact r _ _ _ _ dX0_sortOf_34 hf
    · replace hf := hf.2 hk2
      refine tj_instN C 19 a0 h_a0.2.1 h_a0.2.2 (by decide) hk2 rfl h_a0.1 q626 dX0_sortOf_12 ?_
      refine tj_if_eq C 22 (by decide) dX0_sortOf_15 (fun hc => ?_) (fun hc => absurd hc (by decide +kernel))
      refine tj_aload_n C 0 rfl rfl dX0_sortOf_22 ?_
      by_cases hk3 : a0 % 32 = 16
      · replace hf := hf.1 hk3
        refine tj_instY C 16 a0 hk3 (by decide) (by decide) rfl h_a0.1 q627 dX0_sortOf_23 ?_
        refine tj_if_eq C 33 (by decide) dX0_sortOf_26 (fun hc => absurd hc (by decide +kernel)) (fun hc => ?_)
        refine tj_iconst C kc_2 dX0_sortOf_29 ?_
        refine tj_goto C 34 (by decide) dX0_sortOf_30 ?_
        exact r _ _ _ _ dX0_sortOf_34 hf
      · replace hf := hf.2 hk3
        refine tj_instN C 16 a0 h_a0.2.1 h_a0.2.2 (by decide) hk3 rfl h_a0.1 q627 dX0_sortOf_23 ?_
        refine tj_if_eq C 33 (by decide) dX0_sortOf_26 (fun hc => ?_) (fun hc => absurd hc (by decide +kernel))
        refine tj_iconst C kc_3 dX0_sortOf_33 ?_
        exact r _ _ _ _ dX0_sortOf_34 hf
theorem c_X_sortOf {l : Launch} {G : tG} {ad : Nat → Nat} {A : Nat → Prop} {S : tS} {K : Int32 → tS → Prop} {a0 : Nat} (h_a0 : gN S a0 ≠ 0 ∧ (16 ≤ a0 % 32 ∧ a0 % 32 ≤ 19)) (hf : X_sortOf a0 S K) : Met l yX0_sortOf (ws_ yX0_sortOf cX0_sortOf 1 (some .int)) (tRm 0 0) (va_Pc [.ref (ad a0)] (tPre G ad A S)) (va_Qi K (tB G ad A (gN S)) A) 0 0 A :=
  tj_met_i [(0, .ref (ad a0))] pn_X0 rfl (Nat.le_of_ble_eq_true rfl) (fun p e R s m args below meth c Q C hw r => w_X_sortOf_b0 C hw rfl r h_a0 hf)
theorem w_X_power_b14 {Γ : tX} {N0 : Nat → Nat} {K : Int32 → tS → Prop} (C : TC Γ cX0_power RX0 18 414) (hw : tWf N0) (hR : xnL Γ = 2) (r : TRz Γ N0 cX0_power K) {a1 : Int32} (hX : N0 1025 ≠ 0) {s1 : Int32} {S : tS} (hf : X_power_b14 a1 K s1 S) : TJ Γ N0 0 0 14 [(0, .ref (xad Γ 1025)), (1, .int a1)] [.int s1, .ref (xad Γ 1025)] S := by
  unfold X_power_b14 at hf
  refine pf_X0_91 C hX dX0_power_14 ?_
  refine tj_topS (fun S3 eS => ?_)
  replace hf := hf S3 eS
  refine tj_aload_n C 0 rfl rfl dX0_power_17 ?_
  refine gf_X0_91 C hX dX0_power_18 ?_
  refine tj_if_le C 26 (by decide) dX0_power_21 (fun hc => ?_) (fun hc => ?_)
  · replace hf := hf.1 hc
    refine tj_aload_n C 0 rfl rfl dX0_power_26 ?_
    refine tj_aload_n C 0 rfl rfl dX0_power_27 ?_
    refine tj_iload_n C 1 rfl rfl dX0_power_28 ?_
    refine tj_iconst C kc_0 dX0_power_29 ?_
    refine tj_iconst C kc_0 dX0_power_30 ?_
    obtain ⟨d, hd8, hf⟩ := hf
    refine tj_callVi C (k := 1) [.int a1, .int (nI 0), .int (nI 0)] [.ref (xad Γ 1025)] (fun hN => c_X_pivots d _ _ _ _ _ (by rw [hN]; exact hX) hf) lk_X0_449 ty_X0_pivots rfl (by omega) (by omega) (Nat.le_of_ble_eq_true rfl) hX rfl (by decide) rfl rfl dX0_power_31 (fun r5 S4 hf => ?_)
    refine tj_i2l C dX0_power_34 ?_
    refine tj_aload_n C 0 rfl rfl dX0_power_35 ?_
    refine tj_callVa C (k := 1) [] [.long (r5.toInt64), .ref (xad Γ 1025)] (fun hN => c_X_at (by rw [hN]; exact hX) hf) lk_X0_168 ty_X0_at rfl (Nat.le_of_ble_eq_true rfl) (Nat.le_of_ble_eq_true rfl) (Nat.le_of_ble_eq_true rfl) hX rfl (by decide) rfl rfl dX0_power_36 (fun S6 hf => ?_)
    refine gf_X0_188 C rfl (ne0 (ln_1222 hw hX)) dX0_power_39 ?_
    obtain ⟨d, hd8, hf⟩ := hf
    refine tj_callSi C [.int (gI S6 1222 4)] [.long (r5.toInt64), .ref (xad Γ 1025)] (fun hN => c_X_orders d _ _ _ hf) lk_X0_446 ty_X0_orders rfl (by omega) (by omega) (Nat.le_of_ble_eq_true rfl) rfl dX0_power_42 (fun r8 S7 hf => ?_)
    refine tj_i2l C dX0_power_45 ?_
    refine tj_callVi C (k := 1) [.long (r5.toInt64), .long (r8.toInt64)] [] (fun hN => c_X_fraction (by rw [hN]; exact hX) hf) lk_X0_406 ty_X0_fraction rfl (Nat.le_of_ble_eq_true rfl) (Nat.le_of_ble_eq_true rfl) (Nat.le_of_ble_eq_true rfl) hX rfl (by decide) rfl rfl dX0_power_46 (fun r10 S9 hf => ?_)
    refine tj_pop C rfl dX0_power_49 ?_
    refine tj_iconst C kc_1 dX0_power_50 ?_
    exact r _ _ _ _ dX0_power_51 zb1 hf
  · replace hf := hf.2 hc
    refine tj_iconst C kc_0 dX0_power_24 ?_
    exact r _ _ _ _ dX0_power_25 zb0 hf
theorem w_X_power_b0 {Γ : tX} {N0 : Nat → Nat} {K : Int32 → tS → Prop} (C : TC Γ cX0_power RX0 18 414) (hw : tWf N0) (hR : xnL Γ = 2) (r : TRz Γ N0 cX0_power K) {a1 : Int32} (hX : N0 1025 ≠ 0) {S : tS} (hf : X_power a1 S K) : TJ Γ N0 0 0 0 [(0, .ref (xad Γ 1025)), (1, .int a1)] [] S := by
  unfold X_power at hf
  refine tj_aload_n C 0 rfl rfl dX0_power_0 ?_
  refine tj_aload_n C 0 rfl rfl dX0_power_1 ?_
  refine tj_iload_n C 1 rfl rfl dX0_power_2 ?_
  refine tj_callVz C (k := 1) [.int a1] [.ref (xad Γ 1025)] (fun hN => c_X_isReader (by rw [hN]; exact hX) hf) lk_X0_320 ty_X0_isReader rfl (Nat.le_of_ble_eq_true rfl) (Nat.le_of_ble_eq_true rfl) (Nat.le_of_ble_eq_true rfl) hX rfl (by decide) rfl rfl dX0_power_3 (fun r2 S1 hf => ?_)
  have hz_r2 := hf.1
  replace hf := hf.2
  refine tj_if_eq C 13 (by decide) dX0_power_6 (fun hc => ?_) (fun hc => ?_)
  · replace hf := hf.1 hc
    refine tj_iconst C kc_1 dX0_power_13 ?_
    exact w_X_power_b14 C hw hR r hX hf
  · replace hf := hf.2 hc
    refine tj_iconst C kc_0 dX0_power_9 ?_
    refine tj_goto C 14 (by decide) dX0_power_10 ?_
    exact w_X_power_b14 C hw hR r hX hf
theorem c_X_power {l : Launch} {G : tG} {ad : Nat → Nat} {A : Nat → Prop} {S : tS} {K : Int32 → tS → Prop} {a1 : Int32} (hX : gN S 1025 ≠ 0) (hf : X_power a1 S K) : Met l yX0_power (ws_ yX0_power cX0_power 2 (some .boolean)) (tRm 18 414) (va_Pc [.ref (ad 1025), .int a1] (tPre G ad A S)) (va_Qi (fun r u => r &&& 1 = r ∧ K r u) (tB G ad A (gN S)) A) 0 0 A :=
  tj_met_z [(0, .ref (ad 1025)), (1, .int a1)] pn_X0 rfl (Nat.le_of_ble_eq_true rfl) (fun p e R s m args below meth c Q C hw r => w_X_power_b0 C hw rfl r hX hf)
theorem w_X_reach_b14 {Γ : tX} {N0 : Nat → Nat} {K : Int32 → tS → Prop} (C : TC Γ cX0_reach RX0 4 97) (hw : tWf N0) (hR : xnL Γ = 2) (r : TRi Γ N0 cX0_reach K) {a1 : Int32} (hX : N0 1025 ≠ 0) {s1 : Int32} {S : tS} (hf : X_reach_b14 a1 K s1 S) : TJ Γ N0 0 0 14 [(0, .ref (xad Γ 1025)), (1, .int a1)] [.int s1, .ref (xad Γ 1025)] S := by
  unfold X_reach_b14 at hf
  refine pf_X0_91 C hX dX0_reach_14 ?_
  refine tj_topS (fun S3 eS => ?_)
  replace hf := hf S3 eS
  refine tj_aload_n C 0 rfl rfl dX0_reach_17 ?_
  refine gf_X0_91 C hX dX0_reach_18 ?_
  refine tj_if_le C 26 (by decide) dX0_reach_21 (fun hc => ?_) (fun hc => ?_)
  · replace hf := hf.1 hc
    refine tj_aload_n C 0 rfl rfl dX0_reach_26 ?_
    refine tj_callVv C (k := 1) [] [] (fun hN => c_X_laysWorlds (by rw [hN]; exact hX) hf) lk_X0_428 ty_X0_laysWorlds rfl (Nat.le_of_ble_eq_true rfl) (Nat.le_of_ble_eq_true rfl) (Nat.le_of_ble_eq_true rfl) hX rfl (by decide) rfl rfl dX0_reach_27 (fun S4 hf => ?_)
    refine tj_aload_n C 0 rfl rfl dX0_reach_30 ?_
    refine gf_X0_73 C hX dX0_reach_31 ?_
    refine tj_iload_n C 1 rfl rfl dX0_reach_34 ?_
    refine tj_iald C 2320 8 rfl (ln_2320 hw hX) _ rfl hf.1 dX0_reach_35 ?_
    replace hf := hf.2
    exact r _ _ _ _ dX0_reach_36 hf
  · replace hf := hf.2 hc
    refine tj_iconst C kc_m1 dX0_reach_24 ?_
    exact r _ _ _ _ dX0_reach_25 hf
theorem w_X_reach_b0 {Γ : tX} {N0 : Nat → Nat} {K : Int32 → tS → Prop} (C : TC Γ cX0_reach RX0 4 97) (hw : tWf N0) (hR : xnL Γ = 2) (r : TRi Γ N0 cX0_reach K) {a1 : Int32} (hX : N0 1025 ≠ 0) {S : tS} (hf : X_reach a1 S K) : TJ Γ N0 0 0 0 [(0, .ref (xad Γ 1025)), (1, .int a1)] [] S := by
  unfold X_reach at hf
  refine tj_aload_n C 0 rfl rfl dX0_reach_0 ?_
  refine tj_aload_n C 0 rfl rfl dX0_reach_1 ?_
  refine tj_iload_n C 1 rfl rfl dX0_reach_2 ?_
  refine tj_callVz C (k := 1) [.int a1] [.ref (xad Γ 1025)] (fun hN => c_X_isRule (by rw [hN]; exact hX) hf) lk_X0_269 ty_X0_isRule rfl (Nat.le_of_ble_eq_true rfl) (Nat.le_of_ble_eq_true rfl) (Nat.le_of_ble_eq_true rfl) hX rfl (by decide) rfl rfl dX0_reach_3 (fun r2 S1 hf => ?_)
  have hz_r2 := hf.1
  replace hf := hf.2
  refine tj_if_eq C 13 (by decide) dX0_reach_6 (fun hc => ?_) (fun hc => ?_)
  · replace hf := hf.1 hc
    refine tj_iconst C kc_1 dX0_reach_13 ?_
    exact w_X_reach_b14 C hw hR r hX hf
  · replace hf := hf.2 hc
    refine tj_iconst C kc_0 dX0_reach_9 ?_
    refine tj_goto C 14 (by decide) dX0_reach_10 ?_
    exact w_X_reach_b14 C hw hR r hX hf
theorem c_X_reach {l : Launch} {G : tG} {ad : Nat → Nat} {A : Nat → Prop} {S : tS} {K : Int32 → tS → Prop} {a1 : Int32} (hX : gN S 1025 ≠ 0) (hf : X_reach a1 S K) : Met l yX0_reach (ws_ yX0_reach cX0_reach 2 (some .int)) (tRm 4 97) (va_Pc [.ref (ad 1025), .int a1] (tPre G ad A S)) (va_Qi K (tB G ad A (gN S)) A) 0 0 A :=
  tj_met_i [(0, .ref (ad 1025)), (1, .int a1)] pn_X0 rfl (Nat.le_of_ble_eq_true rfl) (fun p e R s m args below meth c Q C hw r => w_X_reach_b0 C hw rfl r hX hf)
theorem w_X_read_b25 {Γ : tX} {N0 : Nat → Nat} {K : Int64 → tS → Prop} (C : TC Γ cX0_read RX0 3 64) (hw : tWf N0) (hR : xnL Γ = 4) (r : TRl Γ N0 cX0_read K) {a1 : Int32} {a2 : Int32} (hX : N0 1025 ≠ 0) (hT : (xc Γ).exceptionTable.toList = tableOf [(5, 14, 15, 141), (5, 14, 25, 41)]) {S : tS} (hf : X_read_b25 a1 a2 K  S) : TJ Γ N0 0 0 25 [(0, .ref (xad Γ 1025))] [.ref (xad Γ 1156)] S := by
  unfold X_read_b25 at hf
  refine tj_astore_n C (by rw [hR]; decide) [(3, .ref (xad Γ 1156)), (0, .ref (xad Γ 1025))] rfl rfl dX0_read_25 ?_
  refine tj_aload_n C 1 rfl rfl dX0_read_26 ?_
  refine tj_aload_n C 0 rfl rfl dX0_read_27 ?_
  refine tj_callVi C (k := 1) [.ref (xad Γ 1156)] [] (fun hN => c_X_none (by rw [hN]; exact hX) hf) lk_X0_149 ty_X0_none rfl (Nat.le_of_ble_eq_true rfl) (Nat.le_of_ble_eq_true rfl) (Nat.le_of_ble_eq_true rfl) hX rfl (by decide) rfl rfl dX0_read_28 (fun r8 S7 hf => ?_)
  refine tj_i2l C dX0_read_31 ?_
  exact r _ _ _ _ dX0_read_32 hf
theorem w_X_read_b0 {Γ : tX} {N0 : Nat → Nat} {K : Int64 → tS → Prop} (C : TC Γ cX0_read RX0 3 64) (hw : tWf N0) (hR : xnL Γ = 4) (r : TRl Γ N0 cX0_read K) {a1 : Int32} {a2 : Int32} (hX : N0 1025 ≠ 0) (hT : (xc Γ).exceptionTable.toList = tableOf [(5, 14, 15, 141), (5, 14, 25, 41)]) {S : tS} (hf : X_read a1 a2 S K) : TJ Γ N0 0 0 0 [(0, .ref (xad Γ 1025)), (1, .int a1), (2, .int a2)] [] S := by
  unfold X_read at hf
  refine tj_aload_n C 0 rfl rfl dX0_read_0 ?_
  refine tj_iconst C kc_0 dX0_read_1 ?_
  refine pf_X0_91 C hX dX0_read_2 ?_
  refine tj_topS (fun S1 eS => ?_)
  replace hf := hf S1 eS
  refine tj_aload_n C 0 rfl rfl dX0_read_5 ?_
  refine tj_iload_n C 1 rfl rfl dX0_read_6 ?_
  refine tj_xVa C (k := 1) [.int a1] [] (fun hN => c_X_on (by rw [hN]; exact hX) hf) lk_X0_133 ty_X0_on rfl (Nat.le_of_ble_eq_true rfl) (Nat.le_of_ble_eq_true rfl) (Nat.le_of_ble_eq_true rfl) hX rfl (by decide) rfl rfl dX0_read_7 (fun S3 hf => ?_) (fun t4 S2 hf hN => ?_)
  · refine tj_catch C [⟨5, 14, 15, 141⟩] ⟨5, 14, 25, 41⟩ [] hT (fun z hz => by rw [List.mem_singleton.mp hz]; exact Or.inr ⟨by decide, _, q599, C.K.2.2.1 ("CatWitness$Refused", "java/lang/ArrayIndexOutOfBoundsException") (by decide)⟩) (by decide) (by decide) q287 q289 ?_
    exact tj_sub [0] (w_X_read_b25 C hw hR r hX hT hf) rfl
  · have h_t4 := hf.1
    rw [hN] at h_t4
    replace hf := hf.2
    refine tj_iload_n C 2 rfl rfl dX0_read_10 ?_
    refine tj_callSl C [.ref (xad Γ t4), .int a2] [] (fun hN => c_X_number (by rw [hN]; exact ⟨h_t4.1, h_t4.2⟩) hf) lk_X0_143 ty_X0_number rfl (Nat.le_of_ble_eq_true rfl) (Nat.le_of_ble_eq_true rfl) (Nat.le_of_ble_eq_true rfl) rfl dX0_read_11 (fun r6 S5 hf => ?_)
    exact r _ _ _ _ dX0_read_14 hf
theorem c_X_read {l : Launch} {G : tG} {ad : Nat → Nat} {A : Nat → Prop} {S : tS} {K : Int64 → tS → Prop} {a1 : Int32} {a2 : Int32} (hX : gN S 1025 ≠ 0) (hf : X_read a1 a2 S K) : vx_Met l yX0_read (wsW_ yX0_read cX0_read 4 (some .long) [(5, 14, 15, 141), (5, 14, 25, 41)]) (tRm 3 64) (va_Pc [.ref (ad 1025), .int a1, .int a2] (tPre G ad A S)) (va_Ql K (tB G ad A (gN S)) A) (vx_X (fun _ => False) (tBX G ad A (gN S) RX3 1156) A) 0 0 A :=
  tj_xmetW_l [(0, .ref (ad 1025)), (1, .int a1), (2, .int a2)] pn_X0 rfl (Nat.le_of_ble_eq_true rfl) (fun p e R s m args below meth c Q C hw hT r => w_X_read_b0 C hw rfl r hX hT hf)
theorem w_X_reader_b24 {Γ : tX} {N0 : Nat → Nat} {K : Int32 → tS → Prop} (C : TC Γ cX0_reader RX0 2 46) (hw : tWf N0) (hR : xnL Γ = 3) (r : TRi Γ N0 cX0_reader K) {a1 : Int32} {a2 : Int32} (hX : N0 1025 ≠ 0) {s1 : Int32} {S : tS} (hf : X_reader_b24 a1 a2 K s1 S) : TJ Γ N0 0 0 24 [(0, .ref (xad Γ 1025)), (1, .int a1), (2, .int a2)] [.int s1, .ref (xad Γ 1025)] S := by
  unfold X_reader_b24 at hf
  refine pf_X0_91 C hX dX0_reader_24 ?_
  refine tj_topS (fun S5 eS => ?_)
  replace hf := hf S5 eS
  refine tj_aload_n C 0 rfl rfl dX0_reader_27 ?_
  refine gf_X0_91 C hX dX0_reader_28 ?_
  refine tj_if_le C 38 (by decide) dX0_reader_31 (fun hc => ?_) (fun hc => ?_)
  · replace hf := hf.1 hc
    refine tj_iload_n C 2 rfl rfl dX0_reader_38 ?_
    refine tj_if_ne C 54 (by decide) dX0_reader_39 (fun hc => ?_) (fun hc => ?_)
    · replace hf := hf.2 hc
      refine tj_aload_n C 0 rfl rfl dX0_reader_54 ?_
      refine tj_callVa C (k := 1) [] [] (fun hN => c_X_at (by rw [hN]; exact hX) hf) lk_X0_168 ty_X0_at rfl (Nat.le_of_ble_eq_true rfl) (Nat.le_of_ble_eq_true rfl) (Nat.le_of_ble_eq_true rfl) hX rfl (by decide) rfl rfl dX0_reader_55 (fun S6 hf => ?_)
      refine gf_X0_326 C rfl (ne0 (ln_1222 hw hX)) dX0_reader_58 ?_
      refine tj_iload_n C 1 rfl rfl dX0_reader_61 ?_
      refine tj_iald C 1616 6 rfl (ln_1616 hw hX) _ rfl hf.1 dX0_reader_62 ?_
      replace hf := hf.2
      exact r _ _ _ _ dX0_reader_63 hf
    · replace hf := hf.1 hc
      refine tj_aload_n C 0 rfl rfl dX0_reader_42 ?_
      refine tj_callVa C (k := 1) [] [] (fun hN => c_X_at (by rw [hN]; exact hX) hf) lk_X0_168 ty_X0_at rfl (Nat.le_of_ble_eq_true rfl) (Nat.le_of_ble_eq_true rfl) (Nat.le_of_ble_eq_true rfl) hX rfl (by decide) rfl rfl dX0_reader_43 (fun S7 hf => ?_)
      refine gf_X0_323 C rfl (ne0 (ln_1222 hw hX)) dX0_reader_46 ?_
      refine tj_iload_n C 1 rfl rfl dX0_reader_49 ?_
      refine tj_iald C 1584 6 rfl (ln_1584 hw hX) _ rfl hf.1 dX0_reader_50 ?_
      replace hf := hf.2
      refine tj_goto C 63 (by decide) dX0_reader_51 ?_
      exact r _ _ _ _ dX0_reader_63 hf
  · replace hf := hf.2 hc
    refine tj_iconst C kc_m1 dX0_reader_34 ?_
    refine tj_goto C 63 (by decide) dX0_reader_35 ?_
    exact r _ _ _ _ dX0_reader_63 hf
theorem w_X_reader_b23 {Γ : tX} {N0 : Nat → Nat} {K : Int32 → tS → Prop} (C : TC Γ cX0_reader RX0 2 46) (hw : tWf N0) (hR : xnL Γ = 3) (r : TRi Γ N0 cX0_reader K) {a1 : Int32} {a2 : Int32} (hX : N0 1025 ≠ 0) {S : tS} (hf : X_reader_b23 a1 a2 K  S) : TJ Γ N0 0 0 23 [(0, .ref (xad Γ 1025)), (1, .int a1), (2, .int a2)] [.ref (xad Γ 1025)] S := by
  unfold X_reader_b23 at hf
  refine tj_iconst C kc_1 dX0_reader_23 ?_
  exact w_X_reader_b24 C hw hR r hX hf
theorem w_X_reader_b0 {Γ : tX} {N0 : Nat → Nat} {K : Int32 → tS → Prop} (C : TC Γ cX0_reader RX0 2 46) (hw : tWf N0) (hR : xnL Γ = 3) (r : TRi Γ N0 cX0_reader K) {a1 : Int32} {a2 : Int32} (hX : N0 1025 ≠ 0) {S : tS} (hf : X_reader a1 a2 S K) : TJ Γ N0 0 0 0 [(0, .ref (xad Γ 1025)), (1, .int a1), (2, .int a2)] [] S := by
  unfold X_reader at hf
  refine tj_aload_n C 0 rfl rfl dX0_reader_0 ?_
  refine tj_aload_n C 0 rfl rfl dX0_reader_1 ?_
  refine tj_iload_n C 1 rfl rfl dX0_reader_2 ?_
  refine tj_callVz C (k := 1) [.int a1] [.ref (xad Γ 1025)] (fun hN => c_X_isReader (by rw [hN]; exact hX) hf) lk_X0_320 ty_X0_isReader rfl (Nat.le_of_ble_eq_true rfl) (Nat.le_of_ble_eq_true rfl) (Nat.le_of_ble_eq_true rfl) hX rfl (by decide) rfl rfl dX0_reader_3 (fun r2 S1 hf => ?_)
  have hz_r2 := hf.1
  replace hf := hf.2
  refine tj_if_eq C 23 (by decide) dX0_reader_6 (fun hc => ?_) (fun hc => ?_)
  · replace hf := hf.1 hc
    exact w_X_reader_b23 C hw hR r hX hf
  · replace hf := hf.2 hc
    refine tj_iload_n C 2 rfl rfl dX0_reader_9 ?_
    refine tj_i2l C dX0_reader_10 ?_
    refine tj_lconst C (v := lN 0) rfl dX0_reader_11 ?_
    refine tj_lconst C (v := lN 1) rfl dX0_reader_12 ?_
    refine tj_callSz C [.long (a2.toInt64), .long (lN 0), .long (lN 1)] [.ref (xad Γ 1025)] (fun hN => c_X_isIn hf) lk_X0_175 ty_X0_isIn rfl (Nat.le_of_ble_eq_true rfl) (Nat.le_of_ble_eq_true rfl) (Nat.le_of_ble_eq_true rfl) rfl dX0_reader_13 (fun r4 S3 hf => ?_)
    have hz_r4 := hf.1
    replace hf := hf.2
    refine tj_if_eq C 23 (by decide) dX0_reader_16 (fun hc => ?_) (fun hc => ?_)
    · replace hf := hf.1 hc
      exact w_X_reader_b23 C hw hR r hX hf
    · replace hf := hf.2 hc
      refine tj_iconst C kc_0 dX0_reader_19 ?_
      refine tj_goto C 24 (by decide) dX0_reader_20 ?_
      exact w_X_reader_b24 C hw hR r hX hf
theorem c_X_reader {l : Launch} {G : tG} {ad : Nat → Nat} {A : Nat → Prop} {S : tS} {K : Int32 → tS → Prop} {a1 : Int32} {a2 : Int32} (hX : gN S 1025 ≠ 0) (hf : X_reader a1 a2 S K) : Met l yX0_reader (ws_ yX0_reader cX0_reader 3 (some .int)) (tRm 2 46) (va_Pc [.ref (ad 1025), .int a1, .int a2] (tPre G ad A S)) (va_Qi K (tB G ad A (gN S)) A) 0 0 A :=
  tj_met_i [(0, .ref (ad 1025)), (1, .int a1), (2, .int a2)] pn_X0 rfl (Nat.le_of_ble_eq_true rfl) (fun p e R s m args below meth c Q C hw r => w_X_reader_b0 C hw rfl r hX hf)
