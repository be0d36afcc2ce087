set_option maxRecDepth 100000
theorem w_M_write_b34 {Γ : tX} {N0 : Nat → Nat} {K : Int32 → tS → Prop} (C : TC Γ cX6_write RX6 2 42) (hw : tWf N0) (hR : xnL Γ = 6) (r : TRz Γ N0 cX6_write K) {a1 : Int32} {a2 : Int32} {a3 : Int64} (hM : N0 0 ≠ 0) {a5 : Int32} {S : tS} (hf : M_write_b34 a1 a2 a3 K a5 S) : TJ Γ N0 0 0 34 [(0, .ref (xad Γ 0)), (5, .int a5)] [] S := by
  unfold M_write_b34 at hf
  refine tj_aload_n C 0 rfl rfl dX6_write_34 ?_
  refine tj_iload C 1 rfl dX6_write_35 ?_
  refine tj_callVz C (k := 0) [.int a5] [] (fun hN => c_M_is (by rw [hN]; exact hM) hf) lk_X6_98 ty_X6_is rfl (Nat.le_of_ble_eq_true rfl) (Nat.le_of_ble_eq_true rfl) (Nat.le_of_ble_eq_true rfl) hM rfl (by decide) rfl rfl dX6_write_37 (fun r7 S6 hf => ?_)
  have hz_r7 := hf.1
  replace hf := hf.2
  exact r _ _ _ _ dX6_write_40 hz_r7 hf
theorem w_M_write_b0 {Γ : tX} {N0 : Nat → Nat} {K : Int32 → tS → Prop} (C : TC Γ cX6_write RX6 2 42) (hw : tWf N0) (hR : xnL Γ = 6) (r : TRz Γ N0 cX6_write K) {a1 : Int32} {a2 : Int32} {a3 : Int64} (hM : N0 0 ≠ 0) {S : tS} (hf : M_write a1 a2 a3 S K) : TJ Γ N0 0 0 0 [(0, .ref (xad Γ 0)), (1, .int a1), (2, .int a2), (3, .long a3)] [] S := by
  unfold M_write at hf
  refine tj_aload_n C 0 rfl rfl dX6_write_0 ?_
  refine tj_iload_n C 1 rfl rfl dX6_write_1 ?_
  refine tj_iload_n C 2 rfl rfl dX6_write_2 ?_
  refine tj_callVi C (k := 0) [.int a1, .int a2] [] (fun hN => c_M_wrongPlace (by rw [hN]; exact hM) hf) lk_X6_105 ty_X6_wrongPlace rfl (Nat.le_of_ble_eq_true rfl) (Nat.le_of_ble_eq_true rfl) (Nat.le_of_ble_eq_true rfl) hM rfl (by decide) rfl rfl dX6_write_3 (fun r2 S1 hf => ?_)
  refine tj_istore C (by rw [hR]; decide) [(5, .int r2), (0, .ref (xad Γ 0)), (1, .int a1), (2, .int a2), (3, .long a3)] rfl dX6_write_6 ?_
  refine tj_iload C 0 rfl dX6_write_8 ?_
  refine tj_if_ne C 34 (by decide) dX6_write_10 (fun hc => ?_) (fun hc => ?_)
  · replace hf := hf.2 hc
    exact tj_sub [1, 0] (w_M_write_b34 C hw hR r hM hf) rfl
  · replace hf := hf.1 hc
    refine tj_aload_n C 1 rfl rfl dX6_write_13 ?_
    refine gf_X6_27 C hM dX6_write_14 ?_
    refine tj_bipush C kb_60 dX6_write_17 ?_
    refine tj_iload_n C 2 rfl rfl dX6_write_19 ?_
    refine tj_imul C dX6_write_20 ?_
    refine tj_iload_n C 3 rfl rfl dX6_write_21 ?_
    refine tj_iadd C dX6_write_22 ?_
    refine tj_lload_n C 4 rfl rfl dX6_write_23 ?_
    refine tj_aload_n C 1 rfl rfl dX6_write_24 ?_
    refine gf_X6_21 C hM dX6_write_25 ?_
    refine tj_iload_n C 2 rfl rfl dX6_write_28 ?_
    refine tj_iald C 112 4 rfl (ln_112 hw hM) _ rfl hf.1 dX6_write_29 ?_
    replace hf := hf.2
    refine tj_callSl C [.long a3, .int (gI S1 112 (a1.toNatClampNeg))] [.int (((nI 60) * a1) + a2), .ref (xad Γ 177)] (fun hN => c_M_cut hf) lk_X6_109 ty_X6_cut rfl (Nat.le_of_ble_eq_true rfl) (Nat.le_of_ble_eq_true rfl) (Nat.le_of_ble_eq_true rfl) rfl dX6_write_30 (fun r4 S3 hf => ?_)
    refine tj_last C 177 240 rfl (ln_177 hw hM) _ rfl hf.1 dX6_write_33 ?_
    replace hf := hf.2
    refine tj_topS (fun S5 eS => ?_)
    replace hf := hf S5 eS
    exact tj_sub [1, 0] (w_M_write_b34 C hw hR r hM hf) rfl
theorem c_M_write {l : Launch} {G : tG} {ad : Nat → Nat} {A : Nat → Prop} {S : tS} {K : Int32 → tS → Prop} {a1 : Int32} {a2 : Int32} {a3 : Int64} (hM : gN S 0 ≠ 0) (hf : M_write a1 a2 a3 S K) : Met l yX6_write (ws_ yX6_write cX6_write 6 (some .boolean)) (tRm 2 42) (va_Pc [.ref (ad 0), .int a1, .int a2, .long a3] (tPre G ad A S)) (va_Qi (fun r u => r &&& 1 = r ∧ K r u) (tB G ad A (gN S)) A) 0 0 A :=
  tj_met_z [(0, .ref (ad 0)), (1, .int a1), (2, .int a2), (3, .long a3)] pn_X6 rfl (Nat.le_of_ble_eq_true rfl) (fun p e R s m args below meth c Q C hw r => w_M_write_b0 C hw rfl r hM hf)
