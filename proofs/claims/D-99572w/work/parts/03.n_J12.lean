/-! java/lang/Long -/
set_option maxRecDepth 100000
def RJ12 : String := "java/lang/Long"
abbrev cJ12_signum : ByteArray := prog_21_method_57_code
def yJ12_signum : MethodName := ⟨RJ12, "signum", "(J)I"⟩
def dkwJ12_signum_0 : List UInt8 := [30, 16, 63, 123, 30, 117, 16, 63, 125, 129, 136, 172]
abbrev dktJ12_signum_0 : List UInt8 := dkwJ12_signum_0 ++ []
theorem dksJ12_signum_0 : cJ12_signum.data.toList.drop 0 = dktJ12_signum_0 := by decide +kernel
theorem dJ12_signum_0 : decode cJ12_signum 0 = .ok (.lload_n 0, 1) := dk_30 (dk_at dksJ12_signum_0 0 rfl rfl)
theorem dJ12_signum_1 : decode cJ12_signum 1 = .ok (.bipush 63, 2) := dk_16 63 (dk_at dksJ12_signum_0 1 rfl rfl)
theorem dJ12_signum_3 : decode cJ12_signum 3 = .ok (.lshr, 1) := dk_123 (dk_at dksJ12_signum_0 3 rfl rfl)
theorem dJ12_signum_4 : decode cJ12_signum 4 = .ok (.lload_n 0, 1) := dk_30 (dk_at dksJ12_signum_0 4 rfl rfl)
theorem dJ12_signum_5 : decode cJ12_signum 5 = .ok (.lneg, 1) := dk_117 (dk_at dksJ12_signum_0 5 rfl rfl)
theorem dJ12_signum_6 : decode cJ12_signum 6 = .ok (.bipush 63, 2) := dk_16 63 (dk_at dksJ12_signum_0 6 rfl rfl)
theorem dJ12_signum_8 : decode cJ12_signum 8 = .ok (.lushr, 1) := dk_125 (dk_at dksJ12_signum_0 8 rfl rfl)
theorem dJ12_signum_9 : decode cJ12_signum 9 = .ok (.lor, 1) := dk_129 (dk_at dksJ12_signum_0 9 rfl rfl)
theorem dJ12_signum_10 : decode cJ12_signum 10 = .ok (.l2i, 1) := dk_136 (dk_at dksJ12_signum_0 10 rfl rfl)
theorem dJ12_signum_11 : decode cJ12_signum 11 = .ok (.ireturn, 1) := dk_172 (dk_at dksJ12_signum_0 11 rfl rfl)
theorem q194 : (Jvm.Cond.initialized "java/lang/Long") ∈ lw_all := lw_g (lw_at lw_m1 28 rfl) rfl
theorem q1325 : (Jvm.Cond.static ({ cls := "java/lang/Long", name := "signum", desc := "(J)I" } : Jvm.MethodName)) ∈ lw_all := lw_g (lw_at lw_m5 199 rfl) rfl
theorem q1326 : (Jvm.Cond.code ({ cls := "java/lang/Long", name := "signum", desc := "(J)I" } : Jvm.MethodName) prog_21_method_57_code (2 : Nat) (Option.some Jvm.ClassFile.FieldType.int)) ∈ lw_all := lw_g (lw_at lw_m5 200 rfl) rfl
