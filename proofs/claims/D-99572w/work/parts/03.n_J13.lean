/-! java/util/Arrays -/
set_option maxRecDepth 100000
def RJ13 : String := "java/util/Arrays"
abbrev cJ13_fill : ByteArray := prog_30_method_103_code
def yJ13_fill : MethodName := ⟨RJ13, "fill", "([II)V"⟩
def dkwJ13_fill_0 : List UInt8 := [3, 61, 42, 190, 62, 28, 29, 162, 0, 13, 42, 28, 27, 79, 132, 2, 1, 167, 255, 244, 177]
abbrev dktJ13_fill_0 : List UInt8 := dkwJ13_fill_0 ++ []
theorem dksJ13_fill_0 : cJ13_fill.data.toList.drop 0 = dktJ13_fill_0 := by decide +kernel
theorem dJ13_fill_0 : decode cJ13_fill 0 = .ok (.iconst 0, 1) := dk_3 (dk_at dksJ13_fill_0 0 rfl rfl)
theorem dJ13_fill_1 : decode cJ13_fill 1 = .ok (.istore_n 2, 1) := dk_61 (dk_at dksJ13_fill_0 1 rfl rfl)
theorem dJ13_fill_2 : decode cJ13_fill 2 = .ok (.aload_n 0, 1) := dk_42 (dk_at dksJ13_fill_0 2 rfl rfl)
theorem dJ13_fill_3 : decode cJ13_fill 3 = .ok (.arraylength, 1) := dk_190 (dk_at dksJ13_fill_0 3 rfl rfl)
theorem dJ13_fill_4 : decode cJ13_fill 4 = .ok (.istore_n 3, 1) := dk_62 (dk_at dksJ13_fill_0 4 rfl rfl)
theorem dJ13_fill_5 : decode cJ13_fill 5 = .ok (.iload_n 2, 1) := dk_28 (dk_at dksJ13_fill_0 5 rfl rfl)
theorem dJ13_fill_6 : decode cJ13_fill 6 = .ok (.iload_n 3, 1) := dk_29 (dk_at dksJ13_fill_0 6 rfl rfl)
theorem dJ13_fill_7 : decode cJ13_fill 7 = .ok (.if_icmp .ge 13, 3) := dk_162 0 13 (dk_at dksJ13_fill_0 7 rfl rfl)
theorem dJ13_fill_10 : decode cJ13_fill 10 = .ok (.aload_n 0, 1) := dk_42 (dk_at dksJ13_fill_0 10 rfl rfl)
theorem dJ13_fill_11 : decode cJ13_fill 11 = .ok (.iload_n 2, 1) := dk_28 (dk_at dksJ13_fill_0 11 rfl rfl)
theorem dJ13_fill_12 : decode cJ13_fill 12 = .ok (.iload_n 1, 1) := dk_27 (dk_at dksJ13_fill_0 12 rfl rfl)
theorem dJ13_fill_13 : decode cJ13_fill 13 = .ok (.iastore, 1) := dk_79 (dk_at dksJ13_fill_0 13 rfl rfl)
theorem dJ13_fill_14 : decode cJ13_fill 14 = .ok (.iinc 2 1, 3) := dk_132 2 1 (dk_at dksJ13_fill_0 14 rfl rfl)
theorem dJ13_fill_17 : decode cJ13_fill 17 = .ok (.goto (-12), 3) := dk_167 255 244 (dk_at dksJ13_fill_0 17 rfl rfl)
theorem dJ13_fill_20 : decode cJ13_fill 20 = .ok (.return_, 1) := dk_177 (dk_at dksJ13_fill_0 20 rfl rfl)
theorem q195 : (Jvm.Cond.initialized "java/util/Arrays") ∈ lw_all := lw_g (lw_at lw_m1 29 rfl) rfl
theorem q1356 : (Jvm.Cond.static ({ cls := "java/util/Arrays", name := "fill", desc := "([II)V" } : Jvm.MethodName)) ∈ lw_all := lw_g (lw_at lw_m5 230 rfl) rfl
theorem q1357 : (Jvm.Cond.code ({ cls := "java/util/Arrays", name := "fill", desc := "([II)V" } : Jvm.MethodName) prog_30_method_103_code (4 : Nat) (Option.none : Option Jvm.ClassFile.FieldType)) ∈ lw_all := lw_g (lw_at lw_m5 231 rfl) rfl
