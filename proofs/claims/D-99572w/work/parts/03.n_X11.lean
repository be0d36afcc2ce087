/-! CatWitness$Loop -/
set_option maxRecDepth 100000
def RX11 : String := "CatWitness$Loop"
def TX11 : u_T := fun k => match k with
  | 0 => ("CatWitness$Block", "steps", "[LCatWitness$Step;", false)
  | 1 => ("CatWitness$Block", "size", "I", false)
  | _ => ("CatWitness$Loop", "times", "I", true)
def tyX11 : Nat → FieldType := fun k => match k with
  | 0 => .array (.object "CatWitness$Step")
  | 1 => .int
  | _ => .int
abbrev wsX110 : List Cond := u_ws RX11 TX11 3
theorem nmX11 : ∀ a, a < 3 → ∀ b, b < 3 → a ≠ b → (TX11 a).2.1 ≠ (TX11 b).2.1 := by decide +kernel
theorem tyX11_ok : ∀ k, k < 3 → parseFieldDescriptor (TX11 k).2.2.1 = some (tyX11 k) := by decide +kernel
abbrev cX11_init : ByteArray := prog_8_method_1_code
def yX11_init : MethodName := ⟨RX11, "<init>", "(I)V"⟩
def dkwX11_init_0 : List UInt8 := [42, 183, 0, 1, 42, 27, 181, 0, 7, 177]
abbrev dktX11_init_0 : List UInt8 := dkwX11_init_0 ++ []
theorem dksX11_init_0 : cX11_init.data.toList.drop 0 = dktX11_init_0 := by decide +kernel
theorem dX11_init_0 : decode cX11_init 0 = .ok (.aload_n 0, 1) := dk_42 (dk_at dksX11_init_0 0 rfl rfl)
theorem dX11_init_1 : decode cX11_init 1 = .ok (.invokespecial 1, 3) := dk_183 0 1 (dk_at dksX11_init_0 1 rfl rfl)
theorem dX11_init_4 : decode cX11_init 4 = .ok (.aload_n 0, 1) := dk_42 (dk_at dksX11_init_0 4 rfl rfl)
theorem dX11_init_5 : decode cX11_init 5 = .ok (.iload_n 1, 1) := dk_27 (dk_at dksX11_init_0 5 rfl rfl)
theorem dX11_init_6 : decode cX11_init 6 = .ok (.putfield 7, 3) := dk_181 0 7 (dk_at dksX11_init_0 6 rfl rfl)
theorem dX11_init_9 : decode cX11_init 9 = .ok (.return_, 1) := dk_177 (dk_at dksX11_init_0 9 rfl rfl)
abbrev cX11_does : ByteArray := prog_8_method_2_code
def yX11_does : MethodName := ⟨RX11, "does", "(LCatWitness$Living;)V"⟩
def dkwX11_does_1 : List UInt8 := [132, 2, 1, 167, 255, 233, 177]
abbrev dktX11_does_1 : List UInt8 := dkwX11_does_1 ++ []
def dkwX11_does_0 : List UInt8 := [3, 61, 28, 42, 180, 0, 7, 162, 0, 21, 43, 180, 0, 13, 154, 0, 14, 42, 43, 182, 0, 19]
abbrev dktX11_does_0 : List UInt8 := dkwX11_does_0 ++ dktX11_does_1
theorem dksX11_does_0 : cX11_does.data.toList.drop 0 = dktX11_does_0 := by decide +kernel
theorem dksX11_does_1 : cX11_does.data.toList.drop 22 = dktX11_does_1 := dk_seg dksX11_does_0 22 rfl rfl
theorem dX11_does_0 : decode cX11_does 0 = .ok (.iconst 0, 1) := dk_3 (dk_at dksX11_does_0 0 rfl rfl)
theorem dX11_does_1 : decode cX11_does 1 = .ok (.istore_n 2, 1) := dk_61 (dk_at dksX11_does_0 1 rfl rfl)
theorem dX11_does_2 : decode cX11_does 2 = .ok (.iload_n 2, 1) := dk_28 (dk_at dksX11_does_0 2 rfl rfl)
theorem dX11_does_3 : decode cX11_does 3 = .ok (.aload_n 0, 1) := dk_42 (dk_at dksX11_does_0 3 rfl rfl)
theorem dX11_does_4 : decode cX11_does 4 = .ok (.getfield 7, 3) := dk_180 0 7 (dk_at dksX11_does_0 4 rfl rfl)
theorem dX11_does_7 : decode cX11_does 7 = .ok (.if_icmp .ge 21, 3) := dk_162 0 21 (dk_at dksX11_does_0 7 rfl rfl)
theorem dX11_does_10 : decode cX11_does 10 = .ok (.aload_n 1, 1) := dk_43 (dk_at dksX11_does_0 10 rfl rfl)
theorem dX11_does_11 : decode cX11_does 11 = .ok (.getfield 13, 3) := dk_180 0 13 (dk_at dksX11_does_0 11 rfl rfl)
theorem dX11_does_14 : decode cX11_does 14 = .ok (.ifCond .ne 14, 3) := dk_154 0 14 (dk_at dksX11_does_0 14 rfl rfl)
theorem dX11_does_17 : decode cX11_does 17 = .ok (.aload_n 0, 1) := dk_42 (dk_at dksX11_does_0 17 rfl rfl)
theorem dX11_does_18 : decode cX11_does 18 = .ok (.aload_n 1, 1) := dk_43 (dk_at dksX11_does_0 18 rfl rfl)
theorem dX11_does_19 : decode cX11_does 19 = .ok (.invokevirtual 19, 3) := dk_182 0 19 (dk_at dksX11_does_0 19 rfl rfl)
theorem dX11_does_22 : decode cX11_does 22 = .ok (.iinc 2 1, 3) := dk_132 2 1 (dk_at dksX11_does_1 0 rfl rfl)
theorem dX11_does_25 : decode cX11_does 25 = .ok (.goto (-23), 3) := dk_167 255 233 (dk_at dksX11_does_1 3 rfl rfl)
theorem dX11_does_28 : decode cX11_does 28 = .ok (.return_, 1) := dk_177 (dk_at dksX11_does_1 6 rfl rfl)
theorem q190 : (Jvm.Cond.initialized "CatWitness$Loop") ∈ lw_all := lw_g (lw_at lw_m1 24 rfl) rfl
theorem q983 : (Jvm.Cond.instantiable "CatWitness$Loop" (3 : Nat)) ∈ lw_all := lw_g (lw_at lw_m4 97 rfl) rfl
theorem q985 : (Jvm.Cond.instanceMethod ({ cls := "CatWitness$Loop", name := "<init>", desc := "(I)V" } : Jvm.MethodName)) ∈ lw_all := lw_g (lw_at lw_m4 99 rfl) rfl
theorem q986 : (Jvm.Cond.code ({ cls := "CatWitness$Loop", name := "<init>", desc := "(I)V" } : Jvm.MethodName) prog_8_method_1_code (2 : Nat) (Option.none : Option Jvm.ClassFile.FieldType)) ∈ lw_all := lw_g (lw_at lw_m4 100 rfl) rfl
theorem q987 : (Jvm.Cond.methodLinkNest "CatWitness$Loop" (1 : Nat) ({ cls := "CatWitness$Block", name := "<init>", desc := "()V" } : Jvm.MethodName) "CatWitness") ∈ lw_tbl := lw_at lw_m4 101 rfl
theorem q996 : (Jvm.Cond.fieldLink "CatWitness$Loop" (7 : Nat) "CatWitness$Loop" "times" "I") ∈ lw_all := lw_g (lw_at lw_m4 110 rfl) rfl
theorem q999 : (Jvm.Cond.laysFinal "CatWitness$Loop" "CatWitness$Loop" "times" "I") ∈ lw_all := lw_g (lw_at lw_m4 113 rfl) rfl
theorem q1000 : (Jvm.Cond.soleField "CatWitness$Loop" "times") ∈ lw_all := lw_g (lw_at lw_m4 114 rfl) rfl
theorem q1001 : (Jvm.Cond.lays "CatWitness$Loop" "CatWitness$Block" "steps" "[LCatWitness$Step;") ∈ lw_all := lw_g (lw_at lw_m4 115 rfl) rfl
theorem q1003 : (Jvm.Cond.lays "CatWitness$Loop" "CatWitness$Block" "size" "I") ∈ lw_all := lw_g (lw_at lw_m4 117 rfl) rfl
theorem q1005 : (Jvm.Cond.superclass "CatWitness$Loop" "CatWitness$Block") ∈ lw_all := lw_g (lw_at lw_m4 119 rfl) rfl
theorem q1068 : (Jvm.Cond.selects "CatWitness$Loop" ({ cls := "CatWitness$Block", name := "add", desc := "(LCatWitness$Step;)V" } : Jvm.MethodName) ({ cls := "CatWitness$Block", name := "add", desc := "(LCatWitness$Step;)V" } : Jvm.MethodName)) ∈ lw_all := lw_g (lw_at lw_m4 182 rfl) rfl
theorem q1498 : (Jvm.Cond.fieldLinkNest "CatWitness$Loop" (13 : Nat) "CatWitness$Living" "isOver" "Z" "CatWitness") ∈ lw_tbl := lw_at lw_m6 132 rfl
theorem q1524 : (Jvm.Cond.sameMethod "CatWitness$Loop" "CatWitness$Block" "all" "(LCatWitness$Living;)V") ∈ lw_all := lw_g (lw_at lw_m6 158 rfl) rfl
theorem q1526 : (Jvm.Cond.selects "CatWitness$Loop" ({ cls := "CatWitness$Loop", name := "all", desc := "(LCatWitness$Living;)V" } : Jvm.MethodName) ({ cls := "CatWitness$Block", name := "all", desc := "(LCatWitness$Living;)V" } : Jvm.MethodName)) ∈ lw_all := lw_g (lw_at lw_m6 160 rfl) rfl
theorem q1533 : (Jvm.Cond.selects "CatWitness$Loop" ({ cls := "CatWitness$Step", name := "go", desc := "(LCatWitness$Living;)V" } : Jvm.MethodName) ({ cls := "CatWitness$Step", name := "go", desc := "(LCatWitness$Living;)V" } : Jvm.MethodName)) ∈ lw_all := lw_g (lw_at lw_m6 167 rfl) rfl
theorem q1570 : (Jvm.Cond.selects "CatWitness$Loop" ({ cls := "CatWitness$Step", name := "does", desc := "(LCatWitness$Living;)V" } : Jvm.MethodName) ({ cls := "CatWitness$Loop", name := "does", desc := "(LCatWitness$Living;)V" } : Jvm.MethodName)) ∈ lw_all := lw_g (lw_at lw_m6 204 rfl) rfl
theorem q1571 : (Jvm.Cond.instanceMethod ({ cls := "CatWitness$Loop", name := "does", desc := "(LCatWitness$Living;)V" } : Jvm.MethodName)) ∈ lw_all := lw_g (lw_at lw_m6 205 rfl) rfl
theorem q1572 : (Jvm.Cond.code ({ cls := "CatWitness$Loop", name := "does", desc := "(LCatWitness$Living;)V" } : Jvm.MethodName) prog_8_method_2_code (3 : Nat) (Option.none : Option Jvm.ClassFile.FieldType)) ∈ lw_all := lw_g (lw_at lw_m6 206 rfl) rfl
theorem q1573 : (Jvm.Cond.methodLink "CatWitness$Loop" (19 : Nat) ({ cls := "CatWitness$Loop", name := "all", desc := "(LCatWitness$Living;)V" } : Jvm.MethodName)) ∈ lw_all := lw_g (lw_at lw_m6 207 rfl) rfl
theorem q2421 : (Jvm.Cond.castable "CatWitness$Loop" "CatWitness$Step") ∈ lw_tbl := lw_at lw_m10 95 rfl
theorem in_X11 : ∀ w ∈ wsX110, w ∈ lw_all := lw_in wsX110 [1001, 1003, 999] (by decide +kernel) (by decide +kernel)
