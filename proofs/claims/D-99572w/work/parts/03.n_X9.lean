/-! CatWitness$Step -/
set_option maxRecDepth 100000
def RX9 : String := "CatWitness$Step"
abbrev cX9_init : ByteArray := prog_12_method_1_code
def yX9_init : MethodName := ⟨RX9, "<init>", "()V"⟩
theorem dX9_init_0 : decode cX9_init 0 = .ok (.aload_n 0, 1) := by decide +kernel
theorem dX9_init_1 : decode cX9_init 1 = .ok (.invokespecial 3, 3) := by decide +kernel
theorem dX9_init_4 : decode cX9_init 4 = .ok (.return_, 1) := by decide +kernel
abbrev cX9_go : ByteArray := prog_12_method_3_code
def yX9_go : MethodName := ⟨RX9, "go", "(LCatWitness$Living;)V"⟩
def dkwX9_go_1 : List UInt8 := [180, 0, 9, 4, 96, 181, 0, 9, 42, 43, 182, 0, 22, 177]
abbrev dktX9_go_1 : List UInt8 := dkwX9_go_1 ++ []
def dkwX9_go_0 : List UInt8 := [43, 180, 0, 9, 17, 1, 44, 160, 0, 14, 43, 4, 181, 0, 15, 43, 4, 181, 0, 19, 177, 43, 89]
abbrev dktX9_go_0 : List UInt8 := dkwX9_go_0 ++ dktX9_go_1
theorem dksX9_go_0 : cX9_go.data.toList.drop 0 = dktX9_go_0 := by decide +kernel
theorem dksX9_go_1 : cX9_go.data.toList.drop 23 = dktX9_go_1 := dk_seg dksX9_go_0 23 rfl rfl
theorem dX9_go_0 : decode cX9_go 0 = .ok (.aload_n 1, 1) := dk_43 (dk_at dksX9_go_0 0 rfl rfl)
theorem dX9_go_1 : decode cX9_go 1 = .ok (.getfield 9, 3) := dk_180 0 9 (dk_at dksX9_go_0 1 rfl rfl)
theorem dX9_go_4 : decode cX9_go 4 = .ok (.sipush 300, 3) := dk_17 1 44 (dk_at dksX9_go_0 4 rfl rfl)
theorem dX9_go_7 : decode cX9_go 7 = .ok (.if_icmp .ne 14, 3) := dk_160 0 14 (dk_at dksX9_go_0 7 rfl rfl)
theorem dX9_go_10 : decode cX9_go 10 = .ok (.aload_n 1, 1) := dk_43 (dk_at dksX9_go_0 10 rfl rfl)
theorem dX9_go_11 : decode cX9_go 11 = .ok (.iconst 1, 1) := dk_4 (dk_at dksX9_go_0 11 rfl rfl)
theorem dX9_go_12 : decode cX9_go 12 = .ok (.putfield 15, 3) := dk_181 0 15 (dk_at dksX9_go_0 12 rfl rfl)
theorem dX9_go_15 : decode cX9_go 15 = .ok (.aload_n 1, 1) := dk_43 (dk_at dksX9_go_0 15 rfl rfl)
theorem dX9_go_16 : decode cX9_go 16 = .ok (.iconst 1, 1) := dk_4 (dk_at dksX9_go_0 16 rfl rfl)
theorem dX9_go_17 : decode cX9_go 17 = .ok (.putfield 19, 3) := dk_181 0 19 (dk_at dksX9_go_0 17 rfl rfl)
theorem dX9_go_20 : decode cX9_go 20 = .ok (.return_, 1) := dk_177 (dk_at dksX9_go_0 20 rfl rfl)
theorem dX9_go_21 : decode cX9_go 21 = .ok (.aload_n 1, 1) := dk_43 (dk_at dksX9_go_0 21 rfl rfl)
theorem dX9_go_22 : decode cX9_go 22 = .ok (.dup, 1) := dk_89 (dk_at dksX9_go_0 22 rfl rfl)
theorem dX9_go_23 : decode cX9_go 23 = .ok (.getfield 9, 3) := dk_180 0 9 (dk_at dksX9_go_1 0 rfl rfl)
theorem dX9_go_26 : decode cX9_go 26 = .ok (.iconst 1, 1) := dk_4 (dk_at dksX9_go_1 3 rfl rfl)
theorem dX9_go_27 : decode cX9_go 27 = .ok (.iadd, 1) := dk_96 (dk_at dksX9_go_1 4 rfl rfl)
theorem dX9_go_28 : decode cX9_go 28 = .ok (.putfield 9, 3) := dk_181 0 9 (dk_at dksX9_go_1 5 rfl rfl)
theorem dX9_go_31 : decode cX9_go 31 = .ok (.aload_n 0, 1) := dk_42 (dk_at dksX9_go_1 8 rfl rfl)
theorem dX9_go_32 : decode cX9_go 32 = .ok (.aload_n 1, 1) := dk_43 (dk_at dksX9_go_1 9 rfl rfl)
theorem dX9_go_33 : decode cX9_go 33 = .ok (.invokevirtual 22, 3) := dk_182 0 22 (dk_at dksX9_go_1 10 rfl rfl)
theorem dX9_go_36 : decode cX9_go 36 = .ok (.return_, 1) := dk_177 (dk_at dksX9_go_1 13 rfl rfl)
theorem q188 : (Jvm.Cond.initialized "CatWitness$Step") ∈ lw_all := lw_g (lw_at lw_m1 22 rfl) rfl
theorem q991 : (Jvm.Cond.instanceMethod ({ cls := "CatWitness$Step", name := "<init>", desc := "()V" } : Jvm.MethodName)) ∈ lw_all := lw_g (lw_at lw_m4 105 rfl) rfl
theorem q992 : (Jvm.Cond.code ({ cls := "CatWitness$Step", name := "<init>", desc := "()V" } : Jvm.MethodName) prog_12_method_1_code (1 : Nat) (Option.none : Option Jvm.ClassFile.FieldType)) ∈ lw_all := lw_g (lw_at lw_m4 106 rfl) rfl
theorem q993 : (Jvm.Cond.methodLink "CatWitness$Step" (3 : Nat) ({ cls := "java/lang/Object", name := "<init>", desc := "()V" } : Jvm.MethodName)) ∈ lw_all := lw_g (lw_at lw_m4 107 rfl) rfl
theorem q1488 : (Jvm.Cond.fieldLinkNest "CatWitness$Step" (9 : Nat) "CatWitness$Living" "done" "I" "CatWitness") ∈ lw_tbl := lw_at lw_m6 122 rfl
theorem q1501 : (Jvm.Cond.fieldLinkNest "CatWitness$Step" (15 : Nat) "CatWitness$Living" "isOver" "Z" "CatWitness") ∈ lw_tbl := lw_at lw_m6 135 rfl
theorem q1502 : (Jvm.Cond.fieldLinkNest "CatWitness$Step" (19 : Nat) "CatWitness$Living" "isLeft" "Z" "CatWitness") ∈ lw_tbl := lw_at lw_m6 136 rfl
theorem q1530 : (Jvm.Cond.instanceMethod ({ cls := "CatWitness$Step", name := "go", desc := "(LCatWitness$Living;)V" } : Jvm.MethodName)) ∈ lw_all := lw_g (lw_at lw_m6 164 rfl) rfl
theorem q1531 : (Jvm.Cond.sameMethod "CatWitness$Step" "CatWitness$Step" "go" "(LCatWitness$Living;)V") ∈ lw_all := lw_g (lw_at lw_m6 165 rfl) rfl
theorem q1535 : (Jvm.Cond.code ({ cls := "CatWitness$Step", name := "go", desc := "(LCatWitness$Living;)V" } : Jvm.MethodName) prog_12_method_3_code (2 : Nat) (Option.none : Option Jvm.ClassFile.FieldType)) ∈ lw_all := lw_g (lw_at lw_m6 169 rfl) rfl
theorem q1536 : (Jvm.Cond.methodLink "CatWitness$Step" (22 : Nat) ({ cls := "CatWitness$Step", name := "does", desc := "(LCatWitness$Living;)V" } : Jvm.MethodName)) ∈ lw_all := lw_g (lw_at lw_m6 170 rfl) rfl
theorem q1537 : (Jvm.Cond.declares ({ cls := "CatWitness$Step", name := "does", desc := "(LCatWitness$Living;)V" } : Jvm.MethodName)) ∈ lw_tbl := lw_at lw_m6 171 rfl
theorem q1538 : (Jvm.Cond.sameMethod "CatWitness$Step" "CatWitness$Step" "does" "(LCatWitness$Living;)V") ∈ lw_all := lw_g (lw_at lw_m6 172 rfl) rfl
