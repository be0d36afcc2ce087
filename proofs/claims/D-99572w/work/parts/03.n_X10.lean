/-! CatWitness$Block -/
set_option maxRecDepth 100000
def RX10 : String := "CatWitness$Block"
abbrev cX10_init : ByteArray := prog_4_method_1_code
def yX10_init : MethodName := ⟨RX10, "<init>", "()V"⟩
def dkwX10_init_0 : List UInt8 := [42, 183, 0, 1, 42, 7, 189, 0, 2, 181, 0, 7, 177]
abbrev dktX10_init_0 : List UInt8 := dkwX10_init_0 ++ []
theorem dksX10_init_0 : cX10_init.data.toList.drop 0 = dktX10_init_0 := by decide +kernel
theorem dX10_init_0 : decode cX10_init 0 = .ok (.aload_n 0, 1) := dk_42 (dk_at dksX10_init_0 0 rfl rfl)
theorem dX10_init_1 : decode cX10_init 1 = .ok (.invokespecial 1, 3) := dk_183 0 1 (dk_at dksX10_init_0 1 rfl rfl)
theorem dX10_init_4 : decode cX10_init 4 = .ok (.aload_n 0, 1) := dk_42 (dk_at dksX10_init_0 4 rfl rfl)
theorem dX10_init_5 : decode cX10_init 5 = .ok (.iconst 4, 1) := dk_7 (dk_at dksX10_init_0 5 rfl rfl)
theorem dX10_init_6 : decode cX10_init 6 = .ok (.anewarray 2, 3) := dk_189 0 2 (dk_at dksX10_init_0 6 rfl rfl)
theorem dX10_init_9 : decode cX10_init 9 = .ok (.putfield 7, 3) := dk_181 0 7 (dk_at dksX10_init_0 9 rfl rfl)
theorem dX10_init_12 : decode cX10_init 12 = .ok (.return_, 1) := dk_177 (dk_at dksX10_init_0 12 rfl rfl)
abbrev cX10_add : ByteArray := prog_4_method_2_code
def yX10_add : MethodName := ⟨RX10, "add", "(LCatWitness$Step;)V"⟩
def dkwX10_add_2 : List UInt8 := [180, 0, 13, 43, 83, 42, 89, 180, 0, 13, 4, 96, 181, 0, 13, 177]
abbrev dktX10_add_2 : List UInt8 := dkwX10_add_2 ++ []
def dkwX10_add_1 : List UInt8 := [180, 0, 7, 3, 44, 3, 42, 180, 0, 13, 184, 0, 17, 42, 44, 181, 0, 7, 42, 180, 0, 7, 42]
abbrev dktX10_add_1 : List UInt8 := dkwX10_add_1 ++ dktX10_add_2
def dkwX10_add_0 : List UInt8 := [42, 180, 0, 13, 42, 180, 0, 7, 190, 160, 0, 32, 5, 42, 180, 0, 13, 104, 189, 0, 2, 77, 42]
abbrev dktX10_add_0 : List UInt8 := dkwX10_add_0 ++ dktX10_add_1
theorem dksX10_add_0 : cX10_add.data.toList.drop 0 = dktX10_add_0 := by decide +kernel
theorem dksX10_add_1 : cX10_add.data.toList.drop 23 = dktX10_add_1 := dk_seg dksX10_add_0 23 rfl rfl
theorem dksX10_add_2 : cX10_add.data.toList.drop 46 = dktX10_add_2 := dk_seg dksX10_add_1 23 rfl rfl
theorem dX10_add_0 : decode cX10_add 0 = .ok (.aload_n 0, 1) := dk_42 (dk_at dksX10_add_0 0 rfl rfl)
theorem dX10_add_1 : decode cX10_add 1 = .ok (.getfield 13, 3) := dk_180 0 13 (dk_at dksX10_add_0 1 rfl rfl)
theorem dX10_add_4 : decode cX10_add 4 = .ok (.aload_n 0, 1) := dk_42 (dk_at dksX10_add_0 4 rfl rfl)
theorem dX10_add_5 : decode cX10_add 5 = .ok (.getfield 7, 3) := dk_180 0 7 (dk_at dksX10_add_0 5 rfl rfl)
theorem dX10_add_8 : decode cX10_add 8 = .ok (.arraylength, 1) := dk_190 (dk_at dksX10_add_0 8 rfl rfl)
theorem dX10_add_9 : decode cX10_add 9 = .ok (.if_icmp .ne 32, 3) := dk_160 0 32 (dk_at dksX10_add_0 9 rfl rfl)
theorem dX10_add_12 : decode cX10_add 12 = .ok (.iconst 2, 1) := dk_5 (dk_at dksX10_add_0 12 rfl rfl)
theorem dX10_add_13 : decode cX10_add 13 = .ok (.aload_n 0, 1) := dk_42 (dk_at dksX10_add_0 13 rfl rfl)
theorem dX10_add_14 : decode cX10_add 14 = .ok (.getfield 13, 3) := dk_180 0 13 (dk_at dksX10_add_0 14 rfl rfl)
theorem dX10_add_17 : decode cX10_add 17 = .ok (.imul, 1) := dk_104 (dk_at dksX10_add_0 17 rfl rfl)
theorem dX10_add_18 : decode cX10_add 18 = .ok (.anewarray 2, 3) := dk_189 0 2 (dk_at dksX10_add_0 18 rfl rfl)
theorem dX10_add_21 : decode cX10_add 21 = .ok (.astore_n 2, 1) := dk_77 (dk_at dksX10_add_0 21 rfl rfl)
theorem dX10_add_22 : decode cX10_add 22 = .ok (.aload_n 0, 1) := dk_42 (dk_at dksX10_add_0 22 rfl rfl)
theorem dX10_add_23 : decode cX10_add 23 = .ok (.getfield 7, 3) := dk_180 0 7 (dk_at dksX10_add_1 0 rfl rfl)
theorem dX10_add_26 : decode cX10_add 26 = .ok (.iconst 0, 1) := dk_3 (dk_at dksX10_add_1 3 rfl rfl)
theorem dX10_add_27 : decode cX10_add 27 = .ok (.aload_n 2, 1) := dk_44 (dk_at dksX10_add_1 4 rfl rfl)
theorem dX10_add_28 : decode cX10_add 28 = .ok (.iconst 0, 1) := dk_3 (dk_at dksX10_add_1 5 rfl rfl)
theorem dX10_add_29 : decode cX10_add 29 = .ok (.aload_n 0, 1) := dk_42 (dk_at dksX10_add_1 6 rfl rfl)
theorem dX10_add_30 : decode cX10_add 30 = .ok (.getfield 13, 3) := dk_180 0 13 (dk_at dksX10_add_1 7 rfl rfl)
theorem dX10_add_33 : decode cX10_add 33 = .ok (.invokestatic 17, 3) := dk_184 0 17 (dk_at dksX10_add_1 10 rfl rfl)
theorem dX10_add_36 : decode cX10_add 36 = .ok (.aload_n 0, 1) := dk_42 (dk_at dksX10_add_1 13 rfl rfl)
theorem dX10_add_37 : decode cX10_add 37 = .ok (.aload_n 2, 1) := dk_44 (dk_at dksX10_add_1 14 rfl rfl)
theorem dX10_add_38 : decode cX10_add 38 = .ok (.putfield 7, 3) := dk_181 0 7 (dk_at dksX10_add_1 15 rfl rfl)
theorem dX10_add_41 : decode cX10_add 41 = .ok (.aload_n 0, 1) := dk_42 (dk_at dksX10_add_1 18 rfl rfl)
theorem dX10_add_42 : decode cX10_add 42 = .ok (.getfield 7, 3) := dk_180 0 7 (dk_at dksX10_add_1 19 rfl rfl)
theorem dX10_add_45 : decode cX10_add 45 = .ok (.aload_n 0, 1) := dk_42 (dk_at dksX10_add_1 22 rfl rfl)
theorem dX10_add_46 : decode cX10_add 46 = .ok (.getfield 13, 3) := dk_180 0 13 (dk_at dksX10_add_2 0 rfl rfl)
theorem dX10_add_49 : decode cX10_add 49 = .ok (.aload_n 1, 1) := dk_43 (dk_at dksX10_add_2 3 rfl rfl)
theorem dX10_add_50 : decode cX10_add 50 = .ok (.aastore, 1) := dk_83 (dk_at dksX10_add_2 4 rfl rfl)
theorem dX10_add_51 : decode cX10_add 51 = .ok (.aload_n 0, 1) := dk_42 (dk_at dksX10_add_2 5 rfl rfl)
theorem dX10_add_52 : decode cX10_add 52 = .ok (.dup, 1) := dk_89 (dk_at dksX10_add_2 6 rfl rfl)
theorem dX10_add_53 : decode cX10_add 53 = .ok (.getfield 13, 3) := dk_180 0 13 (dk_at dksX10_add_2 7 rfl rfl)
theorem dX10_add_56 : decode cX10_add 56 = .ok (.iconst 1, 1) := dk_4 (dk_at dksX10_add_2 10 rfl rfl)
theorem dX10_add_57 : decode cX10_add 57 = .ok (.iadd, 1) := dk_96 (dk_at dksX10_add_2 11 rfl rfl)
theorem dX10_add_58 : decode cX10_add 58 = .ok (.putfield 13, 3) := dk_181 0 13 (dk_at dksX10_add_2 12 rfl rfl)
theorem dX10_add_61 : decode cX10_add 61 = .ok (.return_, 1) := dk_177 (dk_at dksX10_add_2 15 rfl rfl)
abbrev cX10_all : ByteArray := prog_4_method_3_code
def yX10_all : MethodName := ⟨RX10, "all", "(LCatWitness$Living;)V"⟩
def dkwX10_all_1 : List UInt8 := [182, 0, 29, 132, 2, 1, 167, 255, 228, 177]
abbrev dktX10_all_1 : List UInt8 := dkwX10_all_1 ++ []
def dkwX10_all_0 : List UInt8 := [3, 61, 28, 42, 180, 0, 13, 162, 0, 26, 43, 180, 0, 23, 154, 0, 19, 42, 180, 0, 7, 28, 50, 43]
abbrev dktX10_all_0 : List UInt8 := dkwX10_all_0 ++ dktX10_all_1
theorem dksX10_all_0 : cX10_all.data.toList.drop 0 = dktX10_all_0 := by decide +kernel
theorem dksX10_all_1 : cX10_all.data.toList.drop 24 = dktX10_all_1 := dk_seg dksX10_all_0 24 rfl rfl
theorem dX10_all_0 : decode cX10_all 0 = .ok (.iconst 0, 1) := dk_3 (dk_at dksX10_all_0 0 rfl rfl)
theorem dX10_all_1 : decode cX10_all 1 = .ok (.istore_n 2, 1) := dk_61 (dk_at dksX10_all_0 1 rfl rfl)
theorem dX10_all_2 : decode cX10_all 2 = .ok (.iload_n 2, 1) := dk_28 (dk_at dksX10_all_0 2 rfl rfl)
theorem dX10_all_3 : decode cX10_all 3 = .ok (.aload_n 0, 1) := dk_42 (dk_at dksX10_all_0 3 rfl rfl)
theorem dX10_all_4 : decode cX10_all 4 = .ok (.getfield 13, 3) := dk_180 0 13 (dk_at dksX10_all_0 4 rfl rfl)
theorem dX10_all_7 : decode cX10_all 7 = .ok (.if_icmp .ge 26, 3) := dk_162 0 26 (dk_at dksX10_all_0 7 rfl rfl)
theorem dX10_all_10 : decode cX10_all 10 = .ok (.aload_n 1, 1) := dk_43 (dk_at dksX10_all_0 10 rfl rfl)
theorem dX10_all_11 : decode cX10_all 11 = .ok (.getfield 23, 3) := dk_180 0 23 (dk_at dksX10_all_0 11 rfl rfl)
theorem dX10_all_14 : decode cX10_all 14 = .ok (.ifCond .ne 19, 3) := dk_154 0 19 (dk_at dksX10_all_0 14 rfl rfl)
theorem dX10_all_17 : decode cX10_all 17 = .ok (.aload_n 0, 1) := dk_42 (dk_at dksX10_all_0 17 rfl rfl)
theorem dX10_all_18 : decode cX10_all 18 = .ok (.getfield 7, 3) := dk_180 0 7 (dk_at dksX10_all_0 18 rfl rfl)
theorem dX10_all_21 : decode cX10_all 21 = .ok (.iload_n 2, 1) := dk_28 (dk_at dksX10_all_0 21 rfl rfl)
theorem dX10_all_22 : decode cX10_all 22 = .ok (.aaload, 1) := dk_50 (dk_at dksX10_all_0 22 rfl rfl)
theorem dX10_all_23 : decode cX10_all 23 = .ok (.aload_n 1, 1) := dk_43 (dk_at dksX10_all_0 23 rfl rfl)
theorem dX10_all_24 : decode cX10_all 24 = .ok (.invokevirtual 29, 3) := dk_182 0 29 (dk_at dksX10_all_1 0 rfl rfl)
theorem dX10_all_27 : decode cX10_all 27 = .ok (.iinc 2 1, 3) := dk_132 2 1 (dk_at dksX10_all_1 3 rfl rfl)
theorem dX10_all_30 : decode cX10_all 30 = .ok (.goto (-28), 3) := dk_167 255 228 (dk_at dksX10_all_1 6 rfl rfl)
theorem dX10_all_33 : decode cX10_all 33 = .ok (.return_, 1) := dk_177 (dk_at dksX10_all_1 9 rfl rfl)
theorem q189 : (Jvm.Cond.initialized "CatWitness$Block") ∈ lw_all := lw_g (lw_at lw_m1 23 rfl) rfl
theorem q988 : (Jvm.Cond.instanceMethod ({ cls := "CatWitness$Block", name := "<init>", desc := "()V" } : Jvm.MethodName)) ∈ lw_all := lw_g (lw_at lw_m4 102 rfl) rfl
theorem q989 : (Jvm.Cond.code ({ cls := "CatWitness$Block", name := "<init>", desc := "()V" } : Jvm.MethodName) prog_4_method_1_code (1 : Nat) (Option.none : Option Jvm.ClassFile.FieldType)) ∈ lw_all := lw_g (lw_at lw_m4 103 rfl) rfl
theorem q990 : (Jvm.Cond.methodLinkNest "CatWitness$Block" (1 : Nat) ({ cls := "CatWitness$Step", name := "<init>", desc := "()V" } : Jvm.MethodName) "CatWitness") ∈ lw_tbl := lw_at lw_m4 104 rfl
theorem q994 : (Jvm.Cond.classLink "CatWitness$Block" (2 : Nat) "CatWitness$Step") ∈ lw_all := lw_g (lw_at lw_m4 108 rfl) rfl
theorem q997 : (Jvm.Cond.fieldLink "CatWitness$Block" (7 : Nat) "CatWitness$Block" "steps" "[LCatWitness$Step;") ∈ lw_all := lw_g (lw_at lw_m4 111 rfl) rfl
theorem q998 : (Jvm.Cond.fieldLink "CatWitness$Block" (13 : Nat) "CatWitness$Block" "size" "I") ∈ lw_all := lw_g (lw_at lw_m4 112 rfl) rfl
theorem q1002 : (Jvm.Cond.soleField "CatWitness$Block" "steps") ∈ lw_all := lw_g (lw_at lw_m4 116 rfl) rfl
theorem q1004 : (Jvm.Cond.soleField "CatWitness$Block" "size") ∈ lw_all := lw_g (lw_at lw_m4 118 rfl) rfl
theorem q1066 : (Jvm.Cond.instanceMethod ({ cls := "CatWitness$Block", name := "add", desc := "(LCatWitness$Step;)V" } : Jvm.MethodName)) ∈ lw_all := lw_g (lw_at lw_m4 180 rfl) rfl
theorem q1067 : (Jvm.Cond.sameMethod "CatWitness$Block" "CatWitness$Block" "add" "(LCatWitness$Step;)V") ∈ lw_all := lw_g (lw_at lw_m4 181 rfl) rfl
theorem q1070 : (Jvm.Cond.code ({ cls := "CatWitness$Block", name := "add", desc := "(LCatWitness$Step;)V" } : Jvm.MethodName) prog_4_method_2_code (3 : Nat) (Option.none : Option Jvm.ClassFile.FieldType)) ∈ lw_all := lw_g (lw_at lw_m4 184 rfl) rfl
theorem q1071 : (Jvm.Cond.methodLink "CatWitness$Block" (17 : Nat) ({ cls := "java/lang/System", name := "arraycopy", desc := "(Ljava/lang/Object;ILjava/lang/Object;II)V" } : Jvm.MethodName)) ∈ lw_all := lw_g (lw_at lw_m4 185 rfl) rfl
theorem q1500 : (Jvm.Cond.fieldLinkNest "CatWitness$Block" (23 : Nat) "CatWitness$Living" "isOver" "Z" "CatWitness") ∈ lw_tbl := lw_at lw_m6 134 rfl
theorem q1525 : (Jvm.Cond.declares ({ cls := "CatWitness$Block", name := "all", desc := "(LCatWitness$Living;)V" } : Jvm.MethodName)) ∈ lw_tbl := lw_at lw_m6 159 rfl
theorem q1527 : (Jvm.Cond.instanceMethod ({ cls := "CatWitness$Block", name := "all", desc := "(LCatWitness$Living;)V" } : Jvm.MethodName)) ∈ lw_all := lw_g (lw_at lw_m6 161 rfl) rfl
theorem q1528 : (Jvm.Cond.code ({ cls := "CatWitness$Block", name := "all", desc := "(LCatWitness$Living;)V" } : Jvm.MethodName) prog_4_method_3_code (3 : Nat) (Option.none : Option Jvm.ClassFile.FieldType)) ∈ lw_all := lw_g (lw_at lw_m6 162 rfl) rfl
theorem q1529 : (Jvm.Cond.methodLink "CatWitness$Block" (29 : Nat) ({ cls := "CatWitness$Step", name := "go", desc := "(LCatWitness$Living;)V" } : Jvm.MethodName)) ∈ lw_all := lw_g (lw_at lw_m6 163 rfl) rfl
