/-! CatWitness$When -/
set_option maxRecDepth 100000
def RX12 : String := "CatWitness$When"
def TX12 : u_T := fun k => match k with
  | 0 => ("CatWitness$Block", "steps", "[LCatWitness$Step;", false)
  | 1 => ("CatWitness$Block", "size", "I", false)
  | 2 => ("CatWitness$When", "what", "I", true)
  | 3 => ("CatWitness$When", "one", "I", true)
  | 4 => ("CatWitness$When", "two", "I", true)
  | _ => ("CatWitness$When", "sign", "I", true)
def tyX12 : Nat → FieldType := fun k => match k with
  | 0 => .array (.object "CatWitness$Step")
  | 1 => .int
  | 2 => .int
  | 3 => .int
  | 4 => .int
  | _ => .int
abbrev wsX120 : List Cond := u_ws RX12 TX12 6
theorem nmX12 : ∀ a, a < 6 → ∀ b, b < 6 → a ≠ b → (TX12 a).2.1 ≠ (TX12 b).2.1 := by decide +kernel
theorem tyX12_ok : ∀ k, k < 6 → parseFieldDescriptor (TX12 k).2.2.1 = some (tyX12 k) := by decide +kernel
abbrev cX12_init : ByteArray := prog_14_method_1_code
def yX12_init : MethodName := ⟨RX12, "<init>", "(IIII)V"⟩
def dkwX12_init_1 : List UInt8 := [181, 0, 21, 177]
abbrev dktX12_init_1 : List UInt8 := dkwX12_init_1 ++ []
def dkwX12_init_0 : List UInt8 := [42, 183, 0, 3, 42, 27, 181, 0, 9, 42, 28, 181, 0, 15, 42, 29, 181, 0, 18, 42, 21, 4]
abbrev dktX12_init_0 : List UInt8 := dkwX12_init_0 ++ dktX12_init_1
theorem dksX12_init_0 : cX12_init.data.toList.drop 0 = dktX12_init_0 := by decide +kernel
theorem dksX12_init_1 : cX12_init.data.toList.drop 22 = dktX12_init_1 := dk_seg dksX12_init_0 22 rfl rfl
theorem dX12_init_0 : decode cX12_init 0 = .ok (.aload_n 0, 1) := dk_42 (dk_at dksX12_init_0 0 rfl rfl)
theorem dX12_init_1 : decode cX12_init 1 = .ok (.invokespecial 3, 3) := dk_183 0 3 (dk_at dksX12_init_0 1 rfl rfl)
theorem dX12_init_4 : decode cX12_init 4 = .ok (.aload_n 0, 1) := dk_42 (dk_at dksX12_init_0 4 rfl rfl)
theorem dX12_init_5 : decode cX12_init 5 = .ok (.iload_n 1, 1) := dk_27 (dk_at dksX12_init_0 5 rfl rfl)
theorem dX12_init_6 : decode cX12_init 6 = .ok (.putfield 9, 3) := dk_181 0 9 (dk_at dksX12_init_0 6 rfl rfl)
theorem dX12_init_9 : decode cX12_init 9 = .ok (.aload_n 0, 1) := dk_42 (dk_at dksX12_init_0 9 rfl rfl)
theorem dX12_init_10 : decode cX12_init 10 = .ok (.iload_n 2, 1) := dk_28 (dk_at dksX12_init_0 10 rfl rfl)
theorem dX12_init_11 : decode cX12_init 11 = .ok (.putfield 15, 3) := dk_181 0 15 (dk_at dksX12_init_0 11 rfl rfl)
theorem dX12_init_14 : decode cX12_init 14 = .ok (.aload_n 0, 1) := dk_42 (dk_at dksX12_init_0 14 rfl rfl)
theorem dX12_init_15 : decode cX12_init 15 = .ok (.iload_n 3, 1) := dk_29 (dk_at dksX12_init_0 15 rfl rfl)
theorem dX12_init_16 : decode cX12_init 16 = .ok (.putfield 18, 3) := dk_181 0 18 (dk_at dksX12_init_0 16 rfl rfl)
theorem dX12_init_19 : decode cX12_init 19 = .ok (.aload_n 0, 1) := dk_42 (dk_at dksX12_init_0 19 rfl rfl)
theorem dX12_init_20 : decode cX12_init 20 = .ok (.iload 4, 2) := dk_21 4 (dk_at dksX12_init_0 20 rfl rfl)
theorem dX12_init_22 : decode cX12_init 22 = .ok (.putfield 21, 3) := dk_181 0 21 (dk_at dksX12_init_1 0 rfl rfl)
theorem dX12_init_25 : decode cX12_init 25 = .ok (.return_, 1) := dk_177 (dk_at dksX12_init_1 3 rfl rfl)
abbrev cX12_does : ByteArray := prog_14_method_3_code
def yX12_does : MethodName := ⟨RX12, "does", "(LCatWitness$Living;)V"⟩
def dkwX12_does_0 : List UInt8 := [42, 43, 180, 0, 41, 182, 0, 47, 153, 0, 8, 42, 43, 182, 0, 51, 177]
abbrev dktX12_does_0 : List UInt8 := dkwX12_does_0 ++ []
theorem dksX12_does_0 : cX12_does.data.toList.drop 0 = dktX12_does_0 := by decide +kernel
theorem dX12_does_0 : decode cX12_does 0 = .ok (.aload_n 0, 1) := dk_42 (dk_at dksX12_does_0 0 rfl rfl)
theorem dX12_does_1 : decode cX12_does 1 = .ok (.aload_n 1, 1) := dk_43 (dk_at dksX12_does_0 1 rfl rfl)
theorem dX12_does_2 : decode cX12_does 2 = .ok (.getfield 41, 3) := dk_180 0 41 (dk_at dksX12_does_0 2 rfl rfl)
theorem dX12_does_5 : decode cX12_does 5 = .ok (.invokevirtual 47, 3) := dk_182 0 47 (dk_at dksX12_does_0 5 rfl rfl)
theorem dX12_does_8 : decode cX12_does 8 = .ok (.ifCond .eq 8, 3) := dk_153 0 8 (dk_at dksX12_does_0 8 rfl rfl)
theorem dX12_does_11 : decode cX12_does 11 = .ok (.aload_n 0, 1) := dk_42 (dk_at dksX12_does_0 11 rfl rfl)
theorem dX12_does_12 : decode cX12_does 12 = .ok (.aload_n 1, 1) := dk_43 (dk_at dksX12_does_0 12 rfl rfl)
theorem dX12_does_13 : decode cX12_does 13 = .ok (.invokevirtual 51, 3) := dk_182 0 51 (dk_at dksX12_does_0 13 rfl rfl)
theorem dX12_does_16 : decode cX12_does 16 = .ok (.return_, 1) := dk_177 (dk_at dksX12_does_0 16 rfl rfl)
abbrev cX12_is : ByteArray := prog_14_method_2_code
def yX12_is : MethodName := ⟨RX12, "is", "(LCatWitness$Court;)Z"⟩
def dkwX12_is_5 : List UInt8 := [180, 0, 18, 184, 0, 37, 172]
abbrev dktX12_is_5 : List UInt8 := dkwX12_is_5 ++ []
def dkwX12_is_4 : List UInt8 := [180, 0, 15, 46, 4, 160, 0, 7, 4, 167, 0, 4, 3, 172, 43, 180, 0, 34, 42, 180, 0, 21, 42]
abbrev dktX12_is_4 : List UInt8 := dkwX12_is_4 ++ dktX12_is_5
def dkwX12_is_3 : List UInt8 := [180, 0, 30, 42, 180, 0, 15, 46, 5, 160, 0, 7, 4, 167, 0, 4, 3, 172, 43, 180, 0, 30, 42]
abbrev dktX12_is_3 : List UInt8 := dkwX12_is_3 ++ dktX12_is_4
def dkwX12_is_2 : List UInt8 := [43, 42, 180, 0, 15, 182, 0, 24, 42, 180, 0, 18, 160, 0, 7, 4, 167, 0, 4, 3, 172, 43]
abbrev dktX12_is_2 : List UInt8 := dkwX12_is_2 ++ dktX12_is_3
def dkwX12_is_1 : List UInt8 := [170, 0, 0, 0, 0, 0, 0, 87, 0, 0, 0, 0, 0, 0, 0, 2, 0, 0, 0, 28, 0, 0, 0, 49, 0, 0, 0, 68]
abbrev dktX12_is_1 : List UInt8 := dkwX12_is_1 ++ dktX12_is_2
def dkwX12_is_0 : List UInt8 := [42, 180, 0, 9]
abbrev dktX12_is_0 : List UInt8 := dkwX12_is_0 ++ dktX12_is_1
theorem dksX12_is_0 : cX12_is.data.toList.drop 0 = dktX12_is_0 := by decide +kernel
theorem dksX12_is_1 : cX12_is.data.toList.drop 4 = dktX12_is_1 := dk_seg dksX12_is_0 4 rfl rfl
theorem dksX12_is_2 : cX12_is.data.toList.drop 32 = dktX12_is_2 := dk_seg dksX12_is_1 28 rfl rfl
theorem dksX12_is_3 : cX12_is.data.toList.drop 54 = dktX12_is_3 := dk_seg dksX12_is_2 22 rfl rfl
theorem dksX12_is_4 : cX12_is.data.toList.drop 77 = dktX12_is_4 := dk_seg dksX12_is_3 23 rfl rfl
theorem dksX12_is_5 : cX12_is.data.toList.drop 100 = dktX12_is_5 := dk_seg dksX12_is_4 23 rfl rfl
theorem dX12_is_0 : decode cX12_is 0 = .ok (.aload_n 0, 1) := dk_42 (dk_at dksX12_is_0 0 rfl rfl)
theorem dX12_is_1 : decode cX12_is 1 = .ok (.getfield 9, 3) := dk_180 0 9 (dk_at dksX12_is_0 1 rfl rfl)
theorem dX12_is_4 : decode cX12_is 4 = .ok (.tableswitch 87 0 2 #[28, 49, 68], 28) := by decide +kernel
theorem dX12_is_32 : decode cX12_is 32 = .ok (.aload_n 1, 1) := dk_43 (dk_at dksX12_is_2 0 rfl rfl)
theorem dX12_is_33 : decode cX12_is 33 = .ok (.aload_n 0, 1) := dk_42 (dk_at dksX12_is_2 1 rfl rfl)
theorem dX12_is_34 : decode cX12_is 34 = .ok (.getfield 15, 3) := dk_180 0 15 (dk_at dksX12_is_2 2 rfl rfl)
theorem dX12_is_37 : decode cX12_is 37 = .ok (.invokevirtual 24, 3) := dk_182 0 24 (dk_at dksX12_is_2 5 rfl rfl)
theorem dX12_is_40 : decode cX12_is 40 = .ok (.aload_n 0, 1) := dk_42 (dk_at dksX12_is_2 8 rfl rfl)
theorem dX12_is_41 : decode cX12_is 41 = .ok (.getfield 18, 3) := dk_180 0 18 (dk_at dksX12_is_2 9 rfl rfl)
theorem dX12_is_44 : decode cX12_is 44 = .ok (.if_icmp .ne 7, 3) := dk_160 0 7 (dk_at dksX12_is_2 12 rfl rfl)
theorem dX12_is_47 : decode cX12_is 47 = .ok (.iconst 1, 1) := dk_4 (dk_at dksX12_is_2 15 rfl rfl)
theorem dX12_is_48 : decode cX12_is 48 = .ok (.goto 4, 3) := dk_167 0 4 (dk_at dksX12_is_2 16 rfl rfl)
theorem dX12_is_51 : decode cX12_is 51 = .ok (.iconst 0, 1) := dk_3 (dk_at dksX12_is_2 19 rfl rfl)
theorem dX12_is_52 : decode cX12_is 52 = .ok (.ireturn, 1) := dk_172 (dk_at dksX12_is_2 20 rfl rfl)
theorem dX12_is_53 : decode cX12_is 53 = .ok (.aload_n 1, 1) := dk_43 (dk_at dksX12_is_2 21 rfl rfl)
theorem dX12_is_54 : decode cX12_is 54 = .ok (.getfield 30, 3) := dk_180 0 30 (dk_at dksX12_is_3 0 rfl rfl)
theorem dX12_is_57 : decode cX12_is 57 = .ok (.aload_n 0, 1) := dk_42 (dk_at dksX12_is_3 3 rfl rfl)
theorem dX12_is_58 : decode cX12_is 58 = .ok (.getfield 15, 3) := dk_180 0 15 (dk_at dksX12_is_3 4 rfl rfl)
theorem dX12_is_61 : decode cX12_is 61 = .ok (.iaload, 1) := dk_46 (dk_at dksX12_is_3 7 rfl rfl)
theorem dX12_is_62 : decode cX12_is 62 = .ok (.iconst 2, 1) := dk_5 (dk_at dksX12_is_3 8 rfl rfl)
theorem dX12_is_63 : decode cX12_is 63 = .ok (.if_icmp .ne 7, 3) := dk_160 0 7 (dk_at dksX12_is_3 9 rfl rfl)
theorem dX12_is_66 : decode cX12_is 66 = .ok (.iconst 1, 1) := dk_4 (dk_at dksX12_is_3 12 rfl rfl)
theorem dX12_is_67 : decode cX12_is 67 = .ok (.goto 4, 3) := dk_167 0 4 (dk_at dksX12_is_3 13 rfl rfl)
theorem dX12_is_70 : decode cX12_is 70 = .ok (.iconst 0, 1) := dk_3 (dk_at dksX12_is_3 16 rfl rfl)
theorem dX12_is_71 : decode cX12_is 71 = .ok (.ireturn, 1) := dk_172 (dk_at dksX12_is_3 17 rfl rfl)
theorem dX12_is_72 : decode cX12_is 72 = .ok (.aload_n 1, 1) := dk_43 (dk_at dksX12_is_3 18 rfl rfl)
theorem dX12_is_73 : decode cX12_is 73 = .ok (.getfield 30, 3) := dk_180 0 30 (dk_at dksX12_is_3 19 rfl rfl)
theorem dX12_is_76 : decode cX12_is 76 = .ok (.aload_n 0, 1) := dk_42 (dk_at dksX12_is_3 22 rfl rfl)
theorem dX12_is_77 : decode cX12_is 77 = .ok (.getfield 15, 3) := dk_180 0 15 (dk_at dksX12_is_4 0 rfl rfl)
theorem dX12_is_80 : decode cX12_is 80 = .ok (.iaload, 1) := dk_46 (dk_at dksX12_is_4 3 rfl rfl)
theorem dX12_is_81 : decode cX12_is 81 = .ok (.iconst 1, 1) := dk_4 (dk_at dksX12_is_4 4 rfl rfl)
theorem dX12_is_82 : decode cX12_is 82 = .ok (.if_icmp .ne 7, 3) := dk_160 0 7 (dk_at dksX12_is_4 5 rfl rfl)
theorem dX12_is_85 : decode cX12_is 85 = .ok (.iconst 1, 1) := dk_4 (dk_at dksX12_is_4 8 rfl rfl)
theorem dX12_is_86 : decode cX12_is 86 = .ok (.goto 4, 3) := dk_167 0 4 (dk_at dksX12_is_4 9 rfl rfl)
theorem dX12_is_89 : decode cX12_is 89 = .ok (.iconst 0, 1) := dk_3 (dk_at dksX12_is_4 12 rfl rfl)
theorem dX12_is_90 : decode cX12_is 90 = .ok (.ireturn, 1) := dk_172 (dk_at dksX12_is_4 13 rfl rfl)
theorem dX12_is_91 : decode cX12_is 91 = .ok (.aload_n 1, 1) := dk_43 (dk_at dksX12_is_4 14 rfl rfl)
theorem dX12_is_92 : decode cX12_is 92 = .ok (.getfield 34, 3) := dk_180 0 34 (dk_at dksX12_is_4 15 rfl rfl)
theorem dX12_is_95 : decode cX12_is 95 = .ok (.aload_n 0, 1) := dk_42 (dk_at dksX12_is_4 18 rfl rfl)
theorem dX12_is_96 : decode cX12_is 96 = .ok (.getfield 21, 3) := dk_180 0 21 (dk_at dksX12_is_4 19 rfl rfl)
theorem dX12_is_99 : decode cX12_is 99 = .ok (.aload_n 0, 1) := dk_42 (dk_at dksX12_is_4 22 rfl rfl)
theorem dX12_is_100 : decode cX12_is 100 = .ok (.getfield 18, 3) := dk_180 0 18 (dk_at dksX12_is_5 0 rfl rfl)
theorem dX12_is_103 : decode cX12_is 103 = .ok (.invokestatic 37, 3) := dk_184 0 37 (dk_at dksX12_is_5 3 rfl rfl)
theorem dX12_is_106 : decode cX12_is 106 = .ok (.ireturn, 1) := dk_172 (dk_at dksX12_is_5 6 rfl rfl)
theorem q191 : (Jvm.Cond.initialized "CatWitness$When") ∈ lw_all := lw_g (lw_at lw_m1 25 rfl) rfl
theorem q340 : (Jvm.Cond.fieldLinkNest "CatWitness$When" (34 : Nat) "CatWitness$Court" "warm" "I" "CatWitness") ∈ lw_tbl := lw_at lw_m1 174 rfl
theorem q364 : (Jvm.Cond.fieldLinkNest "CatWitness$When" (30 : Nat) "CatWitness$Court" "state" "[I" "CatWitness") ∈ lw_tbl := lw_at lw_m1 198 rfl
theorem q1023 : (Jvm.Cond.instantiable "CatWitness$When" (6 : Nat)) ∈ lw_all := lw_g (lw_at lw_m4 137 rfl) rfl
theorem q1025 : (Jvm.Cond.instanceMethod ({ cls := "CatWitness$When", name := "<init>", desc := "(IIII)V" } : Jvm.MethodName)) ∈ lw_all := lw_g (lw_at lw_m4 139 rfl) rfl
theorem q1026 : (Jvm.Cond.code ({ cls := "CatWitness$When", name := "<init>", desc := "(IIII)V" } : Jvm.MethodName) prog_14_method_1_code (5 : Nat) (Option.none : Option Jvm.ClassFile.FieldType)) ∈ lw_all := lw_g (lw_at lw_m4 140 rfl) rfl
theorem q1027 : (Jvm.Cond.methodLinkNest "CatWitness$When" (3 : Nat) ({ cls := "CatWitness$Block", name := "<init>", desc := "()V" } : Jvm.MethodName) "CatWitness") ∈ lw_tbl := lw_at lw_m4 141 rfl
theorem q1028 : (Jvm.Cond.fieldLink "CatWitness$When" (9 : Nat) "CatWitness$When" "what" "I") ∈ lw_all := lw_g (lw_at lw_m4 142 rfl) rfl
theorem q1029 : (Jvm.Cond.fieldLink "CatWitness$When" (15 : Nat) "CatWitness$When" "one" "I") ∈ lw_all := lw_g (lw_at lw_m4 143 rfl) rfl
theorem q1030 : (Jvm.Cond.fieldLink "CatWitness$When" (18 : Nat) "CatWitness$When" "two" "I") ∈ lw_all := lw_g (lw_at lw_m4 144 rfl) rfl
theorem q1031 : (Jvm.Cond.fieldLink "CatWitness$When" (21 : Nat) "CatWitness$When" "sign" "I") ∈ lw_all := lw_g (lw_at lw_m4 145 rfl) rfl
theorem q1032 : (Jvm.Cond.laysFinal "CatWitness$When" "CatWitness$When" "what" "I") ∈ lw_all := lw_g (lw_at lw_m4 146 rfl) rfl
theorem q1033 : (Jvm.Cond.soleField "CatWitness$When" "what") ∈ lw_all := lw_g (lw_at lw_m4 147 rfl) rfl
theorem q1034 : (Jvm.Cond.laysFinal "CatWitness$When" "CatWitness$When" "one" "I") ∈ lw_all := lw_g (lw_at lw_m4 148 rfl) rfl
theorem q1035 : (Jvm.Cond.soleField "CatWitness$When" "one") ∈ lw_all := lw_g (lw_at lw_m4 149 rfl) rfl
theorem q1036 : (Jvm.Cond.laysFinal "CatWitness$When" "CatWitness$When" "two" "I") ∈ lw_all := lw_g (lw_at lw_m4 150 rfl) rfl
theorem q1037 : (Jvm.Cond.soleField "CatWitness$When" "two") ∈ lw_all := lw_g (lw_at lw_m4 151 rfl) rfl
theorem q1038 : (Jvm.Cond.laysFinal "CatWitness$When" "CatWitness$When" "sign" "I") ∈ lw_all := lw_g (lw_at lw_m4 152 rfl) rfl
theorem q1039 : (Jvm.Cond.soleField "CatWitness$When" "sign") ∈ lw_all := lw_g (lw_at lw_m4 153 rfl) rfl
theorem q1040 : (Jvm.Cond.lays "CatWitness$When" "CatWitness$Block" "steps" "[LCatWitness$Step;") ∈ lw_all := lw_g (lw_at lw_m4 154 rfl) rfl
theorem q1041 : (Jvm.Cond.lays "CatWitness$When" "CatWitness$Block" "size" "I") ∈ lw_all := lw_g (lw_at lw_m4 155 rfl) rfl
theorem q1042 : (Jvm.Cond.superclass "CatWitness$When" "CatWitness$Block") ∈ lw_all := lw_g (lw_at lw_m4 156 rfl) rfl
theorem q1069 : (Jvm.Cond.selects "CatWitness$When" ({ cls := "CatWitness$Block", name := "add", desc := "(LCatWitness$Step;)V" } : Jvm.MethodName) ({ cls := "CatWitness$Block", name := "add", desc := "(LCatWitness$Step;)V" } : Jvm.MethodName)) ∈ lw_all := lw_g (lw_at lw_m4 183 rfl) rfl
theorem q1486 : (Jvm.Cond.fieldLinkNest "CatWitness$When" (41 : Nat) "CatWitness$Living" "court" "LCatWitness$Court;" "CatWitness") ∈ lw_tbl := lw_at lw_m6 120 rfl
theorem q1534 : (Jvm.Cond.selects "CatWitness$When" ({ cls := "CatWitness$Step", name := "go", desc := "(LCatWitness$Living;)V" } : Jvm.MethodName) ({ cls := "CatWitness$Step", name := "go", desc := "(LCatWitness$Living;)V" } : Jvm.MethodName)) ∈ lw_all := lw_g (lw_at lw_m6 168 rfl) rfl
theorem q1574 : (Jvm.Cond.selects "CatWitness$When" ({ cls := "CatWitness$Step", name := "does", desc := "(LCatWitness$Living;)V" } : Jvm.MethodName) ({ cls := "CatWitness$When", name := "does", desc := "(LCatWitness$Living;)V" } : Jvm.MethodName)) ∈ lw_all := lw_g (lw_at lw_m6 208 rfl) rfl
theorem q1575 : (Jvm.Cond.instanceMethod ({ cls := "CatWitness$When", name := "does", desc := "(LCatWitness$Living;)V" } : Jvm.MethodName)) ∈ lw_all := lw_g (lw_at lw_m6 209 rfl) rfl
theorem q1576 : (Jvm.Cond.code ({ cls := "CatWitness$When", name := "does", desc := "(LCatWitness$Living;)V" } : Jvm.MethodName) prog_14_method_3_code (2 : Nat) (Option.none : Option Jvm.ClassFile.FieldType)) ∈ lw_all := lw_g (lw_at lw_m6 210 rfl) rfl
theorem q1577 : (Jvm.Cond.methodLink "CatWitness$When" (47 : Nat) ({ cls := "CatWitness$When", name := "is", desc := "(LCatWitness$Court;)Z" } : Jvm.MethodName)) ∈ lw_all := lw_g (lw_at lw_m6 211 rfl) rfl
theorem q1578 : (Jvm.Cond.privateMethod ({ cls := "CatWitness$When", name := "is", desc := "(LCatWitness$Court;)Z" } : Jvm.MethodName)) ∈ lw_tbl := lw_at lw_m6 212 rfl
theorem q1579 : (Jvm.Cond.instanceMethod ({ cls := "CatWitness$When", name := "is", desc := "(LCatWitness$Court;)Z" } : Jvm.MethodName)) ∈ lw_all := lw_g (lw_at lw_m6 213 rfl) rfl
theorem q1580 : (Jvm.Cond.code ({ cls := "CatWitness$When", name := "is", desc := "(LCatWitness$Court;)Z" } : Jvm.MethodName) prog_14_method_2_code (2 : Nat) (Option.some Jvm.ClassFile.FieldType.boolean)) ∈ lw_all := lw_g (lw_at lw_m6 214 rfl) rfl
theorem q1581 : (Jvm.Cond.methodLink "CatWitness$When" (24 : Nat) ({ cls := "CatWitness$Court", name := "showsNow", desc := "(I)I" } : Jvm.MethodName)) ∈ lw_all := lw_g (lw_at lw_m6 215 rfl) rfl
theorem q1582 : (Jvm.Cond.methodLinkNest "CatWitness$When" (37 : Nat) ({ cls := "CatWitness", name := "compares", desc := "(III)Z" } : Jvm.MethodName) "CatWitness") ∈ lw_tbl := lw_at lw_m6 216 rfl
theorem q1583 : (Jvm.Cond.methodLink "CatWitness$When" (51 : Nat) ({ cls := "CatWitness$When", name := "all", desc := "(LCatWitness$Living;)V" } : Jvm.MethodName)) ∈ lw_all := lw_g (lw_at lw_m6 217 rfl) rfl
theorem q1584 : (Jvm.Cond.sameMethod "CatWitness$When" "CatWitness$Block" "all" "(LCatWitness$Living;)V") ∈ lw_all := lw_g (lw_at lw_m6 218 rfl) rfl
theorem q1585 : (Jvm.Cond.selects "CatWitness$When" ({ cls := "CatWitness$When", name := "all", desc := "(LCatWitness$Living;)V" } : Jvm.MethodName) ({ cls := "CatWitness$Block", name := "all", desc := "(LCatWitness$Living;)V" } : Jvm.MethodName)) ∈ lw_all := lw_g (lw_at lw_m6 219 rfl) rfl
theorem q2422 : (Jvm.Cond.castable "CatWitness$When" "CatWitness$Step") ∈ lw_tbl := lw_at lw_m10 96 rfl
theorem in_X12 : ∀ w ∈ wsX120, w ∈ lw_all := lw_in wsX120 [1040, 1041, 1032, 1034, 1036, 1038] (by decide +kernel) (by decide +kernel)
