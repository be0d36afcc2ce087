/-! CatWitness$Act -/
set_option maxRecDepth 100000
def RX13 : String := "CatWitness$Act"
def TX13 : u_T := fun k => match k with
  | 0 => ("CatWitness$Act", "what", "I", true)
  | 1 => ("CatWitness$Act", "one", "I", true)
  | _ => ("CatWitness$Act", "two", "I", true)
def tyX13 : Nat → FieldType := fun k => match k with
  | 0 => .int
  | 1 => .int
  | _ => .int
abbrev wsX130 : List Cond := u_ws RX13 TX13 3
theorem nmX13 : ∀ a, a < 3 → ∀ b, b < 3 → a ≠ b → (TX13 a).2.1 ≠ (TX13 b).2.1 := by decide +kernel
theorem tyX13_ok : ∀ k, k < 3 → parseFieldDescriptor (TX13 k).2.2.1 = some (tyX13 k) := by decide +kernel
abbrev cX13_init : ByteArray := prog_2_method_1_code
def yX13_init : MethodName := ⟨RX13, "<init>", "(III)V"⟩
def dkwX13_init_0 : List UInt8 := [42, 183, 0, 3, 42, 27, 181, 0, 9, 42, 28, 181, 0, 15, 42, 29, 181, 0, 18, 177]
abbrev dktX13_init_0 : List UInt8 := dkwX13_init_0 ++ []
theorem dksX13_init_0 : cX13_init.data.toList.drop 0 = dktX13_init_0 := by decide +kernel
theorem dX13_init_0 : decode cX13_init 0 = .ok (.aload_n 0, 1) := dk_42 (dk_at dksX13_init_0 0 rfl rfl)
theorem dX13_init_1 : decode cX13_init 1 = .ok (.invokespecial 3, 3) := dk_183 0 3 (dk_at dksX13_init_0 1 rfl rfl)
theorem dX13_init_4 : decode cX13_init 4 = .ok (.aload_n 0, 1) := dk_42 (dk_at dksX13_init_0 4 rfl rfl)
theorem dX13_init_5 : decode cX13_init 5 = .ok (.iload_n 1, 1) := dk_27 (dk_at dksX13_init_0 5 rfl rfl)
theorem dX13_init_6 : decode cX13_init 6 = .ok (.putfield 9, 3) := dk_181 0 9 (dk_at dksX13_init_0 6 rfl rfl)
theorem dX13_init_9 : decode cX13_init 9 = .ok (.aload_n 0, 1) := dk_42 (dk_at dksX13_init_0 9 rfl rfl)
theorem dX13_init_10 : decode cX13_init 10 = .ok (.iload_n 2, 1) := dk_28 (dk_at dksX13_init_0 10 rfl rfl)
theorem dX13_init_11 : decode cX13_init 11 = .ok (.putfield 15, 3) := dk_181 0 15 (dk_at dksX13_init_0 11 rfl rfl)
theorem dX13_init_14 : decode cX13_init 14 = .ok (.aload_n 0, 1) := dk_42 (dk_at dksX13_init_0 14 rfl rfl)
theorem dX13_init_15 : decode cX13_init 15 = .ok (.iload_n 3, 1) := dk_29 (dk_at dksX13_init_0 15 rfl rfl)
theorem dX13_init_16 : decode cX13_init 16 = .ok (.putfield 18, 3) := dk_181 0 18 (dk_at dksX13_init_0 16 rfl rfl)
theorem dX13_init_19 : decode cX13_init 19 = .ok (.return_, 1) := dk_177 (dk_at dksX13_init_0 19 rfl rfl)
abbrev cX13_does : ByteArray := prog_2_method_7_code
def yX13_does : MethodName := ⟨RX13, "does", "(LCatWitness$Living;)V"⟩
def dkwX13_does_0 : List UInt8 := [42, 43, 182, 0, 89, 154, 0, 13, 43, 89, 180, 0, 93, 4, 96, 181, 0, 93, 177]
abbrev dktX13_does_0 : List UInt8 := dkwX13_does_0 ++ []
theorem dksX13_does_0 : cX13_does.data.toList.drop 0 = dktX13_does_0 := by decide +kernel
theorem dX13_does_0 : decode cX13_does 0 = .ok (.aload_n 0, 1) := dk_42 (dk_at dksX13_does_0 0 rfl rfl)
theorem dX13_does_1 : decode cX13_does 1 = .ok (.aload_n 1, 1) := dk_43 (dk_at dksX13_does_0 1 rfl rfl)
theorem dX13_does_2 : decode cX13_does 2 = .ok (.invokevirtual 89, 3) := dk_182 0 89 (dk_at dksX13_does_0 2 rfl rfl)
theorem dX13_does_5 : decode cX13_does 5 = .ok (.ifCond .ne 13, 3) := dk_154 0 13 (dk_at dksX13_does_0 5 rfl rfl)
theorem dX13_does_8 : decode cX13_does 8 = .ok (.aload_n 1, 1) := dk_43 (dk_at dksX13_does_0 8 rfl rfl)
theorem dX13_does_9 : decode cX13_does 9 = .ok (.dup, 1) := dk_89 (dk_at dksX13_does_0 9 rfl rfl)
theorem dX13_does_10 : decode cX13_does 10 = .ok (.getfield 93, 3) := dk_180 0 93 (dk_at dksX13_does_0 10 rfl rfl)
theorem dX13_does_13 : decode cX13_does 13 = .ok (.iconst 1, 1) := dk_4 (dk_at dksX13_does_0 13 rfl rfl)
theorem dX13_does_14 : decode cX13_does 14 = .ok (.iadd, 1) := dk_96 (dk_at dksX13_does_0 14 rfl rfl)
theorem dX13_does_15 : decode cX13_does 15 = .ok (.putfield 93, 3) := dk_181 0 93 (dk_at dksX13_does_0 15 rfl rfl)
theorem dX13_does_18 : decode cX13_does 18 = .ok (.return_, 1) := dk_177 (dk_at dksX13_does_0 18 rfl rfl)
abbrev cX13_can : ByteArray := prog_2_method_2_code
def yX13_can : MethodName := ⟨RX13, "can", "(LCatWitness$Living;)Z"⟩
def dkwX13_can_5 : List UInt8 := [4, 172]
abbrev dktX13_can_5 : List UInt8 := dkwX13_can_5 ++ []
def dkwX13_can_4 : List UInt8 := [180, 0, 18, 3, 182, 0, 40, 172, 44, 184, 0, 44, 172, 43, 44, 184, 0, 48, 172, 43, 4, 181, 0, 51]
abbrev dktX13_can_4 : List UInt8 := dkwX13_can_4 ++ dktX13_can_5
def dkwX13_can_3 : List UInt8 := [182, 0, 34, 172, 44, 42, 180, 0, 15, 42, 180, 0, 18, 4, 182, 0, 40, 172, 44, 42, 180, 0, 15, 42]
abbrev dktX13_can_3 : List UInt8 := dkwX13_can_3 ++ dktX13_can_4
def dkwX13_can_2 : List UInt8 := [42, 43, 44, 182, 0, 27, 172, 43, 44, 184, 0, 31, 172, 44, 42, 180, 0, 15, 42, 180, 0, 18]
abbrev dktX13_can_2 : List UInt8 := dkwX13_can_2 ++ dktX13_can_3
def dkwX13_can_1 : List UInt8 := [170, 0, 0, 0, 0, 0, 108, 0, 0, 0, 0, 0, 0, 0, 6, 0, 0, 0, 43, 0, 0, 0, 50, 0, 0, 0, 56, 0, 0, 0, 69, 0, 0, 0, 83, 0, 0, 0, 97, 0, 0, 0, 102]
abbrev dktX13_can_1 : List UInt8 := dkwX13_can_1 ++ dktX13_can_2
def dkwX13_can_0 : List UInt8 := [43, 180, 0, 21, 77, 42, 180, 0, 9]
abbrev dktX13_can_0 : List UInt8 := dkwX13_can_0 ++ dktX13_can_1
theorem dksX13_can_0 : cX13_can.data.toList.drop 0 = dktX13_can_0 := by decide +kernel
theorem dksX13_can_1 : cX13_can.data.toList.drop 9 = dktX13_can_1 := dk_seg dksX13_can_0 9 rfl rfl
theorem dksX13_can_2 : cX13_can.data.toList.drop 52 = dktX13_can_2 := dk_seg dksX13_can_1 43 rfl rfl
theorem dksX13_can_3 : cX13_can.data.toList.drop 74 = dktX13_can_3 := dk_seg dksX13_can_2 22 rfl rfl
theorem dksX13_can_4 : cX13_can.data.toList.drop 98 = dktX13_can_4 := dk_seg dksX13_can_3 24 rfl rfl
theorem dksX13_can_5 : cX13_can.data.toList.drop 122 = dktX13_can_5 := dk_seg dksX13_can_4 24 rfl rfl
theorem dX13_can_0 : decode cX13_can 0 = .ok (.aload_n 1, 1) := dk_43 (dk_at dksX13_can_0 0 rfl rfl)
theorem dX13_can_1 : decode cX13_can 1 = .ok (.getfield 21, 3) := dk_180 0 21 (dk_at dksX13_can_0 1 rfl rfl)
theorem dX13_can_4 : decode cX13_can 4 = .ok (.astore_n 2, 1) := dk_77 (dk_at dksX13_can_0 4 rfl rfl)
theorem dX13_can_5 : decode cX13_can 5 = .ok (.aload_n 0, 1) := dk_42 (dk_at dksX13_can_0 5 rfl rfl)
theorem dX13_can_6 : decode cX13_can 6 = .ok (.getfield 9, 3) := dk_180 0 9 (dk_at dksX13_can_0 6 rfl rfl)
theorem dX13_can_9 : decode cX13_can 9 = .ok (.tableswitch 108 0 6 #[43, 50, 56, 69, 83, 97, 102], 43) := by decide +kernel
theorem dX13_can_52 : decode cX13_can 52 = .ok (.aload_n 0, 1) := dk_42 (dk_at dksX13_can_2 0 rfl rfl)
theorem dX13_can_53 : decode cX13_can 53 = .ok (.aload_n 1, 1) := dk_43 (dk_at dksX13_can_2 1 rfl rfl)
theorem dX13_can_54 : decode cX13_can 54 = .ok (.aload_n 2, 1) := dk_44 (dk_at dksX13_can_2 2 rfl rfl)
theorem dX13_can_55 : decode cX13_can 55 = .ok (.invokevirtual 27, 3) := dk_182 0 27 (dk_at dksX13_can_2 3 rfl rfl)
theorem dX13_can_58 : decode cX13_can 58 = .ok (.ireturn, 1) := dk_172 (dk_at dksX13_can_2 6 rfl rfl)
theorem dX13_can_59 : decode cX13_can 59 = .ok (.aload_n 1, 1) := dk_43 (dk_at dksX13_can_2 7 rfl rfl)
theorem dX13_can_60 : decode cX13_can 60 = .ok (.aload_n 2, 1) := dk_44 (dk_at dksX13_can_2 8 rfl rfl)
theorem dX13_can_61 : decode cX13_can 61 = .ok (.invokestatic 31, 3) := dk_184 0 31 (dk_at dksX13_can_2 9 rfl rfl)
theorem dX13_can_64 : decode cX13_can 64 = .ok (.ireturn, 1) := dk_172 (dk_at dksX13_can_2 12 rfl rfl)
theorem dX13_can_65 : decode cX13_can 65 = .ok (.aload_n 2, 1) := dk_44 (dk_at dksX13_can_2 13 rfl rfl)
theorem dX13_can_66 : decode cX13_can 66 = .ok (.aload_n 0, 1) := dk_42 (dk_at dksX13_can_2 14 rfl rfl)
theorem dX13_can_67 : decode cX13_can 67 = .ok (.getfield 15, 3) := dk_180 0 15 (dk_at dksX13_can_2 15 rfl rfl)
theorem dX13_can_70 : decode cX13_can 70 = .ok (.aload_n 0, 1) := dk_42 (dk_at dksX13_can_2 18 rfl rfl)
theorem dX13_can_71 : decode cX13_can 71 = .ok (.getfield 18, 3) := dk_180 0 18 (dk_at dksX13_can_2 19 rfl rfl)
theorem dX13_can_74 : decode cX13_can 74 = .ok (.invokevirtual 34, 3) := dk_182 0 34 (dk_at dksX13_can_3 0 rfl rfl)
theorem dX13_can_77 : decode cX13_can 77 = .ok (.ireturn, 1) := dk_172 (dk_at dksX13_can_3 3 rfl rfl)
theorem dX13_can_78 : decode cX13_can 78 = .ok (.aload_n 2, 1) := dk_44 (dk_at dksX13_can_3 4 rfl rfl)
theorem dX13_can_79 : decode cX13_can 79 = .ok (.aload_n 0, 1) := dk_42 (dk_at dksX13_can_3 5 rfl rfl)
theorem dX13_can_80 : decode cX13_can 80 = .ok (.getfield 15, 3) := dk_180 0 15 (dk_at dksX13_can_3 6 rfl rfl)
theorem dX13_can_83 : decode cX13_can 83 = .ok (.aload_n 0, 1) := dk_42 (dk_at dksX13_can_3 9 rfl rfl)
theorem dX13_can_84 : decode cX13_can 84 = .ok (.getfield 18, 3) := dk_180 0 18 (dk_at dksX13_can_3 10 rfl rfl)
theorem dX13_can_87 : decode cX13_can 87 = .ok (.iconst 1, 1) := dk_4 (dk_at dksX13_can_3 13 rfl rfl)
theorem dX13_can_88 : decode cX13_can 88 = .ok (.invokevirtual 40, 3) := dk_182 0 40 (dk_at dksX13_can_3 14 rfl rfl)
theorem dX13_can_91 : decode cX13_can 91 = .ok (.ireturn, 1) := dk_172 (dk_at dksX13_can_3 17 rfl rfl)
theorem dX13_can_92 : decode cX13_can 92 = .ok (.aload_n 2, 1) := dk_44 (dk_at dksX13_can_3 18 rfl rfl)
theorem dX13_can_93 : decode cX13_can 93 = .ok (.aload_n 0, 1) := dk_42 (dk_at dksX13_can_3 19 rfl rfl)
theorem dX13_can_94 : decode cX13_can 94 = .ok (.getfield 15, 3) := dk_180 0 15 (dk_at dksX13_can_3 20 rfl rfl)
theorem dX13_can_97 : decode cX13_can 97 = .ok (.aload_n 0, 1) := dk_42 (dk_at dksX13_can_3 23 rfl rfl)
theorem dX13_can_98 : decode cX13_can 98 = .ok (.getfield 18, 3) := dk_180 0 18 (dk_at dksX13_can_4 0 rfl rfl)
theorem dX13_can_101 : decode cX13_can 101 = .ok (.iconst 0, 1) := dk_3 (dk_at dksX13_can_4 3 rfl rfl)
theorem dX13_can_102 : decode cX13_can 102 = .ok (.invokevirtual 40, 3) := dk_182 0 40 (dk_at dksX13_can_4 4 rfl rfl)
theorem dX13_can_105 : decode cX13_can 105 = .ok (.ireturn, 1) := dk_172 (dk_at dksX13_can_4 7 rfl rfl)
theorem dX13_can_106 : decode cX13_can 106 = .ok (.aload_n 2, 1) := dk_44 (dk_at dksX13_can_4 8 rfl rfl)
theorem dX13_can_107 : decode cX13_can 107 = .ok (.invokestatic 44, 3) := dk_184 0 44 (dk_at dksX13_can_4 9 rfl rfl)
theorem dX13_can_110 : decode cX13_can 110 = .ok (.ireturn, 1) := dk_172 (dk_at dksX13_can_4 12 rfl rfl)
theorem dX13_can_111 : decode cX13_can 111 = .ok (.aload_n 1, 1) := dk_43 (dk_at dksX13_can_4 13 rfl rfl)
theorem dX13_can_112 : decode cX13_can 112 = .ok (.aload_n 2, 1) := dk_44 (dk_at dksX13_can_4 14 rfl rfl)
theorem dX13_can_113 : decode cX13_can 113 = .ok (.invokestatic 48, 3) := dk_184 0 48 (dk_at dksX13_can_4 15 rfl rfl)
theorem dX13_can_116 : decode cX13_can 116 = .ok (.ireturn, 1) := dk_172 (dk_at dksX13_can_4 18 rfl rfl)
theorem dX13_can_117 : decode cX13_can 117 = .ok (.aload_n 1, 1) := dk_43 (dk_at dksX13_can_4 19 rfl rfl)
theorem dX13_can_118 : decode cX13_can 118 = .ok (.iconst 1, 1) := dk_4 (dk_at dksX13_can_4 20 rfl rfl)
theorem dX13_can_119 : decode cX13_can 119 = .ok (.putfield 51, 3) := dk_181 0 51 (dk_at dksX13_can_4 21 rfl rfl)
theorem dX13_can_122 : decode cX13_can 122 = .ok (.iconst 1, 1) := dk_4 (dk_at dksX13_can_5 0 rfl rfl)
theorem dX13_can_123 : decode cX13_can 123 = .ok (.ireturn, 1) := dk_172 (dk_at dksX13_can_5 1 rfl rfl)
abbrev cX13_sits : ByteArray := prog_2_method_3_code
def yX13_sits : MethodName := ⟨RX13, "sits", "(LCatWitness$Living;LCatWitness$Court;)Z"⟩
def dkwX13_sits_1 : List UInt8 := [180, 0, 61, 4, 96, 181, 0, 61, 4, 172]
abbrev dktX13_sits_1 : List UInt8 := dkwX13_sits_1 ++ []
def dkwX13_sits_0 : List UInt8 := [44, 180, 0, 55, 17, 39, 15, 160, 0, 5, 3, 172, 44, 42, 180, 0, 15, 182, 0, 58, 87, 43, 89]
abbrev dktX13_sits_0 : List UInt8 := dkwX13_sits_0 ++ dktX13_sits_1
theorem dksX13_sits_0 : cX13_sits.data.toList.drop 0 = dktX13_sits_0 := by decide +kernel
theorem dksX13_sits_1 : cX13_sits.data.toList.drop 23 = dktX13_sits_1 := dk_seg dksX13_sits_0 23 rfl rfl
theorem dX13_sits_0 : decode cX13_sits 0 = .ok (.aload_n 2, 1) := dk_44 (dk_at dksX13_sits_0 0 rfl rfl)
theorem dX13_sits_1 : decode cX13_sits 1 = .ok (.getfield 55, 3) := dk_180 0 55 (dk_at dksX13_sits_0 1 rfl rfl)
theorem dX13_sits_4 : decode cX13_sits 4 = .ok (.sipush 9999, 3) := dk_17 39 15 (dk_at dksX13_sits_0 4 rfl rfl)
theorem dX13_sits_7 : decode cX13_sits 7 = .ok (.if_icmp .ne 5, 3) := dk_160 0 5 (dk_at dksX13_sits_0 7 rfl rfl)
theorem dX13_sits_10 : decode cX13_sits 10 = .ok (.iconst 0, 1) := dk_3 (dk_at dksX13_sits_0 10 rfl rfl)
theorem dX13_sits_11 : decode cX13_sits 11 = .ok (.ireturn, 1) := dk_172 (dk_at dksX13_sits_0 11 rfl rfl)
theorem dX13_sits_12 : decode cX13_sits 12 = .ok (.aload_n 2, 1) := dk_44 (dk_at dksX13_sits_0 12 rfl rfl)
theorem dX13_sits_13 : decode cX13_sits 13 = .ok (.aload_n 0, 1) := dk_42 (dk_at dksX13_sits_0 13 rfl rfl)
theorem dX13_sits_14 : decode cX13_sits 14 = .ok (.getfield 15, 3) := dk_180 0 15 (dk_at dksX13_sits_0 14 rfl rfl)
theorem dX13_sits_17 : decode cX13_sits 17 = .ok (.invokevirtual 58, 3) := dk_182 0 58 (dk_at dksX13_sits_0 17 rfl rfl)
theorem dX13_sits_20 : decode cX13_sits 20 = .ok (.pop, 1) := dk_87 (dk_at dksX13_sits_0 20 rfl rfl)
theorem dX13_sits_21 : decode cX13_sits 21 = .ok (.aload_n 1, 1) := dk_43 (dk_at dksX13_sits_0 21 rfl rfl)
theorem dX13_sits_22 : decode cX13_sits 22 = .ok (.dup, 1) := dk_89 (dk_at dksX13_sits_0 22 rfl rfl)
theorem dX13_sits_23 : decode cX13_sits 23 = .ok (.getfield 61, 3) := dk_180 0 61 (dk_at dksX13_sits_1 0 rfl rfl)
theorem dX13_sits_26 : decode cX13_sits 26 = .ok (.iconst 1, 1) := dk_4 (dk_at dksX13_sits_1 3 rfl rfl)
theorem dX13_sits_27 : decode cX13_sits 27 = .ok (.iadd, 1) := dk_96 (dk_at dksX13_sits_1 4 rfl rfl)
theorem dX13_sits_28 : decode cX13_sits 28 = .ok (.putfield 61, 3) := dk_181 0 61 (dk_at dksX13_sits_1 5 rfl rfl)
theorem dX13_sits_31 : decode cX13_sits 31 = .ok (.iconst 1, 1) := dk_4 (dk_at dksX13_sits_1 8 rfl rfl)
theorem dX13_sits_32 : decode cX13_sits 32 = .ok (.ireturn, 1) := dk_172 (dk_at dksX13_sits_1 9 rfl rfl)
abbrev cX13_terms : ByteArray := prog_2_method_4_code
def yX13_terms : MethodName := ⟨RX13, "terms", "(LCatWitness$Living;LCatWitness$Court;)Z"⟩
def dkwX13_terms_3 : List UInt8 := [43, 5, 182, 0, 62, 126, 184, 0, 65, 96, 181, 0, 77, 4, 172]
abbrev dktX13_terms_3 : List UInt8 := dkwX13_terms_3 ++ []
def dkwX13_terms_2 : List UInt8 := [89, 180, 0, 74, 28, 43, 4, 182, 0, 62, 126, 184, 0, 65, 96, 181, 0, 74, 42, 89, 180, 0, 77, 28]
abbrev dktX13_terms_2 : List UInt8 := dkwX13_terms_2 ++ dktX13_terms_3
def dkwX13_terms_1 : List UInt8 := [164, 0, 5, 3, 172, 43, 182, 0, 70, 87, 42, 89, 180, 0, 61, 28, 184, 0, 65, 96, 181, 0, 61, 42]
abbrev dktX13_terms_1 : List UInt8 := dkwX13_terms_1 ++ dktX13_terms_2
def dkwX13_terms_0 : List UInt8 := [43, 3, 182, 0, 62, 61, 28, 153, 0, 18, 43, 180, 0, 55, 28, 184, 0, 65, 96, 17, 39, 15]
abbrev dktX13_terms_0 : List UInt8 := dkwX13_terms_0 ++ dktX13_terms_1
theorem dksX13_terms_0 : cX13_terms.data.toList.drop 0 = dktX13_terms_0 := by decide +kernel
theorem dksX13_terms_1 : cX13_terms.data.toList.drop 22 = dktX13_terms_1 := dk_seg dksX13_terms_0 22 rfl rfl
theorem dksX13_terms_2 : cX13_terms.data.toList.drop 46 = dktX13_terms_2 := dk_seg dksX13_terms_1 24 rfl rfl
theorem dksX13_terms_3 : cX13_terms.data.toList.drop 70 = dktX13_terms_3 := dk_seg dksX13_terms_2 24 rfl rfl
theorem dX13_terms_0 : decode cX13_terms 0 = .ok (.aload_n 1, 1) := dk_43 (dk_at dksX13_terms_0 0 rfl rfl)
theorem dX13_terms_1 : decode cX13_terms 1 = .ok (.iconst 0, 1) := dk_3 (dk_at dksX13_terms_0 1 rfl rfl)
theorem dX13_terms_2 : decode cX13_terms 2 = .ok (.invokevirtual 62, 3) := dk_182 0 62 (dk_at dksX13_terms_0 2 rfl rfl)
theorem dX13_terms_5 : decode cX13_terms 5 = .ok (.istore_n 2, 1) := dk_61 (dk_at dksX13_terms_0 5 rfl rfl)
theorem dX13_terms_6 : decode cX13_terms 6 = .ok (.iload_n 2, 1) := dk_28 (dk_at dksX13_terms_0 6 rfl rfl)
theorem dX13_terms_7 : decode cX13_terms 7 = .ok (.ifCond .eq 18, 3) := dk_153 0 18 (dk_at dksX13_terms_0 7 rfl rfl)
theorem dX13_terms_10 : decode cX13_terms 10 = .ok (.aload_n 1, 1) := dk_43 (dk_at dksX13_terms_0 10 rfl rfl)
theorem dX13_terms_11 : decode cX13_terms 11 = .ok (.getfield 55, 3) := dk_180 0 55 (dk_at dksX13_terms_0 11 rfl rfl)
theorem dX13_terms_14 : decode cX13_terms 14 = .ok (.iload_n 2, 1) := dk_28 (dk_at dksX13_terms_0 14 rfl rfl)
theorem dX13_terms_15 : decode cX13_terms 15 = .ok (.invokestatic 65, 3) := dk_184 0 65 (dk_at dksX13_terms_0 15 rfl rfl)
theorem dX13_terms_18 : decode cX13_terms 18 = .ok (.iadd, 1) := dk_96 (dk_at dksX13_terms_0 18 rfl rfl)
theorem dX13_terms_19 : decode cX13_terms 19 = .ok (.sipush 9999, 3) := dk_17 39 15 (dk_at dksX13_terms_0 19 rfl rfl)
theorem dX13_terms_22 : decode cX13_terms 22 = .ok (.if_icmp .le 5, 3) := dk_164 0 5 (dk_at dksX13_terms_1 0 rfl rfl)
theorem dX13_terms_25 : decode cX13_terms 25 = .ok (.iconst 0, 1) := dk_3 (dk_at dksX13_terms_1 3 rfl rfl)
theorem dX13_terms_26 : decode cX13_terms 26 = .ok (.ireturn, 1) := dk_172 (dk_at dksX13_terms_1 4 rfl rfl)
theorem dX13_terms_27 : decode cX13_terms 27 = .ok (.aload_n 1, 1) := dk_43 (dk_at dksX13_terms_1 5 rfl rfl)
theorem dX13_terms_28 : decode cX13_terms 28 = .ok (.invokevirtual 70, 3) := dk_182 0 70 (dk_at dksX13_terms_1 6 rfl rfl)
theorem dX13_terms_31 : decode cX13_terms 31 = .ok (.pop, 1) := dk_87 (dk_at dksX13_terms_1 9 rfl rfl)
theorem dX13_terms_32 : decode cX13_terms 32 = .ok (.aload_n 0, 1) := dk_42 (dk_at dksX13_terms_1 10 rfl rfl)
theorem dX13_terms_33 : decode cX13_terms 33 = .ok (.dup, 1) := dk_89 (dk_at dksX13_terms_1 11 rfl rfl)
theorem dX13_terms_34 : decode cX13_terms 34 = .ok (.getfield 61, 3) := dk_180 0 61 (dk_at dksX13_terms_1 12 rfl rfl)
theorem dX13_terms_37 : decode cX13_terms 37 = .ok (.iload_n 2, 1) := dk_28 (dk_at dksX13_terms_1 15 rfl rfl)
theorem dX13_terms_38 : decode cX13_terms 38 = .ok (.invokestatic 65, 3) := dk_184 0 65 (dk_at dksX13_terms_1 16 rfl rfl)
theorem dX13_terms_41 : decode cX13_terms 41 = .ok (.iadd, 1) := dk_96 (dk_at dksX13_terms_1 19 rfl rfl)
theorem dX13_terms_42 : decode cX13_terms 42 = .ok (.putfield 61, 3) := dk_181 0 61 (dk_at dksX13_terms_1 20 rfl rfl)
theorem dX13_terms_45 : decode cX13_terms 45 = .ok (.aload_n 0, 1) := dk_42 (dk_at dksX13_terms_1 23 rfl rfl)
theorem dX13_terms_46 : decode cX13_terms 46 = .ok (.dup, 1) := dk_89 (dk_at dksX13_terms_2 0 rfl rfl)
theorem dX13_terms_47 : decode cX13_terms 47 = .ok (.getfield 74, 3) := dk_180 0 74 (dk_at dksX13_terms_2 1 rfl rfl)
theorem dX13_terms_50 : decode cX13_terms 50 = .ok (.iload_n 2, 1) := dk_28 (dk_at dksX13_terms_2 4 rfl rfl)
theorem dX13_terms_51 : decode cX13_terms 51 = .ok (.aload_n 1, 1) := dk_43 (dk_at dksX13_terms_2 5 rfl rfl)
theorem dX13_terms_52 : decode cX13_terms 52 = .ok (.iconst 1, 1) := dk_4 (dk_at dksX13_terms_2 6 rfl rfl)
theorem dX13_terms_53 : decode cX13_terms 53 = .ok (.invokevirtual 62, 3) := dk_182 0 62 (dk_at dksX13_terms_2 7 rfl rfl)
theorem dX13_terms_56 : decode cX13_terms 56 = .ok (.iand, 1) := dk_126 (dk_at dksX13_terms_2 10 rfl rfl)
theorem dX13_terms_57 : decode cX13_terms 57 = .ok (.invokestatic 65, 3) := dk_184 0 65 (dk_at dksX13_terms_2 11 rfl rfl)
theorem dX13_terms_60 : decode cX13_terms 60 = .ok (.iadd, 1) := dk_96 (dk_at dksX13_terms_2 14 rfl rfl)
theorem dX13_terms_61 : decode cX13_terms 61 = .ok (.putfield 74, 3) := dk_181 0 74 (dk_at dksX13_terms_2 15 rfl rfl)
theorem dX13_terms_64 : decode cX13_terms 64 = .ok (.aload_n 0, 1) := dk_42 (dk_at dksX13_terms_2 18 rfl rfl)
theorem dX13_terms_65 : decode cX13_terms 65 = .ok (.dup, 1) := dk_89 (dk_at dksX13_terms_2 19 rfl rfl)
theorem dX13_terms_66 : decode cX13_terms 66 = .ok (.getfield 77, 3) := dk_180 0 77 (dk_at dksX13_terms_2 20 rfl rfl)
theorem dX13_terms_69 : decode cX13_terms 69 = .ok (.iload_n 2, 1) := dk_28 (dk_at dksX13_terms_2 23 rfl rfl)
theorem dX13_terms_70 : decode cX13_terms 70 = .ok (.aload_n 1, 1) := dk_43 (dk_at dksX13_terms_3 0 rfl rfl)
theorem dX13_terms_71 : decode cX13_terms 71 = .ok (.iconst 2, 1) := dk_5 (dk_at dksX13_terms_3 1 rfl rfl)
theorem dX13_terms_72 : decode cX13_terms 72 = .ok (.invokevirtual 62, 3) := dk_182 0 62 (dk_at dksX13_terms_3 2 rfl rfl)
theorem dX13_terms_75 : decode cX13_terms 75 = .ok (.iand, 1) := dk_126 (dk_at dksX13_terms_3 5 rfl rfl)
theorem dX13_terms_76 : decode cX13_terms 76 = .ok (.invokestatic 65, 3) := dk_184 0 65 (dk_at dksX13_terms_3 6 rfl rfl)
theorem dX13_terms_79 : decode cX13_terms 79 = .ok (.iadd, 1) := dk_96 (dk_at dksX13_terms_3 9 rfl rfl)
theorem dX13_terms_80 : decode cX13_terms 80 = .ok (.putfield 77, 3) := dk_181 0 77 (dk_at dksX13_terms_3 10 rfl rfl)
theorem dX13_terms_83 : decode cX13_terms 83 = .ok (.iconst 1, 1) := dk_4 (dk_at dksX13_terms_3 13 rfl rfl)
theorem dX13_terms_84 : decode cX13_terms 84 = .ok (.ireturn, 1) := dk_172 (dk_at dksX13_terms_3 14 rfl rfl)
abbrev cX13_nights : ByteArray := prog_2_method_5_code
def yX13_nights : MethodName := ⟨RX13, "nights", "(LCatWitness$Court;)Z"⟩
def dkwX13_nights_0 : List UInt8 := [42, 180, 0, 80, 154, 0, 5, 3, 172, 42, 3, 181, 0, 80, 4, 172]
abbrev dktX13_nights_0 : List UInt8 := dkwX13_nights_0 ++ []
theorem dksX13_nights_0 : cX13_nights.data.toList.drop 0 = dktX13_nights_0 := by decide +kernel
theorem dX13_nights_0 : decode cX13_nights 0 = .ok (.aload_n 0, 1) := dk_42 (dk_at dksX13_nights_0 0 rfl rfl)
theorem dX13_nights_1 : decode cX13_nights 1 = .ok (.getfield 80, 3) := dk_180 0 80 (dk_at dksX13_nights_0 1 rfl rfl)
theorem dX13_nights_4 : decode cX13_nights 4 = .ok (.ifCond .ne 5, 3) := dk_154 0 5 (dk_at dksX13_nights_0 4 rfl rfl)
theorem dX13_nights_7 : decode cX13_nights 7 = .ok (.iconst 0, 1) := dk_3 (dk_at dksX13_nights_0 7 rfl rfl)
theorem dX13_nights_8 : decode cX13_nights 8 = .ok (.ireturn, 1) := dk_172 (dk_at dksX13_nights_0 8 rfl rfl)
theorem dX13_nights_9 : decode cX13_nights 9 = .ok (.aload_n 0, 1) := dk_42 (dk_at dksX13_nights_0 9 rfl rfl)
theorem dX13_nights_10 : decode cX13_nights 10 = .ok (.iconst 0, 1) := dk_3 (dk_at dksX13_nights_0 10 rfl rfl)
theorem dX13_nights_11 : decode cX13_nights 11 = .ok (.putfield 80, 3) := dk_181 0 80 (dk_at dksX13_nights_0 11 rfl rfl)
theorem dX13_nights_14 : decode cX13_nights 14 = .ok (.iconst 1, 1) := dk_4 (dk_at dksX13_nights_0 14 rfl rfl)
theorem dX13_nights_15 : decode cX13_nights 15 = .ok (.ireturn, 1) := dk_172 (dk_at dksX13_nights_0 15 rfl rfl)
abbrev cX13_any : ByteArray := prog_2_method_6_code
def yX13_any : MethodName := ⟨RX13, "any", "(LCatWitness$Living;LCatWitness$Court;)Z"⟩
def dkwX13_any_1 : List UInt8 := [182, 0, 86, 182, 0, 34, 172]
abbrev dktX13_any_1 : List UInt8 := dkwX13_any_1 ++ []
def dkwX13_any_0 : List UInt8 := [43, 180, 0, 83, 154, 0, 5, 3, 172, 42, 43, 180, 0, 83, 182, 0, 86, 61, 43, 28, 42, 7]
abbrev dktX13_any_0 : List UInt8 := dkwX13_any_0 ++ dktX13_any_1
theorem dksX13_any_0 : cX13_any.data.toList.drop 0 = dktX13_any_0 := by decide +kernel
theorem dksX13_any_1 : cX13_any.data.toList.drop 22 = dktX13_any_1 := dk_seg dksX13_any_0 22 rfl rfl
theorem dX13_any_0 : decode cX13_any 0 = .ok (.aload_n 1, 1) := dk_43 (dk_at dksX13_any_0 0 rfl rfl)
theorem dX13_any_1 : decode cX13_any 1 = .ok (.getfield 83, 3) := dk_180 0 83 (dk_at dksX13_any_0 1 rfl rfl)
theorem dX13_any_4 : decode cX13_any 4 = .ok (.ifCond .ne 5, 3) := dk_154 0 5 (dk_at dksX13_any_0 4 rfl rfl)
theorem dX13_any_7 : decode cX13_any 7 = .ok (.iconst 0, 1) := dk_3 (dk_at dksX13_any_0 7 rfl rfl)
theorem dX13_any_8 : decode cX13_any 8 = .ok (.ireturn, 1) := dk_172 (dk_at dksX13_any_0 8 rfl rfl)
theorem dX13_any_9 : decode cX13_any 9 = .ok (.aload_n 0, 1) := dk_42 (dk_at dksX13_any_0 9 rfl rfl)
theorem dX13_any_10 : decode cX13_any 10 = .ok (.aload_n 1, 1) := dk_43 (dk_at dksX13_any_0 10 rfl rfl)
theorem dX13_any_11 : decode cX13_any 11 = .ok (.getfield 83, 3) := dk_180 0 83 (dk_at dksX13_any_0 11 rfl rfl)
theorem dX13_any_14 : decode cX13_any 14 = .ok (.invokevirtual 86, 3) := dk_182 0 86 (dk_at dksX13_any_0 14 rfl rfl)
theorem dX13_any_17 : decode cX13_any 17 = .ok (.istore_n 2, 1) := dk_61 (dk_at dksX13_any_0 17 rfl rfl)
theorem dX13_any_18 : decode cX13_any 18 = .ok (.aload_n 1, 1) := dk_43 (dk_at dksX13_any_0 18 rfl rfl)
theorem dX13_any_19 : decode cX13_any 19 = .ok (.iload_n 2, 1) := dk_28 (dk_at dksX13_any_0 19 rfl rfl)
theorem dX13_any_20 : decode cX13_any 20 = .ok (.aload_n 0, 1) := dk_42 (dk_at dksX13_any_0 20 rfl rfl)
theorem dX13_any_21 : decode cX13_any 21 = .ok (.iconst 4, 1) := dk_7 (dk_at dksX13_any_0 21 rfl rfl)
theorem dX13_any_22 : decode cX13_any 22 = .ok (.invokevirtual 86, 3) := dk_182 0 86 (dk_at dksX13_any_1 0 rfl rfl)
theorem dX13_any_25 : decode cX13_any 25 = .ok (.invokevirtual 34, 3) := dk_182 0 34 (dk_at dksX13_any_1 3 rfl rfl)
theorem dX13_any_28 : decode cX13_any 28 = .ok (.ireturn, 1) := dk_172 (dk_at dksX13_any_1 6 rfl rfl)
theorem q192 : (Jvm.Cond.initialized "CatWitness$Act") ∈ lw_all := lw_g (lw_at lw_m1 26 rfl) rfl
theorem q330 : (Jvm.Cond.fieldLinkNest "CatWitness$Act" (83 : Nat) "CatWitness$Court" "people" "I" "CatWitness") ∈ lw_tbl := lw_at lw_m1 164 rfl
theorem q341 : (Jvm.Cond.fieldLinkNest "CatWitness$Act" (80 : Nat) "CatWitness$Court" "warm" "I" "CatWitness") ∈ lw_tbl := lw_at lw_m1 175 rfl
theorem q344 : (Jvm.Cond.fieldLinkNest "CatWitness$Act" (55 : Nat) "CatWitness$Court" "sittings" "I" "CatWitness") ∈ lw_tbl := lw_at lw_m1 178 rfl
theorem q1050 : (Jvm.Cond.instantiable "CatWitness$Act" (3 : Nat)) ∈ lw_all := lw_g (lw_at lw_m4 164 rfl) rfl
theorem q1052 : (Jvm.Cond.instanceMethod ({ cls := "CatWitness$Act", name := "<init>", desc := "(III)V" } : Jvm.MethodName)) ∈ lw_all := lw_g (lw_at lw_m4 166 rfl) rfl
theorem q1053 : (Jvm.Cond.code ({ cls := "CatWitness$Act", name := "<init>", desc := "(III)V" } : Jvm.MethodName) prog_2_method_1_code (4 : Nat) (Option.none : Option Jvm.ClassFile.FieldType)) ∈ lw_all := lw_g (lw_at lw_m4 167 rfl) rfl
theorem q1054 : (Jvm.Cond.methodLinkNest "CatWitness$Act" (3 : Nat) ({ cls := "CatWitness$Step", name := "<init>", desc := "()V" } : Jvm.MethodName) "CatWitness") ∈ lw_tbl := lw_at lw_m4 168 rfl
theorem q1055 : (Jvm.Cond.fieldLink "CatWitness$Act" (9 : Nat) "CatWitness$Act" "what" "I") ∈ lw_all := lw_g (lw_at lw_m4 169 rfl) rfl
theorem q1056 : (Jvm.Cond.fieldLink "CatWitness$Act" (15 : Nat) "CatWitness$Act" "one" "I") ∈ lw_all := lw_g (lw_at lw_m4 170 rfl) rfl
theorem q1057 : (Jvm.Cond.fieldLink "CatWitness$Act" (18 : Nat) "CatWitness$Act" "two" "I") ∈ lw_all := lw_g (lw_at lw_m4 171 rfl) rfl
theorem q1058 : (Jvm.Cond.laysFinal "CatWitness$Act" "CatWitness$Act" "what" "I") ∈ lw_all := lw_g (lw_at lw_m4 172 rfl) rfl
theorem q1059 : (Jvm.Cond.soleField "CatWitness$Act" "what") ∈ lw_all := lw_g (lw_at lw_m4 173 rfl) rfl
theorem q1060 : (Jvm.Cond.laysFinal "CatWitness$Act" "CatWitness$Act" "one" "I") ∈ lw_all := lw_g (lw_at lw_m4 174 rfl) rfl
theorem q1061 : (Jvm.Cond.soleField "CatWitness$Act" "one") ∈ lw_all := lw_g (lw_at lw_m4 175 rfl) rfl
theorem q1062 : (Jvm.Cond.laysFinal "CatWitness$Act" "CatWitness$Act" "two" "I") ∈ lw_all := lw_g (lw_at lw_m4 176 rfl) rfl
theorem q1063 : (Jvm.Cond.soleField "CatWitness$Act" "two") ∈ lw_all := lw_g (lw_at lw_m4 177 rfl) rfl
theorem q1064 : (Jvm.Cond.superclass "CatWitness$Act" "CatWitness$Step") ∈ lw_all := lw_g (lw_at lw_m4 178 rfl) rfl
theorem q1485 : (Jvm.Cond.fieldLinkNest "CatWitness$Act" (21 : Nat) "CatWitness$Living" "court" "LCatWitness$Court;" "CatWitness") ∈ lw_tbl := lw_at lw_m6 119 rfl
theorem q1490 : (Jvm.Cond.fieldLinkNest "CatWitness$Act" (93 : Nat) "CatWitness$Living" "missed" "I" "CatWitness") ∈ lw_tbl := lw_at lw_m6 124 rfl
theorem q1492 : (Jvm.Cond.fieldLinkNest "CatWitness$Act" (61 : Nat) "CatWitness$Living" "sittings" "I" "CatWitness") ∈ lw_tbl := lw_at lw_m6 126 rfl
theorem q1494 : (Jvm.Cond.fieldLinkNest "CatWitness$Act" (74 : Nat) "CatWitness$Living" "free" "I" "CatWitness") ∈ lw_tbl := lw_at lw_m6 128 rfl
theorem q1496 : (Jvm.Cond.fieldLinkNest "CatWitness$Act" (77 : Nat) "CatWitness$Living" "held" "I" "CatWitness") ∈ lw_tbl := lw_at lw_m6 130 rfl
theorem q1499 : (Jvm.Cond.fieldLinkNest "CatWitness$Act" (51 : Nat) "CatWitness$Living" "isOver" "Z" "CatWitness") ∈ lw_tbl := lw_at lw_m6 133 rfl
theorem q1532 : (Jvm.Cond.selects "CatWitness$Act" ({ cls := "CatWitness$Step", name := "go", desc := "(LCatWitness$Living;)V" } : Jvm.MethodName) ({ cls := "CatWitness$Step", name := "go", desc := "(LCatWitness$Living;)V" } : Jvm.MethodName)) ∈ lw_all := lw_g (lw_at lw_m6 166 rfl) rfl
theorem q1539 : (Jvm.Cond.selects "CatWitness$Act" ({ cls := "CatWitness$Step", name := "does", desc := "(LCatWitness$Living;)V" } : Jvm.MethodName) ({ cls := "CatWitness$Act", name := "does", desc := "(LCatWitness$Living;)V" } : Jvm.MethodName)) ∈ lw_all := lw_g (lw_at lw_m6 173 rfl) rfl
theorem q1540 : (Jvm.Cond.instanceMethod ({ cls := "CatWitness$Act", name := "does", desc := "(LCatWitness$Living;)V" } : Jvm.MethodName)) ∈ lw_all := lw_g (lw_at lw_m6 174 rfl) rfl
theorem q1541 : (Jvm.Cond.code ({ cls := "CatWitness$Act", name := "does", desc := "(LCatWitness$Living;)V" } : Jvm.MethodName) prog_2_method_7_code (2 : Nat) (Option.none : Option Jvm.ClassFile.FieldType)) ∈ lw_all := lw_g (lw_at lw_m6 175 rfl) rfl
theorem q1542 : (Jvm.Cond.methodLink "CatWitness$Act" (89 : Nat) ({ cls := "CatWitness$Act", name := "can", desc := "(LCatWitness$Living;)Z" } : Jvm.MethodName)) ∈ lw_all := lw_g (lw_at lw_m6 176 rfl) rfl
theorem q1543 : (Jvm.Cond.privateMethod ({ cls := "CatWitness$Act", name := "can", desc := "(LCatWitness$Living;)Z" } : Jvm.MethodName)) ∈ lw_tbl := lw_at lw_m6 177 rfl
theorem q1544 : (Jvm.Cond.instanceMethod ({ cls := "CatWitness$Act", name := "can", desc := "(LCatWitness$Living;)Z" } : Jvm.MethodName)) ∈ lw_all := lw_g (lw_at lw_m6 178 rfl) rfl
theorem q1545 : (Jvm.Cond.code ({ cls := "CatWitness$Act", name := "can", desc := "(LCatWitness$Living;)Z" } : Jvm.MethodName) prog_2_method_2_code (3 : Nat) (Option.some Jvm.ClassFile.FieldType.boolean)) ∈ lw_all := lw_g (lw_at lw_m6 179 rfl) rfl
theorem q1546 : (Jvm.Cond.methodLink "CatWitness$Act" (27 : Nat) ({ cls := "CatWitness$Act", name := "sits", desc := "(LCatWitness$Living;LCatWitness$Court;)Z" } : Jvm.MethodName)) ∈ lw_all := lw_g (lw_at lw_m6 180 rfl) rfl
theorem q1547 : (Jvm.Cond.privateMethod ({ cls := "CatWitness$Act", name := "sits", desc := "(LCatWitness$Living;LCatWitness$Court;)Z" } : Jvm.MethodName)) ∈ lw_tbl := lw_at lw_m6 181 rfl
theorem q1548 : (Jvm.Cond.instanceMethod ({ cls := "CatWitness$Act", name := "sits", desc := "(LCatWitness$Living;LCatWitness$Court;)Z" } : Jvm.MethodName)) ∈ lw_all := lw_g (lw_at lw_m6 182 rfl) rfl
theorem q1549 : (Jvm.Cond.code ({ cls := "CatWitness$Act", name := "sits", desc := "(LCatWitness$Living;LCatWitness$Court;)Z" } : Jvm.MethodName) prog_2_method_3_code (3 : Nat) (Option.some Jvm.ClassFile.FieldType.boolean)) ∈ lw_all := lw_g (lw_at lw_m6 183 rfl) rfl
theorem q1550 : (Jvm.Cond.methodLink "CatWitness$Act" (58 : Nat) ({ cls := "CatWitness$Court", name := "sits", desc := "(I)I" } : Jvm.MethodName)) ∈ lw_all := lw_g (lw_at lw_m6 184 rfl) rfl
theorem q1551 : (Jvm.Cond.methodLink "CatWitness$Act" (31 : Nat) ({ cls := "CatWitness$Act", name := "terms", desc := "(LCatWitness$Living;LCatWitness$Court;)Z" } : Jvm.MethodName)) ∈ lw_all := lw_g (lw_at lw_m6 185 rfl) rfl
theorem q1552 : (Jvm.Cond.static ({ cls := "CatWitness$Act", name := "terms", desc := "(LCatWitness$Living;LCatWitness$Court;)Z" } : Jvm.MethodName)) ∈ lw_all := lw_g (lw_at lw_m6 186 rfl) rfl
theorem q1553 : (Jvm.Cond.code ({ cls := "CatWitness$Act", name := "terms", desc := "(LCatWitness$Living;LCatWitness$Court;)Z" } : Jvm.MethodName) prog_2_method_4_code (3 : Nat) (Option.some Jvm.ClassFile.FieldType.boolean)) ∈ lw_all := lw_g (lw_at lw_m6 187 rfl) rfl
theorem q1554 : (Jvm.Cond.methodLink "CatWitness$Act" (62 : Nat) ({ cls := "CatWitness$Court", name := "are", desc := "(I)I" } : Jvm.MethodName)) ∈ lw_all := lw_g (lw_at lw_m6 188 rfl) rfl
theorem q1555 : (Jvm.Cond.methodLink "CatWitness$Act" (65 : Nat) ({ cls := "java/lang/Integer", name := "bitCount", desc := "(I)I" } : Jvm.MethodName)) ∈ lw_all := lw_g (lw_at lw_m6 189 rfl) rfl
theorem q1556 : (Jvm.Cond.methodLink "CatWitness$Act" (70 : Nat) ({ cls := "CatWitness$Court", name := "term", desc := "()I" } : Jvm.MethodName)) ∈ lw_all := lw_g (lw_at lw_m6 190 rfl) rfl
theorem q1557 : (Jvm.Cond.methodLink "CatWitness$Act" (34 : Nat) ({ cls := "CatWitness$Court", name := "feeds", desc := "(II)Z" } : Jvm.MethodName)) ∈ lw_all := lw_g (lw_at lw_m6 191 rfl) rfl
theorem q1558 : (Jvm.Cond.methodLink "CatWitness$Act" (40 : Nat) ({ cls := "CatWitness$Court", name := "scents", desc := "(IIZ)Z" } : Jvm.MethodName)) ∈ lw_all := lw_g (lw_at lw_m6 192 rfl) rfl
theorem q1559 : (Jvm.Cond.methodLink "CatWitness$Act" (44 : Nat) ({ cls := "CatWitness$Act", name := "nights", desc := "(LCatWitness$Court;)Z" } : Jvm.MethodName)) ∈ lw_all := lw_g (lw_at lw_m6 193 rfl) rfl
theorem q1560 : (Jvm.Cond.static ({ cls := "CatWitness$Act", name := "nights", desc := "(LCatWitness$Court;)Z" } : Jvm.MethodName)) ∈ lw_all := lw_g (lw_at lw_m6 194 rfl) rfl
theorem q1561 : (Jvm.Cond.code ({ cls := "CatWitness$Act", name := "nights", desc := "(LCatWitness$Court;)Z" } : Jvm.MethodName) prog_2_method_5_code (1 : Nat) (Option.some Jvm.ClassFile.FieldType.boolean)) ∈ lw_all := lw_g (lw_at lw_m6 195 rfl) rfl
theorem q1562 : (Jvm.Cond.methodLink "CatWitness$Act" (48 : Nat) ({ cls := "CatWitness$Act", name := "any", desc := "(LCatWitness$Living;LCatWitness$Court;)Z" } : Jvm.MethodName)) ∈ lw_all := lw_g (lw_at lw_m6 196 rfl) rfl
theorem q1563 : (Jvm.Cond.static ({ cls := "CatWitness$Act", name := "any", desc := "(LCatWitness$Living;LCatWitness$Court;)Z" } : Jvm.MethodName)) ∈ lw_all := lw_g (lw_at lw_m6 197 rfl) rfl
theorem q1564 : (Jvm.Cond.code ({ cls := "CatWitness$Act", name := "any", desc := "(LCatWitness$Living;LCatWitness$Court;)Z" } : Jvm.MethodName) prog_2_method_6_code (3 : Nat) (Option.some Jvm.ClassFile.FieldType.boolean)) ∈ lw_all := lw_g (lw_at lw_m6 198 rfl) rfl
theorem q1565 : (Jvm.Cond.methodLink "CatWitness$Act" (86 : Nat) ({ cls := "CatWitness$Living", name := "draw", desc := "(I)I" } : Jvm.MethodName)) ∈ lw_all := lw_g (lw_at lw_m6 199 rfl) rfl
theorem q2423 : (Jvm.Cond.castable "CatWitness$Act" "CatWitness$Step") ∈ lw_tbl := lw_at lw_m10 97 rfl
theorem in_X13 : ∀ w ∈ wsX130, w ∈ lw_all := lw_in wsX130 [1058, 1060, 1062] (by decide +kernel) (by decide +kernel)
