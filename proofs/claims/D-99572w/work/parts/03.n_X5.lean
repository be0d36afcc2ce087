/-! CatWitness$Court -/
set_option maxRecDepth 100000
def RX5 : String := "CatWitness$Court"
def TX5 : u_T := fun k => match k with
  | 0 => ("CatWitness$Court", "smells", "I", false)
  | 1 => ("CatWitness$Court", "cues", "I", false)
  | 2 => ("CatWitness$Court", "rules", "I", false)
  | 3 => ("CatWitness$Court", "people", "I", false)
  | 4 => ("CatWitness$Court", "readers", "I", false)
  | 5 => ("CatWitness$Court", "words", "I", false)
  | 6 => ("CatWitness$Court", "warm", "I", false)
  | 7 => ("CatWitness$Court", "sittings", "I", false)
  | 8 => ("CatWitness$Court", "smellNames", "[J", false)
  | 9 => ("CatWitness$Court", "cueNames", "[J", false)
  | 10 => ("CatWitness$Court", "personNames", "[J", false)
  | 11 => ("CatWitness$Court", "readerNames", "[J", false)
  | 12 => ("CatWitness$Court", "sense", "[I", true)
  | 13 => ("CatWitness$Court", "fed", "[I", true)
  | 14 => ("CatWitness$Court", "scents", "[I", true)
  | 15 => ("CatWitness$Court", "state", "[I", true)
  | 16 => ("CatWitness$Court", "guilty", "[I", true)
  | 17 => ("CatWitness$Court", "sat", "[I", true)
  | 18 => ("CatWitness$Court", "slip", "[I", true)
  | 19 => ("CatWitness$Court", "votes", "[I", true)
  | 20 => ("CatWitness$Court", "about", "[I", true)
  | 21 => ("CatWitness$Court", "says", "[I", true)
  | _ => ("CatWitness$Court", "rule", "[LCatWitness$Rule;", true)
def tyX5 : Nat → FieldType := fun k => match k with
  | 0 => .int
  | 1 => .int
  | 2 => .int
  | 3 => .int
  | 4 => .int
  | 5 => .int
  | 6 => .int
  | 7 => .int
  | 8 => .array .long
  | 9 => .array .long
  | 10 => .array .long
  | 11 => .array .long
  | 12 => .array .int
  | 13 => .array .int
  | 14 => .array .int
  | 15 => .array .int
  | 16 => .array .int
  | 17 => .array .int
  | 18 => .array .int
  | 19 => .array .int
  | 20 => .array .int
  | 21 => .array .int
  | _ => .array (.object "CatWitness$Rule")
abbrev wsX50 : List Cond := u_ws RX5 TX5 23
set_option maxRecDepth 100000 in
theorem nmX5 : ∀ a, a < 23 → ∀ b, b < 23 → a ≠ b → (TX5 a).2.1 ≠ (TX5 b).2.1 := by decide +kernel
set_option maxRecDepth 100000 in
theorem tyX5_ok : ∀ k, k < 23 → parseFieldDescriptor (TX5 k).2.2.1 = some (tyX5 k) := by decide +kernel
abbrev cX5_init : ByteArray := prog_5_method_1_code
def yX5_init : MethodName := ⟨RX5, "<init>", "()V"⟩
def dkwX5_init_5 : List UInt8 := [189, 0, 55, 181, 0, 57, 177]
abbrev dktX5_init_5 : List UInt8 := dkwX5_init_5 ++ []
def dkwX5_init_4 : List UInt8 := [181, 0, 46, 42, 16, 10, 188, 10, 181, 0, 49, 42, 16, 10, 188, 10, 181, 0, 52, 42, 16, 8]
abbrev dktX5_init_4 : List UInt8 := dkwX5_init_4 ++ dktX5_init_5
def dkwX5_init_3 : List UInt8 := [181, 0, 37, 42, 16, 6, 188, 10, 181, 0, 40, 42, 16, 6, 188, 10, 181, 0, 43, 42, 16, 6, 188, 10]
abbrev dktX5_init_3 : List UInt8 := dkwX5_init_3 ++ dktX5_init_4
def dkwX5_init_2 : List UInt8 := [181, 0, 28, 42, 16, 6, 188, 10, 181, 0, 31, 42, 16, 6, 188, 10, 181, 0, 34, 42, 16, 6, 188, 10]
abbrev dktX5_init_2 : List UInt8 := dkwX5_init_2 ++ dktX5_init_3
def dkwX5_init_1 : List UInt8 := [181, 0, 18, 42, 16, 6, 188, 11, 181, 0, 21, 42, 16, 6, 188, 10, 181, 0, 24, 42, 16, 6, 188, 10]
abbrev dktX5_init_1 : List UInt8 := dkwX5_init_1 ++ dktX5_init_2
def dkwX5_init_0 : List UInt8 := [42, 183, 0, 3, 42, 8, 188, 11, 181, 0, 9, 42, 16, 6, 188, 11, 181, 0, 15, 42, 16, 6, 188, 11]
abbrev dktX5_init_0 : List UInt8 := dkwX5_init_0 ++ dktX5_init_1
theorem dksX5_init_0 : cX5_init.data.toList.drop 0 = dktX5_init_0 := by decide +kernel
theorem dksX5_init_1 : cX5_init.data.toList.drop 24 = dktX5_init_1 := dk_seg dksX5_init_0 24 rfl rfl
theorem dksX5_init_2 : cX5_init.data.toList.drop 48 = dktX5_init_2 := dk_seg dksX5_init_1 24 rfl rfl
theorem dksX5_init_3 : cX5_init.data.toList.drop 72 = dktX5_init_3 := dk_seg dksX5_init_2 24 rfl rfl
theorem dksX5_init_4 : cX5_init.data.toList.drop 96 = dktX5_init_4 := dk_seg dksX5_init_3 24 rfl rfl
theorem dksX5_init_5 : cX5_init.data.toList.drop 118 = dktX5_init_5 := dk_seg dksX5_init_4 22 rfl rfl
theorem dX5_init_0 : decode cX5_init 0 = .ok (.aload_n 0, 1) := dk_42 (dk_at dksX5_init_0 0 rfl rfl)
theorem dX5_init_1 : decode cX5_init 1 = .ok (.invokespecial 3, 3) := dk_183 0 3 (dk_at dksX5_init_0 1 rfl rfl)
theorem dX5_init_4 : decode cX5_init 4 = .ok (.aload_n 0, 1) := dk_42 (dk_at dksX5_init_0 4 rfl rfl)
theorem dX5_init_5 : decode cX5_init 5 = .ok (.iconst 5, 1) := dk_8 (dk_at dksX5_init_0 5 rfl rfl)
theorem dX5_init_6 : decode cX5_init 6 = .ok (.newarray .long, 2) := dk_188_11 (dk_at dksX5_init_0 6 rfl rfl)
theorem dX5_init_8 : decode cX5_init 8 = .ok (.putfield 9, 3) := dk_181 0 9 (dk_at dksX5_init_0 8 rfl rfl)
theorem dX5_init_11 : decode cX5_init 11 = .ok (.aload_n 0, 1) := dk_42 (dk_at dksX5_init_0 11 rfl rfl)
theorem dX5_init_12 : decode cX5_init 12 = .ok (.bipush 6, 2) := dk_16 6 (dk_at dksX5_init_0 12 rfl rfl)
theorem dX5_init_14 : decode cX5_init 14 = .ok (.newarray .long, 2) := dk_188_11 (dk_at dksX5_init_0 14 rfl rfl)
theorem dX5_init_16 : decode cX5_init 16 = .ok (.putfield 15, 3) := dk_181 0 15 (dk_at dksX5_init_0 16 rfl rfl)
theorem dX5_init_19 : decode cX5_init 19 = .ok (.aload_n 0, 1) := dk_42 (dk_at dksX5_init_0 19 rfl rfl)
theorem dX5_init_20 : decode cX5_init 20 = .ok (.bipush 6, 2) := dk_16 6 (dk_at dksX5_init_0 20 rfl rfl)
theorem dX5_init_22 : decode cX5_init 22 = .ok (.newarray .long, 2) := dk_188_11 (dk_at dksX5_init_0 22 rfl rfl)
theorem dX5_init_24 : decode cX5_init 24 = .ok (.putfield 18, 3) := dk_181 0 18 (dk_at dksX5_init_1 0 rfl rfl)
theorem dX5_init_27 : decode cX5_init 27 = .ok (.aload_n 0, 1) := dk_42 (dk_at dksX5_init_1 3 rfl rfl)
theorem dX5_init_28 : decode cX5_init 28 = .ok (.bipush 6, 2) := dk_16 6 (dk_at dksX5_init_1 4 rfl rfl)
theorem dX5_init_30 : decode cX5_init 30 = .ok (.newarray .long, 2) := dk_188_11 (dk_at dksX5_init_1 6 rfl rfl)
theorem dX5_init_32 : decode cX5_init 32 = .ok (.putfield 21, 3) := dk_181 0 21 (dk_at dksX5_init_1 8 rfl rfl)
theorem dX5_init_35 : decode cX5_init 35 = .ok (.aload_n 0, 1) := dk_42 (dk_at dksX5_init_1 11 rfl rfl)
theorem dX5_init_36 : decode cX5_init 36 = .ok (.bipush 6, 2) := dk_16 6 (dk_at dksX5_init_1 12 rfl rfl)
theorem dX5_init_38 : decode cX5_init 38 = .ok (.newarray .int, 2) := dk_188_10 (dk_at dksX5_init_1 14 rfl rfl)
theorem dX5_init_40 : decode cX5_init 40 = .ok (.putfield 24, 3) := dk_181 0 24 (dk_at dksX5_init_1 16 rfl rfl)
theorem dX5_init_43 : decode cX5_init 43 = .ok (.aload_n 0, 1) := dk_42 (dk_at dksX5_init_1 19 rfl rfl)
theorem dX5_init_44 : decode cX5_init 44 = .ok (.bipush 6, 2) := dk_16 6 (dk_at dksX5_init_1 20 rfl rfl)
theorem dX5_init_46 : decode cX5_init 46 = .ok (.newarray .int, 2) := dk_188_10 (dk_at dksX5_init_1 22 rfl rfl)
theorem dX5_init_48 : decode cX5_init 48 = .ok (.putfield 28, 3) := dk_181 0 28 (dk_at dksX5_init_2 0 rfl rfl)
theorem dX5_init_51 : decode cX5_init 51 = .ok (.aload_n 0, 1) := dk_42 (dk_at dksX5_init_2 3 rfl rfl)
theorem dX5_init_52 : decode cX5_init 52 = .ok (.bipush 6, 2) := dk_16 6 (dk_at dksX5_init_2 4 rfl rfl)
theorem dX5_init_54 : decode cX5_init 54 = .ok (.newarray .int, 2) := dk_188_10 (dk_at dksX5_init_2 6 rfl rfl)
theorem dX5_init_56 : decode cX5_init 56 = .ok (.putfield 31, 3) := dk_181 0 31 (dk_at dksX5_init_2 8 rfl rfl)
theorem dX5_init_59 : decode cX5_init 59 = .ok (.aload_n 0, 1) := dk_42 (dk_at dksX5_init_2 11 rfl rfl)
theorem dX5_init_60 : decode cX5_init 60 = .ok (.bipush 6, 2) := dk_16 6 (dk_at dksX5_init_2 12 rfl rfl)
theorem dX5_init_62 : decode cX5_init 62 = .ok (.newarray .int, 2) := dk_188_10 (dk_at dksX5_init_2 14 rfl rfl)
theorem dX5_init_64 : decode cX5_init 64 = .ok (.putfield 34, 3) := dk_181 0 34 (dk_at dksX5_init_2 16 rfl rfl)
theorem dX5_init_67 : decode cX5_init 67 = .ok (.aload_n 0, 1) := dk_42 (dk_at dksX5_init_2 19 rfl rfl)
theorem dX5_init_68 : decode cX5_init 68 = .ok (.bipush 6, 2) := dk_16 6 (dk_at dksX5_init_2 20 rfl rfl)
theorem dX5_init_70 : decode cX5_init 70 = .ok (.newarray .int, 2) := dk_188_10 (dk_at dksX5_init_2 22 rfl rfl)
theorem dX5_init_72 : decode cX5_init 72 = .ok (.putfield 37, 3) := dk_181 0 37 (dk_at dksX5_init_3 0 rfl rfl)
theorem dX5_init_75 : decode cX5_init 75 = .ok (.aload_n 0, 1) := dk_42 (dk_at dksX5_init_3 3 rfl rfl)
theorem dX5_init_76 : decode cX5_init 76 = .ok (.bipush 6, 2) := dk_16 6 (dk_at dksX5_init_3 4 rfl rfl)
theorem dX5_init_78 : decode cX5_init 78 = .ok (.newarray .int, 2) := dk_188_10 (dk_at dksX5_init_3 6 rfl rfl)
theorem dX5_init_80 : decode cX5_init 80 = .ok (.putfield 40, 3) := dk_181 0 40 (dk_at dksX5_init_3 8 rfl rfl)
theorem dX5_init_83 : decode cX5_init 83 = .ok (.aload_n 0, 1) := dk_42 (dk_at dksX5_init_3 11 rfl rfl)
theorem dX5_init_84 : decode cX5_init 84 = .ok (.bipush 6, 2) := dk_16 6 (dk_at dksX5_init_3 12 rfl rfl)
theorem dX5_init_86 : decode cX5_init 86 = .ok (.newarray .int, 2) := dk_188_10 (dk_at dksX5_init_3 14 rfl rfl)
theorem dX5_init_88 : decode cX5_init 88 = .ok (.putfield 43, 3) := dk_181 0 43 (dk_at dksX5_init_3 16 rfl rfl)
theorem dX5_init_91 : decode cX5_init 91 = .ok (.aload_n 0, 1) := dk_42 (dk_at dksX5_init_3 19 rfl rfl)
theorem dX5_init_92 : decode cX5_init 92 = .ok (.bipush 6, 2) := dk_16 6 (dk_at dksX5_init_3 20 rfl rfl)
theorem dX5_init_94 : decode cX5_init 94 = .ok (.newarray .int, 2) := dk_188_10 (dk_at dksX5_init_3 22 rfl rfl)
theorem dX5_init_96 : decode cX5_init 96 = .ok (.putfield 46, 3) := dk_181 0 46 (dk_at dksX5_init_4 0 rfl rfl)
theorem dX5_init_99 : decode cX5_init 99 = .ok (.aload_n 0, 1) := dk_42 (dk_at dksX5_init_4 3 rfl rfl)
theorem dX5_init_100 : decode cX5_init 100 = .ok (.bipush 10, 2) := dk_16 10 (dk_at dksX5_init_4 4 rfl rfl)
theorem dX5_init_102 : decode cX5_init 102 = .ok (.newarray .int, 2) := dk_188_10 (dk_at dksX5_init_4 6 rfl rfl)
theorem dX5_init_104 : decode cX5_init 104 = .ok (.putfield 49, 3) := dk_181 0 49 (dk_at dksX5_init_4 8 rfl rfl)
theorem dX5_init_107 : decode cX5_init 107 = .ok (.aload_n 0, 1) := dk_42 (dk_at dksX5_init_4 11 rfl rfl)
theorem dX5_init_108 : decode cX5_init 108 = .ok (.bipush 10, 2) := dk_16 10 (dk_at dksX5_init_4 12 rfl rfl)
theorem dX5_init_110 : decode cX5_init 110 = .ok (.newarray .int, 2) := dk_188_10 (dk_at dksX5_init_4 14 rfl rfl)
theorem dX5_init_112 : decode cX5_init 112 = .ok (.putfield 52, 3) := dk_181 0 52 (dk_at dksX5_init_4 16 rfl rfl)
theorem dX5_init_115 : decode cX5_init 115 = .ok (.aload_n 0, 1) := dk_42 (dk_at dksX5_init_4 19 rfl rfl)
theorem dX5_init_116 : decode cX5_init 116 = .ok (.bipush 8, 2) := dk_16 8 (dk_at dksX5_init_4 20 rfl rfl)
theorem dX5_init_118 : decode cX5_init 118 = .ok (.anewarray 55, 3) := dk_189 0 55 (dk_at dksX5_init_5 0 rfl rfl)
theorem dX5_init_121 : decode cX5_init 121 = .ok (.putfield 57, 3) := dk_181 0 57 (dk_at dksX5_init_5 3 rfl rfl)
theorem dX5_init_124 : decode cX5_init 124 = .ok (.return_, 1) := dk_177 (dk_at dksX5_init_5 6 rfl rfl)
abbrev cX5_smellNamed : ByteArray := prog_5_method_5_code
def yX5_smellNamed : MethodName := ⟨RX5, "smellNamed", "(J)I"⟩
def dkwX5_smellNamed_0 : List UInt8 := [42, 180, 0, 9, 42, 180, 0, 61, 31, 184, 0, 96, 172]
abbrev dktX5_smellNamed_0 : List UInt8 := dkwX5_smellNamed_0 ++ []
theorem dksX5_smellNamed_0 : cX5_smellNamed.data.toList.drop 0 = dktX5_smellNamed_0 := by decide +kernel
theorem dX5_smellNamed_0 : decode cX5_smellNamed 0 = .ok (.aload_n 0, 1) := dk_42 (dk_at dksX5_smellNamed_0 0 rfl rfl)
theorem dX5_smellNamed_1 : decode cX5_smellNamed 1 = .ok (.getfield 9, 3) := dk_180 0 9 (dk_at dksX5_smellNamed_0 1 rfl rfl)
theorem dX5_smellNamed_4 : decode cX5_smellNamed 4 = .ok (.aload_n 0, 1) := dk_42 (dk_at dksX5_smellNamed_0 4 rfl rfl)
theorem dX5_smellNamed_5 : decode cX5_smellNamed 5 = .ok (.getfield 61, 3) := dk_180 0 61 (dk_at dksX5_smellNamed_0 5 rfl rfl)
theorem dX5_smellNamed_8 : decode cX5_smellNamed 8 = .ok (.lload_n 1, 1) := dk_31 (dk_at dksX5_smellNamed_0 8 rfl rfl)
theorem dX5_smellNamed_9 : decode cX5_smellNamed 9 = .ok (.invokestatic 96, 3) := dk_184 0 96 (dk_at dksX5_smellNamed_0 9 rfl rfl)
theorem dX5_smellNamed_12 : decode cX5_smellNamed 12 = .ok (.ireturn, 1) := dk_172 (dk_at dksX5_smellNamed_0 12 rfl rfl)
abbrev cX5_find : ByteArray := prog_5_method_4_code
def yX5_find : MethodName := ⟨RX5, "find", "([JIJ)I"⟩
def dkwX5_find_1 : List UInt8 := [167, 255, 235, 2, 172]
abbrev dktX5_find_1 : List UInt8 := dkwX5_find_1 ++ []
def dkwX5_find_0 : List UInt8 := [3, 54, 4, 21, 4, 27, 162, 0, 21, 42, 21, 4, 47, 32, 148, 154, 0, 6, 21, 4, 172, 132, 4, 1]
abbrev dktX5_find_0 : List UInt8 := dkwX5_find_0 ++ dktX5_find_1
theorem dksX5_find_0 : cX5_find.data.toList.drop 0 = dktX5_find_0 := by decide +kernel
theorem dksX5_find_1 : cX5_find.data.toList.drop 24 = dktX5_find_1 := dk_seg dksX5_find_0 24 rfl rfl
theorem dX5_find_0 : decode cX5_find 0 = .ok (.iconst 0, 1) := dk_3 (dk_at dksX5_find_0 0 rfl rfl)
theorem dX5_find_1 : decode cX5_find 1 = .ok (.istore 4, 2) := dk_54 4 (dk_at dksX5_find_0 1 rfl rfl)
theorem dX5_find_3 : decode cX5_find 3 = .ok (.iload 4, 2) := dk_21 4 (dk_at dksX5_find_0 3 rfl rfl)
theorem dX5_find_5 : decode cX5_find 5 = .ok (.iload_n 1, 1) := dk_27 (dk_at dksX5_find_0 5 rfl rfl)
theorem dX5_find_6 : decode cX5_find 6 = .ok (.if_icmp .ge 21, 3) := dk_162 0 21 (dk_at dksX5_find_0 6 rfl rfl)
theorem dX5_find_9 : decode cX5_find 9 = .ok (.aload_n 0, 1) := dk_42 (dk_at dksX5_find_0 9 rfl rfl)
theorem dX5_find_10 : decode cX5_find 10 = .ok (.iload 4, 2) := dk_21 4 (dk_at dksX5_find_0 10 rfl rfl)
theorem dX5_find_12 : decode cX5_find 12 = .ok (.laload, 1) := dk_47 (dk_at dksX5_find_0 12 rfl rfl)
theorem dX5_find_13 : decode cX5_find 13 = .ok (.lload_n 2, 1) := dk_32 (dk_at dksX5_find_0 13 rfl rfl)
theorem dX5_find_14 : decode cX5_find 14 = .ok (.lcmp, 1) := dk_148 (dk_at dksX5_find_0 14 rfl rfl)
theorem dX5_find_15 : decode cX5_find 15 = .ok (.ifCond .ne 6, 3) := dk_154 0 6 (dk_at dksX5_find_0 15 rfl rfl)
theorem dX5_find_18 : decode cX5_find 18 = .ok (.iload 4, 2) := dk_21 4 (dk_at dksX5_find_0 18 rfl rfl)
theorem dX5_find_20 : decode cX5_find 20 = .ok (.ireturn, 1) := dk_172 (dk_at dksX5_find_0 20 rfl rfl)
theorem dX5_find_21 : decode cX5_find 21 = .ok (.iinc 4 1, 3) := dk_132 4 1 (dk_at dksX5_find_0 21 rfl rfl)
theorem dX5_find_24 : decode cX5_find 24 = .ok (.goto (-21), 3) := dk_167 255 235 (dk_at dksX5_find_1 0 rfl rfl)
theorem dX5_find_27 : decode cX5_find 27 = .ok (.iconst (-1), 1) := dk_2 (dk_at dksX5_find_1 3 rfl rfl)
theorem dX5_find_28 : decode cX5_find 28 = .ok (.ireturn, 1) := dk_172 (dk_at dksX5_find_1 4 rfl rfl)
abbrev cX5_cueNamed : ByteArray := prog_5_method_6_code
def yX5_cueNamed : MethodName := ⟨RX5, "cueNamed", "(J)I"⟩
def dkwX5_cueNamed_0 : List UInt8 := [42, 180, 0, 15, 42, 180, 0, 65, 31, 184, 0, 96, 172]
abbrev dktX5_cueNamed_0 : List UInt8 := dkwX5_cueNamed_0 ++ []
theorem dksX5_cueNamed_0 : cX5_cueNamed.data.toList.drop 0 = dktX5_cueNamed_0 := by decide +kernel
theorem dX5_cueNamed_0 : decode cX5_cueNamed 0 = .ok (.aload_n 0, 1) := dk_42 (dk_at dksX5_cueNamed_0 0 rfl rfl)
theorem dX5_cueNamed_1 : decode cX5_cueNamed 1 = .ok (.getfield 15, 3) := dk_180 0 15 (dk_at dksX5_cueNamed_0 1 rfl rfl)
theorem dX5_cueNamed_4 : decode cX5_cueNamed 4 = .ok (.aload_n 0, 1) := dk_42 (dk_at dksX5_cueNamed_0 4 rfl rfl)
theorem dX5_cueNamed_5 : decode cX5_cueNamed 5 = .ok (.getfield 65, 3) := dk_180 0 65 (dk_at dksX5_cueNamed_0 5 rfl rfl)
theorem dX5_cueNamed_8 : decode cX5_cueNamed 8 = .ok (.lload_n 1, 1) := dk_31 (dk_at dksX5_cueNamed_0 8 rfl rfl)
theorem dX5_cueNamed_9 : decode cX5_cueNamed 9 = .ok (.invokestatic 96, 3) := dk_184 0 96 (dk_at dksX5_cueNamed_0 9 rfl rfl)
theorem dX5_cueNamed_12 : decode cX5_cueNamed 12 = .ok (.ireturn, 1) := dk_172 (dk_at dksX5_cueNamed_0 12 rfl rfl)
abbrev cX5_personNamed : ByteArray := prog_5_method_7_code
def yX5_personNamed : MethodName := ⟨RX5, "personNamed", "(J)I"⟩
def dkwX5_personNamed_0 : List UInt8 := [42, 180, 0, 18, 42, 180, 0, 71, 31, 184, 0, 96, 172]
abbrev dktX5_personNamed_0 : List UInt8 := dkwX5_personNamed_0 ++ []
theorem dksX5_personNamed_0 : cX5_personNamed.data.toList.drop 0 = dktX5_personNamed_0 := by decide +kernel
theorem dX5_personNamed_0 : decode cX5_personNamed 0 = .ok (.aload_n 0, 1) := dk_42 (dk_at dksX5_personNamed_0 0 rfl rfl)
theorem dX5_personNamed_1 : decode cX5_personNamed 1 = .ok (.getfield 18, 3) := dk_180 0 18 (dk_at dksX5_personNamed_0 1 rfl rfl)
theorem dX5_personNamed_4 : decode cX5_personNamed 4 = .ok (.aload_n 0, 1) := dk_42 (dk_at dksX5_personNamed_0 4 rfl rfl)
theorem dX5_personNamed_5 : decode cX5_personNamed 5 = .ok (.getfield 71, 3) := dk_180 0 71 (dk_at dksX5_personNamed_0 5 rfl rfl)
theorem dX5_personNamed_8 : decode cX5_personNamed 8 = .ok (.lload_n 1, 1) := dk_31 (dk_at dksX5_personNamed_0 8 rfl rfl)
theorem dX5_personNamed_9 : decode cX5_personNamed 9 = .ok (.invokestatic 96, 3) := dk_184 0 96 (dk_at dksX5_personNamed_0 9 rfl rfl)
theorem dX5_personNamed_12 : decode cX5_personNamed 12 = .ok (.ireturn, 1) := dk_172 (dk_at dksX5_personNamed_0 12 rfl rfl)
abbrev cX5_readerNamed : ByteArray := prog_5_method_8_code
def yX5_readerNamed : MethodName := ⟨RX5, "readerNamed", "(J)I"⟩
def dkwX5_readerNamed_0 : List UInt8 := [42, 180, 0, 21, 42, 180, 0, 74, 31, 184, 0, 96, 172]
abbrev dktX5_readerNamed_0 : List UInt8 := dkwX5_readerNamed_0 ++ []
theorem dksX5_readerNamed_0 : cX5_readerNamed.data.toList.drop 0 = dktX5_readerNamed_0 := by decide +kernel
theorem dX5_readerNamed_0 : decode cX5_readerNamed 0 = .ok (.aload_n 0, 1) := dk_42 (dk_at dksX5_readerNamed_0 0 rfl rfl)
theorem dX5_readerNamed_1 : decode cX5_readerNamed 1 = .ok (.getfield 21, 3) := dk_180 0 21 (dk_at dksX5_readerNamed_0 1 rfl rfl)
theorem dX5_readerNamed_4 : decode cX5_readerNamed 4 = .ok (.aload_n 0, 1) := dk_42 (dk_at dksX5_readerNamed_0 4 rfl rfl)
theorem dX5_readerNamed_5 : decode cX5_readerNamed 5 = .ok (.getfield 74, 3) := dk_180 0 74 (dk_at dksX5_readerNamed_0 5 rfl rfl)
theorem dX5_readerNamed_8 : decode cX5_readerNamed 8 = .ok (.lload_n 1, 1) := dk_31 (dk_at dksX5_readerNamed_0 8 rfl rfl)
theorem dX5_readerNamed_9 : decode cX5_readerNamed 9 = .ok (.invokestatic 96, 3) := dk_184 0 96 (dk_at dksX5_readerNamed_0 9 rfl rfl)
theorem dX5_readerNamed_12 : decode cX5_readerNamed 12 = .ok (.ireturn, 1) := dk_172 (dk_at dksX5_readerNamed_0 12 rfl rfl)
abbrev cX5_be : ByteArray := prog_5_method_2_code
def yX5_be : MethodName := ⟨RX5, "be", "(LCatWitness$Court;)V"⟩
def dkwX5_be_9 : List UInt8 := [180, 0, 57, 3, 42, 180, 0, 57, 3, 16, 8, 184, 0, 90, 177]
abbrev dktX5_be_9 : List UInt8 := dkwX5_be_9 ++ []
def dkwX5_be_8 : List UInt8 := [180, 0, 49, 42, 180, 0, 49, 184, 0, 86, 43, 180, 0, 52, 42, 180, 0, 52, 184, 0, 86, 43]
abbrev dktX5_be_8 : List UInt8 := dkwX5_be_8 ++ dktX5_be_9
def dkwX5_be_7 : List UInt8 := [180, 0, 43, 42, 180, 0, 43, 184, 0, 86, 43, 180, 0, 46, 42, 180, 0, 46, 184, 0, 86, 43]
abbrev dktX5_be_7 : List UInt8 := dkwX5_be_7 ++ dktX5_be_8
def dkwX5_be_6 : List UInt8 := [180, 0, 37, 42, 180, 0, 37, 184, 0, 86, 43, 180, 0, 40, 42, 180, 0, 40, 184, 0, 86, 43]
abbrev dktX5_be_6 : List UInt8 := dkwX5_be_6 ++ dktX5_be_7
def dkwX5_be_5 : List UInt8 := [180, 0, 31, 42, 180, 0, 31, 184, 0, 86, 43, 180, 0, 34, 42, 180, 0, 34, 184, 0, 86, 43]
abbrev dktX5_be_5 : List UInt8 := dkwX5_be_5 ++ dktX5_be_6
def dkwX5_be_4 : List UInt8 := [43, 180, 0, 24, 42, 180, 0, 24, 184, 0, 86, 43, 180, 0, 28, 42, 180, 0, 28, 184, 0, 86, 43]
abbrev dktX5_be_4 : List UInt8 := dkwX5_be_4 ++ dktX5_be_5
def dkwX5_be_3 : List UInt8 := [42, 43, 180, 0, 15, 181, 0, 15, 42, 43, 180, 0, 18, 181, 0, 18, 42, 43, 180, 0, 21, 181, 0, 21]
abbrev dktX5_be_3 : List UInt8 := dkwX5_be_3 ++ dktX5_be_4
def dkwX5_be_2 : List UInt8 := [42, 43, 180, 0, 80, 181, 0, 80, 42, 43, 180, 0, 83, 181, 0, 83, 42, 43, 180, 0, 9, 181, 0, 9]
abbrev dktX5_be_2 : List UInt8 := dkwX5_be_2 ++ dktX5_be_3
def dkwX5_be_1 : List UInt8 := [42, 43, 180, 0, 71, 181, 0, 71, 42, 43, 180, 0, 74, 181, 0, 74, 42, 43, 180, 0, 77, 181, 0, 77]
abbrev dktX5_be_1 : List UInt8 := dkwX5_be_1 ++ dktX5_be_2
def dkwX5_be_0 : List UInt8 := [42, 43, 180, 0, 61, 181, 0, 61, 42, 43, 180, 0, 65, 181, 0, 65, 42, 43, 180, 0, 68, 181, 0, 68]
abbrev dktX5_be_0 : List UInt8 := dkwX5_be_0 ++ dktX5_be_1
theorem dksX5_be_0 : cX5_be.data.toList.drop 0 = dktX5_be_0 := by decide +kernel
theorem dksX5_be_1 : cX5_be.data.toList.drop 24 = dktX5_be_1 := dk_seg dksX5_be_0 24 rfl rfl
theorem dksX5_be_2 : cX5_be.data.toList.drop 48 = dktX5_be_2 := dk_seg dksX5_be_1 24 rfl rfl
theorem dksX5_be_3 : cX5_be.data.toList.drop 72 = dktX5_be_3 := dk_seg dksX5_be_2 24 rfl rfl
theorem dksX5_be_4 : cX5_be.data.toList.drop 96 = dktX5_be_4 := dk_seg dksX5_be_3 24 rfl rfl
theorem dksX5_be_5 : cX5_be.data.toList.drop 119 = dktX5_be_5 := dk_seg dksX5_be_4 23 rfl rfl
theorem dksX5_be_6 : cX5_be.data.toList.drop 141 = dktX5_be_6 := dk_seg dksX5_be_5 22 rfl rfl
theorem dksX5_be_7 : cX5_be.data.toList.drop 163 = dktX5_be_7 := dk_seg dksX5_be_6 22 rfl rfl
theorem dksX5_be_8 : cX5_be.data.toList.drop 185 = dktX5_be_8 := dk_seg dksX5_be_7 22 rfl rfl
theorem dksX5_be_9 : cX5_be.data.toList.drop 207 = dktX5_be_9 := dk_seg dksX5_be_8 22 rfl rfl
theorem dX5_be_0 : decode cX5_be 0 = .ok (.aload_n 0, 1) := dk_42 (dk_at dksX5_be_0 0 rfl rfl)
theorem dX5_be_1 : decode cX5_be 1 = .ok (.aload_n 1, 1) := dk_43 (dk_at dksX5_be_0 1 rfl rfl)
theorem dX5_be_2 : decode cX5_be 2 = .ok (.getfield 61, 3) := dk_180 0 61 (dk_at dksX5_be_0 2 rfl rfl)
theorem dX5_be_5 : decode cX5_be 5 = .ok (.putfield 61, 3) := dk_181 0 61 (dk_at dksX5_be_0 5 rfl rfl)
theorem dX5_be_8 : decode cX5_be 8 = .ok (.aload_n 0, 1) := dk_42 (dk_at dksX5_be_0 8 rfl rfl)
theorem dX5_be_9 : decode cX5_be 9 = .ok (.aload_n 1, 1) := dk_43 (dk_at dksX5_be_0 9 rfl rfl)
theorem dX5_be_10 : decode cX5_be 10 = .ok (.getfield 65, 3) := dk_180 0 65 (dk_at dksX5_be_0 10 rfl rfl)
theorem dX5_be_13 : decode cX5_be 13 = .ok (.putfield 65, 3) := dk_181 0 65 (dk_at dksX5_be_0 13 rfl rfl)
theorem dX5_be_16 : decode cX5_be 16 = .ok (.aload_n 0, 1) := dk_42 (dk_at dksX5_be_0 16 rfl rfl)
theorem dX5_be_17 : decode cX5_be 17 = .ok (.aload_n 1, 1) := dk_43 (dk_at dksX5_be_0 17 rfl rfl)
theorem dX5_be_18 : decode cX5_be 18 = .ok (.getfield 68, 3) := dk_180 0 68 (dk_at dksX5_be_0 18 rfl rfl)
theorem dX5_be_21 : decode cX5_be 21 = .ok (.putfield 68, 3) := dk_181 0 68 (dk_at dksX5_be_0 21 rfl rfl)
theorem dX5_be_24 : decode cX5_be 24 = .ok (.aload_n 0, 1) := dk_42 (dk_at dksX5_be_1 0 rfl rfl)
theorem dX5_be_25 : decode cX5_be 25 = .ok (.aload_n 1, 1) := dk_43 (dk_at dksX5_be_1 1 rfl rfl)
theorem dX5_be_26 : decode cX5_be 26 = .ok (.getfield 71, 3) := dk_180 0 71 (dk_at dksX5_be_1 2 rfl rfl)
theorem dX5_be_29 : decode cX5_be 29 = .ok (.putfield 71, 3) := dk_181 0 71 (dk_at dksX5_be_1 5 rfl rfl)
theorem dX5_be_32 : decode cX5_be 32 = .ok (.aload_n 0, 1) := dk_42 (dk_at dksX5_be_1 8 rfl rfl)
theorem dX5_be_33 : decode cX5_be 33 = .ok (.aload_n 1, 1) := dk_43 (dk_at dksX5_be_1 9 rfl rfl)
theorem dX5_be_34 : decode cX5_be 34 = .ok (.getfield 74, 3) := dk_180 0 74 (dk_at dksX5_be_1 10 rfl rfl)
theorem dX5_be_37 : decode cX5_be 37 = .ok (.putfield 74, 3) := dk_181 0 74 (dk_at dksX5_be_1 13 rfl rfl)
theorem dX5_be_40 : decode cX5_be 40 = .ok (.aload_n 0, 1) := dk_42 (dk_at dksX5_be_1 16 rfl rfl)
theorem dX5_be_41 : decode cX5_be 41 = .ok (.aload_n 1, 1) := dk_43 (dk_at dksX5_be_1 17 rfl rfl)
theorem dX5_be_42 : decode cX5_be 42 = .ok (.getfield 77, 3) := dk_180 0 77 (dk_at dksX5_be_1 18 rfl rfl)
theorem dX5_be_45 : decode cX5_be 45 = .ok (.putfield 77, 3) := dk_181 0 77 (dk_at dksX5_be_1 21 rfl rfl)
theorem dX5_be_48 : decode cX5_be 48 = .ok (.aload_n 0, 1) := dk_42 (dk_at dksX5_be_2 0 rfl rfl)
theorem dX5_be_49 : decode cX5_be 49 = .ok (.aload_n 1, 1) := dk_43 (dk_at dksX5_be_2 1 rfl rfl)
theorem dX5_be_50 : decode cX5_be 50 = .ok (.getfield 80, 3) := dk_180 0 80 (dk_at dksX5_be_2 2 rfl rfl)
theorem dX5_be_53 : decode cX5_be 53 = .ok (.putfield 80, 3) := dk_181 0 80 (dk_at dksX5_be_2 5 rfl rfl)
theorem dX5_be_56 : decode cX5_be 56 = .ok (.aload_n 0, 1) := dk_42 (dk_at dksX5_be_2 8 rfl rfl)
theorem dX5_be_57 : decode cX5_be 57 = .ok (.aload_n 1, 1) := dk_43 (dk_at dksX5_be_2 9 rfl rfl)
theorem dX5_be_58 : decode cX5_be 58 = .ok (.getfield 83, 3) := dk_180 0 83 (dk_at dksX5_be_2 10 rfl rfl)
theorem dX5_be_61 : decode cX5_be 61 = .ok (.putfield 83, 3) := dk_181 0 83 (dk_at dksX5_be_2 13 rfl rfl)
theorem dX5_be_64 : decode cX5_be 64 = .ok (.aload_n 0, 1) := dk_42 (dk_at dksX5_be_2 16 rfl rfl)
theorem dX5_be_65 : decode cX5_be 65 = .ok (.aload_n 1, 1) := dk_43 (dk_at dksX5_be_2 17 rfl rfl)
theorem dX5_be_66 : decode cX5_be 66 = .ok (.getfield 9, 3) := dk_180 0 9 (dk_at dksX5_be_2 18 rfl rfl)
theorem dX5_be_69 : decode cX5_be 69 = .ok (.putfield 9, 3) := dk_181 0 9 (dk_at dksX5_be_2 21 rfl rfl)
theorem dX5_be_72 : decode cX5_be 72 = .ok (.aload_n 0, 1) := dk_42 (dk_at dksX5_be_3 0 rfl rfl)
theorem dX5_be_73 : decode cX5_be 73 = .ok (.aload_n 1, 1) := dk_43 (dk_at dksX5_be_3 1 rfl rfl)
theorem dX5_be_74 : decode cX5_be 74 = .ok (.getfield 15, 3) := dk_180 0 15 (dk_at dksX5_be_3 2 rfl rfl)
theorem dX5_be_77 : decode cX5_be 77 = .ok (.putfield 15, 3) := dk_181 0 15 (dk_at dksX5_be_3 5 rfl rfl)
theorem dX5_be_80 : decode cX5_be 80 = .ok (.aload_n 0, 1) := dk_42 (dk_at dksX5_be_3 8 rfl rfl)
theorem dX5_be_81 : decode cX5_be 81 = .ok (.aload_n 1, 1) := dk_43 (dk_at dksX5_be_3 9 rfl rfl)
theorem dX5_be_82 : decode cX5_be 82 = .ok (.getfield 18, 3) := dk_180 0 18 (dk_at dksX5_be_3 10 rfl rfl)
theorem dX5_be_85 : decode cX5_be 85 = .ok (.putfield 18, 3) := dk_181 0 18 (dk_at dksX5_be_3 13 rfl rfl)
theorem dX5_be_88 : decode cX5_be 88 = .ok (.aload_n 0, 1) := dk_42 (dk_at dksX5_be_3 16 rfl rfl)
theorem dX5_be_89 : decode cX5_be 89 = .ok (.aload_n 1, 1) := dk_43 (dk_at dksX5_be_3 17 rfl rfl)
theorem dX5_be_90 : decode cX5_be 90 = .ok (.getfield 21, 3) := dk_180 0 21 (dk_at dksX5_be_3 18 rfl rfl)
theorem dX5_be_93 : decode cX5_be 93 = .ok (.putfield 21, 3) := dk_181 0 21 (dk_at dksX5_be_3 21 rfl rfl)
theorem dX5_be_96 : decode cX5_be 96 = .ok (.aload_n 1, 1) := dk_43 (dk_at dksX5_be_4 0 rfl rfl)
theorem dX5_be_97 : decode cX5_be 97 = .ok (.getfield 24, 3) := dk_180 0 24 (dk_at dksX5_be_4 1 rfl rfl)
theorem dX5_be_100 : decode cX5_be 100 = .ok (.aload_n 0, 1) := dk_42 (dk_at dksX5_be_4 4 rfl rfl)
theorem dX5_be_101 : decode cX5_be 101 = .ok (.getfield 24, 3) := dk_180 0 24 (dk_at dksX5_be_4 5 rfl rfl)
theorem dX5_be_104 : decode cX5_be 104 = .ok (.invokestatic 86, 3) := dk_184 0 86 (dk_at dksX5_be_4 8 rfl rfl)
theorem dX5_be_107 : decode cX5_be 107 = .ok (.aload_n 1, 1) := dk_43 (dk_at dksX5_be_4 11 rfl rfl)
theorem dX5_be_108 : decode cX5_be 108 = .ok (.getfield 28, 3) := dk_180 0 28 (dk_at dksX5_be_4 12 rfl rfl)
theorem dX5_be_111 : decode cX5_be 111 = .ok (.aload_n 0, 1) := dk_42 (dk_at dksX5_be_4 15 rfl rfl)
theorem dX5_be_112 : decode cX5_be 112 = .ok (.getfield 28, 3) := dk_180 0 28 (dk_at dksX5_be_4 16 rfl rfl)
theorem dX5_be_115 : decode cX5_be 115 = .ok (.invokestatic 86, 3) := dk_184 0 86 (dk_at dksX5_be_4 19 rfl rfl)
theorem dX5_be_118 : decode cX5_be 118 = .ok (.aload_n 1, 1) := dk_43 (dk_at dksX5_be_4 22 rfl rfl)
theorem dX5_be_119 : decode cX5_be 119 = .ok (.getfield 31, 3) := dk_180 0 31 (dk_at dksX5_be_5 0 rfl rfl)
theorem dX5_be_122 : decode cX5_be 122 = .ok (.aload_n 0, 1) := dk_42 (dk_at dksX5_be_5 3 rfl rfl)
theorem dX5_be_123 : decode cX5_be 123 = .ok (.getfield 31, 3) := dk_180 0 31 (dk_at dksX5_be_5 4 rfl rfl)
theorem dX5_be_126 : decode cX5_be 126 = .ok (.invokestatic 86, 3) := dk_184 0 86 (dk_at dksX5_be_5 7 rfl rfl)
theorem dX5_be_129 : decode cX5_be 129 = .ok (.aload_n 1, 1) := dk_43 (dk_at dksX5_be_5 10 rfl rfl)
theorem dX5_be_130 : decode cX5_be 130 = .ok (.getfield 34, 3) := dk_180 0 34 (dk_at dksX5_be_5 11 rfl rfl)
theorem dX5_be_133 : decode cX5_be 133 = .ok (.aload_n 0, 1) := dk_42 (dk_at dksX5_be_5 14 rfl rfl)
theorem dX5_be_134 : decode cX5_be 134 = .ok (.getfield 34, 3) := dk_180 0 34 (dk_at dksX5_be_5 15 rfl rfl)
theorem dX5_be_137 : decode cX5_be 137 = .ok (.invokestatic 86, 3) := dk_184 0 86 (dk_at dksX5_be_5 18 rfl rfl)
theorem dX5_be_140 : decode cX5_be 140 = .ok (.aload_n 1, 1) := dk_43 (dk_at dksX5_be_5 21 rfl rfl)
theorem dX5_be_141 : decode cX5_be 141 = .ok (.getfield 37, 3) := dk_180 0 37 (dk_at dksX5_be_6 0 rfl rfl)
theorem dX5_be_144 : decode cX5_be 144 = .ok (.aload_n 0, 1) := dk_42 (dk_at dksX5_be_6 3 rfl rfl)
theorem dX5_be_145 : decode cX5_be 145 = .ok (.getfield 37, 3) := dk_180 0 37 (dk_at dksX5_be_6 4 rfl rfl)
theorem dX5_be_148 : decode cX5_be 148 = .ok (.invokestatic 86, 3) := dk_184 0 86 (dk_at dksX5_be_6 7 rfl rfl)
theorem dX5_be_151 : decode cX5_be 151 = .ok (.aload_n 1, 1) := dk_43 (dk_at dksX5_be_6 10 rfl rfl)
theorem dX5_be_152 : decode cX5_be 152 = .ok (.getfield 40, 3) := dk_180 0 40 (dk_at dksX5_be_6 11 rfl rfl)
theorem dX5_be_155 : decode cX5_be 155 = .ok (.aload_n 0, 1) := dk_42 (dk_at dksX5_be_6 14 rfl rfl)
theorem dX5_be_156 : decode cX5_be 156 = .ok (.getfield 40, 3) := dk_180 0 40 (dk_at dksX5_be_6 15 rfl rfl)
theorem dX5_be_159 : decode cX5_be 159 = .ok (.invokestatic 86, 3) := dk_184 0 86 (dk_at dksX5_be_6 18 rfl rfl)
theorem dX5_be_162 : decode cX5_be 162 = .ok (.aload_n 1, 1) := dk_43 (dk_at dksX5_be_6 21 rfl rfl)
theorem dX5_be_163 : decode cX5_be 163 = .ok (.getfield 43, 3) := dk_180 0 43 (dk_at dksX5_be_7 0 rfl rfl)
theorem dX5_be_166 : decode cX5_be 166 = .ok (.aload_n 0, 1) := dk_42 (dk_at dksX5_be_7 3 rfl rfl)
theorem dX5_be_167 : decode cX5_be 167 = .ok (.getfield 43, 3) := dk_180 0 43 (dk_at dksX5_be_7 4 rfl rfl)
theorem dX5_be_170 : decode cX5_be 170 = .ok (.invokestatic 86, 3) := dk_184 0 86 (dk_at dksX5_be_7 7 rfl rfl)
theorem dX5_be_173 : decode cX5_be 173 = .ok (.aload_n 1, 1) := dk_43 (dk_at dksX5_be_7 10 rfl rfl)
theorem dX5_be_174 : decode cX5_be 174 = .ok (.getfield 46, 3) := dk_180 0 46 (dk_at dksX5_be_7 11 rfl rfl)
theorem dX5_be_177 : decode cX5_be 177 = .ok (.aload_n 0, 1) := dk_42 (dk_at dksX5_be_7 14 rfl rfl)
theorem dX5_be_178 : decode cX5_be 178 = .ok (.getfield 46, 3) := dk_180 0 46 (dk_at dksX5_be_7 15 rfl rfl)
theorem dX5_be_181 : decode cX5_be 181 = .ok (.invokestatic 86, 3) := dk_184 0 86 (dk_at dksX5_be_7 18 rfl rfl)
theorem dX5_be_184 : decode cX5_be 184 = .ok (.aload_n 1, 1) := dk_43 (dk_at dksX5_be_7 21 rfl rfl)
theorem dX5_be_185 : decode cX5_be 185 = .ok (.getfield 49, 3) := dk_180 0 49 (dk_at dksX5_be_8 0 rfl rfl)
theorem dX5_be_188 : decode cX5_be 188 = .ok (.aload_n 0, 1) := dk_42 (dk_at dksX5_be_8 3 rfl rfl)
theorem dX5_be_189 : decode cX5_be 189 = .ok (.getfield 49, 3) := dk_180 0 49 (dk_at dksX5_be_8 4 rfl rfl)
theorem dX5_be_192 : decode cX5_be 192 = .ok (.invokestatic 86, 3) := dk_184 0 86 (dk_at dksX5_be_8 7 rfl rfl)
theorem dX5_be_195 : decode cX5_be 195 = .ok (.aload_n 1, 1) := dk_43 (dk_at dksX5_be_8 10 rfl rfl)
theorem dX5_be_196 : decode cX5_be 196 = .ok (.getfield 52, 3) := dk_180 0 52 (dk_at dksX5_be_8 11 rfl rfl)
theorem dX5_be_199 : decode cX5_be 199 = .ok (.aload_n 0, 1) := dk_42 (dk_at dksX5_be_8 14 rfl rfl)
theorem dX5_be_200 : decode cX5_be 200 = .ok (.getfield 52, 3) := dk_180 0 52 (dk_at dksX5_be_8 15 rfl rfl)
theorem dX5_be_203 : decode cX5_be 203 = .ok (.invokestatic 86, 3) := dk_184 0 86 (dk_at dksX5_be_8 18 rfl rfl)
theorem dX5_be_206 : decode cX5_be 206 = .ok (.aload_n 1, 1) := dk_43 (dk_at dksX5_be_8 21 rfl rfl)
theorem dX5_be_207 : decode cX5_be 207 = .ok (.getfield 57, 3) := dk_180 0 57 (dk_at dksX5_be_9 0 rfl rfl)
theorem dX5_be_210 : decode cX5_be 210 = .ok (.iconst 0, 1) := dk_3 (dk_at dksX5_be_9 3 rfl rfl)
theorem dX5_be_211 : decode cX5_be 211 = .ok (.aload_n 0, 1) := dk_42 (dk_at dksX5_be_9 4 rfl rfl)
theorem dX5_be_212 : decode cX5_be 212 = .ok (.getfield 57, 3) := dk_180 0 57 (dk_at dksX5_be_9 5 rfl rfl)
theorem dX5_be_215 : decode cX5_be 215 = .ok (.iconst 0, 1) := dk_3 (dk_at dksX5_be_9 8 rfl rfl)
theorem dX5_be_216 : decode cX5_be 216 = .ok (.bipush 8, 2) := dk_16 8 (dk_at dksX5_be_9 9 rfl rfl)
theorem dX5_be_218 : decode cX5_be 218 = .ok (.invokestatic 90, 3) := dk_184 0 90 (dk_at dksX5_be_9 11 rfl rfl)
theorem dX5_be_221 : decode cX5_be 221 = .ok (.return_, 1) := dk_177 (dk_at dksX5_be_9 14 rfl rfl)
abbrev cX5_copy : ByteArray := prog_5_method_3_code
def yX5_copy : MethodName := ⟨RX5, "copy", "([I[I)V"⟩
def dkwX5_copy_0 : List UInt8 := [42, 3, 43, 3, 42, 190, 184, 0, 90, 177]
abbrev dktX5_copy_0 : List UInt8 := dkwX5_copy_0 ++ []
theorem dksX5_copy_0 : cX5_copy.data.toList.drop 0 = dktX5_copy_0 := by decide +kernel
theorem dX5_copy_0 : decode cX5_copy 0 = .ok (.aload_n 0, 1) := dk_42 (dk_at dksX5_copy_0 0 rfl rfl)
theorem dX5_copy_1 : decode cX5_copy 1 = .ok (.iconst 0, 1) := dk_3 (dk_at dksX5_copy_0 1 rfl rfl)
theorem dX5_copy_2 : decode cX5_copy 2 = .ok (.aload_n 1, 1) := dk_43 (dk_at dksX5_copy_0 2 rfl rfl)
theorem dX5_copy_3 : decode cX5_copy 3 = .ok (.iconst 0, 1) := dk_3 (dk_at dksX5_copy_0 3 rfl rfl)
theorem dX5_copy_4 : decode cX5_copy 4 = .ok (.aload_n 0, 1) := dk_42 (dk_at dksX5_copy_0 4 rfl rfl)
theorem dX5_copy_5 : decode cX5_copy 5 = .ok (.arraylength, 1) := dk_190 (dk_at dksX5_copy_0 5 rfl rfl)
theorem dX5_copy_6 : decode cX5_copy 6 = .ok (.invokestatic 90, 3) := dk_184 0 90 (dk_at dksX5_copy_0 6 rfl rfl)
theorem dX5_copy_9 : decode cX5_copy 9 = .ok (.return_, 1) := dk_177 (dk_at dksX5_copy_0 9 rfl rfl)
abbrev cX5_allVotes : ByteArray := prog_5_method_22_code
def yX5_allVotes : MethodName := ⟨RX5, "allVotes", "()I"⟩
def dkwX5_allVotes_1 : List UInt8 := [167, 255, 236, 27, 172]
abbrev dktX5_allVotes_1 : List UInt8 := dkwX5_allVotes_1 ++ []
def dkwX5_allVotes_0 : List UInt8 := [3, 60, 3, 61, 28, 42, 180, 0, 74, 162, 0, 18, 27, 42, 180, 0, 46, 28, 46, 96, 60, 132, 2, 1]
abbrev dktX5_allVotes_0 : List UInt8 := dkwX5_allVotes_0 ++ dktX5_allVotes_1
theorem dksX5_allVotes_0 : cX5_allVotes.data.toList.drop 0 = dktX5_allVotes_0 := by decide +kernel
theorem dksX5_allVotes_1 : cX5_allVotes.data.toList.drop 24 = dktX5_allVotes_1 := dk_seg dksX5_allVotes_0 24 rfl rfl
theorem dX5_allVotes_0 : decode cX5_allVotes 0 = .ok (.iconst 0, 1) := dk_3 (dk_at dksX5_allVotes_0 0 rfl rfl)
theorem dX5_allVotes_1 : decode cX5_allVotes 1 = .ok (.istore_n 1, 1) := dk_60 (dk_at dksX5_allVotes_0 1 rfl rfl)
theorem dX5_allVotes_2 : decode cX5_allVotes 2 = .ok (.iconst 0, 1) := dk_3 (dk_at dksX5_allVotes_0 2 rfl rfl)
theorem dX5_allVotes_3 : decode cX5_allVotes 3 = .ok (.istore_n 2, 1) := dk_61 (dk_at dksX5_allVotes_0 3 rfl rfl)
theorem dX5_allVotes_4 : decode cX5_allVotes 4 = .ok (.iload_n 2, 1) := dk_28 (dk_at dksX5_allVotes_0 4 rfl rfl)
theorem dX5_allVotes_5 : decode cX5_allVotes 5 = .ok (.aload_n 0, 1) := dk_42 (dk_at dksX5_allVotes_0 5 rfl rfl)
theorem dX5_allVotes_6 : decode cX5_allVotes 6 = .ok (.getfield 74, 3) := dk_180 0 74 (dk_at dksX5_allVotes_0 6 rfl rfl)
theorem dX5_allVotes_9 : decode cX5_allVotes 9 = .ok (.if_icmp .ge 18, 3) := dk_162 0 18 (dk_at dksX5_allVotes_0 9 rfl rfl)
theorem dX5_allVotes_12 : decode cX5_allVotes 12 = .ok (.iload_n 1, 1) := dk_27 (dk_at dksX5_allVotes_0 12 rfl rfl)
theorem dX5_allVotes_13 : decode cX5_allVotes 13 = .ok (.aload_n 0, 1) := dk_42 (dk_at dksX5_allVotes_0 13 rfl rfl)
theorem dX5_allVotes_14 : decode cX5_allVotes 14 = .ok (.getfield 46, 3) := dk_180 0 46 (dk_at dksX5_allVotes_0 14 rfl rfl)
theorem dX5_allVotes_17 : decode cX5_allVotes 17 = .ok (.iload_n 2, 1) := dk_28 (dk_at dksX5_allVotes_0 17 rfl rfl)
theorem dX5_allVotes_18 : decode cX5_allVotes 18 = .ok (.iaload, 1) := dk_46 (dk_at dksX5_allVotes_0 18 rfl rfl)
theorem dX5_allVotes_19 : decode cX5_allVotes 19 = .ok (.iadd, 1) := dk_96 (dk_at dksX5_allVotes_0 19 rfl rfl)
theorem dX5_allVotes_20 : decode cX5_allVotes 20 = .ok (.istore_n 1, 1) := dk_60 (dk_at dksX5_allVotes_0 20 rfl rfl)
theorem dX5_allVotes_21 : decode cX5_allVotes 21 = .ok (.iinc 2 1, 3) := dk_132 2 1 (dk_at dksX5_allVotes_0 21 rfl rfl)
theorem dX5_allVotes_24 : decode cX5_allVotes 24 = .ok (.goto (-20), 3) := dk_167 255 236 (dk_at dksX5_allVotes_1 0 rfl rfl)
theorem dX5_allVotes_27 : decode cX5_allVotes 27 = .ok (.iload_n 1, 1) := dk_27 (dk_at dksX5_allVotes_1 3 rfl rfl)
theorem dX5_allVotes_28 : decode cX5_allVotes 28 = .ok (.ireturn, 1) := dk_172 (dk_at dksX5_allVotes_1 4 rfl rfl)
abbrev cX5_are : ByteArray := prog_5_method_15_code
def yX5_are : MethodName := ⟨RX5, "are", "(I)I"⟩
def dkwX5_are_1 : List UInt8 := [29, 120, 167, 0, 4, 3, 128, 61, 132, 3, 1, 167, 255, 225, 28, 172]
abbrev dktX5_are_1 : List UInt8 := dkwX5_are_1 ++ []
def dkwX5_are_0 : List UInt8 := [3, 61, 3, 62, 29, 42, 180, 0, 71, 162, 0, 29, 28, 42, 180, 0, 34, 29, 46, 27, 160, 0, 9, 4]
abbrev dktX5_are_0 : List UInt8 := dkwX5_are_0 ++ dktX5_are_1
theorem dksX5_are_0 : cX5_are.data.toList.drop 0 = dktX5_are_0 := by decide +kernel
theorem dksX5_are_1 : cX5_are.data.toList.drop 24 = dktX5_are_1 := dk_seg dksX5_are_0 24 rfl rfl
theorem dX5_are_0 : decode cX5_are 0 = .ok (.iconst 0, 1) := dk_3 (dk_at dksX5_are_0 0 rfl rfl)
theorem dX5_are_1 : decode cX5_are 1 = .ok (.istore_n 2, 1) := dk_61 (dk_at dksX5_are_0 1 rfl rfl)
theorem dX5_are_2 : decode cX5_are 2 = .ok (.iconst 0, 1) := dk_3 (dk_at dksX5_are_0 2 rfl rfl)
theorem dX5_are_3 : decode cX5_are 3 = .ok (.istore_n 3, 1) := dk_62 (dk_at dksX5_are_0 3 rfl rfl)
theorem dX5_are_4 : decode cX5_are 4 = .ok (.iload_n 3, 1) := dk_29 (dk_at dksX5_are_0 4 rfl rfl)
theorem dX5_are_5 : decode cX5_are 5 = .ok (.aload_n 0, 1) := dk_42 (dk_at dksX5_are_0 5 rfl rfl)
theorem dX5_are_6 : decode cX5_are 6 = .ok (.getfield 71, 3) := dk_180 0 71 (dk_at dksX5_are_0 6 rfl rfl)
theorem dX5_are_9 : decode cX5_are 9 = .ok (.if_icmp .ge 29, 3) := dk_162 0 29 (dk_at dksX5_are_0 9 rfl rfl)
theorem dX5_are_12 : decode cX5_are 12 = .ok (.iload_n 2, 1) := dk_28 (dk_at dksX5_are_0 12 rfl rfl)
theorem dX5_are_13 : decode cX5_are 13 = .ok (.aload_n 0, 1) := dk_42 (dk_at dksX5_are_0 13 rfl rfl)
theorem dX5_are_14 : decode cX5_are 14 = .ok (.getfield 34, 3) := dk_180 0 34 (dk_at dksX5_are_0 14 rfl rfl)
theorem dX5_are_17 : decode cX5_are 17 = .ok (.iload_n 3, 1) := dk_29 (dk_at dksX5_are_0 17 rfl rfl)
theorem dX5_are_18 : decode cX5_are 18 = .ok (.iaload, 1) := dk_46 (dk_at dksX5_are_0 18 rfl rfl)
theorem dX5_are_19 : decode cX5_are 19 = .ok (.iload_n 1, 1) := dk_27 (dk_at dksX5_are_0 19 rfl rfl)
theorem dX5_are_20 : decode cX5_are 20 = .ok (.if_icmp .ne 9, 3) := dk_160 0 9 (dk_at dksX5_are_0 20 rfl rfl)
theorem dX5_are_23 : decode cX5_are 23 = .ok (.iconst 1, 1) := dk_4 (dk_at dksX5_are_0 23 rfl rfl)
theorem dX5_are_24 : decode cX5_are 24 = .ok (.iload_n 3, 1) := dk_29 (dk_at dksX5_are_1 0 rfl rfl)
theorem dX5_are_25 : decode cX5_are 25 = .ok (.ishl, 1) := dk_120 (dk_at dksX5_are_1 1 rfl rfl)
theorem dX5_are_26 : decode cX5_are 26 = .ok (.goto 4, 3) := dk_167 0 4 (dk_at dksX5_are_1 2 rfl rfl)
theorem dX5_are_29 : decode cX5_are 29 = .ok (.iconst 0, 1) := dk_3 (dk_at dksX5_are_1 5 rfl rfl)
theorem dX5_are_30 : decode cX5_are 30 = .ok (.ior, 1) := dk_128 (dk_at dksX5_are_1 6 rfl rfl)
theorem dX5_are_31 : decode cX5_are 31 = .ok (.istore_n 2, 1) := dk_61 (dk_at dksX5_are_1 7 rfl rfl)
theorem dX5_are_32 : decode cX5_are 32 = .ok (.iinc 3 1, 3) := dk_132 3 1 (dk_at dksX5_are_1 8 rfl rfl)
theorem dX5_are_35 : decode cX5_are 35 = .ok (.goto (-31), 3) := dk_167 255 225 (dk_at dksX5_are_1 11 rfl rfl)
theorem dX5_are_38 : decode cX5_are 38 = .ok (.iload_n 2, 1) := dk_28 (dk_at dksX5_are_1 14 rfl rfl)
theorem dX5_are_39 : decode cX5_are 39 = .ok (.ireturn, 1) := dk_172 (dk_at dksX5_are_1 15 rfl rfl)
abbrev cX5_sits : ByteArray := prog_5_method_16_code
def yX5_sits : MethodName := ⟨RX5, "sits", "(I)I"⟩
def dkwX5_sits_1 : List UInt8 := [180, 0, 40, 27, 92, 46, 4, 96, 79, 42, 89, 180, 0, 83, 4, 96, 181, 0, 83, 28, 172]
abbrev dktX5_sits_1 : List UInt8 := dkwX5_sits_1 ++ []
def dkwX5_sits_0 : List UInt8 := [42, 27, 182, 0, 118, 61, 42, 16, 9, 42, 180, 0, 80, 4, 96, 184, 0, 122, 181, 0, 80, 42]
abbrev dktX5_sits_0 : List UInt8 := dkwX5_sits_0 ++ dktX5_sits_1
theorem dksX5_sits_0 : cX5_sits.data.toList.drop 0 = dktX5_sits_0 := by decide +kernel
theorem dksX5_sits_1 : cX5_sits.data.toList.drop 22 = dktX5_sits_1 := dk_seg dksX5_sits_0 22 rfl rfl
theorem dX5_sits_0 : decode cX5_sits 0 = .ok (.aload_n 0, 1) := dk_42 (dk_at dksX5_sits_0 0 rfl rfl)
theorem dX5_sits_1 : decode cX5_sits 1 = .ok (.iload_n 1, 1) := dk_27 (dk_at dksX5_sits_0 1 rfl rfl)
theorem dX5_sits_2 : decode cX5_sits 2 = .ok (.invokevirtual 118, 3) := dk_182 0 118 (dk_at dksX5_sits_0 2 rfl rfl)
theorem dX5_sits_5 : decode cX5_sits 5 = .ok (.istore_n 2, 1) := dk_61 (dk_at dksX5_sits_0 5 rfl rfl)
theorem dX5_sits_6 : decode cX5_sits 6 = .ok (.aload_n 0, 1) := dk_42 (dk_at dksX5_sits_0 6 rfl rfl)
theorem dX5_sits_7 : decode cX5_sits 7 = .ok (.bipush 9, 2) := dk_16 9 (dk_at dksX5_sits_0 7 rfl rfl)
theorem dX5_sits_9 : decode cX5_sits 9 = .ok (.aload_n 0, 1) := dk_42 (dk_at dksX5_sits_0 9 rfl rfl)
theorem dX5_sits_10 : decode cX5_sits 10 = .ok (.getfield 80, 3) := dk_180 0 80 (dk_at dksX5_sits_0 10 rfl rfl)
theorem dX5_sits_13 : decode cX5_sits 13 = .ok (.iconst 1, 1) := dk_4 (dk_at dksX5_sits_0 13 rfl rfl)
theorem dX5_sits_14 : decode cX5_sits 14 = .ok (.iadd, 1) := dk_96 (dk_at dksX5_sits_0 14 rfl rfl)
theorem dX5_sits_15 : decode cX5_sits 15 = .ok (.invokestatic 122, 3) := dk_184 0 122 (dk_at dksX5_sits_0 15 rfl rfl)
theorem dX5_sits_18 : decode cX5_sits 18 = .ok (.putfield 80, 3) := dk_181 0 80 (dk_at dksX5_sits_0 18 rfl rfl)
theorem dX5_sits_21 : decode cX5_sits 21 = .ok (.aload_n 0, 1) := dk_42 (dk_at dksX5_sits_0 21 rfl rfl)
theorem dX5_sits_22 : decode cX5_sits 22 = .ok (.getfield 40, 3) := dk_180 0 40 (dk_at dksX5_sits_1 0 rfl rfl)
theorem dX5_sits_25 : decode cX5_sits 25 = .ok (.iload_n 1, 1) := dk_27 (dk_at dksX5_sits_1 3 rfl rfl)
theorem dX5_sits_26 : decode cX5_sits 26 = .ok (.dup2, 1) := dk_92 (dk_at dksX5_sits_1 4 rfl rfl)
theorem dX5_sits_27 : decode cX5_sits 27 = .ok (.iaload, 1) := dk_46 (dk_at dksX5_sits_1 5 rfl rfl)
theorem dX5_sits_28 : decode cX5_sits 28 = .ok (.iconst 1, 1) := dk_4 (dk_at dksX5_sits_1 6 rfl rfl)
theorem dX5_sits_29 : decode cX5_sits 29 = .ok (.iadd, 1) := dk_96 (dk_at dksX5_sits_1 7 rfl rfl)
theorem dX5_sits_30 : decode cX5_sits 30 = .ok (.iastore, 1) := dk_79 (dk_at dksX5_sits_1 8 rfl rfl)
theorem dX5_sits_31 : decode cX5_sits 31 = .ok (.aload_n 0, 1) := dk_42 (dk_at dksX5_sits_1 9 rfl rfl)
theorem dX5_sits_32 : decode cX5_sits 32 = .ok (.dup, 1) := dk_89 (dk_at dksX5_sits_1 10 rfl rfl)
theorem dX5_sits_33 : decode cX5_sits 33 = .ok (.getfield 83, 3) := dk_180 0 83 (dk_at dksX5_sits_1 11 rfl rfl)
theorem dX5_sits_36 : decode cX5_sits 36 = .ok (.iconst 1, 1) := dk_4 (dk_at dksX5_sits_1 14 rfl rfl)
theorem dX5_sits_37 : decode cX5_sits 37 = .ok (.iadd, 1) := dk_96 (dk_at dksX5_sits_1 15 rfl rfl)
theorem dX5_sits_38 : decode cX5_sits 38 = .ok (.putfield 83, 3) := dk_181 0 83 (dk_at dksX5_sits_1 16 rfl rfl)
theorem dX5_sits_41 : decode cX5_sits 41 = .ok (.iload_n 2, 1) := dk_28 (dk_at dksX5_sits_1 19 rfl rfl)
theorem dX5_sits_42 : decode cX5_sits 42 = .ok (.ireturn, 1) := dk_172 (dk_at dksX5_sits_1 20 rfl rfl)
abbrev cX5_showsNow : ByteArray := prog_5_method_13_code
def yX5_showsNow : MethodName := ⟨RX5, "showsNow", "(I)I"⟩
def dkwX5_showsNow_0 : List UInt8 := [42, 27, 42, 180, 0, 80, 182, 0, 114, 172]
abbrev dktX5_showsNow_0 : List UInt8 := dkwX5_showsNow_0 ++ []
theorem dksX5_showsNow_0 : cX5_showsNow.data.toList.drop 0 = dktX5_showsNow_0 := by decide +kernel
theorem dX5_showsNow_0 : decode cX5_showsNow 0 = .ok (.aload_n 0, 1) := dk_42 (dk_at dksX5_showsNow_0 0 rfl rfl)
theorem dX5_showsNow_1 : decode cX5_showsNow 1 = .ok (.iload_n 1, 1) := dk_27 (dk_at dksX5_showsNow_0 1 rfl rfl)
theorem dX5_showsNow_2 : decode cX5_showsNow 2 = .ok (.aload_n 0, 1) := dk_42 (dk_at dksX5_showsNow_0 2 rfl rfl)
theorem dX5_showsNow_3 : decode cX5_showsNow 3 = .ok (.getfield 80, 3) := dk_180 0 80 (dk_at dksX5_showsNow_0 3 rfl rfl)
theorem dX5_showsNow_6 : decode cX5_showsNow 6 = .ok (.invokevirtual 114, 3) := dk_182 0 114 (dk_at dksX5_showsNow_0 6 rfl rfl)
theorem dX5_showsNow_9 : decode cX5_showsNow 9 = .ok (.ireturn, 1) := dk_172 (dk_at dksX5_showsNow_0 9 rfl rfl)
abbrev cX5_showsAt : ByteArray := prog_5_method_12_code
def yX5_showsAt : MethodName := ⟨RX5, "showsAt", "(II)I"⟩
def dkwX5_showsAt_1 : List UInt8 := [180, 0, 31, 27, 46, 182, 0, 111, 172]
abbrev dktX5_showsAt_1 : List UInt8 := dkwX5_showsAt_1 ++ []
def dkwX5_showsAt_0 : List UInt8 := [42, 42, 180, 0, 37, 27, 46, 4, 160, 0, 7, 4, 167, 0, 4, 3, 42, 180, 0, 28, 27, 46, 28, 42]
abbrev dktX5_showsAt_0 : List UInt8 := dkwX5_showsAt_0 ++ dktX5_showsAt_1
theorem dksX5_showsAt_0 : cX5_showsAt.data.toList.drop 0 = dktX5_showsAt_0 := by decide +kernel
theorem dksX5_showsAt_1 : cX5_showsAt.data.toList.drop 24 = dktX5_showsAt_1 := dk_seg dksX5_showsAt_0 24 rfl rfl
theorem dX5_showsAt_0 : decode cX5_showsAt 0 = .ok (.aload_n 0, 1) := dk_42 (dk_at dksX5_showsAt_0 0 rfl rfl)
theorem dX5_showsAt_1 : decode cX5_showsAt 1 = .ok (.aload_n 0, 1) := dk_42 (dk_at dksX5_showsAt_0 1 rfl rfl)
theorem dX5_showsAt_2 : decode cX5_showsAt 2 = .ok (.getfield 37, 3) := dk_180 0 37 (dk_at dksX5_showsAt_0 2 rfl rfl)
theorem dX5_showsAt_5 : decode cX5_showsAt 5 = .ok (.iload_n 1, 1) := dk_27 (dk_at dksX5_showsAt_0 5 rfl rfl)
theorem dX5_showsAt_6 : decode cX5_showsAt 6 = .ok (.iaload, 1) := dk_46 (dk_at dksX5_showsAt_0 6 rfl rfl)
theorem dX5_showsAt_7 : decode cX5_showsAt 7 = .ok (.iconst 1, 1) := dk_4 (dk_at dksX5_showsAt_0 7 rfl rfl)
theorem dX5_showsAt_8 : decode cX5_showsAt 8 = .ok (.if_icmp .ne 7, 3) := dk_160 0 7 (dk_at dksX5_showsAt_0 8 rfl rfl)
theorem dX5_showsAt_11 : decode cX5_showsAt 11 = .ok (.iconst 1, 1) := dk_4 (dk_at dksX5_showsAt_0 11 rfl rfl)
theorem dX5_showsAt_12 : decode cX5_showsAt 12 = .ok (.goto 4, 3) := dk_167 0 4 (dk_at dksX5_showsAt_0 12 rfl rfl)
theorem dX5_showsAt_15 : decode cX5_showsAt 15 = .ok (.iconst 0, 1) := dk_3 (dk_at dksX5_showsAt_0 15 rfl rfl)
theorem dX5_showsAt_16 : decode cX5_showsAt 16 = .ok (.aload_n 0, 1) := dk_42 (dk_at dksX5_showsAt_0 16 rfl rfl)
theorem dX5_showsAt_17 : decode cX5_showsAt 17 = .ok (.getfield 28, 3) := dk_180 0 28 (dk_at dksX5_showsAt_0 17 rfl rfl)
theorem dX5_showsAt_20 : decode cX5_showsAt 20 = .ok (.iload_n 1, 1) := dk_27 (dk_at dksX5_showsAt_0 20 rfl rfl)
theorem dX5_showsAt_21 : decode cX5_showsAt 21 = .ok (.iaload, 1) := dk_46 (dk_at dksX5_showsAt_0 21 rfl rfl)
theorem dX5_showsAt_22 : decode cX5_showsAt 22 = .ok (.iload_n 2, 1) := dk_28 (dk_at dksX5_showsAt_0 22 rfl rfl)
theorem dX5_showsAt_23 : decode cX5_showsAt 23 = .ok (.aload_n 0, 1) := dk_42 (dk_at dksX5_showsAt_0 23 rfl rfl)
theorem dX5_showsAt_24 : decode cX5_showsAt 24 = .ok (.getfield 31, 3) := dk_180 0 31 (dk_at dksX5_showsAt_1 0 rfl rfl)
theorem dX5_showsAt_27 : decode cX5_showsAt 27 = .ok (.iload_n 1, 1) := dk_27 (dk_at dksX5_showsAt_1 3 rfl rfl)
theorem dX5_showsAt_28 : decode cX5_showsAt 28 = .ok (.iaload, 1) := dk_46 (dk_at dksX5_showsAt_1 4 rfl rfl)
theorem dX5_showsAt_29 : decode cX5_showsAt 29 = .ok (.invokevirtual 111, 3) := dk_182 0 111 (dk_at dksX5_showsAt_1 5 rfl rfl)
theorem dX5_showsAt_32 : decode cX5_showsAt 32 = .ok (.ireturn, 1) := dk_172 (dk_at dksX5_showsAt_1 8 rfl rfl)
abbrev cX5_shows : ByteArray := prog_5_method_11_code
def yX5_shows : MethodName := ⟨RX5, "shows", "(ZIII)I"⟩
def dkwX5_shows_1 : List UInt8 := [180, 0, 57, 21, 5, 50, 180, 0, 108, 172]
abbrev dktX5_shows_1 : List UInt8 := dkwX5_shows_1 ++ []
def dkwX5_shows_0 : List UInt8 := [42, 27, 28, 29, 21, 4, 182, 0, 104, 54, 5, 21, 5, 156, 0, 10, 42, 180, 0, 65, 167, 0, 13, 42]
abbrev dktX5_shows_0 : List UInt8 := dkwX5_shows_0 ++ dktX5_shows_1
theorem dksX5_shows_0 : cX5_shows.data.toList.drop 0 = dktX5_shows_0 := by decide +kernel
theorem dksX5_shows_1 : cX5_shows.data.toList.drop 24 = dktX5_shows_1 := dk_seg dksX5_shows_0 24 rfl rfl
theorem dX5_shows_0 : decode cX5_shows 0 = .ok (.aload_n 0, 1) := dk_42 (dk_at dksX5_shows_0 0 rfl rfl)
theorem dX5_shows_1 : decode cX5_shows 1 = .ok (.iload_n 1, 1) := dk_27 (dk_at dksX5_shows_0 1 rfl rfl)
theorem dX5_shows_2 : decode cX5_shows 2 = .ok (.iload_n 2, 1) := dk_28 (dk_at dksX5_shows_0 2 rfl rfl)
theorem dX5_shows_3 : decode cX5_shows 3 = .ok (.iload_n 3, 1) := dk_29 (dk_at dksX5_shows_0 3 rfl rfl)
theorem dX5_shows_4 : decode cX5_shows 4 = .ok (.iload 4, 2) := dk_21 4 (dk_at dksX5_shows_0 4 rfl rfl)
theorem dX5_shows_6 : decode cX5_shows 6 = .ok (.invokevirtual 104, 3) := dk_182 0 104 (dk_at dksX5_shows_0 6 rfl rfl)
theorem dX5_shows_9 : decode cX5_shows 9 = .ok (.istore 5, 2) := dk_54 5 (dk_at dksX5_shows_0 9 rfl rfl)
theorem dX5_shows_11 : decode cX5_shows 11 = .ok (.iload 5, 2) := dk_21 5 (dk_at dksX5_shows_0 11 rfl rfl)
theorem dX5_shows_13 : decode cX5_shows 13 = .ok (.ifCond .ge 10, 3) := dk_156 0 10 (dk_at dksX5_shows_0 13 rfl rfl)
theorem dX5_shows_16 : decode cX5_shows 16 = .ok (.aload_n 0, 1) := dk_42 (dk_at dksX5_shows_0 16 rfl rfl)
theorem dX5_shows_17 : decode cX5_shows 17 = .ok (.getfield 65, 3) := dk_180 0 65 (dk_at dksX5_shows_0 17 rfl rfl)
theorem dX5_shows_20 : decode cX5_shows 20 = .ok (.goto 13, 3) := dk_167 0 13 (dk_at dksX5_shows_0 20 rfl rfl)
theorem dX5_shows_23 : decode cX5_shows 23 = .ok (.aload_n 0, 1) := dk_42 (dk_at dksX5_shows_0 23 rfl rfl)
theorem dX5_shows_24 : decode cX5_shows 24 = .ok (.getfield 57, 3) := dk_180 0 57 (dk_at dksX5_shows_1 0 rfl rfl)
theorem dX5_shows_27 : decode cX5_shows 27 = .ok (.iload 5, 2) := dk_21 5 (dk_at dksX5_shows_1 3 rfl rfl)
theorem dX5_shows_29 : decode cX5_shows 29 = .ok (.aaload, 1) := dk_50 (dk_at dksX5_shows_1 5 rfl rfl)
theorem dX5_shows_30 : decode cX5_shows 30 = .ok (.getfield 108, 3) := dk_180 0 108 (dk_at dksX5_shows_1 6 rfl rfl)
theorem dX5_shows_33 : decode cX5_shows 33 = .ok (.ireturn, 1) := dk_172 (dk_at dksX5_shows_1 9 rfl rfl)
abbrev cX5_first : ByteArray := prog_5_method_10_code
def yX5_first : MethodName := ⟨RX5, "first", "(ZIII)I"⟩
def dkwX5_first_1 : List UInt8 := [182, 0, 100, 153, 0, 6, 21, 5, 172, 132, 5, 1, 167, 255, 223, 2, 172]
abbrev dktX5_first_1 : List UInt8 := dkwX5_first_1 ++ []
def dkwX5_first_0 : List UInt8 := [3, 54, 5, 21, 5, 42, 180, 0, 68, 162, 0, 30, 42, 180, 0, 57, 21, 5, 50, 27, 28, 29, 21, 4]
abbrev dktX5_first_0 : List UInt8 := dkwX5_first_0 ++ dktX5_first_1
theorem dksX5_first_0 : cX5_first.data.toList.drop 0 = dktX5_first_0 := by decide +kernel
theorem dksX5_first_1 : cX5_first.data.toList.drop 24 = dktX5_first_1 := dk_seg dksX5_first_0 24 rfl rfl
theorem dX5_first_0 : decode cX5_first 0 = .ok (.iconst 0, 1) := dk_3 (dk_at dksX5_first_0 0 rfl rfl)
theorem dX5_first_1 : decode cX5_first 1 = .ok (.istore 5, 2) := dk_54 5 (dk_at dksX5_first_0 1 rfl rfl)
theorem dX5_first_3 : decode cX5_first 3 = .ok (.iload 5, 2) := dk_21 5 (dk_at dksX5_first_0 3 rfl rfl)
theorem dX5_first_5 : decode cX5_first 5 = .ok (.aload_n 0, 1) := dk_42 (dk_at dksX5_first_0 5 rfl rfl)
theorem dX5_first_6 : decode cX5_first 6 = .ok (.getfield 68, 3) := dk_180 0 68 (dk_at dksX5_first_0 6 rfl rfl)
theorem dX5_first_9 : decode cX5_first 9 = .ok (.if_icmp .ge 30, 3) := dk_162 0 30 (dk_at dksX5_first_0 9 rfl rfl)
theorem dX5_first_12 : decode cX5_first 12 = .ok (.aload_n 0, 1) := dk_42 (dk_at dksX5_first_0 12 rfl rfl)
theorem dX5_first_13 : decode cX5_first 13 = .ok (.getfield 57, 3) := dk_180 0 57 (dk_at dksX5_first_0 13 rfl rfl)
theorem dX5_first_16 : decode cX5_first 16 = .ok (.iload 5, 2) := dk_21 5 (dk_at dksX5_first_0 16 rfl rfl)
theorem dX5_first_18 : decode cX5_first 18 = .ok (.aaload, 1) := dk_50 (dk_at dksX5_first_0 18 rfl rfl)
theorem dX5_first_19 : decode cX5_first 19 = .ok (.iload_n 1, 1) := dk_27 (dk_at dksX5_first_0 19 rfl rfl)
theorem dX5_first_20 : decode cX5_first 20 = .ok (.iload_n 2, 1) := dk_28 (dk_at dksX5_first_0 20 rfl rfl)
theorem dX5_first_21 : decode cX5_first 21 = .ok (.iload_n 3, 1) := dk_29 (dk_at dksX5_first_0 21 rfl rfl)
theorem dX5_first_22 : decode cX5_first 22 = .ok (.iload 4, 2) := dk_21 4 (dk_at dksX5_first_0 22 rfl rfl)
theorem dX5_first_24 : decode cX5_first 24 = .ok (.invokevirtual 100, 3) := dk_182 0 100 (dk_at dksX5_first_1 0 rfl rfl)
theorem dX5_first_27 : decode cX5_first 27 = .ok (.ifCond .eq 6, 3) := dk_153 0 6 (dk_at dksX5_first_1 3 rfl rfl)
theorem dX5_first_30 : decode cX5_first 30 = .ok (.iload 5, 2) := dk_21 5 (dk_at dksX5_first_1 6 rfl rfl)
theorem dX5_first_32 : decode cX5_first 32 = .ok (.ireturn, 1) := dk_172 (dk_at dksX5_first_1 8 rfl rfl)
theorem dX5_first_33 : decode cX5_first 33 = .ok (.iinc 5 1, 3) := dk_132 5 1 (dk_at dksX5_first_1 9 rfl rfl)
theorem dX5_first_36 : decode cX5_first 36 = .ok (.goto (-33), 3) := dk_167 255 223 (dk_at dksX5_first_1 12 rfl rfl)
theorem dX5_first_39 : decode cX5_first 39 = .ok (.iconst (-1), 1) := dk_2 (dk_at dksX5_first_1 15 rfl rfl)
theorem dX5_first_40 : decode cX5_first 40 = .ok (.ireturn, 1) := dk_172 (dk_at dksX5_first_1 16 rfl rfl)
abbrev cX5_term : ByteArray := prog_5_method_18_code
def yX5_term : MethodName := ⟨RX5, "term", "()I"⟩
def dkwX5_term_1 : List UInt8 := [182, 0, 133, 4, 160, 0, 9, 4, 28, 120, 167, 0, 4, 3, 128, 60, 132, 2, 1, 167, 255, 217, 27, 172]
abbrev dktX5_term_1 : List UInt8 := dkwX5_term_1 ++ []
def dkwX5_term_0 : List UInt8 := [3, 60, 3, 61, 28, 42, 180, 0, 71, 162, 0, 37, 27, 42, 180, 0, 34, 28, 46, 154, 0, 18, 42, 28]
abbrev dktX5_term_0 : List UInt8 := dkwX5_term_0 ++ dktX5_term_1
theorem dksX5_term_0 : cX5_term.data.toList.drop 0 = dktX5_term_0 := by decide +kernel
theorem dksX5_term_1 : cX5_term.data.toList.drop 24 = dktX5_term_1 := dk_seg dksX5_term_0 24 rfl rfl
theorem dX5_term_0 : decode cX5_term 0 = .ok (.iconst 0, 1) := dk_3 (dk_at dksX5_term_0 0 rfl rfl)
theorem dX5_term_1 : decode cX5_term 1 = .ok (.istore_n 1, 1) := dk_60 (dk_at dksX5_term_0 1 rfl rfl)
theorem dX5_term_2 : decode cX5_term 2 = .ok (.iconst 0, 1) := dk_3 (dk_at dksX5_term_0 2 rfl rfl)
theorem dX5_term_3 : decode cX5_term 3 = .ok (.istore_n 2, 1) := dk_61 (dk_at dksX5_term_0 3 rfl rfl)
theorem dX5_term_4 : decode cX5_term 4 = .ok (.iload_n 2, 1) := dk_28 (dk_at dksX5_term_0 4 rfl rfl)
theorem dX5_term_5 : decode cX5_term 5 = .ok (.aload_n 0, 1) := dk_42 (dk_at dksX5_term_0 5 rfl rfl)
theorem dX5_term_6 : decode cX5_term 6 = .ok (.getfield 71, 3) := dk_180 0 71 (dk_at dksX5_term_0 6 rfl rfl)
theorem dX5_term_9 : decode cX5_term 9 = .ok (.if_icmp .ge 37, 3) := dk_162 0 37 (dk_at dksX5_term_0 9 rfl rfl)
theorem dX5_term_12 : decode cX5_term 12 = .ok (.iload_n 1, 1) := dk_27 (dk_at dksX5_term_0 12 rfl rfl)
theorem dX5_term_13 : decode cX5_term 13 = .ok (.aload_n 0, 1) := dk_42 (dk_at dksX5_term_0 13 rfl rfl)
theorem dX5_term_14 : decode cX5_term 14 = .ok (.getfield 34, 3) := dk_180 0 34 (dk_at dksX5_term_0 14 rfl rfl)
theorem dX5_term_17 : decode cX5_term 17 = .ok (.iload_n 2, 1) := dk_28 (dk_at dksX5_term_0 17 rfl rfl)
theorem dX5_term_18 : decode cX5_term 18 = .ok (.iaload, 1) := dk_46 (dk_at dksX5_term_0 18 rfl rfl)
theorem dX5_term_19 : decode cX5_term 19 = .ok (.ifCond .ne 18, 3) := dk_154 0 18 (dk_at dksX5_term_0 19 rfl rfl)
theorem dX5_term_22 : decode cX5_term 22 = .ok (.aload_n 0, 1) := dk_42 (dk_at dksX5_term_0 22 rfl rfl)
theorem dX5_term_23 : decode cX5_term 23 = .ok (.iload_n 2, 1) := dk_28 (dk_at dksX5_term_0 23 rfl rfl)
theorem dX5_term_24 : decode cX5_term 24 = .ok (.invokevirtual 133, 3) := dk_182 0 133 (dk_at dksX5_term_1 0 rfl rfl)
theorem dX5_term_27 : decode cX5_term 27 = .ok (.iconst 1, 1) := dk_4 (dk_at dksX5_term_1 3 rfl rfl)
theorem dX5_term_28 : decode cX5_term 28 = .ok (.if_icmp .ne 9, 3) := dk_160 0 9 (dk_at dksX5_term_1 4 rfl rfl)
theorem dX5_term_31 : decode cX5_term 31 = .ok (.iconst 1, 1) := dk_4 (dk_at dksX5_term_1 7 rfl rfl)
theorem dX5_term_32 : decode cX5_term 32 = .ok (.iload_n 2, 1) := dk_28 (dk_at dksX5_term_1 8 rfl rfl)
theorem dX5_term_33 : decode cX5_term 33 = .ok (.ishl, 1) := dk_120 (dk_at dksX5_term_1 9 rfl rfl)
theorem dX5_term_34 : decode cX5_term 34 = .ok (.goto 4, 3) := dk_167 0 4 (dk_at dksX5_term_1 10 rfl rfl)
theorem dX5_term_37 : decode cX5_term 37 = .ok (.iconst 0, 1) := dk_3 (dk_at dksX5_term_1 13 rfl rfl)
theorem dX5_term_38 : decode cX5_term 38 = .ok (.ior, 1) := dk_128 (dk_at dksX5_term_1 14 rfl rfl)
theorem dX5_term_39 : decode cX5_term 39 = .ok (.istore_n 1, 1) := dk_60 (dk_at dksX5_term_1 15 rfl rfl)
theorem dX5_term_40 : decode cX5_term 40 = .ok (.iinc 2 1, 3) := dk_132 2 1 (dk_at dksX5_term_1 16 rfl rfl)
theorem dX5_term_43 : decode cX5_term 43 = .ok (.goto (-39), 3) := dk_167 255 217 (dk_at dksX5_term_1 19 rfl rfl)
theorem dX5_term_46 : decode cX5_term 46 = .ok (.iload_n 1, 1) := dk_27 (dk_at dksX5_term_1 22 rfl rfl)
theorem dX5_term_47 : decode cX5_term 47 = .ok (.ireturn, 1) := dk_172 (dk_at dksX5_term_1 23 rfl rfl)
abbrev cX5_judges : ByteArray := prog_5_method_17_code
def yX5_judges : MethodName := ⟨RX5, "judges", "(I)I"⟩
def dkwX5_judges_1 : List UInt8 := [28, 5, 160, 0, 7, 4, 167, 0, 4, 3, 79, 42, 180, 0, 34, 27, 46, 172]
abbrev dktX5_judges_1 : List UInt8 := dkwX5_judges_1 ++ []
def dkwX5_judges_0 : List UInt8 := [42, 42, 27, 182, 0, 127, 182, 0, 130, 61, 42, 180, 0, 34, 27, 28, 4, 160, 0, 7, 5, 167, 0, 13]
abbrev dktX5_judges_0 : List UInt8 := dkwX5_judges_0 ++ dktX5_judges_1
theorem dksX5_judges_0 : cX5_judges.data.toList.drop 0 = dktX5_judges_0 := by decide +kernel
theorem dksX5_judges_1 : cX5_judges.data.toList.drop 24 = dktX5_judges_1 := dk_seg dksX5_judges_0 24 rfl rfl
theorem dX5_judges_0 : decode cX5_judges 0 = .ok (.aload_n 0, 1) := dk_42 (dk_at dksX5_judges_0 0 rfl rfl)
theorem dX5_judges_1 : decode cX5_judges 1 = .ok (.aload_n 0, 1) := dk_42 (dk_at dksX5_judges_0 1 rfl rfl)
theorem dX5_judges_2 : decode cX5_judges 2 = .ok (.iload_n 1, 1) := dk_27 (dk_at dksX5_judges_0 2 rfl rfl)
theorem dX5_judges_3 : decode cX5_judges 3 = .ok (.invokevirtual 127, 3) := dk_182 0 127 (dk_at dksX5_judges_0 3 rfl rfl)
theorem dX5_judges_6 : decode cX5_judges 6 = .ok (.invokevirtual 130, 3) := dk_182 0 130 (dk_at dksX5_judges_0 6 rfl rfl)
theorem dX5_judges_9 : decode cX5_judges 9 = .ok (.istore_n 2, 1) := dk_61 (dk_at dksX5_judges_0 9 rfl rfl)
theorem dX5_judges_10 : decode cX5_judges 10 = .ok (.aload_n 0, 1) := dk_42 (dk_at dksX5_judges_0 10 rfl rfl)
theorem dX5_judges_11 : decode cX5_judges 11 = .ok (.getfield 34, 3) := dk_180 0 34 (dk_at dksX5_judges_0 11 rfl rfl)
theorem dX5_judges_14 : decode cX5_judges 14 = .ok (.iload_n 1, 1) := dk_27 (dk_at dksX5_judges_0 14 rfl rfl)
theorem dX5_judges_15 : decode cX5_judges 15 = .ok (.iload_n 2, 1) := dk_28 (dk_at dksX5_judges_0 15 rfl rfl)
theorem dX5_judges_16 : decode cX5_judges 16 = .ok (.iconst 1, 1) := dk_4 (dk_at dksX5_judges_0 16 rfl rfl)
theorem dX5_judges_17 : decode cX5_judges 17 = .ok (.if_icmp .ne 7, 3) := dk_160 0 7 (dk_at dksX5_judges_0 17 rfl rfl)
theorem dX5_judges_20 : decode cX5_judges 20 = .ok (.iconst 2, 1) := dk_5 (dk_at dksX5_judges_0 20 rfl rfl)
theorem dX5_judges_21 : decode cX5_judges 21 = .ok (.goto 13, 3) := dk_167 0 13 (dk_at dksX5_judges_0 21 rfl rfl)
theorem dX5_judges_24 : decode cX5_judges 24 = .ok (.iload_n 2, 1) := dk_28 (dk_at dksX5_judges_1 0 rfl rfl)
theorem dX5_judges_25 : decode cX5_judges 25 = .ok (.iconst 2, 1) := dk_5 (dk_at dksX5_judges_1 1 rfl rfl)
theorem dX5_judges_26 : decode cX5_judges 26 = .ok (.if_icmp .ne 7, 3) := dk_160 0 7 (dk_at dksX5_judges_1 2 rfl rfl)
theorem dX5_judges_29 : decode cX5_judges 29 = .ok (.iconst 1, 1) := dk_4 (dk_at dksX5_judges_1 5 rfl rfl)
theorem dX5_judges_30 : decode cX5_judges 30 = .ok (.goto 4, 3) := dk_167 0 4 (dk_at dksX5_judges_1 6 rfl rfl)
theorem dX5_judges_33 : decode cX5_judges 33 = .ok (.iconst 0, 1) := dk_3 (dk_at dksX5_judges_1 9 rfl rfl)
theorem dX5_judges_34 : decode cX5_judges 34 = .ok (.iastore, 1) := dk_79 (dk_at dksX5_judges_1 10 rfl rfl)
theorem dX5_judges_35 : decode cX5_judges 35 = .ok (.aload_n 0, 1) := dk_42 (dk_at dksX5_judges_1 11 rfl rfl)
theorem dX5_judges_36 : decode cX5_judges 36 = .ok (.getfield 34, 3) := dk_180 0 34 (dk_at dksX5_judges_1 12 rfl rfl)
theorem dX5_judges_39 : decode cX5_judges 39 = .ok (.iload_n 1, 1) := dk_27 (dk_at dksX5_judges_1 15 rfl rfl)
theorem dX5_judges_40 : decode cX5_judges 40 = .ok (.iaload, 1) := dk_46 (dk_at dksX5_judges_1 16 rfl rfl)
theorem dX5_judges_41 : decode cX5_judges 41 = .ok (.ireturn, 1) := dk_172 (dk_at dksX5_judges_1 17 rfl rfl)
abbrev cX5_senseOf : ByteArray := prog_5_method_14_code
def yX5_senseOf : MethodName := ⟨RX5, "senseOf", "(I)I"⟩
def dkwX5_senseOf_0 : List UInt8 := [27, 42, 180, 0, 65, 160, 0, 7, 3, 167, 0, 9, 42, 180, 0, 24, 27, 46, 172]
abbrev dktX5_senseOf_0 : List UInt8 := dkwX5_senseOf_0 ++ []
theorem dksX5_senseOf_0 : cX5_senseOf.data.toList.drop 0 = dktX5_senseOf_0 := by decide +kernel
theorem dX5_senseOf_0 : decode cX5_senseOf 0 = .ok (.iload_n 1, 1) := dk_27 (dk_at dksX5_senseOf_0 0 rfl rfl)
theorem dX5_senseOf_1 : decode cX5_senseOf 1 = .ok (.aload_n 0, 1) := dk_42 (dk_at dksX5_senseOf_0 1 rfl rfl)
theorem dX5_senseOf_2 : decode cX5_senseOf 2 = .ok (.getfield 65, 3) := dk_180 0 65 (dk_at dksX5_senseOf_0 2 rfl rfl)
theorem dX5_senseOf_5 : decode cX5_senseOf 5 = .ok (.if_icmp .ne 7, 3) := dk_160 0 7 (dk_at dksX5_senseOf_0 5 rfl rfl)
theorem dX5_senseOf_8 : decode cX5_senseOf 8 = .ok (.iconst 0, 1) := dk_3 (dk_at dksX5_senseOf_0 8 rfl rfl)
theorem dX5_senseOf_9 : decode cX5_senseOf 9 = .ok (.goto 9, 3) := dk_167 0 9 (dk_at dksX5_senseOf_0 9 rfl rfl)
theorem dX5_senseOf_12 : decode cX5_senseOf 12 = .ok (.aload_n 0, 1) := dk_42 (dk_at dksX5_senseOf_0 12 rfl rfl)
theorem dX5_senseOf_13 : decode cX5_senseOf 13 = .ok (.getfield 24, 3) := dk_180 0 24 (dk_at dksX5_senseOf_0 13 rfl rfl)
theorem dX5_senseOf_16 : decode cX5_senseOf 16 = .ok (.iload_n 1, 1) := dk_27 (dk_at dksX5_senseOf_0 16 rfl rfl)
theorem dX5_senseOf_17 : decode cX5_senseOf 17 = .ok (.iaload, 1) := dk_46 (dk_at dksX5_senseOf_0 17 rfl rfl)
theorem dX5_senseOf_18 : decode cX5_senseOf 18 = .ok (.ireturn, 1) := dk_172 (dk_at dksX5_senseOf_0 18 rfl rfl)
abbrev cX5_feeds : ByteArray := prog_5_method_19_code
def yX5_feeds : MethodName := ⟨RX5, "feeds", "(II)Z"⟩
def dkwX5_feeds_1 : List UInt8 := [42, 180, 0, 28, 27, 46, 28, 96, 184, 0, 122, 79, 4, 172]
abbrev dktX5_feeds_1 : List UInt8 := dkwX5_feeds_1 ++ []
def dkwX5_feeds_0 : List UInt8 := [28, 153, 0, 14, 42, 180, 0, 28, 27, 46, 16, 99, 160, 0, 5, 3, 172, 42, 180, 0, 28, 27, 16, 99]
abbrev dktX5_feeds_0 : List UInt8 := dkwX5_feeds_0 ++ dktX5_feeds_1
theorem dksX5_feeds_0 : cX5_feeds.data.toList.drop 0 = dktX5_feeds_0 := by decide +kernel
theorem dksX5_feeds_1 : cX5_feeds.data.toList.drop 24 = dktX5_feeds_1 := dk_seg dksX5_feeds_0 24 rfl rfl
theorem dX5_feeds_0 : decode cX5_feeds 0 = .ok (.iload_n 2, 1) := dk_28 (dk_at dksX5_feeds_0 0 rfl rfl)
theorem dX5_feeds_1 : decode cX5_feeds 1 = .ok (.ifCond .eq 14, 3) := dk_153 0 14 (dk_at dksX5_feeds_0 1 rfl rfl)
theorem dX5_feeds_4 : decode cX5_feeds 4 = .ok (.aload_n 0, 1) := dk_42 (dk_at dksX5_feeds_0 4 rfl rfl)
theorem dX5_feeds_5 : decode cX5_feeds 5 = .ok (.getfield 28, 3) := dk_180 0 28 (dk_at dksX5_feeds_0 5 rfl rfl)
theorem dX5_feeds_8 : decode cX5_feeds 8 = .ok (.iload_n 1, 1) := dk_27 (dk_at dksX5_feeds_0 8 rfl rfl)
theorem dX5_feeds_9 : decode cX5_feeds 9 = .ok (.iaload, 1) := dk_46 (dk_at dksX5_feeds_0 9 rfl rfl)
theorem dX5_feeds_10 : decode cX5_feeds 10 = .ok (.bipush 99, 2) := dk_16 99 (dk_at dksX5_feeds_0 10 rfl rfl)
theorem dX5_feeds_12 : decode cX5_feeds 12 = .ok (.if_icmp .ne 5, 3) := dk_160 0 5 (dk_at dksX5_feeds_0 12 rfl rfl)
theorem dX5_feeds_15 : decode cX5_feeds 15 = .ok (.iconst 0, 1) := dk_3 (dk_at dksX5_feeds_0 15 rfl rfl)
theorem dX5_feeds_16 : decode cX5_feeds 16 = .ok (.ireturn, 1) := dk_172 (dk_at dksX5_feeds_0 16 rfl rfl)
theorem dX5_feeds_17 : decode cX5_feeds 17 = .ok (.aload_n 0, 1) := dk_42 (dk_at dksX5_feeds_0 17 rfl rfl)
theorem dX5_feeds_18 : decode cX5_feeds 18 = .ok (.getfield 28, 3) := dk_180 0 28 (dk_at dksX5_feeds_0 18 rfl rfl)
theorem dX5_feeds_21 : decode cX5_feeds 21 = .ok (.iload_n 1, 1) := dk_27 (dk_at dksX5_feeds_0 21 rfl rfl)
theorem dX5_feeds_22 : decode cX5_feeds 22 = .ok (.bipush 99, 2) := dk_16 99 (dk_at dksX5_feeds_0 22 rfl rfl)
theorem dX5_feeds_24 : decode cX5_feeds 24 = .ok (.aload_n 0, 1) := dk_42 (dk_at dksX5_feeds_1 0 rfl rfl)
theorem dX5_feeds_25 : decode cX5_feeds 25 = .ok (.getfield 28, 3) := dk_180 0 28 (dk_at dksX5_feeds_1 1 rfl rfl)
theorem dX5_feeds_28 : decode cX5_feeds 28 = .ok (.iload_n 1, 1) := dk_27 (dk_at dksX5_feeds_1 4 rfl rfl)
theorem dX5_feeds_29 : decode cX5_feeds 29 = .ok (.iaload, 1) := dk_46 (dk_at dksX5_feeds_1 5 rfl rfl)
theorem dX5_feeds_30 : decode cX5_feeds 30 = .ok (.iload_n 2, 1) := dk_28 (dk_at dksX5_feeds_1 6 rfl rfl)
theorem dX5_feeds_31 : decode cX5_feeds 31 = .ok (.iadd, 1) := dk_96 (dk_at dksX5_feeds_1 7 rfl rfl)
theorem dX5_feeds_32 : decode cX5_feeds 32 = .ok (.invokestatic 122, 3) := dk_184 0 122 (dk_at dksX5_feeds_1 8 rfl rfl)
theorem dX5_feeds_35 : decode cX5_feeds 35 = .ok (.iastore, 1) := dk_79 (dk_at dksX5_feeds_1 11 rfl rfl)
theorem dX5_feeds_36 : decode cX5_feeds 36 = .ok (.iconst 1, 1) := dk_4 (dk_at dksX5_feeds_1 12 rfl rfl)
theorem dX5_feeds_37 : decode cX5_feeds 37 = .ok (.ireturn, 1) := dk_172 (dk_at dksX5_feeds_1 13 rfl rfl)
abbrev cX5_scents : ByteArray := prog_5_method_20_code
def yX5_scents : MethodName := ⟨RX5, "scents", "(IIZ)Z"⟩
def dkwX5_scents_1 : List UInt8 := [28, 120, 130, 79, 4, 172]
abbrev dktX5_scents_1 : List UInt8 := dkwX5_scents_1 ++ []
def dkwX5_scents_0 : List UInt8 := [42, 180, 0, 31, 27, 46, 28, 184, 0, 136, 29, 160, 0, 5, 3, 172, 42, 180, 0, 31, 27, 92, 46, 4]
abbrev dktX5_scents_0 : List UInt8 := dkwX5_scents_0 ++ dktX5_scents_1
theorem dksX5_scents_0 : cX5_scents.data.toList.drop 0 = dktX5_scents_0 := by decide +kernel
theorem dksX5_scents_1 : cX5_scents.data.toList.drop 24 = dktX5_scents_1 := dk_seg dksX5_scents_0 24 rfl rfl
theorem dX5_scents_0 : decode cX5_scents 0 = .ok (.aload_n 0, 1) := dk_42 (dk_at dksX5_scents_0 0 rfl rfl)
theorem dX5_scents_1 : decode cX5_scents 1 = .ok (.getfield 31, 3) := dk_180 0 31 (dk_at dksX5_scents_0 1 rfl rfl)
theorem dX5_scents_4 : decode cX5_scents 4 = .ok (.iload_n 1, 1) := dk_27 (dk_at dksX5_scents_0 4 rfl rfl)
theorem dX5_scents_5 : decode cX5_scents 5 = .ok (.iaload, 1) := dk_46 (dk_at dksX5_scents_0 5 rfl rfl)
theorem dX5_scents_6 : decode cX5_scents 6 = .ok (.iload_n 2, 1) := dk_28 (dk_at dksX5_scents_0 6 rfl rfl)
theorem dX5_scents_7 : decode cX5_scents 7 = .ok (.invokestatic 136, 3) := dk_184 0 136 (dk_at dksX5_scents_0 7 rfl rfl)
theorem dX5_scents_10 : decode cX5_scents 10 = .ok (.iload_n 3, 1) := dk_29 (dk_at dksX5_scents_0 10 rfl rfl)
theorem dX5_scents_11 : decode cX5_scents 11 = .ok (.if_icmp .ne 5, 3) := dk_160 0 5 (dk_at dksX5_scents_0 11 rfl rfl)
theorem dX5_scents_14 : decode cX5_scents 14 = .ok (.iconst 0, 1) := dk_3 (dk_at dksX5_scents_0 14 rfl rfl)
theorem dX5_scents_15 : decode cX5_scents 15 = .ok (.ireturn, 1) := dk_172 (dk_at dksX5_scents_0 15 rfl rfl)
theorem dX5_scents_16 : decode cX5_scents 16 = .ok (.aload_n 0, 1) := dk_42 (dk_at dksX5_scents_0 16 rfl rfl)
theorem dX5_scents_17 : decode cX5_scents 17 = .ok (.getfield 31, 3) := dk_180 0 31 (dk_at dksX5_scents_0 17 rfl rfl)
theorem dX5_scents_20 : decode cX5_scents 20 = .ok (.iload_n 1, 1) := dk_27 (dk_at dksX5_scents_0 20 rfl rfl)
theorem dX5_scents_21 : decode cX5_scents 21 = .ok (.dup2, 1) := dk_92 (dk_at dksX5_scents_0 21 rfl rfl)
theorem dX5_scents_22 : decode cX5_scents 22 = .ok (.iaload, 1) := dk_46 (dk_at dksX5_scents_0 22 rfl rfl)
theorem dX5_scents_23 : decode cX5_scents 23 = .ok (.iconst 1, 1) := dk_4 (dk_at dksX5_scents_0 23 rfl rfl)
theorem dX5_scents_24 : decode cX5_scents 24 = .ok (.iload_n 2, 1) := dk_28 (dk_at dksX5_scents_1 0 rfl rfl)
theorem dX5_scents_25 : decode cX5_scents 25 = .ok (.ishl, 1) := dk_120 (dk_at dksX5_scents_1 1 rfl rfl)
theorem dX5_scents_26 : decode cX5_scents 26 = .ok (.ixor, 1) := dk_130 (dk_at dksX5_scents_1 2 rfl rfl)
theorem dX5_scents_27 : decode cX5_scents 27 = .ok (.iastore, 1) := dk_79 (dk_at dksX5_scents_1 3 rfl rfl)
theorem dX5_scents_28 : decode cX5_scents 28 = .ok (.iconst 1, 1) := dk_4 (dk_at dksX5_scents_1 4 rfl rfl)
theorem dX5_scents_29 : decode cX5_scents 29 = .ok (.ireturn, 1) := dk_172 (dk_at dksX5_scents_1 5 rfl rfl)
abbrev cX5_allSmells : ByteArray := prog_5_method_9_code
def yX5_allSmells : MethodName := ⟨RX5, "allSmells", "()I"⟩
def dkwX5_allSmells_0 : List UInt8 := [4, 42, 180, 0, 61, 120, 172]
abbrev dktX5_allSmells_0 : List UInt8 := dkwX5_allSmells_0 ++ []
theorem dksX5_allSmells_0 : cX5_allSmells.data.toList.drop 0 = dktX5_allSmells_0 := by decide +kernel
theorem dX5_allSmells_0 : decode cX5_allSmells 0 = .ok (.iconst 1, 1) := dk_4 (dk_at dksX5_allSmells_0 0 rfl rfl)
theorem dX5_allSmells_1 : decode cX5_allSmells 1 = .ok (.aload_n 0, 1) := dk_42 (dk_at dksX5_allSmells_0 1 rfl rfl)
theorem dX5_allSmells_2 : decode cX5_allSmells 2 = .ok (.getfield 61, 3) := dk_180 0 61 (dk_at dksX5_allSmells_0 2 rfl rfl)
theorem dX5_allSmells_5 : decode cX5_allSmells 5 = .ok (.ishl, 1) := dk_120 (dk_at dksX5_allSmells_0 5 rfl rfl)
theorem dX5_allSmells_6 : decode cX5_allSmells 6 = .ok (.ireturn, 1) := dk_172 (dk_at dksX5_allSmells_0 6 rfl rfl)
abbrev cX5_allFed : ByteArray := prog_5_method_21_code
def yX5_allFed : MethodName := ⟨RX5, "allFed", "()I"⟩
def dkwX5_allFed_1 : List UInt8 := [167, 255, 236, 27, 172]
abbrev dktX5_allFed_1 : List UInt8 := dkwX5_allFed_1 ++ []
def dkwX5_allFed_0 : List UInt8 := [3, 60, 3, 61, 28, 42, 180, 0, 71, 162, 0, 18, 27, 42, 180, 0, 28, 28, 46, 96, 60, 132, 2, 1]
abbrev dktX5_allFed_0 : List UInt8 := dkwX5_allFed_0 ++ dktX5_allFed_1
theorem dksX5_allFed_0 : cX5_allFed.data.toList.drop 0 = dktX5_allFed_0 := by decide +kernel
theorem dksX5_allFed_1 : cX5_allFed.data.toList.drop 24 = dktX5_allFed_1 := dk_seg dksX5_allFed_0 24 rfl rfl
theorem dX5_allFed_0 : decode cX5_allFed 0 = .ok (.iconst 0, 1) := dk_3 (dk_at dksX5_allFed_0 0 rfl rfl)
theorem dX5_allFed_1 : decode cX5_allFed 1 = .ok (.istore_n 1, 1) := dk_60 (dk_at dksX5_allFed_0 1 rfl rfl)
theorem dX5_allFed_2 : decode cX5_allFed 2 = .ok (.iconst 0, 1) := dk_3 (dk_at dksX5_allFed_0 2 rfl rfl)
theorem dX5_allFed_3 : decode cX5_allFed 3 = .ok (.istore_n 2, 1) := dk_61 (dk_at dksX5_allFed_0 3 rfl rfl)
theorem dX5_allFed_4 : decode cX5_allFed 4 = .ok (.iload_n 2, 1) := dk_28 (dk_at dksX5_allFed_0 4 rfl rfl)
theorem dX5_allFed_5 : decode cX5_allFed 5 = .ok (.aload_n 0, 1) := dk_42 (dk_at dksX5_allFed_0 5 rfl rfl)
theorem dX5_allFed_6 : decode cX5_allFed 6 = .ok (.getfield 71, 3) := dk_180 0 71 (dk_at dksX5_allFed_0 6 rfl rfl)
theorem dX5_allFed_9 : decode cX5_allFed 9 = .ok (.if_icmp .ge 18, 3) := dk_162 0 18 (dk_at dksX5_allFed_0 9 rfl rfl)
theorem dX5_allFed_12 : decode cX5_allFed 12 = .ok (.iload_n 1, 1) := dk_27 (dk_at dksX5_allFed_0 12 rfl rfl)
theorem dX5_allFed_13 : decode cX5_allFed 13 = .ok (.aload_n 0, 1) := dk_42 (dk_at dksX5_allFed_0 13 rfl rfl)
theorem dX5_allFed_14 : decode cX5_allFed 14 = .ok (.getfield 28, 3) := dk_180 0 28 (dk_at dksX5_allFed_0 14 rfl rfl)
theorem dX5_allFed_17 : decode cX5_allFed 17 = .ok (.iload_n 2, 1) := dk_28 (dk_at dksX5_allFed_0 17 rfl rfl)
theorem dX5_allFed_18 : decode cX5_allFed 18 = .ok (.iaload, 1) := dk_46 (dk_at dksX5_allFed_0 18 rfl rfl)
theorem dX5_allFed_19 : decode cX5_allFed 19 = .ok (.iadd, 1) := dk_96 (dk_at dksX5_allFed_0 19 rfl rfl)
theorem dX5_allFed_20 : decode cX5_allFed 20 = .ok (.istore_n 1, 1) := dk_60 (dk_at dksX5_allFed_0 20 rfl rfl)
theorem dX5_allFed_21 : decode cX5_allFed 21 = .ok (.iinc 2 1, 3) := dk_132 2 1 (dk_at dksX5_allFed_0 21 rfl rfl)
theorem dX5_allFed_24 : decode cX5_allFed 24 = .ok (.goto (-20), 3) := dk_167 255 236 (dk_at dksX5_allFed_1 0 rfl rfl)
theorem dX5_allFed_27 : decode cX5_allFed 27 = .ok (.iload_n 1, 1) := dk_27 (dk_at dksX5_allFed_1 3 rfl rfl)
theorem dX5_allFed_28 : decode cX5_allFed 28 = .ok (.ireturn, 1) := dk_172 (dk_at dksX5_allFed_1 4 rfl rfl)
theorem q174 : (Jvm.Cond.initialized "CatWitness$Court") ∈ lw_all := lw_g (lw_at lw_m1 8 rfl) rfl
theorem q313 : (Jvm.Cond.instantiable "CatWitness$Court" (23 : Nat)) ∈ lw_all := lw_g (lw_at lw_m1 147 rfl) rfl
theorem q315 : (Jvm.Cond.instanceMethod ({ cls := "CatWitness$Court", name := "<init>", desc := "()V" } : Jvm.MethodName)) ∈ lw_all := lw_g (lw_at lw_m1 149 rfl) rfl
theorem q316 : (Jvm.Cond.code ({ cls := "CatWitness$Court", name := "<init>", desc := "()V" } : Jvm.MethodName) prog_5_method_1_code (1 : Nat) (Option.none : Option Jvm.ClassFile.FieldType)) ∈ lw_all := lw_g (lw_at lw_m1 150 rfl) rfl
theorem q317 : (Jvm.Cond.methodLink "CatWitness$Court" (3 : Nat) ({ cls := "java/lang/Object", name := "<init>", desc := "()V" } : Jvm.MethodName)) ∈ lw_all := lw_g (lw_at lw_m1 151 rfl) rfl
theorem q318 : (Jvm.Cond.classLink "CatWitness$Court" (55 : Nat) "CatWitness$Rule") ∈ lw_all := lw_g (lw_at lw_m1 152 rfl) rfl
theorem q320 : (Jvm.Cond.fieldLink "CatWitness$Court" (61 : Nat) "CatWitness$Court" "smells" "I") ∈ lw_all := lw_g (lw_at lw_m1 154 rfl) rfl
theorem q323 : (Jvm.Cond.fieldLink "CatWitness$Court" (65 : Nat) "CatWitness$Court" "cues" "I") ∈ lw_all := lw_g (lw_at lw_m1 157 rfl) rfl
theorem q326 : (Jvm.Cond.fieldLink "CatWitness$Court" (68 : Nat) "CatWitness$Court" "rules" "I") ∈ lw_all := lw_g (lw_at lw_m1 160 rfl) rfl
theorem q329 : (Jvm.Cond.fieldLink "CatWitness$Court" (71 : Nat) "CatWitness$Court" "people" "I") ∈ lw_all := lw_g (lw_at lw_m1 163 rfl) rfl
theorem q333 : (Jvm.Cond.fieldLink "CatWitness$Court" (74 : Nat) "CatWitness$Court" "readers" "I") ∈ lw_all := lw_g (lw_at lw_m1 167 rfl) rfl
theorem q336 : (Jvm.Cond.fieldLink "CatWitness$Court" (77 : Nat) "CatWitness$Court" "words" "I") ∈ lw_all := lw_g (lw_at lw_m1 170 rfl) rfl
theorem q339 : (Jvm.Cond.fieldLink "CatWitness$Court" (80 : Nat) "CatWitness$Court" "warm" "I") ∈ lw_all := lw_g (lw_at lw_m1 173 rfl) rfl
theorem q343 : (Jvm.Cond.fieldLink "CatWitness$Court" (83 : Nat) "CatWitness$Court" "sittings" "I") ∈ lw_all := lw_g (lw_at lw_m1 177 rfl) rfl
theorem q346 : (Jvm.Cond.fieldLink "CatWitness$Court" (9 : Nat) "CatWitness$Court" "smellNames" "[J") ∈ lw_all := lw_g (lw_at lw_m1 180 rfl) rfl
theorem q348 : (Jvm.Cond.fieldLink "CatWitness$Court" (15 : Nat) "CatWitness$Court" "cueNames" "[J") ∈ lw_all := lw_g (lw_at lw_m1 182 rfl) rfl
theorem q350 : (Jvm.Cond.fieldLink "CatWitness$Court" (18 : Nat) "CatWitness$Court" "personNames" "[J") ∈ lw_all := lw_g (lw_at lw_m1 184 rfl) rfl
theorem q352 : (Jvm.Cond.fieldLink "CatWitness$Court" (21 : Nat) "CatWitness$Court" "readerNames" "[J") ∈ lw_all := lw_g (lw_at lw_m1 186 rfl) rfl
theorem q354 : (Jvm.Cond.fieldLink "CatWitness$Court" (24 : Nat) "CatWitness$Court" "sense" "[I") ∈ lw_all := lw_g (lw_at lw_m1 188 rfl) rfl
theorem q357 : (Jvm.Cond.fieldLink "CatWitness$Court" (28 : Nat) "CatWitness$Court" "fed" "[I") ∈ lw_all := lw_g (lw_at lw_m1 191 rfl) rfl
theorem q360 : (Jvm.Cond.fieldLink "CatWitness$Court" (31 : Nat) "CatWitness$Court" "scents" "[I") ∈ lw_all := lw_g (lw_at lw_m1 194 rfl) rfl
theorem q363 : (Jvm.Cond.fieldLink "CatWitness$Court" (34 : Nat) "CatWitness$Court" "state" "[I") ∈ lw_all := lw_g (lw_at lw_m1 197 rfl) rfl
theorem q366 : (Jvm.Cond.fieldLink "CatWitness$Court" (37 : Nat) "CatWitness$Court" "guilty" "[I") ∈ lw_all := lw_g (lw_at lw_m1 200 rfl) rfl
theorem q369 : (Jvm.Cond.fieldLink "CatWitness$Court" (40 : Nat) "CatWitness$Court" "sat" "[I") ∈ lw_all := lw_g (lw_at lw_m1 203 rfl) rfl
theorem q371 : (Jvm.Cond.fieldLink "CatWitness$Court" (43 : Nat) "CatWitness$Court" "slip" "[I") ∈ lw_all := lw_g (lw_at lw_m1 205 rfl) rfl
theorem q374 : (Jvm.Cond.fieldLink "CatWitness$Court" (46 : Nat) "CatWitness$Court" "votes" "[I") ∈ lw_all := lw_g (lw_at lw_m1 208 rfl) rfl
theorem q377 : (Jvm.Cond.fieldLink "CatWitness$Court" (49 : Nat) "CatWitness$Court" "about" "[I") ∈ lw_all := lw_g (lw_at lw_m1 211 rfl) rfl
theorem q380 : (Jvm.Cond.fieldLink "CatWitness$Court" (52 : Nat) "CatWitness$Court" "says" "[I") ∈ lw_all := lw_g (lw_at lw_m1 214 rfl) rfl
theorem q383 : (Jvm.Cond.fieldLink "CatWitness$Court" (57 : Nat) "CatWitness$Court" "rule" "[LCatWitness$Rule;") ∈ lw_all := lw_g (lw_at lw_m1 217 rfl) rfl
theorem q386 : (Jvm.Cond.lays "CatWitness$Court" "CatWitness$Court" "smells" "I") ∈ lw_all := lw_g (lw_at lw_m1 220 rfl) rfl
theorem q387 : (Jvm.Cond.soleField "CatWitness$Court" "smells") ∈ lw_all := lw_g (lw_at lw_m1 221 rfl) rfl
theorem q388 : (Jvm.Cond.lays "CatWitness$Court" "CatWitness$Court" "cues" "I") ∈ lw_all := lw_g (lw_at lw_m1 222 rfl) rfl
theorem q389 : (Jvm.Cond.soleField "CatWitness$Court" "cues") ∈ lw_all := lw_g (lw_at lw_m1 223 rfl) rfl
theorem q390 : (Jvm.Cond.lays "CatWitness$Court" "CatWitness$Court" "rules" "I") ∈ lw_all := lw_g (lw_at lw_m1 224 rfl) rfl
theorem q391 : (Jvm.Cond.soleField "CatWitness$Court" "rules") ∈ lw_all := lw_g (lw_at lw_m1 225 rfl) rfl
theorem q392 : (Jvm.Cond.lays "CatWitness$Court" "CatWitness$Court" "people" "I") ∈ lw_all := lw_g (lw_at lw_m1 226 rfl) rfl
theorem q393 : (Jvm.Cond.soleField "CatWitness$Court" "people") ∈ lw_all := lw_g (lw_at lw_m1 227 rfl) rfl
theorem q394 : (Jvm.Cond.lays "CatWitness$Court" "CatWitness$Court" "readers" "I") ∈ lw_all := lw_g (lw_at lw_m1 228 rfl) rfl
theorem q395 : (Jvm.Cond.soleField "CatWitness$Court" "readers") ∈ lw_all := lw_g (lw_at lw_m1 229 rfl) rfl
theorem q396 : (Jvm.Cond.lays "CatWitness$Court" "CatWitness$Court" "words" "I") ∈ lw_all := lw_g (lw_at lw_m1 230 rfl) rfl
theorem q397 : (Jvm.Cond.soleField "CatWitness$Court" "words") ∈ lw_all := lw_g (lw_at lw_m1 231 rfl) rfl
theorem q398 : (Jvm.Cond.lays "CatWitness$Court" "CatWitness$Court" "warm" "I") ∈ lw_all := lw_g (lw_at lw_m1 232 rfl) rfl
theorem q399 : (Jvm.Cond.soleField "CatWitness$Court" "warm") ∈ lw_all := lw_g (lw_at lw_m1 233 rfl) rfl
theorem q400 : (Jvm.Cond.lays "CatWitness$Court" "CatWitness$Court" "sittings" "I") ∈ lw_all := lw_g (lw_at lw_m1 234 rfl) rfl
theorem q401 : (Jvm.Cond.soleField "CatWitness$Court" "sittings") ∈ lw_all := lw_g (lw_at lw_m1 235 rfl) rfl
theorem q402 : (Jvm.Cond.lays "CatWitness$Court" "CatWitness$Court" "smellNames" "[J") ∈ lw_all := lw_g (lw_at lw_m1 236 rfl) rfl
theorem q403 : (Jvm.Cond.soleField "CatWitness$Court" "smellNames") ∈ lw_all := lw_g (lw_at lw_m1 237 rfl) rfl
theorem q404 : (Jvm.Cond.lays "CatWitness$Court" "CatWitness$Court" "cueNames" "[J") ∈ lw_all := lw_g (lw_at lw_m1 238 rfl) rfl
theorem q405 : (Jvm.Cond.soleField "CatWitness$Court" "cueNames") ∈ lw_all := lw_g (lw_at lw_m1 239 rfl) rfl
theorem q406 : (Jvm.Cond.lays "CatWitness$Court" "CatWitness$Court" "personNames" "[J") ∈ lw_all := lw_g (lw_at lw_m2 0 rfl) rfl
theorem q407 : (Jvm.Cond.soleField "CatWitness$Court" "personNames") ∈ lw_all := lw_g (lw_at lw_m2 1 rfl) rfl
theorem q408 : (Jvm.Cond.lays "CatWitness$Court" "CatWitness$Court" "readerNames" "[J") ∈ lw_all := lw_g (lw_at lw_m2 2 rfl) rfl
theorem q409 : (Jvm.Cond.soleField "CatWitness$Court" "readerNames") ∈ lw_all := lw_g (lw_at lw_m2 3 rfl) rfl
theorem q410 : (Jvm.Cond.laysFinal "CatWitness$Court" "CatWitness$Court" "sense" "[I") ∈ lw_all := lw_g (lw_at lw_m2 4 rfl) rfl
theorem q411 : (Jvm.Cond.soleField "CatWitness$Court" "sense") ∈ lw_all := lw_g (lw_at lw_m2 5 rfl) rfl
theorem q412 : (Jvm.Cond.laysFinal "CatWitness$Court" "CatWitness$Court" "fed" "[I") ∈ lw_all := lw_g (lw_at lw_m2 6 rfl) rfl
theorem q413 : (Jvm.Cond.soleField "CatWitness$Court" "fed") ∈ lw_all := lw_g (lw_at lw_m2 7 rfl) rfl
theorem q414 : (Jvm.Cond.laysFinal "CatWitness$Court" "CatWitness$Court" "scents" "[I") ∈ lw_all := lw_g (lw_at lw_m2 8 rfl) rfl
theorem q415 : (Jvm.Cond.soleField "CatWitness$Court" "scents") ∈ lw_all := lw_g (lw_at lw_m2 9 rfl) rfl
theorem q416 : (Jvm.Cond.laysFinal "CatWitness$Court" "CatWitness$Court" "state" "[I") ∈ lw_all := lw_g (lw_at lw_m2 10 rfl) rfl
theorem q417 : (Jvm.Cond.soleField "CatWitness$Court" "state") ∈ lw_all := lw_g (lw_at lw_m2 11 rfl) rfl
theorem q418 : (Jvm.Cond.laysFinal "CatWitness$Court" "CatWitness$Court" "guilty" "[I") ∈ lw_all := lw_g (lw_at lw_m2 12 rfl) rfl
theorem q419 : (Jvm.Cond.soleField "CatWitness$Court" "guilty") ∈ lw_all := lw_g (lw_at lw_m2 13 rfl) rfl
theorem q420 : (Jvm.Cond.laysFinal "CatWitness$Court" "CatWitness$Court" "sat" "[I") ∈ lw_all := lw_g (lw_at lw_m2 14 rfl) rfl
theorem q421 : (Jvm.Cond.soleField "CatWitness$Court" "sat") ∈ lw_all := lw_g (lw_at lw_m2 15 rfl) rfl
theorem q422 : (Jvm.Cond.laysFinal "CatWitness$Court" "CatWitness$Court" "slip" "[I") ∈ lw_all := lw_g (lw_at lw_m2 16 rfl) rfl
theorem q423 : (Jvm.Cond.soleField "CatWitness$Court" "slip") ∈ lw_all := lw_g (lw_at lw_m2 17 rfl) rfl
theorem q424 : (Jvm.Cond.laysFinal "CatWitness$Court" "CatWitness$Court" "votes" "[I") ∈ lw_all := lw_g (lw_at lw_m2 18 rfl) rfl
theorem q425 : (Jvm.Cond.soleField "CatWitness$Court" "votes") ∈ lw_all := lw_g (lw_at lw_m2 19 rfl) rfl
theorem q426 : (Jvm.Cond.laysFinal "CatWitness$Court" "CatWitness$Court" "about" "[I") ∈ lw_all := lw_g (lw_at lw_m2 20 rfl) rfl
theorem q427 : (Jvm.Cond.soleField "CatWitness$Court" "about") ∈ lw_all := lw_g (lw_at lw_m2 21 rfl) rfl
theorem q428 : (Jvm.Cond.laysFinal "CatWitness$Court" "CatWitness$Court" "says" "[I") ∈ lw_all := lw_g (lw_at lw_m2 22 rfl) rfl
theorem q429 : (Jvm.Cond.soleField "CatWitness$Court" "says") ∈ lw_all := lw_g (lw_at lw_m2 23 rfl) rfl
theorem q430 : (Jvm.Cond.laysFinal "CatWitness$Court" "CatWitness$Court" "rule" "[LCatWitness$Rule;") ∈ lw_all := lw_g (lw_at lw_m2 24 rfl) rfl
theorem q431 : (Jvm.Cond.soleField "CatWitness$Court" "rule") ∈ lw_all := lw_g (lw_at lw_m2 25 rfl) rfl
theorem q432 : (Jvm.Cond.superclass "CatWitness$Court" "java/lang/Object") ∈ lw_all := lw_g (lw_at lw_m2 26 rfl) rfl
theorem q837 : (Jvm.Cond.instanceMethod ({ cls := "CatWitness$Court", name := "smellNamed", desc := "(J)I" } : Jvm.MethodName)) ∈ lw_all := lw_g (lw_at lw_m3 191 rfl) rfl
theorem q838 : (Jvm.Cond.selects "CatWitness$Court" ({ cls := "CatWitness$Court", name := "smellNamed", desc := "(J)I" } : Jvm.MethodName) ({ cls := "CatWitness$Court", name := "smellNamed", desc := "(J)I" } : Jvm.MethodName)) ∈ lw_all := lw_g (lw_at lw_m3 192 rfl) rfl
theorem q839 : (Jvm.Cond.code ({ cls := "CatWitness$Court", name := "smellNamed", desc := "(J)I" } : Jvm.MethodName) prog_5_method_5_code (3 : Nat) (Option.some Jvm.ClassFile.FieldType.int)) ∈ lw_all := lw_g (lw_at lw_m3 193 rfl) rfl
theorem q840 : (Jvm.Cond.methodLink "CatWitness$Court" (96 : Nat) ({ cls := "CatWitness$Court", name := "find", desc := "([JIJ)I" } : Jvm.MethodName)) ∈ lw_all := lw_g (lw_at lw_m3 194 rfl) rfl
theorem q841 : (Jvm.Cond.static ({ cls := "CatWitness$Court", name := "find", desc := "([JIJ)I" } : Jvm.MethodName)) ∈ lw_all := lw_g (lw_at lw_m3 195 rfl) rfl
theorem q842 : (Jvm.Cond.code ({ cls := "CatWitness$Court", name := "find", desc := "([JIJ)I" } : Jvm.MethodName) prog_5_method_4_code (5 : Nat) (Option.some Jvm.ClassFile.FieldType.int)) ∈ lw_all := lw_g (lw_at lw_m3 196 rfl) rfl
theorem q844 : (Jvm.Cond.instanceMethod ({ cls := "CatWitness$Court", name := "cueNamed", desc := "(J)I" } : Jvm.MethodName)) ∈ lw_all := lw_g (lw_at lw_m3 198 rfl) rfl
theorem q845 : (Jvm.Cond.selects "CatWitness$Court" ({ cls := "CatWitness$Court", name := "cueNamed", desc := "(J)I" } : Jvm.MethodName) ({ cls := "CatWitness$Court", name := "cueNamed", desc := "(J)I" } : Jvm.MethodName)) ∈ lw_all := lw_g (lw_at lw_m3 199 rfl) rfl
theorem q846 : (Jvm.Cond.code ({ cls := "CatWitness$Court", name := "cueNamed", desc := "(J)I" } : Jvm.MethodName) prog_5_method_6_code (3 : Nat) (Option.some Jvm.ClassFile.FieldType.int)) ∈ lw_all := lw_g (lw_at lw_m3 200 rfl) rfl
theorem q848 : (Jvm.Cond.instanceMethod ({ cls := "CatWitness$Court", name := "personNamed", desc := "(J)I" } : Jvm.MethodName)) ∈ lw_all := lw_g (lw_at lw_m3 202 rfl) rfl
theorem q849 : (Jvm.Cond.selects "CatWitness$Court" ({ cls := "CatWitness$Court", name := "personNamed", desc := "(J)I" } : Jvm.MethodName) ({ cls := "CatWitness$Court", name := "personNamed", desc := "(J)I" } : Jvm.MethodName)) ∈ lw_all := lw_g (lw_at lw_m3 203 rfl) rfl
theorem q850 : (Jvm.Cond.code ({ cls := "CatWitness$Court", name := "personNamed", desc := "(J)I" } : Jvm.MethodName) prog_5_method_7_code (3 : Nat) (Option.some Jvm.ClassFile.FieldType.int)) ∈ lw_all := lw_g (lw_at lw_m3 204 rfl) rfl
theorem q852 : (Jvm.Cond.instanceMethod ({ cls := "CatWitness$Court", name := "readerNamed", desc := "(J)I" } : Jvm.MethodName)) ∈ lw_all := lw_g (lw_at lw_m3 206 rfl) rfl
theorem q853 : (Jvm.Cond.selects "CatWitness$Court" ({ cls := "CatWitness$Court", name := "readerNamed", desc := "(J)I" } : Jvm.MethodName) ({ cls := "CatWitness$Court", name := "readerNamed", desc := "(J)I" } : Jvm.MethodName)) ∈ lw_all := lw_g (lw_at lw_m3 207 rfl) rfl
theorem q854 : (Jvm.Cond.code ({ cls := "CatWitness$Court", name := "readerNamed", desc := "(J)I" } : Jvm.MethodName) prog_5_method_8_code (3 : Nat) (Option.some Jvm.ClassFile.FieldType.int)) ∈ lw_all := lw_g (lw_at lw_m3 208 rfl) rfl
theorem q909 : (Jvm.Cond.fieldLinkNest "CatWitness$Court" (108 : Nat) "CatWitness$Rule" "cue" "I" "CatWitness") ∈ lw_tbl := lw_at lw_m4 23 rfl
theorem q967 : (Jvm.Cond.instanceMethod ({ cls := "CatWitness$Court", name := "be", desc := "(LCatWitness$Court;)V" } : Jvm.MethodName)) ∈ lw_all := lw_g (lw_at lw_m4 81 rfl) rfl
theorem q968 : (Jvm.Cond.selects "CatWitness$Court" ({ cls := "CatWitness$Court", name := "be", desc := "(LCatWitness$Court;)V" } : Jvm.MethodName) ({ cls := "CatWitness$Court", name := "be", desc := "(LCatWitness$Court;)V" } : Jvm.MethodName)) ∈ lw_all := lw_g (lw_at lw_m4 82 rfl) rfl
theorem q969 : (Jvm.Cond.code ({ cls := "CatWitness$Court", name := "be", desc := "(LCatWitness$Court;)V" } : Jvm.MethodName) prog_5_method_2_code (2 : Nat) (Option.none : Option Jvm.ClassFile.FieldType)) ∈ lw_all := lw_g (lw_at lw_m4 83 rfl) rfl
theorem q970 : (Jvm.Cond.methodLink "CatWitness$Court" (86 : Nat) ({ cls := "CatWitness$Court", name := "copy", desc := "([I[I)V" } : Jvm.MethodName)) ∈ lw_all := lw_g (lw_at lw_m4 84 rfl) rfl
theorem q971 : (Jvm.Cond.static ({ cls := "CatWitness$Court", name := "copy", desc := "([I[I)V" } : Jvm.MethodName)) ∈ lw_all := lw_g (lw_at lw_m4 85 rfl) rfl
theorem q972 : (Jvm.Cond.code ({ cls := "CatWitness$Court", name := "copy", desc := "([I[I)V" } : Jvm.MethodName) prog_5_method_3_code (2 : Nat) (Option.none : Option Jvm.ClassFile.FieldType)) ∈ lw_all := lw_g (lw_at lw_m4 86 rfl) rfl
theorem q973 : (Jvm.Cond.methodLink "CatWitness$Court" (90 : Nat) ({ cls := "java/lang/System", name := "arraycopy", desc := "(Ljava/lang/Object;ILjava/lang/Object;II)V" } : Jvm.MethodName)) ∈ lw_all := lw_g (lw_at lw_m4 87 rfl) rfl
theorem q1089 : (Jvm.Cond.instanceMethod ({ cls := "CatWitness$Court", name := "allVotes", desc := "()I" } : Jvm.MethodName)) ∈ lw_all := lw_g (lw_at lw_m4 203 rfl) rfl
theorem q1090 : (Jvm.Cond.selects "CatWitness$Court" ({ cls := "CatWitness$Court", name := "allVotes", desc := "()I" } : Jvm.MethodName) ({ cls := "CatWitness$Court", name := "allVotes", desc := "()I" } : Jvm.MethodName)) ∈ lw_all := lw_g (lw_at lw_m4 204 rfl) rfl
theorem q1091 : (Jvm.Cond.code ({ cls := "CatWitness$Court", name := "allVotes", desc := "()I" } : Jvm.MethodName) prog_5_method_22_code (3 : Nat) (Option.some Jvm.ClassFile.FieldType.int)) ∈ lw_all := lw_g (lw_at lw_m4 205 rfl) rfl
theorem q1093 : (Jvm.Cond.instanceMethod ({ cls := "CatWitness$Court", name := "are", desc := "(I)I" } : Jvm.MethodName)) ∈ lw_all := lw_g (lw_at lw_m4 207 rfl) rfl
theorem q1094 : (Jvm.Cond.selects "CatWitness$Court" ({ cls := "CatWitness$Court", name := "are", desc := "(I)I" } : Jvm.MethodName) ({ cls := "CatWitness$Court", name := "are", desc := "(I)I" } : Jvm.MethodName)) ∈ lw_all := lw_g (lw_at lw_m4 208 rfl) rfl
theorem q1095 : (Jvm.Cond.code ({ cls := "CatWitness$Court", name := "are", desc := "(I)I" } : Jvm.MethodName) prog_5_method_15_code (4 : Nat) (Option.some Jvm.ClassFile.FieldType.int)) ∈ lw_all := lw_g (lw_at lw_m4 209 rfl) rfl
theorem q1142 : (Jvm.Cond.instanceMethod ({ cls := "CatWitness$Court", name := "sits", desc := "(I)I" } : Jvm.MethodName)) ∈ lw_all := lw_g (lw_at lw_m5 16 rfl) rfl
theorem q1143 : (Jvm.Cond.selects "CatWitness$Court" ({ cls := "CatWitness$Court", name := "sits", desc := "(I)I" } : Jvm.MethodName) ({ cls := "CatWitness$Court", name := "sits", desc := "(I)I" } : Jvm.MethodName)) ∈ lw_all := lw_g (lw_at lw_m5 17 rfl) rfl
theorem q1144 : (Jvm.Cond.code ({ cls := "CatWitness$Court", name := "sits", desc := "(I)I" } : Jvm.MethodName) prog_5_method_16_code (3 : Nat) (Option.some Jvm.ClassFile.FieldType.int)) ∈ lw_all := lw_g (lw_at lw_m5 18 rfl) rfl
theorem q1145 : (Jvm.Cond.methodLink "CatWitness$Court" (118 : Nat) ({ cls := "CatWitness$Court", name := "showsNow", desc := "(I)I" } : Jvm.MethodName)) ∈ lw_all := lw_g (lw_at lw_m5 19 rfl) rfl
theorem q1146 : (Jvm.Cond.instanceMethod ({ cls := "CatWitness$Court", name := "showsNow", desc := "(I)I" } : Jvm.MethodName)) ∈ lw_all := lw_g (lw_at lw_m5 20 rfl) rfl
theorem q1147 : (Jvm.Cond.selects "CatWitness$Court" ({ cls := "CatWitness$Court", name := "showsNow", desc := "(I)I" } : Jvm.MethodName) ({ cls := "CatWitness$Court", name := "showsNow", desc := "(I)I" } : Jvm.MethodName)) ∈ lw_all := lw_g (lw_at lw_m5 21 rfl) rfl
theorem q1148 : (Jvm.Cond.code ({ cls := "CatWitness$Court", name := "showsNow", desc := "(I)I" } : Jvm.MethodName) prog_5_method_13_code (2 : Nat) (Option.some Jvm.ClassFile.FieldType.int)) ∈ lw_all := lw_g (lw_at lw_m5 22 rfl) rfl
theorem q1149 : (Jvm.Cond.methodLink "CatWitness$Court" (114 : Nat) ({ cls := "CatWitness$Court", name := "showsAt", desc := "(II)I" } : Jvm.MethodName)) ∈ lw_all := lw_g (lw_at lw_m5 23 rfl) rfl
theorem q1150 : (Jvm.Cond.instanceMethod ({ cls := "CatWitness$Court", name := "showsAt", desc := "(II)I" } : Jvm.MethodName)) ∈ lw_all := lw_g (lw_at lw_m5 24 rfl) rfl
theorem q1151 : (Jvm.Cond.selects "CatWitness$Court" ({ cls := "CatWitness$Court", name := "showsAt", desc := "(II)I" } : Jvm.MethodName) ({ cls := "CatWitness$Court", name := "showsAt", desc := "(II)I" } : Jvm.MethodName)) ∈ lw_all := lw_g (lw_at lw_m5 25 rfl) rfl
theorem q1152 : (Jvm.Cond.code ({ cls := "CatWitness$Court", name := "showsAt", desc := "(II)I" } : Jvm.MethodName) prog_5_method_12_code (3 : Nat) (Option.some Jvm.ClassFile.FieldType.int)) ∈ lw_all := lw_g (lw_at lw_m5 26 rfl) rfl
theorem q1153 : (Jvm.Cond.methodLink "CatWitness$Court" (111 : Nat) ({ cls := "CatWitness$Court", name := "shows", desc := "(ZIII)I" } : Jvm.MethodName)) ∈ lw_all := lw_g (lw_at lw_m5 27 rfl) rfl
theorem q1154 : (Jvm.Cond.instanceMethod ({ cls := "CatWitness$Court", name := "shows", desc := "(ZIII)I" } : Jvm.MethodName)) ∈ lw_all := lw_g (lw_at lw_m5 28 rfl) rfl
theorem q1155 : (Jvm.Cond.selects "CatWitness$Court" ({ cls := "CatWitness$Court", name := "shows", desc := "(ZIII)I" } : Jvm.MethodName) ({ cls := "CatWitness$Court", name := "shows", desc := "(ZIII)I" } : Jvm.MethodName)) ∈ lw_all := lw_g (lw_at lw_m5 29 rfl) rfl
theorem q1156 : (Jvm.Cond.code ({ cls := "CatWitness$Court", name := "shows", desc := "(ZIII)I" } : Jvm.MethodName) prog_5_method_11_code (6 : Nat) (Option.some Jvm.ClassFile.FieldType.int)) ∈ lw_all := lw_g (lw_at lw_m5 30 rfl) rfl
theorem q1157 : (Jvm.Cond.methodLink "CatWitness$Court" (104 : Nat) ({ cls := "CatWitness$Court", name := "first", desc := "(ZIII)I" } : Jvm.MethodName)) ∈ lw_all := lw_g (lw_at lw_m5 31 rfl) rfl
theorem q1158 : (Jvm.Cond.instanceMethod ({ cls := "CatWitness$Court", name := "first", desc := "(ZIII)I" } : Jvm.MethodName)) ∈ lw_all := lw_g (lw_at lw_m5 32 rfl) rfl
theorem q1159 : (Jvm.Cond.selects "CatWitness$Court" ({ cls := "CatWitness$Court", name := "first", desc := "(ZIII)I" } : Jvm.MethodName) ({ cls := "CatWitness$Court", name := "first", desc := "(ZIII)I" } : Jvm.MethodName)) ∈ lw_all := lw_g (lw_at lw_m5 33 rfl) rfl
theorem q1160 : (Jvm.Cond.code ({ cls := "CatWitness$Court", name := "first", desc := "(ZIII)I" } : Jvm.MethodName) prog_5_method_10_code (6 : Nat) (Option.some Jvm.ClassFile.FieldType.int)) ∈ lw_all := lw_g (lw_at lw_m5 34 rfl) rfl
theorem q1161 : (Jvm.Cond.methodLink "CatWitness$Court" (100 : Nat) ({ cls := "CatWitness$Rule", name := "bears", desc := "(ZIII)Z" } : Jvm.MethodName)) ∈ lw_all := lw_g (lw_at lw_m5 35 rfl) rfl
theorem q1169 : (Jvm.Cond.methodLink "CatWitness$Court" (122 : Nat) ({ cls := "java/lang/Math", name := "min", desc := "(II)I" } : Jvm.MethodName)) ∈ lw_all := lw_g (lw_at lw_m5 43 rfl) rfl
theorem q1183 : (Jvm.Cond.instanceMethod ({ cls := "CatWitness$Court", name := "term", desc := "()I" } : Jvm.MethodName)) ∈ lw_all := lw_g (lw_at lw_m5 57 rfl) rfl
theorem q1184 : (Jvm.Cond.selects "CatWitness$Court" ({ cls := "CatWitness$Court", name := "term", desc := "()I" } : Jvm.MethodName) ({ cls := "CatWitness$Court", name := "term", desc := "()I" } : Jvm.MethodName)) ∈ lw_all := lw_g (lw_at lw_m5 58 rfl) rfl
theorem q1185 : (Jvm.Cond.code ({ cls := "CatWitness$Court", name := "term", desc := "()I" } : Jvm.MethodName) prog_5_method_18_code (3 : Nat) (Option.some Jvm.ClassFile.FieldType.int)) ∈ lw_all := lw_g (lw_at lw_m5 59 rfl) rfl
theorem q1186 : (Jvm.Cond.methodLink "CatWitness$Court" (133 : Nat) ({ cls := "CatWitness$Court", name := "judges", desc := "(I)I" } : Jvm.MethodName)) ∈ lw_all := lw_g (lw_at lw_m5 60 rfl) rfl
theorem q1187 : (Jvm.Cond.instanceMethod ({ cls := "CatWitness$Court", name := "judges", desc := "(I)I" } : Jvm.MethodName)) ∈ lw_all := lw_g (lw_at lw_m5 61 rfl) rfl
theorem q1188 : (Jvm.Cond.selects "CatWitness$Court" ({ cls := "CatWitness$Court", name := "judges", desc := "(I)I" } : Jvm.MethodName) ({ cls := "CatWitness$Court", name := "judges", desc := "(I)I" } : Jvm.MethodName)) ∈ lw_all := lw_g (lw_at lw_m5 62 rfl) rfl
theorem q1189 : (Jvm.Cond.code ({ cls := "CatWitness$Court", name := "judges", desc := "(I)I" } : Jvm.MethodName) prog_5_method_17_code (3 : Nat) (Option.some Jvm.ClassFile.FieldType.int)) ∈ lw_all := lw_g (lw_at lw_m5 63 rfl) rfl
theorem q1190 : (Jvm.Cond.methodLink "CatWitness$Court" (127 : Nat) ({ cls := "CatWitness$Court", name := "sits", desc := "(I)I" } : Jvm.MethodName)) ∈ lw_all := lw_g (lw_at lw_m5 64 rfl) rfl
theorem q1191 : (Jvm.Cond.methodLink "CatWitness$Court" (130 : Nat) ({ cls := "CatWitness$Court", name := "senseOf", desc := "(I)I" } : Jvm.MethodName)) ∈ lw_all := lw_g (lw_at lw_m5 65 rfl) rfl
theorem q1192 : (Jvm.Cond.instanceMethod ({ cls := "CatWitness$Court", name := "senseOf", desc := "(I)I" } : Jvm.MethodName)) ∈ lw_all := lw_g (lw_at lw_m5 66 rfl) rfl
theorem q1193 : (Jvm.Cond.selects "CatWitness$Court" ({ cls := "CatWitness$Court", name := "senseOf", desc := "(I)I" } : Jvm.MethodName) ({ cls := "CatWitness$Court", name := "senseOf", desc := "(I)I" } : Jvm.MethodName)) ∈ lw_all := lw_g (lw_at lw_m5 67 rfl) rfl
theorem q1194 : (Jvm.Cond.code ({ cls := "CatWitness$Court", name := "senseOf", desc := "(I)I" } : Jvm.MethodName) prog_5_method_14_code (2 : Nat) (Option.some Jvm.ClassFile.FieldType.int)) ∈ lw_all := lw_g (lw_at lw_m5 68 rfl) rfl
theorem q1201 : (Jvm.Cond.instanceMethod ({ cls := "CatWitness$Court", name := "feeds", desc := "(II)Z" } : Jvm.MethodName)) ∈ lw_all := lw_g (lw_at lw_m5 75 rfl) rfl
theorem q1202 : (Jvm.Cond.selects "CatWitness$Court" ({ cls := "CatWitness$Court", name := "feeds", desc := "(II)Z" } : Jvm.MethodName) ({ cls := "CatWitness$Court", name := "feeds", desc := "(II)Z" } : Jvm.MethodName)) ∈ lw_all := lw_g (lw_at lw_m5 76 rfl) rfl
theorem q1203 : (Jvm.Cond.code ({ cls := "CatWitness$Court", name := "feeds", desc := "(II)Z" } : Jvm.MethodName) prog_5_method_19_code (3 : Nat) (Option.some Jvm.ClassFile.FieldType.boolean)) ∈ lw_all := lw_g (lw_at lw_m5 77 rfl) rfl
theorem q1213 : (Jvm.Cond.instanceMethod ({ cls := "CatWitness$Court", name := "scents", desc := "(IIZ)Z" } : Jvm.MethodName)) ∈ lw_all := lw_g (lw_at lw_m5 87 rfl) rfl
theorem q1214 : (Jvm.Cond.selects "CatWitness$Court" ({ cls := "CatWitness$Court", name := "scents", desc := "(IIZ)Z" } : Jvm.MethodName) ({ cls := "CatWitness$Court", name := "scents", desc := "(IIZ)Z" } : Jvm.MethodName)) ∈ lw_all := lw_g (lw_at lw_m5 88 rfl) rfl
theorem q1215 : (Jvm.Cond.code ({ cls := "CatWitness$Court", name := "scents", desc := "(IIZ)Z" } : Jvm.MethodName) prog_5_method_20_code (4 : Nat) (Option.some Jvm.ClassFile.FieldType.boolean)) ∈ lw_all := lw_g (lw_at lw_m5 89 rfl) rfl
theorem q1216 : (Jvm.Cond.methodLinkNest "CatWitness$Court" (136 : Nat) ({ cls := "CatWitness", name := "has", desc := "(II)Z" } : Jvm.MethodName) "CatWitness") ∈ lw_tbl := lw_at lw_m5 90 rfl
theorem q1340 : (Jvm.Cond.instanceMethod ({ cls := "CatWitness$Court", name := "allSmells", desc := "()I" } : Jvm.MethodName)) ∈ lw_all := lw_g (lw_at lw_m5 214 rfl) rfl
theorem q1341 : (Jvm.Cond.selects "CatWitness$Court" ({ cls := "CatWitness$Court", name := "allSmells", desc := "()I" } : Jvm.MethodName) ({ cls := "CatWitness$Court", name := "allSmells", desc := "()I" } : Jvm.MethodName)) ∈ lw_all := lw_g (lw_at lw_m5 215 rfl) rfl
theorem q1342 : (Jvm.Cond.code ({ cls := "CatWitness$Court", name := "allSmells", desc := "()I" } : Jvm.MethodName) prog_5_method_9_code (1 : Nat) (Option.some Jvm.ClassFile.FieldType.int)) ∈ lw_all := lw_g (lw_at lw_m5 216 rfl) rfl
theorem q1595 : (Jvm.Cond.instanceMethod ({ cls := "CatWitness$Court", name := "allFed", desc := "()I" } : Jvm.MethodName)) ∈ lw_all := lw_g (lw_at lw_m6 229 rfl) rfl
theorem q1596 : (Jvm.Cond.selects "CatWitness$Court" ({ cls := "CatWitness$Court", name := "allFed", desc := "()I" } : Jvm.MethodName) ({ cls := "CatWitness$Court", name := "allFed", desc := "()I" } : Jvm.MethodName)) ∈ lw_all := lw_g (lw_at lw_m6 230 rfl) rfl
theorem q1597 : (Jvm.Cond.code ({ cls := "CatWitness$Court", name := "allFed", desc := "()I" } : Jvm.MethodName) prog_5_method_21_code (3 : Nat) (Option.some Jvm.ClassFile.FieldType.int)) ∈ lw_all := lw_g (lw_at lw_m6 231 rfl) rfl
theorem in_X5 : ∀ w ∈ wsX50, w ∈ lw_all := lw_in wsX50 [386, 388, 390, 392, 394, 396, 398, 400, 402, 404, 406, 408, 410, 412, 414, 416, 418, 420, 422, 424, 426, 428, 430] (by decide +kernel) (by decide +kernel)
