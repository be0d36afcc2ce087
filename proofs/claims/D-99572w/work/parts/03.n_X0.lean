/-! CatWitness -/
set_option maxRecDepth 100000
def RX0 : String := "CatWitness"
def TX0 : u_T := fun k => match k with
  | 0 => ("CatWitness", "trays", "[LCatWitness$Tray;", true)
  | 1 => ("CatWitness", "tape", "[B", true)
  | 2 => ("CatWitness", "taped", "I", false)
  | 3 => ("CatWitness", "faultKind", "I", false)
  | 4 => ("CatWitness", "faultAt", "I", false)
  | 5 => ("CatWitness", "bad", "LCatWitness$Bad;", true)
  | 6 => ("CatWitness", "refused", "LCatWitness$Refused;", true)
  | 7 => ("CatWitness", "status", "I", false)
  | 8 => ("CatWitness", "above", "J", false)
  | 9 => ("CatWitness", "under", "J", false)
  | 10 => ("CatWitness", "now", "LCatWitness$House;", true)
  | 11 => ("CatWitness", "marks", "[LCatWitness$House;", true)
  | 12 => ("CatWitness", "markMany", "I", false)
  | 13 => ("CatWitness", "aside", "LCatWitness$Court;", true)
  | 14 => ("CatWitness", "may", "[I", true)
  | 15 => ("CatWitness", "leastFed", "I", false)
  | 16 => ("CatWitness", "leastScents", "I", false)
  | 17 => ("CatWitness", "firsts", "[I", true)
  | 18 => ("CatWitness", "shows", "[I", true)
  | 19 => ("CatWitness", "guilts", "[I", true)
  | 20 => ("CatWitness", "rightOf", "J", false)
  | 21 => ("CatWitness", "order", "[I", true)
  | 22 => ("CatWitness", "bestOrder", "[I", true)
  | 23 => ("CatWitness", "bestFree", "I", false)
  | 24 => ("CatWitness", "firstPerson", "I", false)
  | 25 => ("CatWitness", "firstDeed", "I", false)
  | 26 => ("CatWitness", "last", "[I", true)
  | _ => ("CatWitness", "hasLived", "Z", false)
def tyX0 : Nat → FieldType := fun k => match k with
  | 0 => .array (.object "CatWitness$Tray")
  | 1 => .array .byte
  | 2 => .int
  | 3 => .int
  | 4 => .int
  | 5 => .object "CatWitness$Bad"
  | 6 => .object "CatWitness$Refused"
  | 7 => .int
  | 8 => .long
  | 9 => .long
  | 10 => .object "CatWitness$House"
  | 11 => .array (.object "CatWitness$House")
  | 12 => .int
  | 13 => .object "CatWitness$Court"
  | 14 => .array .int
  | 15 => .int
  | 16 => .int
  | 17 => .array .int
  | 18 => .array .int
  | 19 => .array .int
  | 20 => .long
  | 21 => .array .int
  | 22 => .array .int
  | 23 => .int
  | 24 => .int
  | 25 => .int
  | 26 => .array .int
  | _ => .boolean
abbrev wsX00 : List Cond := u_ws RX0 TX0 28
set_option maxRecDepth 100000 in
theorem nmX0 : ∀ a, a < 28 → ∀ b, b < 28 → a ≠ b → (TX0 a).2.1 ≠ (TX0 b).2.1 := by decide +kernel
set_option maxRecDepth 100000 in
theorem tyX0_ok : ∀ k, k < 28 → parseFieldDescriptor (TX0 k).2.2.1 = some (tyX0 k) := by decide +kernel
abbrev cX0_init : ByteArray := prog_1_method_8_code
def yX0_init : MethodName := ⟨RX0, "<init>", "()V"⟩
def dkwX0_init_7 : List UInt8 := [181, 0, 82, 42, 16, 6, 188, 10, 181, 0, 85, 42, 8, 188, 10, 181, 0, 88, 177]
abbrev dktX0_init_7 : List UInt8 := dkwX0_init_7 ++ []
def dkwX0_init_6 : List UInt8 := [181, 0, 73, 42, 16, 7, 188, 10, 181, 0, 76, 42, 16, 7, 188, 10, 181, 0, 79, 42, 16, 6, 188, 10]
abbrev dktX0_init_6 : List UInt8 := dkwX0_init_6 ++ dktX0_init_7
def dkwX0_init_5 : List UInt8 := [187, 0, 63, 89, 183, 0, 65, 181, 0, 66, 42, 16, 6, 188, 10, 181, 0, 70, 42, 16, 8, 188, 10]
abbrev dktX0_init_5 : List UInt8 := dkwX0_init_5 ++ dktX0_init_6
def dkwX0_init_4 : List UInt8 := [181, 0, 48, 42, 187, 0, 52, 89, 183, 0, 54, 181, 0, 55, 42, 6, 189, 0, 52, 181, 0, 59, 42]
abbrev dktX0_init_4 : List UInt8 := dkwX0_init_4 ++ dktX0_init_5
def dkwX0_init_3 : List UInt8 := [187, 0, 34, 89, 183, 0, 36, 181, 0, 37, 42, 187, 0, 41, 89, 183, 0, 43, 181, 0, 44, 42, 10]
abbrev dktX0_init_3 : List UInt8 := dkwX0_init_3 ++ dktX0_init_4
def dkwX0_init_2 : List UInt8 := [83, 181, 0, 18, 42, 17, 3, 132, 188, 8, 181, 0, 24, 42, 2, 181, 0, 27, 42, 2, 181, 0, 31, 42]
abbrev dktX0_init_2 : List UInt8 := dkwX0_init_2 ++ dktX0_init_3
def dkwX0_init_1 : List UInt8 := [89, 183, 0, 17, 83, 89, 5, 187, 0, 15, 89, 183, 0, 17, 83, 89, 6, 187, 0, 15, 89, 183, 0, 17]
abbrev dktX0_init_1 : List UInt8 := dkwX0_init_1 ++ dktX0_init_2
def dkwX0_init_0 : List UInt8 := [42, 183, 0, 9, 42, 7, 189, 0, 15, 89, 3, 187, 0, 15, 89, 183, 0, 17, 83, 89, 4, 187, 0, 15]
abbrev dktX0_init_0 : List UInt8 := dkwX0_init_0 ++ dktX0_init_1
theorem dksX0_init_0 : cX0_init.data.toList.drop 0 = dktX0_init_0 := by decide +kernel
theorem dksX0_init_1 : cX0_init.data.toList.drop 24 = dktX0_init_1 := dk_seg dksX0_init_0 24 rfl rfl
theorem dksX0_init_2 : cX0_init.data.toList.drop 48 = dktX0_init_2 := dk_seg dksX0_init_1 24 rfl rfl
theorem dksX0_init_3 : cX0_init.data.toList.drop 72 = dktX0_init_3 := dk_seg dksX0_init_2 24 rfl rfl
theorem dksX0_init_4 : cX0_init.data.toList.drop 95 = dktX0_init_4 := dk_seg dksX0_init_3 23 rfl rfl
theorem dksX0_init_5 : cX0_init.data.toList.drop 118 = dktX0_init_5 := dk_seg dksX0_init_4 23 rfl rfl
theorem dksX0_init_6 : cX0_init.data.toList.drop 141 = dktX0_init_6 := dk_seg dksX0_init_5 23 rfl rfl
theorem dksX0_init_7 : cX0_init.data.toList.drop 165 = dktX0_init_7 := dk_seg dksX0_init_6 24 rfl rfl
theorem dX0_init_0 : decode cX0_init 0 = .ok (.aload_n 0, 1) := dk_42 (dk_at dksX0_init_0 0 rfl rfl)
theorem dX0_init_1 : decode cX0_init 1 = .ok (.invokespecial 9, 3) := dk_183 0 9 (dk_at dksX0_init_0 1 rfl rfl)
theorem dX0_init_4 : decode cX0_init 4 = .ok (.aload_n 0, 1) := dk_42 (dk_at dksX0_init_0 4 rfl rfl)
theorem dX0_init_5 : decode cX0_init 5 = .ok (.iconst 4, 1) := dk_7 (dk_at dksX0_init_0 5 rfl rfl)
theorem dX0_init_6 : decode cX0_init 6 = .ok (.anewarray 15, 3) := dk_189 0 15 (dk_at dksX0_init_0 6 rfl rfl)
theorem dX0_init_9 : decode cX0_init 9 = .ok (.dup, 1) := dk_89 (dk_at dksX0_init_0 9 rfl rfl)
theorem dX0_init_10 : decode cX0_init 10 = .ok (.iconst 0, 1) := dk_3 (dk_at dksX0_init_0 10 rfl rfl)
theorem dX0_init_11 : decode cX0_init 11 = .ok (.new 15, 3) := dk_187 0 15 (dk_at dksX0_init_0 11 rfl rfl)
theorem dX0_init_14 : decode cX0_init 14 = .ok (.dup, 1) := dk_89 (dk_at dksX0_init_0 14 rfl rfl)
theorem dX0_init_15 : decode cX0_init 15 = .ok (.invokespecial 17, 3) := dk_183 0 17 (dk_at dksX0_init_0 15 rfl rfl)
theorem dX0_init_18 : decode cX0_init 18 = .ok (.aastore, 1) := dk_83 (dk_at dksX0_init_0 18 rfl rfl)
theorem dX0_init_19 : decode cX0_init 19 = .ok (.dup, 1) := dk_89 (dk_at dksX0_init_0 19 rfl rfl)
theorem dX0_init_20 : decode cX0_init 20 = .ok (.iconst 1, 1) := dk_4 (dk_at dksX0_init_0 20 rfl rfl)
theorem dX0_init_21 : decode cX0_init 21 = .ok (.new 15, 3) := dk_187 0 15 (dk_at dksX0_init_0 21 rfl rfl)
theorem dX0_init_24 : decode cX0_init 24 = .ok (.dup, 1) := dk_89 (dk_at dksX0_init_1 0 rfl rfl)
theorem dX0_init_25 : decode cX0_init 25 = .ok (.invokespecial 17, 3) := dk_183 0 17 (dk_at dksX0_init_1 1 rfl rfl)
theorem dX0_init_28 : decode cX0_init 28 = .ok (.aastore, 1) := dk_83 (dk_at dksX0_init_1 4 rfl rfl)
theorem dX0_init_29 : decode cX0_init 29 = .ok (.dup, 1) := dk_89 (dk_at dksX0_init_1 5 rfl rfl)
theorem dX0_init_30 : decode cX0_init 30 = .ok (.iconst 2, 1) := dk_5 (dk_at dksX0_init_1 6 rfl rfl)
theorem dX0_init_31 : decode cX0_init 31 = .ok (.new 15, 3) := dk_187 0 15 (dk_at dksX0_init_1 7 rfl rfl)
theorem dX0_init_34 : decode cX0_init 34 = .ok (.dup, 1) := dk_89 (dk_at dksX0_init_1 10 rfl rfl)
theorem dX0_init_35 : decode cX0_init 35 = .ok (.invokespecial 17, 3) := dk_183 0 17 (dk_at dksX0_init_1 11 rfl rfl)
theorem dX0_init_38 : decode cX0_init 38 = .ok (.aastore, 1) := dk_83 (dk_at dksX0_init_1 14 rfl rfl)
theorem dX0_init_39 : decode cX0_init 39 = .ok (.dup, 1) := dk_89 (dk_at dksX0_init_1 15 rfl rfl)
theorem dX0_init_40 : decode cX0_init 40 = .ok (.iconst 3, 1) := dk_6 (dk_at dksX0_init_1 16 rfl rfl)
theorem dX0_init_41 : decode cX0_init 41 = .ok (.new 15, 3) := dk_187 0 15 (dk_at dksX0_init_1 17 rfl rfl)
theorem dX0_init_44 : decode cX0_init 44 = .ok (.dup, 1) := dk_89 (dk_at dksX0_init_1 20 rfl rfl)
theorem dX0_init_45 : decode cX0_init 45 = .ok (.invokespecial 17, 3) := dk_183 0 17 (dk_at dksX0_init_1 21 rfl rfl)
theorem dX0_init_48 : decode cX0_init 48 = .ok (.aastore, 1) := dk_83 (dk_at dksX0_init_2 0 rfl rfl)
theorem dX0_init_49 : decode cX0_init 49 = .ok (.putfield 18, 3) := dk_181 0 18 (dk_at dksX0_init_2 1 rfl rfl)
theorem dX0_init_52 : decode cX0_init 52 = .ok (.aload_n 0, 1) := dk_42 (dk_at dksX0_init_2 4 rfl rfl)
theorem dX0_init_53 : decode cX0_init 53 = .ok (.sipush 900, 3) := dk_17 3 132 (dk_at dksX0_init_2 5 rfl rfl)
theorem dX0_init_56 : decode cX0_init 56 = .ok (.newarray .byte, 2) := dk_188_8 (dk_at dksX0_init_2 8 rfl rfl)
theorem dX0_init_58 : decode cX0_init 58 = .ok (.putfield 24, 3) := dk_181 0 24 (dk_at dksX0_init_2 10 rfl rfl)
theorem dX0_init_61 : decode cX0_init 61 = .ok (.aload_n 0, 1) := dk_42 (dk_at dksX0_init_2 13 rfl rfl)
theorem dX0_init_62 : decode cX0_init 62 = .ok (.iconst (-1), 1) := dk_2 (dk_at dksX0_init_2 14 rfl rfl)
theorem dX0_init_63 : decode cX0_init 63 = .ok (.putfield 27, 3) := dk_181 0 27 (dk_at dksX0_init_2 15 rfl rfl)
theorem dX0_init_66 : decode cX0_init 66 = .ok (.aload_n 0, 1) := dk_42 (dk_at dksX0_init_2 18 rfl rfl)
theorem dX0_init_67 : decode cX0_init 67 = .ok (.iconst (-1), 1) := dk_2 (dk_at dksX0_init_2 19 rfl rfl)
theorem dX0_init_68 : decode cX0_init 68 = .ok (.putfield 31, 3) := dk_181 0 31 (dk_at dksX0_init_2 20 rfl rfl)
theorem dX0_init_71 : decode cX0_init 71 = .ok (.aload_n 0, 1) := dk_42 (dk_at dksX0_init_2 23 rfl rfl)
theorem dX0_init_72 : decode cX0_init 72 = .ok (.new 34, 3) := dk_187 0 34 (dk_at dksX0_init_3 0 rfl rfl)
theorem dX0_init_75 : decode cX0_init 75 = .ok (.dup, 1) := dk_89 (dk_at dksX0_init_3 3 rfl rfl)
theorem dX0_init_76 : decode cX0_init 76 = .ok (.invokespecial 36, 3) := dk_183 0 36 (dk_at dksX0_init_3 4 rfl rfl)
theorem dX0_init_79 : decode cX0_init 79 = .ok (.putfield 37, 3) := dk_181 0 37 (dk_at dksX0_init_3 7 rfl rfl)
theorem dX0_init_82 : decode cX0_init 82 = .ok (.aload_n 0, 1) := dk_42 (dk_at dksX0_init_3 10 rfl rfl)
theorem dX0_init_83 : decode cX0_init 83 = .ok (.new 41, 3) := dk_187 0 41 (dk_at dksX0_init_3 11 rfl rfl)
theorem dX0_init_86 : decode cX0_init 86 = .ok (.dup, 1) := dk_89 (dk_at dksX0_init_3 14 rfl rfl)
theorem dX0_init_87 : decode cX0_init 87 = .ok (.invokespecial 43, 3) := dk_183 0 43 (dk_at dksX0_init_3 15 rfl rfl)
theorem dX0_init_90 : decode cX0_init 90 = .ok (.putfield 44, 3) := dk_181 0 44 (dk_at dksX0_init_3 18 rfl rfl)
theorem dX0_init_93 : decode cX0_init 93 = .ok (.aload_n 0, 1) := dk_42 (dk_at dksX0_init_3 21 rfl rfl)
theorem dX0_init_94 : decode cX0_init 94 = .ok (.lconst 1, 1) := dk_10 (dk_at dksX0_init_3 22 rfl rfl)
theorem dX0_init_95 : decode cX0_init 95 = .ok (.putfield 48, 3) := dk_181 0 48 (dk_at dksX0_init_4 0 rfl rfl)
theorem dX0_init_98 : decode cX0_init 98 = .ok (.aload_n 0, 1) := dk_42 (dk_at dksX0_init_4 3 rfl rfl)
theorem dX0_init_99 : decode cX0_init 99 = .ok (.new 52, 3) := dk_187 0 52 (dk_at dksX0_init_4 4 rfl rfl)
theorem dX0_init_102 : decode cX0_init 102 = .ok (.dup, 1) := dk_89 (dk_at dksX0_init_4 7 rfl rfl)
theorem dX0_init_103 : decode cX0_init 103 = .ok (.invokespecial 54, 3) := dk_183 0 54 (dk_at dksX0_init_4 8 rfl rfl)
theorem dX0_init_106 : decode cX0_init 106 = .ok (.putfield 55, 3) := dk_181 0 55 (dk_at dksX0_init_4 11 rfl rfl)
theorem dX0_init_109 : decode cX0_init 109 = .ok (.aload_n 0, 1) := dk_42 (dk_at dksX0_init_4 14 rfl rfl)
theorem dX0_init_110 : decode cX0_init 110 = .ok (.iconst 3, 1) := dk_6 (dk_at dksX0_init_4 15 rfl rfl)
theorem dX0_init_111 : decode cX0_init 111 = .ok (.anewarray 52, 3) := dk_189 0 52 (dk_at dksX0_init_4 16 rfl rfl)
theorem dX0_init_114 : decode cX0_init 114 = .ok (.putfield 59, 3) := dk_181 0 59 (dk_at dksX0_init_4 19 rfl rfl)
theorem dX0_init_117 : decode cX0_init 117 = .ok (.aload_n 0, 1) := dk_42 (dk_at dksX0_init_4 22 rfl rfl)
theorem dX0_init_118 : decode cX0_init 118 = .ok (.new 63, 3) := dk_187 0 63 (dk_at dksX0_init_5 0 rfl rfl)
theorem dX0_init_121 : decode cX0_init 121 = .ok (.dup, 1) := dk_89 (dk_at dksX0_init_5 3 rfl rfl)
theorem dX0_init_122 : decode cX0_init 122 = .ok (.invokespecial 65, 3) := dk_183 0 65 (dk_at dksX0_init_5 4 rfl rfl)
theorem dX0_init_125 : decode cX0_init 125 = .ok (.putfield 66, 3) := dk_181 0 66 (dk_at dksX0_init_5 7 rfl rfl)
theorem dX0_init_128 : decode cX0_init 128 = .ok (.aload_n 0, 1) := dk_42 (dk_at dksX0_init_5 10 rfl rfl)
theorem dX0_init_129 : decode cX0_init 129 = .ok (.bipush 6, 2) := dk_16 6 (dk_at dksX0_init_5 11 rfl rfl)
theorem dX0_init_131 : decode cX0_init 131 = .ok (.newarray .int, 2) := dk_188_10 (dk_at dksX0_init_5 13 rfl rfl)
theorem dX0_init_133 : decode cX0_init 133 = .ok (.putfield 70, 3) := dk_181 0 70 (dk_at dksX0_init_5 15 rfl rfl)
theorem dX0_init_136 : decode cX0_init 136 = .ok (.aload_n 0, 1) := dk_42 (dk_at dksX0_init_5 18 rfl rfl)
theorem dX0_init_137 : decode cX0_init 137 = .ok (.bipush 8, 2) := dk_16 8 (dk_at dksX0_init_5 19 rfl rfl)
theorem dX0_init_139 : decode cX0_init 139 = .ok (.newarray .int, 2) := dk_188_10 (dk_at dksX0_init_5 21 rfl rfl)
theorem dX0_init_141 : decode cX0_init 141 = .ok (.putfield 73, 3) := dk_181 0 73 (dk_at dksX0_init_6 0 rfl rfl)
theorem dX0_init_144 : decode cX0_init 144 = .ok (.aload_n 0, 1) := dk_42 (dk_at dksX0_init_6 3 rfl rfl)
theorem dX0_init_145 : decode cX0_init 145 = .ok (.bipush 7, 2) := dk_16 7 (dk_at dksX0_init_6 4 rfl rfl)
theorem dX0_init_147 : decode cX0_init 147 = .ok (.newarray .int, 2) := dk_188_10 (dk_at dksX0_init_6 6 rfl rfl)
theorem dX0_init_149 : decode cX0_init 149 = .ok (.putfield 76, 3) := dk_181 0 76 (dk_at dksX0_init_6 8 rfl rfl)
theorem dX0_init_152 : decode cX0_init 152 = .ok (.aload_n 0, 1) := dk_42 (dk_at dksX0_init_6 11 rfl rfl)
theorem dX0_init_153 : decode cX0_init 153 = .ok (.bipush 7, 2) := dk_16 7 (dk_at dksX0_init_6 12 rfl rfl)
theorem dX0_init_155 : decode cX0_init 155 = .ok (.newarray .int, 2) := dk_188_10 (dk_at dksX0_init_6 14 rfl rfl)
theorem dX0_init_157 : decode cX0_init 157 = .ok (.putfield 79, 3) := dk_181 0 79 (dk_at dksX0_init_6 16 rfl rfl)
theorem dX0_init_160 : decode cX0_init 160 = .ok (.aload_n 0, 1) := dk_42 (dk_at dksX0_init_6 19 rfl rfl)
theorem dX0_init_161 : decode cX0_init 161 = .ok (.bipush 6, 2) := dk_16 6 (dk_at dksX0_init_6 20 rfl rfl)
theorem dX0_init_163 : decode cX0_init 163 = .ok (.newarray .int, 2) := dk_188_10 (dk_at dksX0_init_6 22 rfl rfl)
theorem dX0_init_165 : decode cX0_init 165 = .ok (.putfield 82, 3) := dk_181 0 82 (dk_at dksX0_init_7 0 rfl rfl)
theorem dX0_init_168 : decode cX0_init 168 = .ok (.aload_n 0, 1) := dk_42 (dk_at dksX0_init_7 3 rfl rfl)
theorem dX0_init_169 : decode cX0_init 169 = .ok (.bipush 6, 2) := dk_16 6 (dk_at dksX0_init_7 4 rfl rfl)
theorem dX0_init_171 : decode cX0_init 171 = .ok (.newarray .int, 2) := dk_188_10 (dk_at dksX0_init_7 6 rfl rfl)
theorem dX0_init_173 : decode cX0_init 173 = .ok (.putfield 85, 3) := dk_181 0 85 (dk_at dksX0_init_7 8 rfl rfl)
theorem dX0_init_176 : decode cX0_init 176 = .ok (.aload_n 0, 1) := dk_42 (dk_at dksX0_init_7 11 rfl rfl)
theorem dX0_init_177 : decode cX0_init 177 = .ok (.iconst 5, 1) := dk_8 (dk_at dksX0_init_7 12 rfl rfl)
theorem dX0_init_178 : decode cX0_init 178 = .ok (.newarray .int, 2) := dk_188_10 (dk_at dksX0_init_7 13 rfl rfl)
theorem dX0_init_180 : decode cX0_init 180 = .ok (.putfield 88, 3) := dk_181 0 88 (dk_at dksX0_init_7 15 rfl rfl)
theorem dX0_init_183 : decode cX0_init 183 = .ok (.return_, 1) := dk_177 (dk_at dksX0_init_7 18 rfl rfl)
abbrev cX0_status : ByteArray := prog_1_method_9_code
def yX0_status : MethodName := ⟨RX0, "status", "()I"⟩
theorem dX0_status_0 : decode cX0_status 0 = .ok (.aload_n 0, 1) := by decide +kernel
theorem dX0_status_1 : decode cX0_status 1 = .ok (.getfield 91, 3) := by decide +kernel
theorem dX0_status_4 : decode cX0_status 4 = .ok (.ireturn, 1) := by decide +kernel
abbrev cX0_top : ByteArray := prog_1_method_10_code
def yX0_top : MethodName := ⟨RX0, "top", "()J"⟩
theorem dX0_top_0 : decode cX0_top 0 = .ok (.aload_n 0, 1) := by decide +kernel
theorem dX0_top_1 : decode cX0_top 1 = .ok (.getfield 94, 3) := by decide +kernel
theorem dX0_top_4 : decode cX0_top 4 = .ok (.lreturn, 1) := by decide +kernel
abbrev cX0_bottom : ByteArray := prog_1_method_11_code
def yX0_bottom : MethodName := ⟨RX0, "bottom", "()J"⟩
theorem dX0_bottom_0 : decode cX0_bottom 0 = .ok (.aload_n 0, 1) := by decide +kernel
theorem dX0_bottom_1 : decode cX0_bottom 1 = .ok (.getfield 48, 3) := by decide +kernel
theorem dX0_bottom_4 : decode cX0_bottom 4 = .ok (.lreturn, 1) := by decide +kernel
abbrev cX0_tray : ByteArray := prog_1_method_17_code
def yX0_tray : MethodName := ⟨RX0, "tray", "(III)Z"⟩
def dkwX0_tray_3 : List UInt8 := [182, 0, 129, 172]
abbrev dktX0_tray_3 : List UInt8 := dkwX0_tray_3 ++ []
def dkwX0_tray_2 : List UInt8 := [184, 0, 124, 181, 0, 120, 4, 172, 58, 4, 42, 4, 181, 0, 91, 3, 172, 58, 4, 42, 25, 4]
abbrev dktX0_tray_2 : List UInt8 := dkwX0_tray_2 ++ dktX0_tray_3
def dkwX0_tray_1 : List UInt8 := [29, 16, 60, 163, 0, 7, 4, 167, 0, 4, 3, 4, 182, 0, 116, 42, 180, 0, 18, 27, 50, 28, 29]
abbrev dktX0_tray_1 : List UInt8 := dkwX0_tray_1 ++ dktX0_tray_2
def dkwX0_tray_0 : List UInt8 := [42, 3, 181, 0, 91, 42, 27, 155, 0, 27, 27, 7, 162, 0, 22, 28, 155, 0, 18, 28, 6, 163, 0, 13]
abbrev dktX0_tray_0 : List UInt8 := dkwX0_tray_0 ++ dktX0_tray_1
theorem dksX0_tray_0 : cX0_tray.data.toList.drop 0 = dktX0_tray_0 := by decide +kernel
theorem dksX0_tray_1 : cX0_tray.data.toList.drop 24 = dktX0_tray_1 := dk_seg dksX0_tray_0 24 rfl rfl
theorem dksX0_tray_2 : cX0_tray.data.toList.drop 47 = dktX0_tray_2 := dk_seg dksX0_tray_1 23 rfl rfl
theorem dksX0_tray_3 : cX0_tray.data.toList.drop 69 = dktX0_tray_3 := dk_seg dksX0_tray_2 22 rfl rfl
theorem dX0_tray_0 : decode cX0_tray 0 = .ok (.aload_n 0, 1) := dk_42 (dk_at dksX0_tray_0 0 rfl rfl)
theorem dX0_tray_1 : decode cX0_tray 1 = .ok (.iconst 0, 1) := dk_3 (dk_at dksX0_tray_0 1 rfl rfl)
theorem dX0_tray_2 : decode cX0_tray 2 = .ok (.putfield 91, 3) := dk_181 0 91 (dk_at dksX0_tray_0 2 rfl rfl)
theorem dX0_tray_5 : decode cX0_tray 5 = .ok (.aload_n 0, 1) := dk_42 (dk_at dksX0_tray_0 5 rfl rfl)
theorem dX0_tray_6 : decode cX0_tray 6 = .ok (.iload_n 1, 1) := dk_27 (dk_at dksX0_tray_0 6 rfl rfl)
theorem dX0_tray_7 : decode cX0_tray 7 = .ok (.ifCond .lt 27, 3) := dk_155 0 27 (dk_at dksX0_tray_0 7 rfl rfl)
theorem dX0_tray_10 : decode cX0_tray 10 = .ok (.iload_n 1, 1) := dk_27 (dk_at dksX0_tray_0 10 rfl rfl)
theorem dX0_tray_11 : decode cX0_tray 11 = .ok (.iconst 4, 1) := dk_7 (dk_at dksX0_tray_0 11 rfl rfl)
theorem dX0_tray_12 : decode cX0_tray 12 = .ok (.if_icmp .ge 22, 3) := dk_162 0 22 (dk_at dksX0_tray_0 12 rfl rfl)
theorem dX0_tray_15 : decode cX0_tray 15 = .ok (.iload_n 2, 1) := dk_28 (dk_at dksX0_tray_0 15 rfl rfl)
theorem dX0_tray_16 : decode cX0_tray 16 = .ok (.ifCond .lt 18, 3) := dk_155 0 18 (dk_at dksX0_tray_0 16 rfl rfl)
theorem dX0_tray_19 : decode cX0_tray 19 = .ok (.iload_n 2, 1) := dk_28 (dk_at dksX0_tray_0 19 rfl rfl)
theorem dX0_tray_20 : decode cX0_tray 20 = .ok (.iconst 3, 1) := dk_6 (dk_at dksX0_tray_0 20 rfl rfl)
theorem dX0_tray_21 : decode cX0_tray 21 = .ok (.if_icmp .gt 13, 3) := dk_163 0 13 (dk_at dksX0_tray_0 21 rfl rfl)
theorem dX0_tray_24 : decode cX0_tray 24 = .ok (.iload_n 3, 1) := dk_29 (dk_at dksX0_tray_1 0 rfl rfl)
theorem dX0_tray_25 : decode cX0_tray 25 = .ok (.bipush 60, 2) := dk_16 60 (dk_at dksX0_tray_1 1 rfl rfl)
theorem dX0_tray_27 : decode cX0_tray 27 = .ok (.if_icmp .gt 7, 3) := dk_163 0 7 (dk_at dksX0_tray_1 3 rfl rfl)
theorem dX0_tray_30 : decode cX0_tray 30 = .ok (.iconst 1, 1) := dk_4 (dk_at dksX0_tray_1 6 rfl rfl)
theorem dX0_tray_31 : decode cX0_tray 31 = .ok (.goto 4, 3) := dk_167 0 4 (dk_at dksX0_tray_1 7 rfl rfl)
theorem dX0_tray_34 : decode cX0_tray 34 = .ok (.iconst 0, 1) := dk_3 (dk_at dksX0_tray_1 10 rfl rfl)
theorem dX0_tray_35 : decode cX0_tray 35 = .ok (.iconst 1, 1) := dk_4 (dk_at dksX0_tray_1 11 rfl rfl)
theorem dX0_tray_36 : decode cX0_tray 36 = .ok (.invokevirtual 116, 3) := dk_182 0 116 (dk_at dksX0_tray_1 12 rfl rfl)
theorem dX0_tray_39 : decode cX0_tray 39 = .ok (.aload_n 0, 1) := dk_42 (dk_at dksX0_tray_1 15 rfl rfl)
theorem dX0_tray_40 : decode cX0_tray 40 = .ok (.getfield 18, 3) := dk_180 0 18 (dk_at dksX0_tray_1 16 rfl rfl)
theorem dX0_tray_43 : decode cX0_tray 43 = .ok (.iload_n 1, 1) := dk_27 (dk_at dksX0_tray_1 19 rfl rfl)
theorem dX0_tray_44 : decode cX0_tray 44 = .ok (.aaload, 1) := dk_50 (dk_at dksX0_tray_1 20 rfl rfl)
theorem dX0_tray_45 : decode cX0_tray 45 = .ok (.iload_n 2, 1) := dk_28 (dk_at dksX0_tray_1 21 rfl rfl)
theorem dX0_tray_46 : decode cX0_tray 46 = .ok (.iload_n 3, 1) := dk_29 (dk_at dksX0_tray_1 22 rfl rfl)
theorem dX0_tray_47 : decode cX0_tray 47 = .ok (.invokestatic 124, 3) := dk_184 0 124 (dk_at dksX0_tray_2 0 rfl rfl)
theorem dX0_tray_50 : decode cX0_tray 50 = .ok (.putfield 120, 3) := dk_181 0 120 (dk_at dksX0_tray_2 3 rfl rfl)
theorem dX0_tray_53 : decode cX0_tray 53 = .ok (.iconst 1, 1) := dk_4 (dk_at dksX0_tray_2 6 rfl rfl)
theorem dX0_tray_54 : decode cX0_tray 54 = .ok (.ireturn, 1) := dk_172 (dk_at dksX0_tray_2 7 rfl rfl)
theorem dX0_tray_55 : decode cX0_tray 55 = .ok (.astore 4, 2) := dk_58 4 (dk_at dksX0_tray_2 8 rfl rfl)
theorem dX0_tray_57 : decode cX0_tray 57 = .ok (.aload_n 0, 1) := dk_42 (dk_at dksX0_tray_2 10 rfl rfl)
theorem dX0_tray_58 : decode cX0_tray 58 = .ok (.iconst 1, 1) := dk_4 (dk_at dksX0_tray_2 11 rfl rfl)
theorem dX0_tray_59 : decode cX0_tray 59 = .ok (.putfield 91, 3) := dk_181 0 91 (dk_at dksX0_tray_2 12 rfl rfl)
theorem dX0_tray_62 : decode cX0_tray 62 = .ok (.iconst 0, 1) := dk_3 (dk_at dksX0_tray_2 15 rfl rfl)
theorem dX0_tray_63 : decode cX0_tray 63 = .ok (.ireturn, 1) := dk_172 (dk_at dksX0_tray_2 16 rfl rfl)
theorem dX0_tray_64 : decode cX0_tray 64 = .ok (.astore 4, 2) := dk_58 4 (dk_at dksX0_tray_2 17 rfl rfl)
theorem dX0_tray_66 : decode cX0_tray 66 = .ok (.aload_n 0, 1) := dk_42 (dk_at dksX0_tray_2 19 rfl rfl)
theorem dX0_tray_67 : decode cX0_tray 67 = .ok (.aload 4, 2) := dk_25 4 (dk_at dksX0_tray_2 20 rfl rfl)
theorem dX0_tray_69 : decode cX0_tray 69 = .ok (.invokevirtual 129, 3) := dk_182 0 129 (dk_at dksX0_tray_3 0 rfl rfl)
theorem dX0_tray_72 : decode cX0_tray 72 = .ok (.ireturn, 1) := dk_172 (dk_at dksX0_tray_3 3 rfl rfl)
abbrev cX0_want : ByteArray := prog_1_method_12_code
def yX0_want : MethodName := ⟨RX0, "want", "(ZI)V"⟩
def dkwX0_want_0 : List UInt8 := [27, 154, 0, 12, 42, 180, 0, 44, 28, 182, 0, 97, 191, 177]
abbrev dktX0_want_0 : List UInt8 := dkwX0_want_0 ++ []
theorem dksX0_want_0 : cX0_want.data.toList.drop 0 = dktX0_want_0 := by decide +kernel
theorem dX0_want_0 : decode cX0_want 0 = .ok (.iload_n 1, 1) := dk_27 (dk_at dksX0_want_0 0 rfl rfl)
theorem dX0_want_1 : decode cX0_want 1 = .ok (.ifCond .ne 12, 3) := dk_154 0 12 (dk_at dksX0_want_0 1 rfl rfl)
theorem dX0_want_4 : decode cX0_want 4 = .ok (.aload_n 0, 1) := dk_42 (dk_at dksX0_want_0 4 rfl rfl)
theorem dX0_want_5 : decode cX0_want 5 = .ok (.getfield 44, 3) := dk_180 0 44 (dk_at dksX0_want_0 5 rfl rfl)
theorem dX0_want_8 : decode cX0_want 8 = .ok (.iload_n 2, 1) := dk_28 (dk_at dksX0_want_0 8 rfl rfl)
theorem dX0_want_9 : decode cX0_want 9 = .ok (.invokevirtual 97, 3) := dk_182 0 97 (dk_at dksX0_want_0 9 rfl rfl)
theorem dX0_want_12 : decode cX0_want 12 = .ok (.athrow, 1) := dk_191 (dk_at dksX0_want_0 12 rfl rfl)
theorem dX0_want_13 : decode cX0_want 13 = .ok (.return_, 1) := dk_177 (dk_at dksX0_want_0 13 rfl rfl)
abbrev cX0_row : ByteArray := prog_1_method_1_code
def yX0_row : MethodName := ⟨RX0, "row", "(II)Ljava/lang/Object;"⟩
def dkwX0_row_1 : List UInt8 := [160, 0, 9, 27, 188, 10, 167, 0, 6, 27, 188, 11, 176]
abbrev dktX0_row_1 : List UInt8 := dkwX0_row_1 ++ []
def dkwX0_row_0 : List UInt8 := [26, 154, 0, 9, 27, 188, 8, 167, 0, 28, 26, 4, 160, 0, 9, 27, 188, 9, 167, 0, 17, 26, 5]
abbrev dktX0_row_0 : List UInt8 := dkwX0_row_0 ++ dktX0_row_1
theorem dksX0_row_0 : cX0_row.data.toList.drop 0 = dktX0_row_0 := by decide +kernel
theorem dksX0_row_1 : cX0_row.data.toList.drop 23 = dktX0_row_1 := dk_seg dksX0_row_0 23 rfl rfl
theorem dX0_row_0 : decode cX0_row 0 = .ok (.iload_n 0, 1) := dk_26 (dk_at dksX0_row_0 0 rfl rfl)
theorem dX0_row_1 : decode cX0_row 1 = .ok (.ifCond .ne 9, 3) := dk_154 0 9 (dk_at dksX0_row_0 1 rfl rfl)
theorem dX0_row_4 : decode cX0_row 4 = .ok (.iload_n 1, 1) := dk_27 (dk_at dksX0_row_0 4 rfl rfl)
theorem dX0_row_5 : decode cX0_row 5 = .ok (.newarray .byte, 2) := dk_188_8 (dk_at dksX0_row_0 5 rfl rfl)
theorem dX0_row_7 : decode cX0_row 7 = .ok (.goto 28, 3) := dk_167 0 28 (dk_at dksX0_row_0 7 rfl rfl)
theorem dX0_row_10 : decode cX0_row 10 = .ok (.iload_n 0, 1) := dk_26 (dk_at dksX0_row_0 10 rfl rfl)
theorem dX0_row_11 : decode cX0_row 11 = .ok (.iconst 1, 1) := dk_4 (dk_at dksX0_row_0 11 rfl rfl)
theorem dX0_row_12 : decode cX0_row 12 = .ok (.if_icmp .ne 9, 3) := dk_160 0 9 (dk_at dksX0_row_0 12 rfl rfl)
theorem dX0_row_15 : decode cX0_row 15 = .ok (.iload_n 1, 1) := dk_27 (dk_at dksX0_row_0 15 rfl rfl)
theorem dX0_row_16 : decode cX0_row 16 = .ok (.newarray .short, 2) := dk_188_9 (dk_at dksX0_row_0 16 rfl rfl)
theorem dX0_row_18 : decode cX0_row 18 = .ok (.goto 17, 3) := dk_167 0 17 (dk_at dksX0_row_0 18 rfl rfl)
theorem dX0_row_21 : decode cX0_row 21 = .ok (.iload_n 0, 1) := dk_26 (dk_at dksX0_row_0 21 rfl rfl)
theorem dX0_row_22 : decode cX0_row 22 = .ok (.iconst 2, 1) := dk_5 (dk_at dksX0_row_0 22 rfl rfl)
theorem dX0_row_23 : decode cX0_row 23 = .ok (.if_icmp .ne 9, 3) := dk_160 0 9 (dk_at dksX0_row_1 0 rfl rfl)
theorem dX0_row_26 : decode cX0_row 26 = .ok (.iload_n 1, 1) := dk_27 (dk_at dksX0_row_1 3 rfl rfl)
theorem dX0_row_27 : decode cX0_row 27 = .ok (.newarray .int, 2) := dk_188_10 (dk_at dksX0_row_1 4 rfl rfl)
theorem dX0_row_29 : decode cX0_row 29 = .ok (.goto 6, 3) := dk_167 0 6 (dk_at dksX0_row_1 6 rfl rfl)
theorem dX0_row_32 : decode cX0_row 32 = .ok (.iload_n 1, 1) := dk_27 (dk_at dksX0_row_1 9 rfl rfl)
theorem dX0_row_33 : decode cX0_row 33 = .ok (.newarray .long, 2) := dk_188_11 (dk_at dksX0_row_1 10 rfl rfl)
theorem dX0_row_35 : decode cX0_row 35 = .ok (.areturn, 1) := dk_176 (dk_at dksX0_row_1 12 rfl rfl)
abbrev cX0_no : ByteArray := prog_1_method_14_code
def yX0_no : MethodName := ⟨RX0, "no", "(LCatWitness$Refused;)Z"⟩
def dkwX0_no_0 : List UInt8 := [42, 43, 180, 0, 101, 181, 0, 91, 3, 172]
abbrev dktX0_no_0 : List UInt8 := dkwX0_no_0 ++ []
theorem dksX0_no_0 : cX0_no.data.toList.drop 0 = dktX0_no_0 := by decide +kernel
theorem dX0_no_0 : decode cX0_no 0 = .ok (.aload_n 0, 1) := dk_42 (dk_at dksX0_no_0 0 rfl rfl)
theorem dX0_no_1 : decode cX0_no 1 = .ok (.aload_n 1, 1) := dk_43 (dk_at dksX0_no_0 1 rfl rfl)
theorem dX0_no_2 : decode cX0_no 2 = .ok (.getfield 101, 3) := dk_180 0 101 (dk_at dksX0_no_0 2 rfl rfl)
theorem dX0_no_5 : decode cX0_no 5 = .ok (.putfield 91, 3) := dk_181 0 91 (dk_at dksX0_no_0 5 rfl rfl)
theorem dX0_no_8 : decode cX0_no 8 = .ok (.iconst 0, 1) := dk_3 (dk_at dksX0_no_0 8 rfl rfl)
theorem dX0_no_9 : decode cX0_no 9 = .ok (.ireturn, 1) := dk_172 (dk_at dksX0_no_0 9 rfl rfl)
abbrev cX0_write : ByteArray := prog_1_method_18_code
def yX0_write : MethodName := ⟨RX0, "write", "(IIJ)Z"⟩
def dkwX0_write_1 : List UInt8 := [3, 172, 58, 5, 42, 25, 5, 182, 0, 129, 172]
abbrev dktX0_write_1 : List UInt8 := dkwX0_write_1 ++ []
def dkwX0_write_0 : List UInt8 := [42, 3, 181, 0, 91, 42, 27, 182, 0, 133, 28, 33, 184, 0, 137, 4, 172, 58, 5, 42, 6, 181, 0, 91]
abbrev dktX0_write_0 : List UInt8 := dkwX0_write_0 ++ dktX0_write_1
theorem dksX0_write_0 : cX0_write.data.toList.drop 0 = dktX0_write_0 := by decide +kernel
theorem dksX0_write_1 : cX0_write.data.toList.drop 24 = dktX0_write_1 := dk_seg dksX0_write_0 24 rfl rfl
theorem dX0_write_0 : decode cX0_write 0 = .ok (.aload_n 0, 1) := dk_42 (dk_at dksX0_write_0 0 rfl rfl)
theorem dX0_write_1 : decode cX0_write 1 = .ok (.iconst 0, 1) := dk_3 (dk_at dksX0_write_0 1 rfl rfl)
theorem dX0_write_2 : decode cX0_write 2 = .ok (.putfield 91, 3) := dk_181 0 91 (dk_at dksX0_write_0 2 rfl rfl)
theorem dX0_write_5 : decode cX0_write 5 = .ok (.aload_n 0, 1) := dk_42 (dk_at dksX0_write_0 5 rfl rfl)
theorem dX0_write_6 : decode cX0_write 6 = .ok (.iload_n 1, 1) := dk_27 (dk_at dksX0_write_0 6 rfl rfl)
theorem dX0_write_7 : decode cX0_write 7 = .ok (.invokevirtual 133, 3) := dk_182 0 133 (dk_at dksX0_write_0 7 rfl rfl)
theorem dX0_write_10 : decode cX0_write 10 = .ok (.iload_n 2, 1) := dk_28 (dk_at dksX0_write_0 10 rfl rfl)
theorem dX0_write_11 : decode cX0_write 11 = .ok (.lload_n 3, 1) := dk_33 (dk_at dksX0_write_0 11 rfl rfl)
theorem dX0_write_12 : decode cX0_write 12 = .ok (.invokestatic 137, 3) := dk_184 0 137 (dk_at dksX0_write_0 12 rfl rfl)
theorem dX0_write_15 : decode cX0_write 15 = .ok (.iconst 1, 1) := dk_4 (dk_at dksX0_write_0 15 rfl rfl)
theorem dX0_write_16 : decode cX0_write 16 = .ok (.ireturn, 1) := dk_172 (dk_at dksX0_write_0 16 rfl rfl)
theorem dX0_write_17 : decode cX0_write 17 = .ok (.astore 5, 2) := dk_58 5 (dk_at dksX0_write_0 17 rfl rfl)
theorem dX0_write_19 : decode cX0_write 19 = .ok (.aload_n 0, 1) := dk_42 (dk_at dksX0_write_0 19 rfl rfl)
theorem dX0_write_20 : decode cX0_write 20 = .ok (.iconst 3, 1) := dk_6 (dk_at dksX0_write_0 20 rfl rfl)
theorem dX0_write_21 : decode cX0_write 21 = .ok (.putfield 91, 3) := dk_181 0 91 (dk_at dksX0_write_0 21 rfl rfl)
theorem dX0_write_24 : decode cX0_write 24 = .ok (.iconst 0, 1) := dk_3 (dk_at dksX0_write_1 0 rfl rfl)
theorem dX0_write_25 : decode cX0_write 25 = .ok (.ireturn, 1) := dk_172 (dk_at dksX0_write_1 1 rfl rfl)
theorem dX0_write_26 : decode cX0_write 26 = .ok (.astore 5, 2) := dk_58 5 (dk_at dksX0_write_1 2 rfl rfl)
theorem dX0_write_28 : decode cX0_write 28 = .ok (.aload_n 0, 1) := dk_42 (dk_at dksX0_write_1 4 rfl rfl)
theorem dX0_write_29 : decode cX0_write 29 = .ok (.aload 5, 2) := dk_25 5 (dk_at dksX0_write_1 5 rfl rfl)
theorem dX0_write_31 : decode cX0_write 31 = .ok (.invokevirtual 129, 3) := dk_182 0 129 (dk_at dksX0_write_1 7 rfl rfl)
theorem dX0_write_34 : decode cX0_write 34 = .ok (.ireturn, 1) := dk_172 (dk_at dksX0_write_1 10 rfl rfl)
abbrev cX0_on : ByteArray := prog_1_method_16_code
def yX0_on : MethodName := ⟨RX0, "on", "(I)Ljava/lang/Object;"⟩
def dkwX0_on_2 : List UInt8 := [180, 0, 120, 176]
abbrev dktX0_on_2 : List UInt8 := dkwX0_on_2 ++ []
def dkwX0_on_1 : List UInt8 := [27, 50, 180, 0, 120, 198, 0, 7, 4, 167, 0, 4, 3, 5, 182, 0, 116, 42, 180, 0, 18, 27, 50]
abbrev dktX0_on_1 : List UInt8 := dkwX0_on_1 ++ dktX0_on_2
def dkwX0_on_0 : List UInt8 := [42, 27, 155, 0, 12, 27, 7, 162, 0, 7, 4, 167, 0, 4, 3, 4, 182, 0, 116, 42, 42, 180, 0, 18]
abbrev dktX0_on_0 : List UInt8 := dkwX0_on_0 ++ dktX0_on_1
theorem dksX0_on_0 : cX0_on.data.toList.drop 0 = dktX0_on_0 := by decide +kernel
theorem dksX0_on_1 : cX0_on.data.toList.drop 24 = dktX0_on_1 := dk_seg dksX0_on_0 24 rfl rfl
theorem dksX0_on_2 : cX0_on.data.toList.drop 47 = dktX0_on_2 := dk_seg dksX0_on_1 23 rfl rfl
theorem dX0_on_0 : decode cX0_on 0 = .ok (.aload_n 0, 1) := dk_42 (dk_at dksX0_on_0 0 rfl rfl)
theorem dX0_on_1 : decode cX0_on 1 = .ok (.iload_n 1, 1) := dk_27 (dk_at dksX0_on_0 1 rfl rfl)
theorem dX0_on_2 : decode cX0_on 2 = .ok (.ifCond .lt 12, 3) := dk_155 0 12 (dk_at dksX0_on_0 2 rfl rfl)
theorem dX0_on_5 : decode cX0_on 5 = .ok (.iload_n 1, 1) := dk_27 (dk_at dksX0_on_0 5 rfl rfl)
theorem dX0_on_6 : decode cX0_on 6 = .ok (.iconst 4, 1) := dk_7 (dk_at dksX0_on_0 6 rfl rfl)
theorem dX0_on_7 : decode cX0_on 7 = .ok (.if_icmp .ge 7, 3) := dk_162 0 7 (dk_at dksX0_on_0 7 rfl rfl)
theorem dX0_on_10 : decode cX0_on 10 = .ok (.iconst 1, 1) := dk_4 (dk_at dksX0_on_0 10 rfl rfl)
theorem dX0_on_11 : decode cX0_on 11 = .ok (.goto 4, 3) := dk_167 0 4 (dk_at dksX0_on_0 11 rfl rfl)
theorem dX0_on_14 : decode cX0_on 14 = .ok (.iconst 0, 1) := dk_3 (dk_at dksX0_on_0 14 rfl rfl)
theorem dX0_on_15 : decode cX0_on 15 = .ok (.iconst 1, 1) := dk_4 (dk_at dksX0_on_0 15 rfl rfl)
theorem dX0_on_16 : decode cX0_on 16 = .ok (.invokevirtual 116, 3) := dk_182 0 116 (dk_at dksX0_on_0 16 rfl rfl)
theorem dX0_on_19 : decode cX0_on 19 = .ok (.aload_n 0, 1) := dk_42 (dk_at dksX0_on_0 19 rfl rfl)
theorem dX0_on_20 : decode cX0_on 20 = .ok (.aload_n 0, 1) := dk_42 (dk_at dksX0_on_0 20 rfl rfl)
theorem dX0_on_21 : decode cX0_on 21 = .ok (.getfield 18, 3) := dk_180 0 18 (dk_at dksX0_on_0 21 rfl rfl)
theorem dX0_on_24 : decode cX0_on 24 = .ok (.iload_n 1, 1) := dk_27 (dk_at dksX0_on_1 0 rfl rfl)
theorem dX0_on_25 : decode cX0_on 25 = .ok (.aaload, 1) := dk_50 (dk_at dksX0_on_1 1 rfl rfl)
theorem dX0_on_26 : decode cX0_on 26 = .ok (.getfield 120, 3) := dk_180 0 120 (dk_at dksX0_on_1 2 rfl rfl)
theorem dX0_on_29 : decode cX0_on 29 = .ok (.ifnull 7, 3) := dk_198 0 7 (dk_at dksX0_on_1 5 rfl rfl)
theorem dX0_on_32 : decode cX0_on 32 = .ok (.iconst 1, 1) := dk_4 (dk_at dksX0_on_1 8 rfl rfl)
theorem dX0_on_33 : decode cX0_on 33 = .ok (.goto 4, 3) := dk_167 0 4 (dk_at dksX0_on_1 9 rfl rfl)
theorem dX0_on_36 : decode cX0_on 36 = .ok (.iconst 0, 1) := dk_3 (dk_at dksX0_on_1 12 rfl rfl)
theorem dX0_on_37 : decode cX0_on 37 = .ok (.iconst 2, 1) := dk_5 (dk_at dksX0_on_1 13 rfl rfl)
theorem dX0_on_38 : decode cX0_on 38 = .ok (.invokevirtual 116, 3) := dk_182 0 116 (dk_at dksX0_on_1 14 rfl rfl)
theorem dX0_on_41 : decode cX0_on 41 = .ok (.aload_n 0, 1) := dk_42 (dk_at dksX0_on_1 17 rfl rfl)
theorem dX0_on_42 : decode cX0_on 42 = .ok (.getfield 18, 3) := dk_180 0 18 (dk_at dksX0_on_1 18 rfl rfl)
theorem dX0_on_45 : decode cX0_on 45 = .ok (.iload_n 1, 1) := dk_27 (dk_at dksX0_on_1 21 rfl rfl)
theorem dX0_on_46 : decode cX0_on 46 = .ok (.aaload, 1) := dk_50 (dk_at dksX0_on_1 22 rfl rfl)
theorem dX0_on_47 : decode cX0_on 47 = .ok (.getfield 120, 3) := dk_180 0 120 (dk_at dksX0_on_2 0 rfl rfl)
theorem dX0_on_50 : decode cX0_on 50 = .ok (.areturn, 1) := dk_176 (dk_at dksX0_on_2 3 rfl rfl)
abbrev cX0_put : ByteArray := prog_1_method_5_code
def yX0_put : MethodName := ⟨RX0, "put", "(Ljava/lang/Object;IJ)V"⟩
def dkwX0_put_3 : List UInt8 := [192, 0, 7, 27, 32, 80, 177]
abbrev dktX0_put_3 : List UInt8 := dkwX0_put_3 ++ []
def dkwX0_put_2 : List UInt8 := [193, 0, 5, 153, 0, 18, 42, 192, 0, 5, 58, 6, 25, 6, 27, 32, 136, 79, 167, 0, 10, 42]
abbrev dktX0_put_2 : List UInt8 := dkwX0_put_2 ++ dktX0_put_3
def dkwX0_put_1 : List UInt8 := [193, 0, 3, 153, 0, 19, 42, 192, 0, 3, 58, 5, 25, 5, 27, 32, 136, 147, 86, 167, 0, 32, 42]
abbrev dktX0_put_1 : List UInt8 := dkwX0_put_1 ++ dktX0_put_2
def dkwX0_put_0 : List UInt8 := [42, 193, 0, 1, 153, 0, 19, 42, 192, 0, 1, 58, 4, 25, 4, 27, 32, 136, 145, 84, 167, 0, 55, 42]
abbrev dktX0_put_0 : List UInt8 := dkwX0_put_0 ++ dktX0_put_1
theorem dksX0_put_0 : cX0_put.data.toList.drop 0 = dktX0_put_0 := by decide +kernel
theorem dksX0_put_1 : cX0_put.data.toList.drop 24 = dktX0_put_1 := dk_seg dksX0_put_0 24 rfl rfl
theorem dksX0_put_2 : cX0_put.data.toList.drop 47 = dktX0_put_2 := dk_seg dksX0_put_1 23 rfl rfl
theorem dksX0_put_3 : cX0_put.data.toList.drop 69 = dktX0_put_3 := dk_seg dksX0_put_2 22 rfl rfl
theorem dX0_put_0 : decode cX0_put 0 = .ok (.aload_n 0, 1) := dk_42 (dk_at dksX0_put_0 0 rfl rfl)
theorem dX0_put_1 : decode cX0_put 1 = .ok (.instanceof 1, 3) := dk_193 0 1 (dk_at dksX0_put_0 1 rfl rfl)
theorem dX0_put_4 : decode cX0_put 4 = .ok (.ifCond .eq 19, 3) := dk_153 0 19 (dk_at dksX0_put_0 4 rfl rfl)
theorem dX0_put_7 : decode cX0_put 7 = .ok (.aload_n 0, 1) := dk_42 (dk_at dksX0_put_0 7 rfl rfl)
theorem dX0_put_8 : decode cX0_put 8 = .ok (.checkcast 1, 3) := dk_192 0 1 (dk_at dksX0_put_0 8 rfl rfl)
theorem dX0_put_11 : decode cX0_put 11 = .ok (.astore 4, 2) := dk_58 4 (dk_at dksX0_put_0 11 rfl rfl)
theorem dX0_put_13 : decode cX0_put 13 = .ok (.aload 4, 2) := dk_25 4 (dk_at dksX0_put_0 13 rfl rfl)
theorem dX0_put_15 : decode cX0_put 15 = .ok (.iload_n 1, 1) := dk_27 (dk_at dksX0_put_0 15 rfl rfl)
theorem dX0_put_16 : decode cX0_put 16 = .ok (.lload_n 2, 1) := dk_32 (dk_at dksX0_put_0 16 rfl rfl)
theorem dX0_put_17 : decode cX0_put 17 = .ok (.l2i, 1) := dk_136 (dk_at dksX0_put_0 17 rfl rfl)
theorem dX0_put_18 : decode cX0_put 18 = .ok (.i2b, 1) := dk_145 (dk_at dksX0_put_0 18 rfl rfl)
theorem dX0_put_19 : decode cX0_put 19 = .ok (.bastore, 1) := dk_84 (dk_at dksX0_put_0 19 rfl rfl)
theorem dX0_put_20 : decode cX0_put 20 = .ok (.goto 55, 3) := dk_167 0 55 (dk_at dksX0_put_0 20 rfl rfl)
theorem dX0_put_23 : decode cX0_put 23 = .ok (.aload_n 0, 1) := dk_42 (dk_at dksX0_put_0 23 rfl rfl)
theorem dX0_put_24 : decode cX0_put 24 = .ok (.instanceof 3, 3) := dk_193 0 3 (dk_at dksX0_put_1 0 rfl rfl)
theorem dX0_put_27 : decode cX0_put 27 = .ok (.ifCond .eq 19, 3) := dk_153 0 19 (dk_at dksX0_put_1 3 rfl rfl)
theorem dX0_put_30 : decode cX0_put 30 = .ok (.aload_n 0, 1) := dk_42 (dk_at dksX0_put_1 6 rfl rfl)
theorem dX0_put_31 : decode cX0_put 31 = .ok (.checkcast 3, 3) := dk_192 0 3 (dk_at dksX0_put_1 7 rfl rfl)
theorem dX0_put_34 : decode cX0_put 34 = .ok (.astore 5, 2) := dk_58 5 (dk_at dksX0_put_1 10 rfl rfl)
theorem dX0_put_36 : decode cX0_put 36 = .ok (.aload 5, 2) := dk_25 5 (dk_at dksX0_put_1 12 rfl rfl)
theorem dX0_put_38 : decode cX0_put 38 = .ok (.iload_n 1, 1) := dk_27 (dk_at dksX0_put_1 14 rfl rfl)
theorem dX0_put_39 : decode cX0_put 39 = .ok (.lload_n 2, 1) := dk_32 (dk_at dksX0_put_1 15 rfl rfl)
theorem dX0_put_40 : decode cX0_put 40 = .ok (.l2i, 1) := dk_136 (dk_at dksX0_put_1 16 rfl rfl)
theorem dX0_put_41 : decode cX0_put 41 = .ok (.i2s, 1) := dk_147 (dk_at dksX0_put_1 17 rfl rfl)
theorem dX0_put_42 : decode cX0_put 42 = .ok (.sastore, 1) := dk_86 (dk_at dksX0_put_1 18 rfl rfl)
theorem dX0_put_43 : decode cX0_put 43 = .ok (.goto 32, 3) := dk_167 0 32 (dk_at dksX0_put_1 19 rfl rfl)
theorem dX0_put_46 : decode cX0_put 46 = .ok (.aload_n 0, 1) := dk_42 (dk_at dksX0_put_1 22 rfl rfl)
theorem dX0_put_47 : decode cX0_put 47 = .ok (.instanceof 5, 3) := dk_193 0 5 (dk_at dksX0_put_2 0 rfl rfl)
theorem dX0_put_50 : decode cX0_put 50 = .ok (.ifCond .eq 18, 3) := dk_153 0 18 (dk_at dksX0_put_2 3 rfl rfl)
theorem dX0_put_53 : decode cX0_put 53 = .ok (.aload_n 0, 1) := dk_42 (dk_at dksX0_put_2 6 rfl rfl)
theorem dX0_put_54 : decode cX0_put 54 = .ok (.checkcast 5, 3) := dk_192 0 5 (dk_at dksX0_put_2 7 rfl rfl)
theorem dX0_put_57 : decode cX0_put 57 = .ok (.astore 6, 2) := dk_58 6 (dk_at dksX0_put_2 10 rfl rfl)
theorem dX0_put_59 : decode cX0_put 59 = .ok (.aload 6, 2) := dk_25 6 (dk_at dksX0_put_2 12 rfl rfl)
theorem dX0_put_61 : decode cX0_put 61 = .ok (.iload_n 1, 1) := dk_27 (dk_at dksX0_put_2 14 rfl rfl)
theorem dX0_put_62 : decode cX0_put 62 = .ok (.lload_n 2, 1) := dk_32 (dk_at dksX0_put_2 15 rfl rfl)
theorem dX0_put_63 : decode cX0_put 63 = .ok (.l2i, 1) := dk_136 (dk_at dksX0_put_2 16 rfl rfl)
theorem dX0_put_64 : decode cX0_put 64 = .ok (.iastore, 1) := dk_79 (dk_at dksX0_put_2 17 rfl rfl)
theorem dX0_put_65 : decode cX0_put 65 = .ok (.goto 10, 3) := dk_167 0 10 (dk_at dksX0_put_2 18 rfl rfl)
theorem dX0_put_68 : decode cX0_put 68 = .ok (.aload_n 0, 1) := dk_42 (dk_at dksX0_put_2 21 rfl rfl)
theorem dX0_put_69 : decode cX0_put 69 = .ok (.checkcast 7, 3) := dk_192 0 7 (dk_at dksX0_put_3 0 rfl rfl)
theorem dX0_put_72 : decode cX0_put 72 = .ok (.iload_n 1, 1) := dk_27 (dk_at dksX0_put_3 3 rfl rfl)
theorem dX0_put_73 : decode cX0_put 73 = .ok (.lload_n 2, 1) := dk_32 (dk_at dksX0_put_3 4 rfl rfl)
theorem dX0_put_74 : decode cX0_put 74 = .ok (.lastore, 1) := dk_80 (dk_at dksX0_put_3 5 rfl rfl)
theorem dX0_put_75 : decode cX0_put 75 = .ok (.return_, 1) := dk_177 (dk_at dksX0_put_3 6 rfl rfl)
abbrev cX0_read : ByteArray := prog_1_method_19_code
def yX0_read : MethodName := ⟨RX0, "read", "(II)J"⟩
def dkwX0_read_1 : List UInt8 := [173, 78, 42, 45, 182, 0, 149, 133, 173]
abbrev dktX0_read_1 : List UInt8 := dkwX0_read_1 ++ []
def dkwX0_read_0 : List UInt8 := [42, 3, 181, 0, 91, 42, 27, 182, 0, 133, 28, 184, 0, 143, 173, 78, 42, 6, 181, 0, 91, 20, 0, 147]
abbrev dktX0_read_0 : List UInt8 := dkwX0_read_0 ++ dktX0_read_1
theorem dksX0_read_0 : cX0_read.data.toList.drop 0 = dktX0_read_0 := by decide +kernel
theorem dksX0_read_1 : cX0_read.data.toList.drop 24 = dktX0_read_1 := dk_seg dksX0_read_0 24 rfl rfl
theorem dX0_read_0 : decode cX0_read 0 = .ok (.aload_n 0, 1) := dk_42 (dk_at dksX0_read_0 0 rfl rfl)
theorem dX0_read_1 : decode cX0_read 1 = .ok (.iconst 0, 1) := dk_3 (dk_at dksX0_read_0 1 rfl rfl)
theorem dX0_read_2 : decode cX0_read 2 = .ok (.putfield 91, 3) := dk_181 0 91 (dk_at dksX0_read_0 2 rfl rfl)
theorem dX0_read_5 : decode cX0_read 5 = .ok (.aload_n 0, 1) := dk_42 (dk_at dksX0_read_0 5 rfl rfl)
theorem dX0_read_6 : decode cX0_read 6 = .ok (.iload_n 1, 1) := dk_27 (dk_at dksX0_read_0 6 rfl rfl)
theorem dX0_read_7 : decode cX0_read 7 = .ok (.invokevirtual 133, 3) := dk_182 0 133 (dk_at dksX0_read_0 7 rfl rfl)
theorem dX0_read_10 : decode cX0_read 10 = .ok (.iload_n 2, 1) := dk_28 (dk_at dksX0_read_0 10 rfl rfl)
theorem dX0_read_11 : decode cX0_read 11 = .ok (.invokestatic 143, 3) := dk_184 0 143 (dk_at dksX0_read_0 11 rfl rfl)
theorem dX0_read_14 : decode cX0_read 14 = .ok (.lreturn, 1) := dk_173 (dk_at dksX0_read_0 14 rfl rfl)
theorem dX0_read_15 : decode cX0_read 15 = .ok (.astore_n 3, 1) := dk_78 (dk_at dksX0_read_0 15 rfl rfl)
theorem dX0_read_16 : decode cX0_read 16 = .ok (.aload_n 0, 1) := dk_42 (dk_at dksX0_read_0 16 rfl rfl)
theorem dX0_read_17 : decode cX0_read 17 = .ok (.iconst 3, 1) := dk_6 (dk_at dksX0_read_0 17 rfl rfl)
theorem dX0_read_18 : decode cX0_read 18 = .ok (.putfield 91, 3) := dk_181 0 91 (dk_at dksX0_read_0 18 rfl rfl)
theorem dX0_read_21 : decode cX0_read 21 = .ok (.ldc2_w 147, 3) := dk_20 0 147 (dk_at dksX0_read_0 21 rfl rfl)
theorem dX0_read_24 : decode cX0_read 24 = .ok (.lreturn, 1) := dk_173 (dk_at dksX0_read_1 0 rfl rfl)
theorem dX0_read_25 : decode cX0_read 25 = .ok (.astore_n 3, 1) := dk_78 (dk_at dksX0_read_1 1 rfl rfl)
theorem dX0_read_26 : decode cX0_read 26 = .ok (.aload_n 0, 1) := dk_42 (dk_at dksX0_read_1 2 rfl rfl)
theorem dX0_read_27 : decode cX0_read 27 = .ok (.aload_n 3, 1) := dk_45 (dk_at dksX0_read_1 3 rfl rfl)
theorem dX0_read_28 : decode cX0_read 28 = .ok (.invokevirtual 149, 3) := dk_182 0 149 (dk_at dksX0_read_1 4 rfl rfl)
theorem dX0_read_31 : decode cX0_read 31 = .ok (.i2l, 1) := dk_133 (dk_at dksX0_read_1 7 rfl rfl)
theorem dX0_read_32 : decode cX0_read 32 = .ok (.lreturn, 1) := dk_173 (dk_at dksX0_read_1 8 rfl rfl)
abbrev cX0_number : ByteArray := prog_1_method_4_code
def yX0_number : MethodName := ⟨RX0, "number", "(Ljava/lang/Object;I)J"⟩
def dkwX0_number_2 : List UInt8 := [46, 133, 167, 0, 9, 42, 192, 0, 7, 27, 47, 173]
abbrev dktX0_number_2 : List UInt8 := dkwX0_number_2 ++ []
def dkwX0_number_1 : List UInt8 := [42, 192, 0, 3, 77, 44, 27, 53, 133, 173, 42, 193, 0, 5, 153, 0, 15, 42, 192, 0, 5, 77, 44, 27]
abbrev dktX0_number_1 : List UInt8 := dkwX0_number_1 ++ dktX0_number_2
def dkwX0_number_0 : List UInt8 := [42, 193, 0, 1, 153, 0, 13, 42, 192, 0, 1, 77, 44, 27, 51, 133, 173, 42, 193, 0, 3, 153, 0, 13]
abbrev dktX0_number_0 : List UInt8 := dkwX0_number_0 ++ dktX0_number_1
theorem dksX0_number_0 : cX0_number.data.toList.drop 0 = dktX0_number_0 := by decide +kernel
theorem dksX0_number_1 : cX0_number.data.toList.drop 24 = dktX0_number_1 := dk_seg dksX0_number_0 24 rfl rfl
theorem dksX0_number_2 : cX0_number.data.toList.drop 48 = dktX0_number_2 := dk_seg dksX0_number_1 24 rfl rfl
theorem dX0_number_0 : decode cX0_number 0 = .ok (.aload_n 0, 1) := dk_42 (dk_at dksX0_number_0 0 rfl rfl)
theorem dX0_number_1 : decode cX0_number 1 = .ok (.instanceof 1, 3) := dk_193 0 1 (dk_at dksX0_number_0 1 rfl rfl)
theorem dX0_number_4 : decode cX0_number 4 = .ok (.ifCond .eq 13, 3) := dk_153 0 13 (dk_at dksX0_number_0 4 rfl rfl)
theorem dX0_number_7 : decode cX0_number 7 = .ok (.aload_n 0, 1) := dk_42 (dk_at dksX0_number_0 7 rfl rfl)
theorem dX0_number_8 : decode cX0_number 8 = .ok (.checkcast 1, 3) := dk_192 0 1 (dk_at dksX0_number_0 8 rfl rfl)
theorem dX0_number_11 : decode cX0_number 11 = .ok (.astore_n 2, 1) := dk_77 (dk_at dksX0_number_0 11 rfl rfl)
theorem dX0_number_12 : decode cX0_number 12 = .ok (.aload_n 2, 1) := dk_44 (dk_at dksX0_number_0 12 rfl rfl)
theorem dX0_number_13 : decode cX0_number 13 = .ok (.iload_n 1, 1) := dk_27 (dk_at dksX0_number_0 13 rfl rfl)
theorem dX0_number_14 : decode cX0_number 14 = .ok (.baload, 1) := dk_51 (dk_at dksX0_number_0 14 rfl rfl)
theorem dX0_number_15 : decode cX0_number 15 = .ok (.i2l, 1) := dk_133 (dk_at dksX0_number_0 15 rfl rfl)
theorem dX0_number_16 : decode cX0_number 16 = .ok (.lreturn, 1) := dk_173 (dk_at dksX0_number_0 16 rfl rfl)
theorem dX0_number_17 : decode cX0_number 17 = .ok (.aload_n 0, 1) := dk_42 (dk_at dksX0_number_0 17 rfl rfl)
theorem dX0_number_18 : decode cX0_number 18 = .ok (.instanceof 3, 3) := dk_193 0 3 (dk_at dksX0_number_0 18 rfl rfl)
theorem dX0_number_21 : decode cX0_number 21 = .ok (.ifCond .eq 13, 3) := dk_153 0 13 (dk_at dksX0_number_0 21 rfl rfl)
theorem dX0_number_24 : decode cX0_number 24 = .ok (.aload_n 0, 1) := dk_42 (dk_at dksX0_number_1 0 rfl rfl)
theorem dX0_number_25 : decode cX0_number 25 = .ok (.checkcast 3, 3) := dk_192 0 3 (dk_at dksX0_number_1 1 rfl rfl)
theorem dX0_number_28 : decode cX0_number 28 = .ok (.astore_n 2, 1) := dk_77 (dk_at dksX0_number_1 4 rfl rfl)
theorem dX0_number_29 : decode cX0_number 29 = .ok (.aload_n 2, 1) := dk_44 (dk_at dksX0_number_1 5 rfl rfl)
theorem dX0_number_30 : decode cX0_number 30 = .ok (.iload_n 1, 1) := dk_27 (dk_at dksX0_number_1 6 rfl rfl)
theorem dX0_number_31 : decode cX0_number 31 = .ok (.saload, 1) := dk_53 (dk_at dksX0_number_1 7 rfl rfl)
theorem dX0_number_32 : decode cX0_number 32 = .ok (.i2l, 1) := dk_133 (dk_at dksX0_number_1 8 rfl rfl)
theorem dX0_number_33 : decode cX0_number 33 = .ok (.lreturn, 1) := dk_173 (dk_at dksX0_number_1 9 rfl rfl)
theorem dX0_number_34 : decode cX0_number 34 = .ok (.aload_n 0, 1) := dk_42 (dk_at dksX0_number_1 10 rfl rfl)
theorem dX0_number_35 : decode cX0_number 35 = .ok (.instanceof 5, 3) := dk_193 0 5 (dk_at dksX0_number_1 11 rfl rfl)
theorem dX0_number_38 : decode cX0_number 38 = .ok (.ifCond .eq 15, 3) := dk_153 0 15 (dk_at dksX0_number_1 14 rfl rfl)
theorem dX0_number_41 : decode cX0_number 41 = .ok (.aload_n 0, 1) := dk_42 (dk_at dksX0_number_1 17 rfl rfl)
theorem dX0_number_42 : decode cX0_number 42 = .ok (.checkcast 5, 3) := dk_192 0 5 (dk_at dksX0_number_1 18 rfl rfl)
theorem dX0_number_45 : decode cX0_number 45 = .ok (.astore_n 2, 1) := dk_77 (dk_at dksX0_number_1 21 rfl rfl)
theorem dX0_number_46 : decode cX0_number 46 = .ok (.aload_n 2, 1) := dk_44 (dk_at dksX0_number_1 22 rfl rfl)
theorem dX0_number_47 : decode cX0_number 47 = .ok (.iload_n 1, 1) := dk_27 (dk_at dksX0_number_1 23 rfl rfl)
theorem dX0_number_48 : decode cX0_number 48 = .ok (.iaload, 1) := dk_46 (dk_at dksX0_number_2 0 rfl rfl)
theorem dX0_number_49 : decode cX0_number 49 = .ok (.i2l, 1) := dk_133 (dk_at dksX0_number_2 1 rfl rfl)
theorem dX0_number_50 : decode cX0_number 50 = .ok (.goto 9, 3) := dk_167 0 9 (dk_at dksX0_number_2 2 rfl rfl)
theorem dX0_number_53 : decode cX0_number 53 = .ok (.aload_n 0, 1) := dk_42 (dk_at dksX0_number_2 5 rfl rfl)
theorem dX0_number_54 : decode cX0_number 54 = .ok (.checkcast 7, 3) := dk_192 0 7 (dk_at dksX0_number_2 6 rfl rfl)
theorem dX0_number_57 : decode cX0_number 57 = .ok (.iload_n 1, 1) := dk_27 (dk_at dksX0_number_2 9 rfl rfl)
theorem dX0_number_58 : decode cX0_number 58 = .ok (.laload, 1) := dk_47 (dk_at dksX0_number_2 10 rfl rfl)
theorem dX0_number_59 : decode cX0_number 59 = .ok (.lreturn, 1) := dk_173 (dk_at dksX0_number_2 11 rfl rfl)
abbrev cX0_none : ByteArray := prog_1_method_13_code
def yX0_none : MethodName := ⟨RX0, "none", "(LCatWitness$Refused;)I"⟩
def dkwX0_none_0 : List UInt8 := [42, 43, 180, 0, 101, 181, 0, 91, 2, 172]
abbrev dktX0_none_0 : List UInt8 := dkwX0_none_0 ++ []
theorem dksX0_none_0 : cX0_none.data.toList.drop 0 = dktX0_none_0 := by decide +kernel
theorem dX0_none_0 : decode cX0_none 0 = .ok (.aload_n 0, 1) := dk_42 (dk_at dksX0_none_0 0 rfl rfl)
theorem dX0_none_1 : decode cX0_none 1 = .ok (.aload_n 1, 1) := dk_43 (dk_at dksX0_none_0 1 rfl rfl)
theorem dX0_none_2 : decode cX0_none 2 = .ok (.getfield 101, 3) := dk_180 0 101 (dk_at dksX0_none_0 2 rfl rfl)
theorem dX0_none_5 : decode cX0_none 5 = .ok (.putfield 91, 3) := dk_181 0 91 (dk_at dksX0_none_0 5 rfl rfl)
theorem dX0_none_8 : decode cX0_none 8 = .ok (.iconst (-1), 1) := dk_2 (dk_at dksX0_none_0 8 rfl rfl)
theorem dX0_none_9 : decode cX0_none 9 = .ok (.ireturn, 1) := dk_172 (dk_at dksX0_none_0 9 rfl rfl)
abbrev cX0_pour : ByteArray := prog_1_method_20_code
def yX0_pour : MethodName := ⟨RX0, "pour", "(IIIII)Z"⟩
def dkwX0_pour_5 : List UInt8 := [182, 0, 129, 172]
abbrev dktX0_pour_5 : List UInt8 := dkwX0_pour_5 ++ []
def dkwX0_pour_4 : List UInt8 := [184, 0, 157, 167, 0, 14, 58, 8, 42, 180, 0, 44, 6, 182, 0, 97, 191, 4, 172, 58, 6, 42, 25, 6]
abbrev dktX0_pour_4 : List UInt8 := dkwX0_pour_4 ++ dktX0_pour_5
def dkwX0_pour_3 : List UInt8 := [160, 0, 7, 4, 167, 0, 4, 3, 16, 8, 182, 0, 116, 25, 6, 28, 25, 7, 21, 4, 21, 5]
abbrev dktX0_pour_3 : List UInt8 := dkwX0_pour_3 ++ dktX0_pour_4
def dkwX0_pour_2 : List UInt8 := [27, 182, 0, 133, 58, 6, 42, 29, 182, 0, 133, 58, 7, 42, 25, 6, 184, 0, 153, 25, 7, 184, 0, 153]
abbrev dktX0_pour_2 : List UInt8 := dkwX0_pour_2 ++ dktX0_pour_3
def dkwX0_pour_1 : List UInt8 := [28, 155, 0, 17, 21, 4, 155, 0, 12, 21, 5, 155, 0, 7, 4, 167, 0, 4, 3, 4, 182, 0, 116, 42]
abbrev dktX0_pour_1 : List UInt8 := dkwX0_pour_1 ++ dktX0_pour_2
def dkwX0_pour_0 : List UInt8 := [42, 3, 181, 0, 91, 42, 27, 155, 0, 35, 27, 7, 162, 0, 30, 29, 155, 0, 26, 29, 7, 162, 0, 21]
abbrev dktX0_pour_0 : List UInt8 := dkwX0_pour_0 ++ dktX0_pour_1
theorem dksX0_pour_0 : cX0_pour.data.toList.drop 0 = dktX0_pour_0 := by decide +kernel
theorem dksX0_pour_1 : cX0_pour.data.toList.drop 24 = dktX0_pour_1 := dk_seg dksX0_pour_0 24 rfl rfl
theorem dksX0_pour_2 : cX0_pour.data.toList.drop 48 = dktX0_pour_2 := dk_seg dksX0_pour_1 24 rfl rfl
theorem dksX0_pour_3 : cX0_pour.data.toList.drop 72 = dktX0_pour_3 := dk_seg dksX0_pour_2 24 rfl rfl
theorem dksX0_pour_4 : cX0_pour.data.toList.drop 94 = dktX0_pour_4 := dk_seg dksX0_pour_3 22 rfl rfl
theorem dksX0_pour_5 : cX0_pour.data.toList.drop 118 = dktX0_pour_5 := dk_seg dksX0_pour_4 24 rfl rfl
theorem dX0_pour_0 : decode cX0_pour 0 = .ok (.aload_n 0, 1) := dk_42 (dk_at dksX0_pour_0 0 rfl rfl)
theorem dX0_pour_1 : decode cX0_pour 1 = .ok (.iconst 0, 1) := dk_3 (dk_at dksX0_pour_0 1 rfl rfl)
theorem dX0_pour_2 : decode cX0_pour 2 = .ok (.putfield 91, 3) := dk_181 0 91 (dk_at dksX0_pour_0 2 rfl rfl)
theorem dX0_pour_5 : decode cX0_pour 5 = .ok (.aload_n 0, 1) := dk_42 (dk_at dksX0_pour_0 5 rfl rfl)
theorem dX0_pour_6 : decode cX0_pour 6 = .ok (.iload_n 1, 1) := dk_27 (dk_at dksX0_pour_0 6 rfl rfl)
theorem dX0_pour_7 : decode cX0_pour 7 = .ok (.ifCond .lt 35, 3) := dk_155 0 35 (dk_at dksX0_pour_0 7 rfl rfl)
theorem dX0_pour_10 : decode cX0_pour 10 = .ok (.iload_n 1, 1) := dk_27 (dk_at dksX0_pour_0 10 rfl rfl)
theorem dX0_pour_11 : decode cX0_pour 11 = .ok (.iconst 4, 1) := dk_7 (dk_at dksX0_pour_0 11 rfl rfl)
theorem dX0_pour_12 : decode cX0_pour 12 = .ok (.if_icmp .ge 30, 3) := dk_162 0 30 (dk_at dksX0_pour_0 12 rfl rfl)
theorem dX0_pour_15 : decode cX0_pour 15 = .ok (.iload_n 3, 1) := dk_29 (dk_at dksX0_pour_0 15 rfl rfl)
theorem dX0_pour_16 : decode cX0_pour 16 = .ok (.ifCond .lt 26, 3) := dk_155 0 26 (dk_at dksX0_pour_0 16 rfl rfl)
theorem dX0_pour_19 : decode cX0_pour 19 = .ok (.iload_n 3, 1) := dk_29 (dk_at dksX0_pour_0 19 rfl rfl)
theorem dX0_pour_20 : decode cX0_pour 20 = .ok (.iconst 4, 1) := dk_7 (dk_at dksX0_pour_0 20 rfl rfl)
theorem dX0_pour_21 : decode cX0_pour 21 = .ok (.if_icmp .ge 21, 3) := dk_162 0 21 (dk_at dksX0_pour_0 21 rfl rfl)
theorem dX0_pour_24 : decode cX0_pour 24 = .ok (.iload_n 2, 1) := dk_28 (dk_at dksX0_pour_1 0 rfl rfl)
theorem dX0_pour_25 : decode cX0_pour 25 = .ok (.ifCond .lt 17, 3) := dk_155 0 17 (dk_at dksX0_pour_1 1 rfl rfl)
theorem dX0_pour_28 : decode cX0_pour 28 = .ok (.iload 4, 2) := dk_21 4 (dk_at dksX0_pour_1 4 rfl rfl)
theorem dX0_pour_30 : decode cX0_pour 30 = .ok (.ifCond .lt 12, 3) := dk_155 0 12 (dk_at dksX0_pour_1 6 rfl rfl)
theorem dX0_pour_33 : decode cX0_pour 33 = .ok (.iload 5, 2) := dk_21 5 (dk_at dksX0_pour_1 9 rfl rfl)
theorem dX0_pour_35 : decode cX0_pour 35 = .ok (.ifCond .lt 7, 3) := dk_155 0 7 (dk_at dksX0_pour_1 11 rfl rfl)
theorem dX0_pour_38 : decode cX0_pour 38 = .ok (.iconst 1, 1) := dk_4 (dk_at dksX0_pour_1 14 rfl rfl)
theorem dX0_pour_39 : decode cX0_pour 39 = .ok (.goto 4, 3) := dk_167 0 4 (dk_at dksX0_pour_1 15 rfl rfl)
theorem dX0_pour_42 : decode cX0_pour 42 = .ok (.iconst 0, 1) := dk_3 (dk_at dksX0_pour_1 18 rfl rfl)
theorem dX0_pour_43 : decode cX0_pour 43 = .ok (.iconst 1, 1) := dk_4 (dk_at dksX0_pour_1 19 rfl rfl)
theorem dX0_pour_44 : decode cX0_pour 44 = .ok (.invokevirtual 116, 3) := dk_182 0 116 (dk_at dksX0_pour_1 20 rfl rfl)
theorem dX0_pour_47 : decode cX0_pour 47 = .ok (.aload_n 0, 1) := dk_42 (dk_at dksX0_pour_1 23 rfl rfl)
theorem dX0_pour_48 : decode cX0_pour 48 = .ok (.iload_n 1, 1) := dk_27 (dk_at dksX0_pour_2 0 rfl rfl)
theorem dX0_pour_49 : decode cX0_pour 49 = .ok (.invokevirtual 133, 3) := dk_182 0 133 (dk_at dksX0_pour_2 1 rfl rfl)
theorem dX0_pour_52 : decode cX0_pour 52 = .ok (.astore 6, 2) := dk_58 6 (dk_at dksX0_pour_2 4 rfl rfl)
theorem dX0_pour_54 : decode cX0_pour 54 = .ok (.aload_n 0, 1) := dk_42 (dk_at dksX0_pour_2 6 rfl rfl)
theorem dX0_pour_55 : decode cX0_pour 55 = .ok (.iload_n 3, 1) := dk_29 (dk_at dksX0_pour_2 7 rfl rfl)
theorem dX0_pour_56 : decode cX0_pour 56 = .ok (.invokevirtual 133, 3) := dk_182 0 133 (dk_at dksX0_pour_2 8 rfl rfl)
theorem dX0_pour_59 : decode cX0_pour 59 = .ok (.astore 7, 2) := dk_58 7 (dk_at dksX0_pour_2 11 rfl rfl)
theorem dX0_pour_61 : decode cX0_pour 61 = .ok (.aload_n 0, 1) := dk_42 (dk_at dksX0_pour_2 13 rfl rfl)
theorem dX0_pour_62 : decode cX0_pour 62 = .ok (.aload 6, 2) := dk_25 6 (dk_at dksX0_pour_2 14 rfl rfl)
theorem dX0_pour_64 : decode cX0_pour 64 = .ok (.invokestatic 153, 3) := dk_184 0 153 (dk_at dksX0_pour_2 16 rfl rfl)
theorem dX0_pour_67 : decode cX0_pour 67 = .ok (.aload 7, 2) := dk_25 7 (dk_at dksX0_pour_2 19 rfl rfl)
theorem dX0_pour_69 : decode cX0_pour 69 = .ok (.invokestatic 153, 3) := dk_184 0 153 (dk_at dksX0_pour_2 21 rfl rfl)
theorem dX0_pour_72 : decode cX0_pour 72 = .ok (.if_icmp .ne 7, 3) := dk_160 0 7 (dk_at dksX0_pour_3 0 rfl rfl)
theorem dX0_pour_75 : decode cX0_pour 75 = .ok (.iconst 1, 1) := dk_4 (dk_at dksX0_pour_3 3 rfl rfl)
theorem dX0_pour_76 : decode cX0_pour 76 = .ok (.goto 4, 3) := dk_167 0 4 (dk_at dksX0_pour_3 4 rfl rfl)
theorem dX0_pour_79 : decode cX0_pour 79 = .ok (.iconst 0, 1) := dk_3 (dk_at dksX0_pour_3 7 rfl rfl)
theorem dX0_pour_80 : decode cX0_pour 80 = .ok (.bipush 8, 2) := dk_16 8 (dk_at dksX0_pour_3 8 rfl rfl)
theorem dX0_pour_82 : decode cX0_pour 82 = .ok (.invokevirtual 116, 3) := dk_182 0 116 (dk_at dksX0_pour_3 10 rfl rfl)
theorem dX0_pour_85 : decode cX0_pour 85 = .ok (.aload 6, 2) := dk_25 6 (dk_at dksX0_pour_3 13 rfl rfl)
theorem dX0_pour_87 : decode cX0_pour 87 = .ok (.iload_n 2, 1) := dk_28 (dk_at dksX0_pour_3 15 rfl rfl)
theorem dX0_pour_88 : decode cX0_pour 88 = .ok (.aload 7, 2) := dk_25 7 (dk_at dksX0_pour_3 16 rfl rfl)
theorem dX0_pour_90 : decode cX0_pour 90 = .ok (.iload 4, 2) := dk_21 4 (dk_at dksX0_pour_3 18 rfl rfl)
theorem dX0_pour_92 : decode cX0_pour 92 = .ok (.iload 5, 2) := dk_21 5 (dk_at dksX0_pour_3 20 rfl rfl)
theorem dX0_pour_94 : decode cX0_pour 94 = .ok (.invokestatic 157, 3) := dk_184 0 157 (dk_at dksX0_pour_4 0 rfl rfl)
theorem dX0_pour_97 : decode cX0_pour 97 = .ok (.goto 14, 3) := dk_167 0 14 (dk_at dksX0_pour_4 3 rfl rfl)
theorem dX0_pour_100 : decode cX0_pour 100 = .ok (.astore 8, 2) := dk_58 8 (dk_at dksX0_pour_4 6 rfl rfl)
theorem dX0_pour_102 : decode cX0_pour 102 = .ok (.aload_n 0, 1) := dk_42 (dk_at dksX0_pour_4 8 rfl rfl)
theorem dX0_pour_103 : decode cX0_pour 103 = .ok (.getfield 44, 3) := dk_180 0 44 (dk_at dksX0_pour_4 9 rfl rfl)
theorem dX0_pour_106 : decode cX0_pour 106 = .ok (.iconst 3, 1) := dk_6 (dk_at dksX0_pour_4 12 rfl rfl)
theorem dX0_pour_107 : decode cX0_pour 107 = .ok (.invokevirtual 97, 3) := dk_182 0 97 (dk_at dksX0_pour_4 13 rfl rfl)
theorem dX0_pour_110 : decode cX0_pour 110 = .ok (.athrow, 1) := dk_191 (dk_at dksX0_pour_4 16 rfl rfl)
theorem dX0_pour_111 : decode cX0_pour 111 = .ok (.iconst 1, 1) := dk_4 (dk_at dksX0_pour_4 17 rfl rfl)
theorem dX0_pour_112 : decode cX0_pour 112 = .ok (.ireturn, 1) := dk_172 (dk_at dksX0_pour_4 18 rfl rfl)
theorem dX0_pour_113 : decode cX0_pour 113 = .ok (.astore 6, 2) := dk_58 6 (dk_at dksX0_pour_4 19 rfl rfl)
theorem dX0_pour_115 : decode cX0_pour 115 = .ok (.aload_n 0, 1) := dk_42 (dk_at dksX0_pour_4 21 rfl rfl)
theorem dX0_pour_116 : decode cX0_pour 116 = .ok (.aload 6, 2) := dk_25 6 (dk_at dksX0_pour_4 22 rfl rfl)
theorem dX0_pour_118 : decode cX0_pour 118 = .ok (.invokevirtual 129, 3) := dk_182 0 129 (dk_at dksX0_pour_5 0 rfl rfl)
theorem dX0_pour_121 : decode cX0_pour 121 = .ok (.ireturn, 1) := dk_172 (dk_at dksX0_pour_5 3 rfl rfl)
abbrev cX0_sortOf : ByteArray := prog_1_method_2_code
def yX0_sortOf : MethodName := ⟨RX0, "sortOf", "(Ljava/lang/Object;)I"⟩
def dkwX0_sortOf_1 : List UInt8 := [193, 0, 5, 153, 0, 7, 5, 167, 0, 4, 6, 172]
abbrev dktX0_sortOf_1 : List UInt8 := dkwX0_sortOf_1 ++ []
def dkwX0_sortOf_0 : List UInt8 := [42, 193, 0, 1, 153, 0, 7, 3, 167, 0, 26, 42, 193, 0, 3, 153, 0, 7, 4, 167, 0, 15, 42]
abbrev dktX0_sortOf_0 : List UInt8 := dkwX0_sortOf_0 ++ dktX0_sortOf_1
theorem dksX0_sortOf_0 : cX0_sortOf.data.toList.drop 0 = dktX0_sortOf_0 := by decide +kernel
theorem dksX0_sortOf_1 : cX0_sortOf.data.toList.drop 23 = dktX0_sortOf_1 := dk_seg dksX0_sortOf_0 23 rfl rfl
theorem dX0_sortOf_0 : decode cX0_sortOf 0 = .ok (.aload_n 0, 1) := dk_42 (dk_at dksX0_sortOf_0 0 rfl rfl)
theorem dX0_sortOf_1 : decode cX0_sortOf 1 = .ok (.instanceof 1, 3) := dk_193 0 1 (dk_at dksX0_sortOf_0 1 rfl rfl)
theorem dX0_sortOf_4 : decode cX0_sortOf 4 = .ok (.ifCond .eq 7, 3) := dk_153 0 7 (dk_at dksX0_sortOf_0 4 rfl rfl)
theorem dX0_sortOf_7 : decode cX0_sortOf 7 = .ok (.iconst 0, 1) := dk_3 (dk_at dksX0_sortOf_0 7 rfl rfl)
theorem dX0_sortOf_8 : decode cX0_sortOf 8 = .ok (.goto 26, 3) := dk_167 0 26 (dk_at dksX0_sortOf_0 8 rfl rfl)
theorem dX0_sortOf_11 : decode cX0_sortOf 11 = .ok (.aload_n 0, 1) := dk_42 (dk_at dksX0_sortOf_0 11 rfl rfl)
theorem dX0_sortOf_12 : decode cX0_sortOf 12 = .ok (.instanceof 3, 3) := dk_193 0 3 (dk_at dksX0_sortOf_0 12 rfl rfl)
theorem dX0_sortOf_15 : decode cX0_sortOf 15 = .ok (.ifCond .eq 7, 3) := dk_153 0 7 (dk_at dksX0_sortOf_0 15 rfl rfl)
theorem dX0_sortOf_18 : decode cX0_sortOf 18 = .ok (.iconst 1, 1) := dk_4 (dk_at dksX0_sortOf_0 18 rfl rfl)
theorem dX0_sortOf_19 : decode cX0_sortOf 19 = .ok (.goto 15, 3) := dk_167 0 15 (dk_at dksX0_sortOf_0 19 rfl rfl)
theorem dX0_sortOf_22 : decode cX0_sortOf 22 = .ok (.aload_n 0, 1) := dk_42 (dk_at dksX0_sortOf_0 22 rfl rfl)
theorem dX0_sortOf_23 : decode cX0_sortOf 23 = .ok (.instanceof 5, 3) := dk_193 0 5 (dk_at dksX0_sortOf_1 0 rfl rfl)
theorem dX0_sortOf_26 : decode cX0_sortOf 26 = .ok (.ifCond .eq 7, 3) := dk_153 0 7 (dk_at dksX0_sortOf_1 3 rfl rfl)
theorem dX0_sortOf_29 : decode cX0_sortOf 29 = .ok (.iconst 2, 1) := dk_5 (dk_at dksX0_sortOf_1 6 rfl rfl)
theorem dX0_sortOf_30 : decode cX0_sortOf 30 = .ok (.goto 4, 3) := dk_167 0 4 (dk_at dksX0_sortOf_1 7 rfl rfl)
theorem dX0_sortOf_33 : decode cX0_sortOf 33 = .ok (.iconst 3, 1) := dk_6 (dk_at dksX0_sortOf_1 10 rfl rfl)
theorem dX0_sortOf_34 : decode cX0_sortOf 34 = .ok (.ireturn, 1) := dk_172 (dk_at dksX0_sortOf_1 11 rfl rfl)
abbrev cX0_feed : ByteArray := prog_1_method_29_code
def yX0_feed : MethodName := ⟨RX0, "feed", "(IIIII)I"⟩
def dkwX0_feed_2 : List UInt8 := [172]
abbrev dktX0_feed_2 : List UInt8 := dkwX0_feed_2 ++ []
def dkwX0_feed_1 : List UInt8 := [182, 0, 194, 42, 29, 182, 0, 194, 42, 21, 4, 182, 0, 194, 42, 21, 5, 182, 0, 194, 42, 180, 0, 191]
abbrev dktX0_feed_1 : List UInt8 := dkwX0_feed_1 ++ dktX0_feed_2
def dkwX0_feed_0 : List UInt8 := [42, 180, 0, 191, 16, 20, 96, 17, 3, 132, 164, 0, 5, 2, 172, 42, 27, 182, 0, 194, 42, 28]
abbrev dktX0_feed_0 : List UInt8 := dkwX0_feed_0 ++ dktX0_feed_1
theorem dksX0_feed_0 : cX0_feed.data.toList.drop 0 = dktX0_feed_0 := by decide +kernel
theorem dksX0_feed_1 : cX0_feed.data.toList.drop 22 = dktX0_feed_1 := dk_seg dksX0_feed_0 22 rfl rfl
theorem dksX0_feed_2 : cX0_feed.data.toList.drop 46 = dktX0_feed_2 := dk_seg dksX0_feed_1 24 rfl rfl
theorem dX0_feed_0 : decode cX0_feed 0 = .ok (.aload_n 0, 1) := dk_42 (dk_at dksX0_feed_0 0 rfl rfl)
theorem dX0_feed_1 : decode cX0_feed 1 = .ok (.getfield 191, 3) := dk_180 0 191 (dk_at dksX0_feed_0 1 rfl rfl)
theorem dX0_feed_4 : decode cX0_feed 4 = .ok (.bipush 20, 2) := dk_16 20 (dk_at dksX0_feed_0 4 rfl rfl)
theorem dX0_feed_6 : decode cX0_feed 6 = .ok (.iadd, 1) := dk_96 (dk_at dksX0_feed_0 6 rfl rfl)
theorem dX0_feed_7 : decode cX0_feed 7 = .ok (.sipush 900, 3) := dk_17 3 132 (dk_at dksX0_feed_0 7 rfl rfl)
theorem dX0_feed_10 : decode cX0_feed 10 = .ok (.if_icmp .le 5, 3) := dk_164 0 5 (dk_at dksX0_feed_0 10 rfl rfl)
theorem dX0_feed_13 : decode cX0_feed 13 = .ok (.iconst (-1), 1) := dk_2 (dk_at dksX0_feed_0 13 rfl rfl)
theorem dX0_feed_14 : decode cX0_feed 14 = .ok (.ireturn, 1) := dk_172 (dk_at dksX0_feed_0 14 rfl rfl)
theorem dX0_feed_15 : decode cX0_feed 15 = .ok (.aload_n 0, 1) := dk_42 (dk_at dksX0_feed_0 15 rfl rfl)
theorem dX0_feed_16 : decode cX0_feed 16 = .ok (.iload_n 1, 1) := dk_27 (dk_at dksX0_feed_0 16 rfl rfl)
theorem dX0_feed_17 : decode cX0_feed 17 = .ok (.invokevirtual 194, 3) := dk_182 0 194 (dk_at dksX0_feed_0 17 rfl rfl)
theorem dX0_feed_20 : decode cX0_feed 20 = .ok (.aload_n 0, 1) := dk_42 (dk_at dksX0_feed_0 20 rfl rfl)
theorem dX0_feed_21 : decode cX0_feed 21 = .ok (.iload_n 2, 1) := dk_28 (dk_at dksX0_feed_0 21 rfl rfl)
theorem dX0_feed_22 : decode cX0_feed 22 = .ok (.invokevirtual 194, 3) := dk_182 0 194 (dk_at dksX0_feed_1 0 rfl rfl)
theorem dX0_feed_25 : decode cX0_feed 25 = .ok (.aload_n 0, 1) := dk_42 (dk_at dksX0_feed_1 3 rfl rfl)
theorem dX0_feed_26 : decode cX0_feed 26 = .ok (.iload_n 3, 1) := dk_29 (dk_at dksX0_feed_1 4 rfl rfl)
theorem dX0_feed_27 : decode cX0_feed 27 = .ok (.invokevirtual 194, 3) := dk_182 0 194 (dk_at dksX0_feed_1 5 rfl rfl)
theorem dX0_feed_30 : decode cX0_feed 30 = .ok (.aload_n 0, 1) := dk_42 (dk_at dksX0_feed_1 8 rfl rfl)
theorem dX0_feed_31 : decode cX0_feed 31 = .ok (.iload 4, 2) := dk_21 4 (dk_at dksX0_feed_1 9 rfl rfl)
theorem dX0_feed_33 : decode cX0_feed 33 = .ok (.invokevirtual 194, 3) := dk_182 0 194 (dk_at dksX0_feed_1 11 rfl rfl)
theorem dX0_feed_36 : decode cX0_feed 36 = .ok (.aload_n 0, 1) := dk_42 (dk_at dksX0_feed_1 14 rfl rfl)
theorem dX0_feed_37 : decode cX0_feed 37 = .ok (.iload 5, 2) := dk_21 5 (dk_at dksX0_feed_1 15 rfl rfl)
theorem dX0_feed_39 : decode cX0_feed 39 = .ok (.invokevirtual 194, 3) := dk_182 0 194 (dk_at dksX0_feed_1 17 rfl rfl)
theorem dX0_feed_42 : decode cX0_feed 42 = .ok (.aload_n 0, 1) := dk_42 (dk_at dksX0_feed_1 20 rfl rfl)
theorem dX0_feed_43 : decode cX0_feed 43 = .ok (.getfield 191, 3) := dk_180 0 191 (dk_at dksX0_feed_1 21 rfl rfl)
theorem dX0_feed_46 : decode cX0_feed 46 = .ok (.ireturn, 1) := dk_172 (dk_at dksX0_feed_2 0 rfl rfl)
abbrev cX0_lay : ByteArray := prog_1_method_30_code
def yX0_lay : MethodName := ⟨RX0, "lay", "(I)V"⟩
def dkwX0_lay_1 : List UInt8 := [180, 0, 191, 4, 96, 181, 0, 191, 132, 2, 248, 167, 255, 226, 177]
abbrev dktX0_lay_1 : List UInt8 := dkwX0_lay_1 ++ []
def dkwX0_lay_0 : List UInt8 := [16, 24, 61, 28, 155, 0, 32, 42, 180, 0, 24, 42, 180, 0, 191, 27, 28, 122, 145, 84, 42, 89]
abbrev dktX0_lay_0 : List UInt8 := dkwX0_lay_0 ++ dktX0_lay_1
theorem dksX0_lay_0 : cX0_lay.data.toList.drop 0 = dktX0_lay_0 := by decide +kernel
theorem dksX0_lay_1 : cX0_lay.data.toList.drop 22 = dktX0_lay_1 := dk_seg dksX0_lay_0 22 rfl rfl
theorem dX0_lay_0 : decode cX0_lay 0 = .ok (.bipush 24, 2) := dk_16 24 (dk_at dksX0_lay_0 0 rfl rfl)
theorem dX0_lay_2 : decode cX0_lay 2 = .ok (.istore_n 2, 1) := dk_61 (dk_at dksX0_lay_0 2 rfl rfl)
theorem dX0_lay_3 : decode cX0_lay 3 = .ok (.iload_n 2, 1) := dk_28 (dk_at dksX0_lay_0 3 rfl rfl)
theorem dX0_lay_4 : decode cX0_lay 4 = .ok (.ifCond .lt 32, 3) := dk_155 0 32 (dk_at dksX0_lay_0 4 rfl rfl)
theorem dX0_lay_7 : decode cX0_lay 7 = .ok (.aload_n 0, 1) := dk_42 (dk_at dksX0_lay_0 7 rfl rfl)
theorem dX0_lay_8 : decode cX0_lay 8 = .ok (.getfield 24, 3) := dk_180 0 24 (dk_at dksX0_lay_0 8 rfl rfl)
theorem dX0_lay_11 : decode cX0_lay 11 = .ok (.aload_n 0, 1) := dk_42 (dk_at dksX0_lay_0 11 rfl rfl)
theorem dX0_lay_12 : decode cX0_lay 12 = .ok (.getfield 191, 3) := dk_180 0 191 (dk_at dksX0_lay_0 12 rfl rfl)
theorem dX0_lay_15 : decode cX0_lay 15 = .ok (.iload_n 1, 1) := dk_27 (dk_at dksX0_lay_0 15 rfl rfl)
theorem dX0_lay_16 : decode cX0_lay 16 = .ok (.iload_n 2, 1) := dk_28 (dk_at dksX0_lay_0 16 rfl rfl)
theorem dX0_lay_17 : decode cX0_lay 17 = .ok (.ishr, 1) := dk_122 (dk_at dksX0_lay_0 17 rfl rfl)
theorem dX0_lay_18 : decode cX0_lay 18 = .ok (.i2b, 1) := dk_145 (dk_at dksX0_lay_0 18 rfl rfl)
theorem dX0_lay_19 : decode cX0_lay 19 = .ok (.bastore, 1) := dk_84 (dk_at dksX0_lay_0 19 rfl rfl)
theorem dX0_lay_20 : decode cX0_lay 20 = .ok (.aload_n 0, 1) := dk_42 (dk_at dksX0_lay_0 20 rfl rfl)
theorem dX0_lay_21 : decode cX0_lay 21 = .ok (.dup, 1) := dk_89 (dk_at dksX0_lay_0 21 rfl rfl)
theorem dX0_lay_22 : decode cX0_lay 22 = .ok (.getfield 191, 3) := dk_180 0 191 (dk_at dksX0_lay_1 0 rfl rfl)
theorem dX0_lay_25 : decode cX0_lay 25 = .ok (.iconst 1, 1) := dk_4 (dk_at dksX0_lay_1 3 rfl rfl)
theorem dX0_lay_26 : decode cX0_lay 26 = .ok (.iadd, 1) := dk_96 (dk_at dksX0_lay_1 4 rfl rfl)
theorem dX0_lay_27 : decode cX0_lay 27 = .ok (.putfield 191, 3) := dk_181 0 191 (dk_at dksX0_lay_1 5 rfl rfl)
theorem dX0_lay_30 : decode cX0_lay 30 = .ok (.iinc 2 (-8), 3) := dk_132 2 248 (dk_at dksX0_lay_1 8 rfl rfl)
theorem dX0_lay_33 : decode cX0_lay 33 = .ok (.goto (-30), 3) := dk_167 255 226 (dk_at dksX0_lay_1 11 rfl rfl)
theorem dX0_lay_36 : decode cX0_lay 36 = .ok (.return_, 1) := dk_177 (dk_at dksX0_lay_1 14 rfl rfl)
abbrev cX0_court : ByteArray := prog_1_method_33_code
def yX0_court : MethodName := ⟨RX0, "court", "(I)I"⟩
def dkwX0_court_2 : List UInt8 := [181, 0, 219, 44, 180, 0, 185, 172, 77, 42, 44, 182, 0, 223, 172]
abbrev dktX0_court_2 : List UInt8 := dkwX0_court_2 ++ []
def dkwX0_court_1 : List UInt8 := [89, 42, 27, 183, 0, 210, 44, 182, 0, 213, 42, 182, 0, 168, 44, 182, 0, 216, 42, 180, 0, 55, 1]
abbrev dktX0_court_1 : List UInt8 := dkwX0_court_1 ++ dktX0_court_2
def dkwX0_court_0 : List UInt8 := [42, 27, 17, 3, 132, 182, 0, 204, 154, 0, 5, 2, 172, 187, 0, 63, 89, 183, 0, 65, 77, 187, 0, 208]
abbrev dktX0_court_0 : List UInt8 := dkwX0_court_0 ++ dktX0_court_1
theorem dksX0_court_0 : cX0_court.data.toList.drop 0 = dktX0_court_0 := by decide +kernel
theorem dksX0_court_1 : cX0_court.data.toList.drop 24 = dktX0_court_1 := dk_seg dksX0_court_0 24 rfl rfl
theorem dksX0_court_2 : cX0_court.data.toList.drop 47 = dktX0_court_2 := dk_seg dksX0_court_1 23 rfl rfl
theorem dX0_court_0 : decode cX0_court 0 = .ok (.aload_n 0, 1) := dk_42 (dk_at dksX0_court_0 0 rfl rfl)
theorem dX0_court_1 : decode cX0_court 1 = .ok (.iload_n 1, 1) := dk_27 (dk_at dksX0_court_0 1 rfl rfl)
theorem dX0_court_2 : decode cX0_court 2 = .ok (.sipush 900, 3) := dk_17 3 132 (dk_at dksX0_court_0 2 rfl rfl)
theorem dX0_court_5 : decode cX0_court 5 = .ok (.invokevirtual 204, 3) := dk_182 0 204 (dk_at dksX0_court_0 5 rfl rfl)
theorem dX0_court_8 : decode cX0_court 8 = .ok (.ifCond .ne 5, 3) := dk_154 0 5 (dk_at dksX0_court_0 8 rfl rfl)
theorem dX0_court_11 : decode cX0_court 11 = .ok (.iconst (-1), 1) := dk_2 (dk_at dksX0_court_0 11 rfl rfl)
theorem dX0_court_12 : decode cX0_court 12 = .ok (.ireturn, 1) := dk_172 (dk_at dksX0_court_0 12 rfl rfl)
theorem dX0_court_13 : decode cX0_court 13 = .ok (.new 63, 3) := dk_187 0 63 (dk_at dksX0_court_0 13 rfl rfl)
theorem dX0_court_16 : decode cX0_court 16 = .ok (.dup, 1) := dk_89 (dk_at dksX0_court_0 16 rfl rfl)
theorem dX0_court_17 : decode cX0_court 17 = .ok (.invokespecial 65, 3) := dk_183 0 65 (dk_at dksX0_court_0 17 rfl rfl)
theorem dX0_court_20 : decode cX0_court 20 = .ok (.astore_n 2, 1) := dk_77 (dk_at dksX0_court_0 20 rfl rfl)
theorem dX0_court_21 : decode cX0_court 21 = .ok (.new 208, 3) := dk_187 0 208 (dk_at dksX0_court_0 21 rfl rfl)
theorem dX0_court_24 : decode cX0_court 24 = .ok (.dup, 1) := dk_89 (dk_at dksX0_court_1 0 rfl rfl)
theorem dX0_court_25 : decode cX0_court 25 = .ok (.aload_n 0, 1) := dk_42 (dk_at dksX0_court_1 1 rfl rfl)
theorem dX0_court_26 : decode cX0_court 26 = .ok (.iload_n 1, 1) := dk_27 (dk_at dksX0_court_1 2 rfl rfl)
theorem dX0_court_27 : decode cX0_court 27 = .ok (.invokespecial 210, 3) := dk_183 0 210 (dk_at dksX0_court_1 3 rfl rfl)
theorem dX0_court_30 : decode cX0_court 30 = .ok (.aload_n 2, 1) := dk_44 (dk_at dksX0_court_1 6 rfl rfl)
theorem dX0_court_31 : decode cX0_court 31 = .ok (.invokevirtual 213, 3) := dk_182 0 213 (dk_at dksX0_court_1 7 rfl rfl)
theorem dX0_court_34 : decode cX0_court 34 = .ok (.aload_n 0, 1) := dk_42 (dk_at dksX0_court_1 10 rfl rfl)
theorem dX0_court_35 : decode cX0_court 35 = .ok (.invokevirtual 168, 3) := dk_182 0 168 (dk_at dksX0_court_1 11 rfl rfl)
theorem dX0_court_38 : decode cX0_court 38 = .ok (.aload_n 2, 1) := dk_44 (dk_at dksX0_court_1 14 rfl rfl)
theorem dX0_court_39 : decode cX0_court 39 = .ok (.invokevirtual 216, 3) := dk_182 0 216 (dk_at dksX0_court_1 15 rfl rfl)
theorem dX0_court_42 : decode cX0_court 42 = .ok (.aload_n 0, 1) := dk_42 (dk_at dksX0_court_1 18 rfl rfl)
theorem dX0_court_43 : decode cX0_court 43 = .ok (.getfield 55, 3) := dk_180 0 55 (dk_at dksX0_court_1 19 rfl rfl)
theorem dX0_court_46 : decode cX0_court 46 = .ok (.aconst_null, 1) := dk_1 (dk_at dksX0_court_1 22 rfl rfl)
theorem dX0_court_47 : decode cX0_court 47 = .ok (.putfield 219, 3) := dk_181 0 219 (dk_at dksX0_court_2 0 rfl rfl)
theorem dX0_court_50 : decode cX0_court 50 = .ok (.aload_n 2, 1) := dk_44 (dk_at dksX0_court_2 3 rfl rfl)
theorem dX0_court_51 : decode cX0_court 51 = .ok (.getfield 185, 3) := dk_180 0 185 (dk_at dksX0_court_2 4 rfl rfl)
theorem dX0_court_54 : decode cX0_court 54 = .ok (.ireturn, 1) := dk_172 (dk_at dksX0_court_2 7 rfl rfl)
theorem dX0_court_55 : decode cX0_court 55 = .ok (.astore_n 2, 1) := dk_77 (dk_at dksX0_court_2 8 rfl rfl)
theorem dX0_court_56 : decode cX0_court 56 = .ok (.aload_n 0, 1) := dk_42 (dk_at dksX0_court_2 9 rfl rfl)
theorem dX0_court_57 : decode cX0_court 57 = .ok (.aload_n 2, 1) := dk_44 (dk_at dksX0_court_2 10 rfl rfl)
theorem dX0_court_58 : decode cX0_court 58 = .ok (.invokevirtual 223, 3) := dk_182 0 223 (dk_at dksX0_court_2 11 rfl rfl)
theorem dX0_court_61 : decode cX0_court 61 = .ok (.ireturn, 1) := dk_172 (dk_at dksX0_court_2 14 rfl rfl)
abbrev cX0_opens : ByteArray := prog_1_method_31_code
def yX0_opens : MethodName := ⟨RX0, "opens", "(II)Z"⟩
def dkwX0_opens_2 : List UInt8 := [181, 0, 31, 4, 172]
abbrev dktX0_opens_2 : List UInt8 := dkwX0_opens_2 ++ []
def dkwX0_opens_1 : List UInt8 := [181, 0, 91, 42, 180, 0, 91, 158, 0, 5, 3, 172, 42, 3, 181, 0, 191, 42, 3, 181, 0, 27, 42, 2]
abbrev dktX0_opens_1 : List UInt8 := dkwX0_opens_1 ++ dktX0_opens_2
def dkwX0_opens_0 : List UInt8 := [42, 27, 155, 0, 16, 27, 42, 180, 0, 191, 163, 0, 8, 27, 28, 164, 0, 7, 4, 167, 0, 4, 3]
abbrev dktX0_opens_0 : List UInt8 := dkwX0_opens_0 ++ dktX0_opens_1
theorem dksX0_opens_0 : cX0_opens.data.toList.drop 0 = dktX0_opens_0 := by decide +kernel
theorem dksX0_opens_1 : cX0_opens.data.toList.drop 23 = dktX0_opens_1 := dk_seg dksX0_opens_0 23 rfl rfl
theorem dksX0_opens_2 : cX0_opens.data.toList.drop 47 = dktX0_opens_2 := dk_seg dksX0_opens_1 24 rfl rfl
theorem dX0_opens_0 : decode cX0_opens 0 = .ok (.aload_n 0, 1) := dk_42 (dk_at dksX0_opens_0 0 rfl rfl)
theorem dX0_opens_1 : decode cX0_opens 1 = .ok (.iload_n 1, 1) := dk_27 (dk_at dksX0_opens_0 1 rfl rfl)
theorem dX0_opens_2 : decode cX0_opens 2 = .ok (.ifCond .lt 16, 3) := dk_155 0 16 (dk_at dksX0_opens_0 2 rfl rfl)
theorem dX0_opens_5 : decode cX0_opens 5 = .ok (.iload_n 1, 1) := dk_27 (dk_at dksX0_opens_0 5 rfl rfl)
theorem dX0_opens_6 : decode cX0_opens 6 = .ok (.aload_n 0, 1) := dk_42 (dk_at dksX0_opens_0 6 rfl rfl)
theorem dX0_opens_7 : decode cX0_opens 7 = .ok (.getfield 191, 3) := dk_180 0 191 (dk_at dksX0_opens_0 7 rfl rfl)
theorem dX0_opens_10 : decode cX0_opens 10 = .ok (.if_icmp .gt 8, 3) := dk_163 0 8 (dk_at dksX0_opens_0 10 rfl rfl)
theorem dX0_opens_13 : decode cX0_opens 13 = .ok (.iload_n 1, 1) := dk_27 (dk_at dksX0_opens_0 13 rfl rfl)
theorem dX0_opens_14 : decode cX0_opens 14 = .ok (.iload_n 2, 1) := dk_28 (dk_at dksX0_opens_0 14 rfl rfl)
theorem dX0_opens_15 : decode cX0_opens 15 = .ok (.if_icmp .le 7, 3) := dk_164 0 7 (dk_at dksX0_opens_0 15 rfl rfl)
theorem dX0_opens_18 : decode cX0_opens 18 = .ok (.iconst 1, 1) := dk_4 (dk_at dksX0_opens_0 18 rfl rfl)
theorem dX0_opens_19 : decode cX0_opens 19 = .ok (.goto 4, 3) := dk_167 0 4 (dk_at dksX0_opens_0 19 rfl rfl)
theorem dX0_opens_22 : decode cX0_opens 22 = .ok (.iconst 0, 1) := dk_3 (dk_at dksX0_opens_0 22 rfl rfl)
theorem dX0_opens_23 : decode cX0_opens 23 = .ok (.putfield 91, 3) := dk_181 0 91 (dk_at dksX0_opens_1 0 rfl rfl)
theorem dX0_opens_26 : decode cX0_opens 26 = .ok (.aload_n 0, 1) := dk_42 (dk_at dksX0_opens_1 3 rfl rfl)
theorem dX0_opens_27 : decode cX0_opens 27 = .ok (.getfield 91, 3) := dk_180 0 91 (dk_at dksX0_opens_1 4 rfl rfl)
theorem dX0_opens_30 : decode cX0_opens 30 = .ok (.ifCond .le 5, 3) := dk_158 0 5 (dk_at dksX0_opens_1 7 rfl rfl)
theorem dX0_opens_33 : decode cX0_opens 33 = .ok (.iconst 0, 1) := dk_3 (dk_at dksX0_opens_1 10 rfl rfl)
theorem dX0_opens_34 : decode cX0_opens 34 = .ok (.ireturn, 1) := dk_172 (dk_at dksX0_opens_1 11 rfl rfl)
theorem dX0_opens_35 : decode cX0_opens 35 = .ok (.aload_n 0, 1) := dk_42 (dk_at dksX0_opens_1 12 rfl rfl)
theorem dX0_opens_36 : decode cX0_opens 36 = .ok (.iconst 0, 1) := dk_3 (dk_at dksX0_opens_1 13 rfl rfl)
theorem dX0_opens_37 : decode cX0_opens 37 = .ok (.putfield 191, 3) := dk_181 0 191 (dk_at dksX0_opens_1 14 rfl rfl)
theorem dX0_opens_40 : decode cX0_opens 40 = .ok (.aload_n 0, 1) := dk_42 (dk_at dksX0_opens_1 17 rfl rfl)
theorem dX0_opens_41 : decode cX0_opens 41 = .ok (.iconst 0, 1) := dk_3 (dk_at dksX0_opens_1 18 rfl rfl)
theorem dX0_opens_42 : decode cX0_opens 42 = .ok (.putfield 27, 3) := dk_181 0 27 (dk_at dksX0_opens_1 19 rfl rfl)
theorem dX0_opens_45 : decode cX0_opens 45 = .ok (.aload_n 0, 1) := dk_42 (dk_at dksX0_opens_1 22 rfl rfl)
theorem dX0_opens_46 : decode cX0_opens 46 = .ok (.iconst (-1), 1) := dk_2 (dk_at dksX0_opens_1 23 rfl rfl)
theorem dX0_opens_47 : decode cX0_opens 47 = .ok (.putfield 31, 3) := dk_181 0 31 (dk_at dksX0_opens_2 0 rfl rfl)
theorem dX0_opens_50 : decode cX0_opens 50 = .ok (.iconst 1, 1) := dk_4 (dk_at dksX0_opens_2 3 rfl rfl)
theorem dX0_opens_51 : decode cX0_opens 51 = .ok (.ireturn, 1) := dk_172 (dk_at dksX0_opens_2 4 rfl rfl)
abbrev cX0_has : ByteArray := prog_1_method_6_code
def yX0_has : MethodName := ⟨RX0, "has", "(II)Z"⟩
def dkwX0_has_0 : List UInt8 := [26, 27, 122, 4, 126, 4, 160, 0, 7, 4, 167, 0, 4, 3, 172]
abbrev dktX0_has_0 : List UInt8 := dkwX0_has_0 ++ []
theorem dksX0_has_0 : cX0_has.data.toList.drop 0 = dktX0_has_0 := by decide +kernel
theorem dX0_has_0 : decode cX0_has 0 = .ok (.iload_n 0, 1) := dk_26 (dk_at dksX0_has_0 0 rfl rfl)
theorem dX0_has_1 : decode cX0_has 1 = .ok (.iload_n 1, 1) := dk_27 (dk_at dksX0_has_0 1 rfl rfl)
theorem dX0_has_2 : decode cX0_has 2 = .ok (.ishr, 1) := dk_122 (dk_at dksX0_has_0 2 rfl rfl)
theorem dX0_has_3 : decode cX0_has 3 = .ok (.iconst 1, 1) := dk_4 (dk_at dksX0_has_0 3 rfl rfl)
theorem dX0_has_4 : decode cX0_has 4 = .ok (.iand, 1) := dk_126 (dk_at dksX0_has_0 4 rfl rfl)
theorem dX0_has_5 : decode cX0_has 5 = .ok (.iconst 1, 1) := dk_4 (dk_at dksX0_has_0 5 rfl rfl)
theorem dX0_has_6 : decode cX0_has 6 = .ok (.if_icmp .ne 7, 3) := dk_160 0 7 (dk_at dksX0_has_0 6 rfl rfl)
theorem dX0_has_9 : decode cX0_has 9 = .ok (.iconst 1, 1) := dk_4 (dk_at dksX0_has_0 9 rfl rfl)
theorem dX0_has_10 : decode cX0_has 10 = .ok (.goto 4, 3) := dk_167 0 4 (dk_at dksX0_has_0 10 rfl rfl)
theorem dX0_has_13 : decode cX0_has 13 = .ok (.iconst 0, 1) := dk_3 (dk_at dksX0_has_0 13 rfl rfl)
theorem dX0_has_14 : decode cX0_has 14 = .ok (.ireturn, 1) := dk_172 (dk_at dksX0_has_0 14 rfl rfl)
abbrev cX0_at : ByteArray := prog_1_method_22_code
def yX0_at : MethodName := ⟨RX0, "at", "()LCatWitness$Court;"⟩
def dkwX0_at_0 : List UInt8 := [42, 180, 0, 55, 180, 0, 165, 176]
abbrev dktX0_at_0 : List UInt8 := dkwX0_at_0 ++ []
theorem dksX0_at_0 : cX0_at.data.toList.drop 0 = dktX0_at_0 := by decide +kernel
theorem dX0_at_0 : decode cX0_at 0 = .ok (.aload_n 0, 1) := dk_42 (dk_at dksX0_at_0 0 rfl rfl)
theorem dX0_at_1 : decode cX0_at 1 = .ok (.getfield 55, 3) := dk_180 0 55 (dk_at dksX0_at_0 1 rfl rfl)
theorem dX0_at_4 : decode cX0_at 4 = .ok (.getfield 165, 3) := dk_180 0 165 (dk_at dksX0_at_0 4 rfl rfl)
theorem dX0_at_7 : decode cX0_at 7 = .ok (.areturn, 1) := dk_176 (dk_at dksX0_at_0 7 rfl rfl)
abbrev cX0_faulty : ByteArray := prog_1_method_32_code
def yX0_faulty : MethodName := ⟨RX0, "faulty", "(LCatWitness$Bad;)I"⟩
def dkwX0_faulty_0 : List UInt8 := [42, 43, 180, 0, 198, 181, 0, 27, 42, 43, 180, 0, 201, 181, 0, 31, 42, 16, 9, 181, 0, 91, 2, 172]
abbrev dktX0_faulty_0 : List UInt8 := dkwX0_faulty_0 ++ []
theorem dksX0_faulty_0 : cX0_faulty.data.toList.drop 0 = dktX0_faulty_0 := by decide +kernel
theorem dX0_faulty_0 : decode cX0_faulty 0 = .ok (.aload_n 0, 1) := dk_42 (dk_at dksX0_faulty_0 0 rfl rfl)
theorem dX0_faulty_1 : decode cX0_faulty 1 = .ok (.aload_n 1, 1) := dk_43 (dk_at dksX0_faulty_0 1 rfl rfl)
theorem dX0_faulty_2 : decode cX0_faulty 2 = .ok (.getfield 198, 3) := dk_180 0 198 (dk_at dksX0_faulty_0 2 rfl rfl)
theorem dX0_faulty_5 : decode cX0_faulty 5 = .ok (.putfield 27, 3) := dk_181 0 27 (dk_at dksX0_faulty_0 5 rfl rfl)
theorem dX0_faulty_8 : decode cX0_faulty 8 = .ok (.aload_n 0, 1) := dk_42 (dk_at dksX0_faulty_0 8 rfl rfl)
theorem dX0_faulty_9 : decode cX0_faulty 9 = .ok (.aload_n 1, 1) := dk_43 (dk_at dksX0_faulty_0 9 rfl rfl)
theorem dX0_faulty_10 : decode cX0_faulty 10 = .ok (.getfield 201, 3) := dk_180 0 201 (dk_at dksX0_faulty_0 10 rfl rfl)
theorem dX0_faulty_13 : decode cX0_faulty 13 = .ok (.putfield 31, 3) := dk_181 0 31 (dk_at dksX0_faulty_0 13 rfl rfl)
theorem dX0_faulty_16 : decode cX0_faulty 16 = .ok (.aload_n 0, 1) := dk_42 (dk_at dksX0_faulty_0 16 rfl rfl)
theorem dX0_faulty_17 : decode cX0_faulty 17 = .ok (.bipush 9, 2) := dk_16 9 (dk_at dksX0_faulty_0 17 rfl rfl)
theorem dX0_faulty_19 : decode cX0_faulty 19 = .ok (.putfield 91, 3) := dk_181 0 91 (dk_at dksX0_faulty_0 19 rfl rfl)
theorem dX0_faulty_22 : decode cX0_faulty 22 = .ok (.iconst (-1), 1) := dk_2 (dk_at dksX0_faulty_0 22 rfl rfl)
theorem dX0_faulty_23 : decode cX0_faulty 23 = .ok (.ireturn, 1) := dk_172 (dk_at dksX0_faulty_0 23 rfl rfl)
abbrev cX0_weeks : ByteArray := prog_1_method_34_code
def yX0_weeks : MethodName := ⟨RX0, "weeks", "(I)I"⟩
def dkwX0_weeks_2 : List UInt8 := [181, 0, 219, 45, 180, 0, 234, 172, 77, 42, 44, 182, 0, 223, 172]
abbrev dktX0_weeks_2 : List UInt8 := dkwX0_weeks_2 ++ []
def dkwX0_weeks_1 : List UInt8 := [187, 0, 208, 89, 42, 27, 183, 0, 210, 78, 45, 42, 182, 0, 168, 44, 182, 0, 231, 42, 180, 0, 55, 44]
abbrev dktX0_weeks_1 : List UInt8 := dkwX0_weeks_1 ++ dktX0_weeks_2
def dkwX0_weeks_0 : List UInt8 := [42, 27, 17, 1, 44, 182, 0, 204, 154, 0, 5, 2, 172, 187, 0, 227, 89, 4, 183, 0, 229, 77]
abbrev dktX0_weeks_0 : List UInt8 := dkwX0_weeks_0 ++ dktX0_weeks_1
theorem dksX0_weeks_0 : cX0_weeks.data.toList.drop 0 = dktX0_weeks_0 := by decide +kernel
theorem dksX0_weeks_1 : cX0_weeks.data.toList.drop 22 = dktX0_weeks_1 := dk_seg dksX0_weeks_0 22 rfl rfl
theorem dksX0_weeks_2 : cX0_weeks.data.toList.drop 46 = dktX0_weeks_2 := dk_seg dksX0_weeks_1 24 rfl rfl
theorem dX0_weeks_0 : decode cX0_weeks 0 = .ok (.aload_n 0, 1) := dk_42 (dk_at dksX0_weeks_0 0 rfl rfl)
theorem dX0_weeks_1 : decode cX0_weeks 1 = .ok (.iload_n 1, 1) := dk_27 (dk_at dksX0_weeks_0 1 rfl rfl)
theorem dX0_weeks_2 : decode cX0_weeks 2 = .ok (.sipush 300, 3) := dk_17 1 44 (dk_at dksX0_weeks_0 2 rfl rfl)
theorem dX0_weeks_5 : decode cX0_weeks 5 = .ok (.invokevirtual 204, 3) := dk_182 0 204 (dk_at dksX0_weeks_0 5 rfl rfl)
theorem dX0_weeks_8 : decode cX0_weeks 8 = .ok (.ifCond .ne 5, 3) := dk_154 0 5 (dk_at dksX0_weeks_0 8 rfl rfl)
theorem dX0_weeks_11 : decode cX0_weeks 11 = .ok (.iconst (-1), 1) := dk_2 (dk_at dksX0_weeks_0 11 rfl rfl)
theorem dX0_weeks_12 : decode cX0_weeks 12 = .ok (.ireturn, 1) := dk_172 (dk_at dksX0_weeks_0 12 rfl rfl)
theorem dX0_weeks_13 : decode cX0_weeks 13 = .ok (.new 227, 3) := dk_187 0 227 (dk_at dksX0_weeks_0 13 rfl rfl)
theorem dX0_weeks_16 : decode cX0_weeks 16 = .ok (.dup, 1) := dk_89 (dk_at dksX0_weeks_0 16 rfl rfl)
theorem dX0_weeks_17 : decode cX0_weeks 17 = .ok (.iconst 1, 1) := dk_4 (dk_at dksX0_weeks_0 17 rfl rfl)
theorem dX0_weeks_18 : decode cX0_weeks 18 = .ok (.invokespecial 229, 3) := dk_183 0 229 (dk_at dksX0_weeks_0 18 rfl rfl)
theorem dX0_weeks_21 : decode cX0_weeks 21 = .ok (.astore_n 2, 1) := dk_77 (dk_at dksX0_weeks_0 21 rfl rfl)
theorem dX0_weeks_22 : decode cX0_weeks 22 = .ok (.new 208, 3) := dk_187 0 208 (dk_at dksX0_weeks_1 0 rfl rfl)
theorem dX0_weeks_25 : decode cX0_weeks 25 = .ok (.dup, 1) := dk_89 (dk_at dksX0_weeks_1 3 rfl rfl)
theorem dX0_weeks_26 : decode cX0_weeks 26 = .ok (.aload_n 0, 1) := dk_42 (dk_at dksX0_weeks_1 4 rfl rfl)
theorem dX0_weeks_27 : decode cX0_weeks 27 = .ok (.iload_n 1, 1) := dk_27 (dk_at dksX0_weeks_1 5 rfl rfl)
theorem dX0_weeks_28 : decode cX0_weeks 28 = .ok (.invokespecial 210, 3) := dk_183 0 210 (dk_at dksX0_weeks_1 6 rfl rfl)
theorem dX0_weeks_31 : decode cX0_weeks 31 = .ok (.astore_n 3, 1) := dk_78 (dk_at dksX0_weeks_1 9 rfl rfl)
theorem dX0_weeks_32 : decode cX0_weeks 32 = .ok (.aload_n 3, 1) := dk_45 (dk_at dksX0_weeks_1 10 rfl rfl)
theorem dX0_weeks_33 : decode cX0_weeks 33 = .ok (.aload_n 0, 1) := dk_42 (dk_at dksX0_weeks_1 11 rfl rfl)
theorem dX0_weeks_34 : decode cX0_weeks 34 = .ok (.invokevirtual 168, 3) := dk_182 0 168 (dk_at dksX0_weeks_1 12 rfl rfl)
theorem dX0_weeks_37 : decode cX0_weeks 37 = .ok (.aload_n 2, 1) := dk_44 (dk_at dksX0_weeks_1 15 rfl rfl)
theorem dX0_weeks_38 : decode cX0_weeks 38 = .ok (.invokevirtual 231, 3) := dk_182 0 231 (dk_at dksX0_weeks_1 16 rfl rfl)
theorem dX0_weeks_41 : decode cX0_weeks 41 = .ok (.aload_n 0, 1) := dk_42 (dk_at dksX0_weeks_1 19 rfl rfl)
theorem dX0_weeks_42 : decode cX0_weeks 42 = .ok (.getfield 55, 3) := dk_180 0 55 (dk_at dksX0_weeks_1 20 rfl rfl)
theorem dX0_weeks_45 : decode cX0_weeks 45 = .ok (.aload_n 2, 1) := dk_44 (dk_at dksX0_weeks_1 23 rfl rfl)
theorem dX0_weeks_46 : decode cX0_weeks 46 = .ok (.putfield 219, 3) := dk_181 0 219 (dk_at dksX0_weeks_2 0 rfl rfl)
theorem dX0_weeks_49 : decode cX0_weeks 49 = .ok (.aload_n 3, 1) := dk_45 (dk_at dksX0_weeks_2 3 rfl rfl)
theorem dX0_weeks_50 : decode cX0_weeks 50 = .ok (.getfield 234, 3) := dk_180 0 234 (dk_at dksX0_weeks_2 4 rfl rfl)
theorem dX0_weeks_53 : decode cX0_weeks 53 = .ok (.ireturn, 1) := dk_172 (dk_at dksX0_weeks_2 7 rfl rfl)
theorem dX0_weeks_54 : decode cX0_weeks 54 = .ok (.astore_n 2, 1) := dk_77 (dk_at dksX0_weeks_2 8 rfl rfl)
theorem dX0_weeks_55 : decode cX0_weeks 55 = .ok (.aload_n 0, 1) := dk_42 (dk_at dksX0_weeks_2 9 rfl rfl)
theorem dX0_weeks_56 : decode cX0_weeks 56 = .ok (.aload_n 2, 1) := dk_44 (dk_at dksX0_weeks_2 10 rfl rfl)
theorem dX0_weeks_57 : decode cX0_weeks 57 = .ok (.invokevirtual 223, 3) := dk_182 0 223 (dk_at dksX0_weeks_2 11 rfl rfl)
theorem dX0_weeks_60 : decode cX0_weeks 60 = .ok (.ireturn, 1) := dk_172 (dk_at dksX0_weeks_2 14 rfl rfl)
abbrev cX0_fault : ByteArray := prog_1_method_35_code
def yX0_fault : MethodName := ⟨RX0, "fault", "(I)I"⟩
def dkwX0_fault_1 : List UInt8 := [172]
abbrev dktX0_fault_1 : List UInt8 := dkwX0_fault_1 ++ []
def dkwX0_fault_0 : List UInt8 := [27, 154, 0, 10, 42, 180, 0, 27, 167, 0, 16, 27, 4, 160, 0, 10, 42, 180, 0, 31, 167, 0, 4, 2]
abbrev dktX0_fault_0 : List UInt8 := dkwX0_fault_0 ++ dktX0_fault_1
theorem dksX0_fault_0 : cX0_fault.data.toList.drop 0 = dktX0_fault_0 := by decide +kernel
theorem dksX0_fault_1 : cX0_fault.data.toList.drop 24 = dktX0_fault_1 := dk_seg dksX0_fault_0 24 rfl rfl
theorem dX0_fault_0 : decode cX0_fault 0 = .ok (.iload_n 1, 1) := dk_27 (dk_at dksX0_fault_0 0 rfl rfl)
theorem dX0_fault_1 : decode cX0_fault 1 = .ok (.ifCond .ne 10, 3) := dk_154 0 10 (dk_at dksX0_fault_0 1 rfl rfl)
theorem dX0_fault_4 : decode cX0_fault 4 = .ok (.aload_n 0, 1) := dk_42 (dk_at dksX0_fault_0 4 rfl rfl)
theorem dX0_fault_5 : decode cX0_fault 5 = .ok (.getfield 27, 3) := dk_180 0 27 (dk_at dksX0_fault_0 5 rfl rfl)
theorem dX0_fault_8 : decode cX0_fault 8 = .ok (.goto 16, 3) := dk_167 0 16 (dk_at dksX0_fault_0 8 rfl rfl)
theorem dX0_fault_11 : decode cX0_fault 11 = .ok (.iload_n 1, 1) := dk_27 (dk_at dksX0_fault_0 11 rfl rfl)
theorem dX0_fault_12 : decode cX0_fault 12 = .ok (.iconst 1, 1) := dk_4 (dk_at dksX0_fault_0 12 rfl rfl)
theorem dX0_fault_13 : decode cX0_fault 13 = .ok (.if_icmp .ne 10, 3) := dk_160 0 10 (dk_at dksX0_fault_0 13 rfl rfl)
theorem dX0_fault_16 : decode cX0_fault 16 = .ok (.aload_n 0, 1) := dk_42 (dk_at dksX0_fault_0 16 rfl rfl)
theorem dX0_fault_17 : decode cX0_fault 17 = .ok (.getfield 31, 3) := dk_180 0 31 (dk_at dksX0_fault_0 17 rfl rfl)
theorem dX0_fault_20 : decode cX0_fault 20 = .ok (.goto 4, 3) := dk_167 0 4 (dk_at dksX0_fault_0 20 rfl rfl)
theorem dX0_fault_23 : decode cX0_fault 23 = .ok (.iconst (-1), 1) := dk_2 (dk_at dksX0_fault_0 23 rfl rfl)
theorem dX0_fault_24 : decode cX0_fault 24 = .ok (.ireturn, 1) := dk_172 (dk_at dksX0_fault_1 0 rfl rfl)
abbrev cX0_told : ByteArray := prog_1_method_37_code
def yX0_told : MethodName := ⟨RX0, "told", "(I)I"⟩
def dkwX0_told_6 : List UInt8 := [16, 8, 100, 182, 1, 2, 172]
abbrev dktX0_told_6 : List UInt8 := dkwX0_told_6 ++ []
def dkwX0_told_5 : List UInt8 := [182, 0, 168, 182, 0, 255, 172, 42, 180, 0, 91, 158, 0, 7, 2, 167, 0, 14, 42, 182, 0, 168, 27]
abbrev dktX0_told_5 : List UInt8 := dkwX0_told_5 ++ dktX0_told_6
def dkwX0_told_4 : List UInt8 := [42, 182, 0, 168, 180, 0, 245, 172, 42, 182, 0, 168, 180, 0, 248, 172, 42, 182, 0, 251, 172, 42]
abbrev dktX0_told_4 : List UInt8 := dkwX0_told_4 ++ dktX0_told_5
def dkwX0_told_3 : List UInt8 := [42, 182, 0, 168, 180, 0, 185, 172, 42, 182, 0, 168, 180, 0, 188, 172, 42, 182, 0, 168, 180, 0, 242, 172]
abbrev dktX0_told_3 : List UInt8 := dkwX0_told_3 ++ dktX0_told_4
def dkwX0_told_2 : List UInt8 := [42, 182, 0, 168, 180, 0, 172, 172, 42, 182, 0, 168, 180, 0, 179, 172, 42, 182, 0, 168, 180, 0, 182, 172]
abbrev dktX0_told_2 : List UInt8 := dkwX0_told_2 ++ dktX0_told_3
def dkwX0_told_1 : List UInt8 := [170, 0, 0, 0, 0, 143, 0, 0, 0, 0, 0, 0, 0, 12, 0, 0, 0, 66, 0, 0, 0, 74, 0, 0, 0, 82, 0, 0, 0, 90, 0, 0, 0, 98, 0, 0, 0, 106, 0, 0, 0, 114, 0, 0, 0, 122, 0, 0, 0, 143, 0, 0, 0, 143, 0, 0, 0, 143, 0, 0, 0, 130, 0, 0, 0, 135]
abbrev dktX0_told_1 : List UInt8 := dkwX0_told_1 ++ dktX0_told_2
def dkwX0_told_0 : List UInt8 := [42, 27, 133, 9, 20, 0, 240, 184, 0, 175, 153, 0, 7, 3, 167, 0, 4, 4, 181, 0, 91, 27]
abbrev dktX0_told_0 : List UInt8 := dkwX0_told_0 ++ dktX0_told_1
theorem dksX0_told_0 : cX0_told.data.toList.drop 0 = dktX0_told_0 := by decide +kernel
theorem dksX0_told_1 : cX0_told.data.toList.drop 22 = dktX0_told_1 := dk_seg dksX0_told_0 22 rfl rfl
theorem dksX0_told_2 : cX0_told.data.toList.drop 88 = dktX0_told_2 := dk_seg dksX0_told_1 66 rfl rfl
theorem dksX0_told_3 : cX0_told.data.toList.drop 112 = dktX0_told_3 := dk_seg dksX0_told_2 24 rfl rfl
theorem dksX0_told_4 : cX0_told.data.toList.drop 136 = dktX0_told_4 := dk_seg dksX0_told_3 24 rfl rfl
theorem dksX0_told_5 : cX0_told.data.toList.drop 158 = dktX0_told_5 := dk_seg dksX0_told_4 22 rfl rfl
theorem dksX0_told_6 : cX0_told.data.toList.drop 181 = dktX0_told_6 := dk_seg dksX0_told_5 23 rfl rfl
theorem dX0_told_0 : decode cX0_told 0 = .ok (.aload_n 0, 1) := dk_42 (dk_at dksX0_told_0 0 rfl rfl)
theorem dX0_told_1 : decode cX0_told 1 = .ok (.iload_n 1, 1) := dk_27 (dk_at dksX0_told_0 1 rfl rfl)
theorem dX0_told_2 : decode cX0_told 2 = .ok (.i2l, 1) := dk_133 (dk_at dksX0_told_0 2 rfl rfl)
theorem dX0_told_3 : decode cX0_told 3 = .ok (.lconst 0, 1) := dk_9 (dk_at dksX0_told_0 3 rfl rfl)
theorem dX0_told_4 : decode cX0_told 4 = .ok (.ldc2_w 240, 3) := dk_20 0 240 (dk_at dksX0_told_0 4 rfl rfl)
theorem dX0_told_7 : decode cX0_told 7 = .ok (.invokestatic 175, 3) := dk_184 0 175 (dk_at dksX0_told_0 7 rfl rfl)
theorem dX0_told_10 : decode cX0_told 10 = .ok (.ifCond .eq 7, 3) := dk_153 0 7 (dk_at dksX0_told_0 10 rfl rfl)
theorem dX0_told_13 : decode cX0_told 13 = .ok (.iconst 0, 1) := dk_3 (dk_at dksX0_told_0 13 rfl rfl)
theorem dX0_told_14 : decode cX0_told 14 = .ok (.goto 4, 3) := dk_167 0 4 (dk_at dksX0_told_0 14 rfl rfl)
theorem dX0_told_17 : decode cX0_told 17 = .ok (.iconst 1, 1) := dk_4 (dk_at dksX0_told_0 17 rfl rfl)
theorem dX0_told_18 : decode cX0_told 18 = .ok (.putfield 91, 3) := dk_181 0 91 (dk_at dksX0_told_0 18 rfl rfl)
theorem dX0_told_21 : decode cX0_told 21 = .ok (.iload_n 1, 1) := dk_27 (dk_at dksX0_told_0 21 rfl rfl)
theorem dX0_told_22 : decode cX0_told 22 = .ok (.tableswitch 143 0 12 #[66, 74, 82, 90, 98, 106, 114, 122, 143, 143, 143, 130, 135], 66) := by decide +kernel
theorem dX0_told_88 : decode cX0_told 88 = .ok (.aload_n 0, 1) := dk_42 (dk_at dksX0_told_2 0 rfl rfl)
theorem dX0_told_89 : decode cX0_told 89 = .ok (.invokevirtual 168, 3) := dk_182 0 168 (dk_at dksX0_told_2 1 rfl rfl)
theorem dX0_told_92 : decode cX0_told 92 = .ok (.getfield 172, 3) := dk_180 0 172 (dk_at dksX0_told_2 4 rfl rfl)
theorem dX0_told_95 : decode cX0_told 95 = .ok (.ireturn, 1) := dk_172 (dk_at dksX0_told_2 7 rfl rfl)
theorem dX0_told_96 : decode cX0_told 96 = .ok (.aload_n 0, 1) := dk_42 (dk_at dksX0_told_2 8 rfl rfl)
theorem dX0_told_97 : decode cX0_told 97 = .ok (.invokevirtual 168, 3) := dk_182 0 168 (dk_at dksX0_told_2 9 rfl rfl)
theorem dX0_told_100 : decode cX0_told 100 = .ok (.getfield 179, 3) := dk_180 0 179 (dk_at dksX0_told_2 12 rfl rfl)
theorem dX0_told_103 : decode cX0_told 103 = .ok (.ireturn, 1) := dk_172 (dk_at dksX0_told_2 15 rfl rfl)
theorem dX0_told_104 : decode cX0_told 104 = .ok (.aload_n 0, 1) := dk_42 (dk_at dksX0_told_2 16 rfl rfl)
theorem dX0_told_105 : decode cX0_told 105 = .ok (.invokevirtual 168, 3) := dk_182 0 168 (dk_at dksX0_told_2 17 rfl rfl)
theorem dX0_told_108 : decode cX0_told 108 = .ok (.getfield 182, 3) := dk_180 0 182 (dk_at dksX0_told_2 20 rfl rfl)
theorem dX0_told_111 : decode cX0_told 111 = .ok (.ireturn, 1) := dk_172 (dk_at dksX0_told_2 23 rfl rfl)
theorem dX0_told_112 : decode cX0_told 112 = .ok (.aload_n 0, 1) := dk_42 (dk_at dksX0_told_3 0 rfl rfl)
theorem dX0_told_113 : decode cX0_told 113 = .ok (.invokevirtual 168, 3) := dk_182 0 168 (dk_at dksX0_told_3 1 rfl rfl)
theorem dX0_told_116 : decode cX0_told 116 = .ok (.getfield 185, 3) := dk_180 0 185 (dk_at dksX0_told_3 4 rfl rfl)
theorem dX0_told_119 : decode cX0_told 119 = .ok (.ireturn, 1) := dk_172 (dk_at dksX0_told_3 7 rfl rfl)
theorem dX0_told_120 : decode cX0_told 120 = .ok (.aload_n 0, 1) := dk_42 (dk_at dksX0_told_3 8 rfl rfl)
theorem dX0_told_121 : decode cX0_told 121 = .ok (.invokevirtual 168, 3) := dk_182 0 168 (dk_at dksX0_told_3 9 rfl rfl)
theorem dX0_told_124 : decode cX0_told 124 = .ok (.getfield 188, 3) := dk_180 0 188 (dk_at dksX0_told_3 12 rfl rfl)
theorem dX0_told_127 : decode cX0_told 127 = .ok (.ireturn, 1) := dk_172 (dk_at dksX0_told_3 15 rfl rfl)
theorem dX0_told_128 : decode cX0_told 128 = .ok (.aload_n 0, 1) := dk_42 (dk_at dksX0_told_3 16 rfl rfl)
theorem dX0_told_129 : decode cX0_told 129 = .ok (.invokevirtual 168, 3) := dk_182 0 168 (dk_at dksX0_told_3 17 rfl rfl)
theorem dX0_told_132 : decode cX0_told 132 = .ok (.getfield 242, 3) := dk_180 0 242 (dk_at dksX0_told_3 20 rfl rfl)
theorem dX0_told_135 : decode cX0_told 135 = .ok (.ireturn, 1) := dk_172 (dk_at dksX0_told_3 23 rfl rfl)
theorem dX0_told_136 : decode cX0_told 136 = .ok (.aload_n 0, 1) := dk_42 (dk_at dksX0_told_4 0 rfl rfl)
theorem dX0_told_137 : decode cX0_told 137 = .ok (.invokevirtual 168, 3) := dk_182 0 168 (dk_at dksX0_told_4 1 rfl rfl)
theorem dX0_told_140 : decode cX0_told 140 = .ok (.getfield 245, 3) := dk_180 0 245 (dk_at dksX0_told_4 4 rfl rfl)
theorem dX0_told_143 : decode cX0_told 143 = .ok (.ireturn, 1) := dk_172 (dk_at dksX0_told_4 7 rfl rfl)
theorem dX0_told_144 : decode cX0_told 144 = .ok (.aload_n 0, 1) := dk_42 (dk_at dksX0_told_4 8 rfl rfl)
theorem dX0_told_145 : decode cX0_told 145 = .ok (.invokevirtual 168, 3) := dk_182 0 168 (dk_at dksX0_told_4 9 rfl rfl)
theorem dX0_told_148 : decode cX0_told 148 = .ok (.getfield 248, 3) := dk_180 0 248 (dk_at dksX0_told_4 12 rfl rfl)
theorem dX0_told_151 : decode cX0_told 151 = .ok (.ireturn, 1) := dk_172 (dk_at dksX0_told_4 15 rfl rfl)
theorem dX0_told_152 : decode cX0_told 152 = .ok (.aload_n 0, 1) := dk_42 (dk_at dksX0_told_4 16 rfl rfl)
theorem dX0_told_153 : decode cX0_told 153 = .ok (.invokevirtual 251, 3) := dk_182 0 251 (dk_at dksX0_told_4 17 rfl rfl)
theorem dX0_told_156 : decode cX0_told 156 = .ok (.ireturn, 1) := dk_172 (dk_at dksX0_told_4 20 rfl rfl)
theorem dX0_told_157 : decode cX0_told 157 = .ok (.aload_n 0, 1) := dk_42 (dk_at dksX0_told_4 21 rfl rfl)
theorem dX0_told_158 : decode cX0_told 158 = .ok (.invokevirtual 168, 3) := dk_182 0 168 (dk_at dksX0_told_5 0 rfl rfl)
theorem dX0_told_161 : decode cX0_told 161 = .ok (.invokevirtual 255, 3) := dk_182 0 255 (dk_at dksX0_told_5 3 rfl rfl)
theorem dX0_told_164 : decode cX0_told 164 = .ok (.ireturn, 1) := dk_172 (dk_at dksX0_told_5 6 rfl rfl)
theorem dX0_told_165 : decode cX0_told 165 = .ok (.aload_n 0, 1) := dk_42 (dk_at dksX0_told_5 7 rfl rfl)
theorem dX0_told_166 : decode cX0_told 166 = .ok (.getfield 91, 3) := dk_180 0 91 (dk_at dksX0_told_5 8 rfl rfl)
theorem dX0_told_169 : decode cX0_told 169 = .ok (.ifCond .le 7, 3) := dk_158 0 7 (dk_at dksX0_told_5 11 rfl rfl)
theorem dX0_told_172 : decode cX0_told 172 = .ok (.iconst (-1), 1) := dk_2 (dk_at dksX0_told_5 14 rfl rfl)
theorem dX0_told_173 : decode cX0_told 173 = .ok (.goto 14, 3) := dk_167 0 14 (dk_at dksX0_told_5 15 rfl rfl)
theorem dX0_told_176 : decode cX0_told 176 = .ok (.aload_n 0, 1) := dk_42 (dk_at dksX0_told_5 18 rfl rfl)
theorem dX0_told_177 : decode cX0_told 177 = .ok (.invokevirtual 168, 3) := dk_182 0 168 (dk_at dksX0_told_5 19 rfl rfl)
theorem dX0_told_180 : decode cX0_told 180 = .ok (.iload_n 1, 1) := dk_27 (dk_at dksX0_told_5 22 rfl rfl)
theorem dX0_told_181 : decode cX0_told 181 = .ok (.bipush 8, 2) := dk_16 8 (dk_at dksX0_told_6 0 rfl rfl)
theorem dX0_told_183 : decode cX0_told 183 = .ok (.isub, 1) := dk_100 (dk_at dksX0_told_6 2 rfl rfl)
theorem dX0_told_184 : decode cX0_told 184 = .ok (.invokevirtual 258, 3) := dk_182 1 2 (dk_at dksX0_told_6 3 rfl rfl)
theorem dX0_told_187 : decode cX0_told 187 = .ok (.ireturn, 1) := dk_172 (dk_at dksX0_told_6 6 rfl rfl)
abbrev cX0_isIn : ByteArray := prog_1_method_21_code
def yX0_isIn : MethodName := ⟨RX0, "isIn", "(JJJ)Z"⟩
def dkwX0_isIn_0 : List UInt8 := [30, 32, 148, 155, 0, 14, 30, 22, 4, 148, 157, 0, 7, 4, 167, 0, 4, 3, 172]
abbrev dktX0_isIn_0 : List UInt8 := dkwX0_isIn_0 ++ []
theorem dksX0_isIn_0 : cX0_isIn.data.toList.drop 0 = dktX0_isIn_0 := by decide +kernel
theorem dX0_isIn_0 : decode cX0_isIn 0 = .ok (.lload_n 0, 1) := dk_30 (dk_at dksX0_isIn_0 0 rfl rfl)
theorem dX0_isIn_1 : decode cX0_isIn 1 = .ok (.lload_n 2, 1) := dk_32 (dk_at dksX0_isIn_0 1 rfl rfl)
theorem dX0_isIn_2 : decode cX0_isIn 2 = .ok (.lcmp, 1) := dk_148 (dk_at dksX0_isIn_0 2 rfl rfl)
theorem dX0_isIn_3 : decode cX0_isIn 3 = .ok (.ifCond .lt 14, 3) := dk_155 0 14 (dk_at dksX0_isIn_0 3 rfl rfl)
theorem dX0_isIn_6 : decode cX0_isIn 6 = .ok (.lload_n 0, 1) := dk_30 (dk_at dksX0_isIn_0 6 rfl rfl)
theorem dX0_isIn_7 : decode cX0_isIn 7 = .ok (.lload 4, 2) := dk_22 4 (dk_at dksX0_isIn_0 7 rfl rfl)
theorem dX0_isIn_9 : decode cX0_isIn 9 = .ok (.lcmp, 1) := dk_148 (dk_at dksX0_isIn_0 9 rfl rfl)
theorem dX0_isIn_10 : decode cX0_isIn 10 = .ok (.ifCond .gt 7, 3) := dk_157 0 7 (dk_at dksX0_isIn_0 10 rfl rfl)
theorem dX0_isIn_13 : decode cX0_isIn 13 = .ok (.iconst 1, 1) := dk_4 (dk_at dksX0_isIn_0 13 rfl rfl)
theorem dX0_isIn_14 : decode cX0_isIn 14 = .ok (.goto 4, 3) := dk_167 0 4 (dk_at dksX0_isIn_0 14 rfl rfl)
theorem dX0_isIn_17 : decode cX0_isIn 17 = .ok (.iconst 0, 1) := dk_3 (dk_at dksX0_isIn_0 17 rfl rfl)
theorem dX0_isIn_18 : decode cX0_isIn 18 = .ok (.ireturn, 1) := dk_172 (dk_at dksX0_isIn_0 18 rfl rfl)
abbrev cX0_guilties : ByteArray := prog_1_method_36_code
def yX0_guilties : MethodName := ⟨RX0, "guilties", "()I"⟩
def dkwX0_guilties_1 : List UInt8 := [46, 28, 120, 128, 60, 132, 2, 1, 167, 255, 228, 27, 172]
abbrev dktX0_guilties_1 : List UInt8 := dkwX0_guilties_1 ++ []
def dkwX0_guilties_0 : List UInt8 := [3, 60, 3, 61, 28, 42, 182, 0, 168, 180, 0, 185, 162, 0, 23, 27, 42, 182, 0, 168, 180, 0, 237, 28]
abbrev dktX0_guilties_0 : List UInt8 := dkwX0_guilties_0 ++ dktX0_guilties_1
theorem dksX0_guilties_0 : cX0_guilties.data.toList.drop 0 = dktX0_guilties_0 := by decide +kernel
theorem dksX0_guilties_1 : cX0_guilties.data.toList.drop 24 = dktX0_guilties_1 := dk_seg dksX0_guilties_0 24 rfl rfl
theorem dX0_guilties_0 : decode cX0_guilties 0 = .ok (.iconst 0, 1) := dk_3 (dk_at dksX0_guilties_0 0 rfl rfl)
theorem dX0_guilties_1 : decode cX0_guilties 1 = .ok (.istore_n 1, 1) := dk_60 (dk_at dksX0_guilties_0 1 rfl rfl)
theorem dX0_guilties_2 : decode cX0_guilties 2 = .ok (.iconst 0, 1) := dk_3 (dk_at dksX0_guilties_0 2 rfl rfl)
theorem dX0_guilties_3 : decode cX0_guilties 3 = .ok (.istore_n 2, 1) := dk_61 (dk_at dksX0_guilties_0 3 rfl rfl)
theorem dX0_guilties_4 : decode cX0_guilties 4 = .ok (.iload_n 2, 1) := dk_28 (dk_at dksX0_guilties_0 4 rfl rfl)
theorem dX0_guilties_5 : decode cX0_guilties 5 = .ok (.aload_n 0, 1) := dk_42 (dk_at dksX0_guilties_0 5 rfl rfl)
theorem dX0_guilties_6 : decode cX0_guilties 6 = .ok (.invokevirtual 168, 3) := dk_182 0 168 (dk_at dksX0_guilties_0 6 rfl rfl)
theorem dX0_guilties_9 : decode cX0_guilties 9 = .ok (.getfield 185, 3) := dk_180 0 185 (dk_at dksX0_guilties_0 9 rfl rfl)
theorem dX0_guilties_12 : decode cX0_guilties 12 = .ok (.if_icmp .ge 23, 3) := dk_162 0 23 (dk_at dksX0_guilties_0 12 rfl rfl)
theorem dX0_guilties_15 : decode cX0_guilties 15 = .ok (.iload_n 1, 1) := dk_27 (dk_at dksX0_guilties_0 15 rfl rfl)
theorem dX0_guilties_16 : decode cX0_guilties 16 = .ok (.aload_n 0, 1) := dk_42 (dk_at dksX0_guilties_0 16 rfl rfl)
theorem dX0_guilties_17 : decode cX0_guilties 17 = .ok (.invokevirtual 168, 3) := dk_182 0 168 (dk_at dksX0_guilties_0 17 rfl rfl)
theorem dX0_guilties_20 : decode cX0_guilties 20 = .ok (.getfield 237, 3) := dk_180 0 237 (dk_at dksX0_guilties_0 20 rfl rfl)
theorem dX0_guilties_23 : decode cX0_guilties 23 = .ok (.iload_n 2, 1) := dk_28 (dk_at dksX0_guilties_0 23 rfl rfl)
theorem dX0_guilties_24 : decode cX0_guilties 24 = .ok (.iaload, 1) := dk_46 (dk_at dksX0_guilties_1 0 rfl rfl)
theorem dX0_guilties_25 : decode cX0_guilties 25 = .ok (.iload_n 2, 1) := dk_28 (dk_at dksX0_guilties_1 1 rfl rfl)
theorem dX0_guilties_26 : decode cX0_guilties 26 = .ok (.ishl, 1) := dk_120 (dk_at dksX0_guilties_1 2 rfl rfl)
theorem dX0_guilties_27 : decode cX0_guilties 27 = .ok (.ior, 1) := dk_128 (dk_at dksX0_guilties_1 3 rfl rfl)
theorem dX0_guilties_28 : decode cX0_guilties 28 = .ok (.istore_n 1, 1) := dk_60 (dk_at dksX0_guilties_1 4 rfl rfl)
theorem dX0_guilties_29 : decode cX0_guilties 29 = .ok (.iinc 2 1, 3) := dk_132 2 1 (dk_at dksX0_guilties_1 5 rfl rfl)
theorem dX0_guilties_32 : decode cX0_guilties 32 = .ok (.goto (-28), 3) := dk_167 255 228 (dk_at dksX0_guilties_1 8 rfl rfl)
theorem dX0_guilties_35 : decode cX0_guilties 35 = .ok (.iload_n 1, 1) := dk_27 (dk_at dksX0_guilties_1 11 rfl rfl)
theorem dX0_guilties_36 : decode cX0_guilties 36 = .ok (.ireturn, 1) := dk_172 (dk_at dksX0_guilties_1 12 rfl rfl)
abbrev cX0_sense : ByteArray := prog_1_method_38_code
def yX0_sense : MethodName := ⟨RX0, "sense", "(I)I"⟩
def dkwX0_sense_1 : List UInt8 := [2, 167, 0, 12, 42, 182, 0, 168, 180, 1, 10, 27, 46, 172]
abbrev dktX0_sense_1 : List UInt8 := dkwX0_sense_1 ++ []
def dkwX0_sense_0 : List UInt8 := [42, 42, 27, 182, 1, 6, 153, 0, 7, 3, 167, 0, 4, 4, 181, 0, 91, 42, 180, 0, 91, 158, 0, 7]
abbrev dktX0_sense_0 : List UInt8 := dkwX0_sense_0 ++ dktX0_sense_1
theorem dksX0_sense_0 : cX0_sense.data.toList.drop 0 = dktX0_sense_0 := by decide +kernel
theorem dksX0_sense_1 : cX0_sense.data.toList.drop 24 = dktX0_sense_1 := dk_seg dksX0_sense_0 24 rfl rfl
theorem dX0_sense_0 : decode cX0_sense 0 = .ok (.aload_n 0, 1) := dk_42 (dk_at dksX0_sense_0 0 rfl rfl)
theorem dX0_sense_1 : decode cX0_sense 1 = .ok (.aload_n 0, 1) := dk_42 (dk_at dksX0_sense_0 1 rfl rfl)
theorem dX0_sense_2 : decode cX0_sense 2 = .ok (.iload_n 1, 1) := dk_27 (dk_at dksX0_sense_0 2 rfl rfl)
theorem dX0_sense_3 : decode cX0_sense 3 = .ok (.invokevirtual 262, 3) := dk_182 1 6 (dk_at dksX0_sense_0 3 rfl rfl)
theorem dX0_sense_6 : decode cX0_sense 6 = .ok (.ifCond .eq 7, 3) := dk_153 0 7 (dk_at dksX0_sense_0 6 rfl rfl)
theorem dX0_sense_9 : decode cX0_sense 9 = .ok (.iconst 0, 1) := dk_3 (dk_at dksX0_sense_0 9 rfl rfl)
theorem dX0_sense_10 : decode cX0_sense 10 = .ok (.goto 4, 3) := dk_167 0 4 (dk_at dksX0_sense_0 10 rfl rfl)
theorem dX0_sense_13 : decode cX0_sense 13 = .ok (.iconst 1, 1) := dk_4 (dk_at dksX0_sense_0 13 rfl rfl)
theorem dX0_sense_14 : decode cX0_sense 14 = .ok (.putfield 91, 3) := dk_181 0 91 (dk_at dksX0_sense_0 14 rfl rfl)
theorem dX0_sense_17 : decode cX0_sense 17 = .ok (.aload_n 0, 1) := dk_42 (dk_at dksX0_sense_0 17 rfl rfl)
theorem dX0_sense_18 : decode cX0_sense 18 = .ok (.getfield 91, 3) := dk_180 0 91 (dk_at dksX0_sense_0 18 rfl rfl)
theorem dX0_sense_21 : decode cX0_sense 21 = .ok (.ifCond .le 7, 3) := dk_158 0 7 (dk_at dksX0_sense_0 21 rfl rfl)
theorem dX0_sense_24 : decode cX0_sense 24 = .ok (.iconst (-1), 1) := dk_2 (dk_at dksX0_sense_1 0 rfl rfl)
theorem dX0_sense_25 : decode cX0_sense 25 = .ok (.goto 12, 3) := dk_167 0 12 (dk_at dksX0_sense_1 1 rfl rfl)
theorem dX0_sense_28 : decode cX0_sense 28 = .ok (.aload_n 0, 1) := dk_42 (dk_at dksX0_sense_1 4 rfl rfl)
theorem dX0_sense_29 : decode cX0_sense 29 = .ok (.invokevirtual 168, 3) := dk_182 0 168 (dk_at dksX0_sense_1 5 rfl rfl)
theorem dX0_sense_32 : decode cX0_sense 32 = .ok (.getfield 266, 3) := dk_180 1 10 (dk_at dksX0_sense_1 8 rfl rfl)
theorem dX0_sense_35 : decode cX0_sense 35 = .ok (.iload_n 1, 1) := dk_27 (dk_at dksX0_sense_1 11 rfl rfl)
theorem dX0_sense_36 : decode cX0_sense 36 = .ok (.iaload, 1) := dk_46 (dk_at dksX0_sense_1 12 rfl rfl)
theorem dX0_sense_37 : decode cX0_sense 37 = .ok (.ireturn, 1) := dk_172 (dk_at dksX0_sense_1 13 rfl rfl)
abbrev cX0_isCue : ByteArray := prog_1_method_24_code
def yX0_isCue : MethodName := ⟨RX0, "isCue", "(I)Z"⟩
def dkwX0_isCue_0 : List UInt8 := [27, 133, 9, 42, 182, 0, 168, 180, 0, 179, 4, 100, 133, 184, 0, 175, 172]
abbrev dktX0_isCue_0 : List UInt8 := dkwX0_isCue_0 ++ []
theorem dksX0_isCue_0 : cX0_isCue.data.toList.drop 0 = dktX0_isCue_0 := by decide +kernel
theorem dX0_isCue_0 : decode cX0_isCue 0 = .ok (.iload_n 1, 1) := dk_27 (dk_at dksX0_isCue_0 0 rfl rfl)
theorem dX0_isCue_1 : decode cX0_isCue 1 = .ok (.i2l, 1) := dk_133 (dk_at dksX0_isCue_0 1 rfl rfl)
theorem dX0_isCue_2 : decode cX0_isCue 2 = .ok (.lconst 0, 1) := dk_9 (dk_at dksX0_isCue_0 2 rfl rfl)
theorem dX0_isCue_3 : decode cX0_isCue 3 = .ok (.aload_n 0, 1) := dk_42 (dk_at dksX0_isCue_0 3 rfl rfl)
theorem dX0_isCue_4 : decode cX0_isCue 4 = .ok (.invokevirtual 168, 3) := dk_182 0 168 (dk_at dksX0_isCue_0 4 rfl rfl)
theorem dX0_isCue_7 : decode cX0_isCue 7 = .ok (.getfield 179, 3) := dk_180 0 179 (dk_at dksX0_isCue_0 7 rfl rfl)
theorem dX0_isCue_10 : decode cX0_isCue 10 = .ok (.iconst 1, 1) := dk_4 (dk_at dksX0_isCue_0 10 rfl rfl)
theorem dX0_isCue_11 : decode cX0_isCue 11 = .ok (.isub, 1) := dk_100 (dk_at dksX0_isCue_0 11 rfl rfl)
theorem dX0_isCue_12 : decode cX0_isCue 12 = .ok (.i2l, 1) := dk_133 (dk_at dksX0_isCue_0 12 rfl rfl)
theorem dX0_isCue_13 : decode cX0_isCue 13 = .ok (.invokestatic 175, 3) := dk_184 0 175 (dk_at dksX0_isCue_0 13 rfl rfl)
theorem dX0_isCue_16 : decode cX0_isCue 16 = .ok (.ireturn, 1) := dk_172 (dk_at dksX0_isCue_0 16 rfl rfl)
abbrev cX0_rule : ByteArray := prog_1_method_39_code
def yX0_rule : MethodName := ⟨RX0, "rule", "(II)I"⟩
def dkwX0_rule_6 : List UInt8 := [182, 1, 36, 172, 42, 45, 180, 1, 45, 182, 1, 36, 172]
abbrev dktX0_rule_6 : List UInt8 := dkwX0_rule_6 ++ []
def dkwX0_rule_5 : List UInt8 := [180, 1, 33, 182, 1, 36, 172, 42, 45, 180, 1, 39, 154, 0, 7, 2, 167, 0, 7, 45, 180, 1, 42]
abbrev dktX0_rule_5 : List UInt8 := dkwX0_rule_5 ++ dktX0_rule_6
def dkwX0_rule_4 : List UInt8 := [45, 180, 1, 22, 172, 45, 180, 1, 27, 172, 42, 45, 180, 1, 30, 154, 0, 7, 2, 167, 0, 7, 45]
abbrev dktX0_rule_4 : List UInt8 := dkwX0_rule_4 ++ dktX0_rule_5
def dkwX0_rule_3 : List UInt8 := [170, 0, 0, 0, 0, 0, 81, 0, 0, 0, 0, 0, 0, 0, 3, 0, 0, 0, 31, 0, 0, 0, 36, 0, 0, 0, 41, 0, 0, 0, 61]
abbrev dktX0_rule_3 : List UInt8 := dkwX0_rule_3 ++ dktX0_rule_4
def dkwX0_rule_2 : List UInt8 := [50, 78, 28]
abbrev dktX0_rule_2 : List UInt8 := dkwX0_rule_2 ++ dktX0_rule_3
def dkwX0_rule_1 : List UInt8 := [167, 0, 4, 4, 181, 0, 91, 42, 180, 0, 91, 158, 0, 5, 2, 172, 42, 182, 0, 168, 180, 1, 18, 27]
abbrev dktX0_rule_1 : List UInt8 := dkwX0_rule_1 ++ dktX0_rule_2
def dkwX0_rule_0 : List UInt8 := [42, 42, 27, 182, 1, 13, 153, 0, 19, 28, 133, 9, 20, 1, 16, 184, 0, 175, 153, 0, 7, 3]
abbrev dktX0_rule_0 : List UInt8 := dkwX0_rule_0 ++ dktX0_rule_1
theorem dksX0_rule_0 : cX0_rule.data.toList.drop 0 = dktX0_rule_0 := by decide +kernel
theorem dksX0_rule_1 : cX0_rule.data.toList.drop 22 = dktX0_rule_1 := dk_seg dksX0_rule_0 22 rfl rfl
theorem dksX0_rule_2 : cX0_rule.data.toList.drop 46 = dktX0_rule_2 := dk_seg dksX0_rule_1 24 rfl rfl
theorem dksX0_rule_3 : cX0_rule.data.toList.drop 49 = dktX0_rule_3 := dk_seg dksX0_rule_2 3 rfl rfl
theorem dksX0_rule_4 : cX0_rule.data.toList.drop 80 = dktX0_rule_4 := dk_seg dksX0_rule_3 31 rfl rfl
theorem dksX0_rule_5 : cX0_rule.data.toList.drop 103 = dktX0_rule_5 := dk_seg dksX0_rule_4 23 rfl rfl
theorem dksX0_rule_6 : cX0_rule.data.toList.drop 126 = dktX0_rule_6 := dk_seg dksX0_rule_5 23 rfl rfl
theorem dX0_rule_0 : decode cX0_rule 0 = .ok (.aload_n 0, 1) := dk_42 (dk_at dksX0_rule_0 0 rfl rfl)
theorem dX0_rule_1 : decode cX0_rule 1 = .ok (.aload_n 0, 1) := dk_42 (dk_at dksX0_rule_0 1 rfl rfl)
theorem dX0_rule_2 : decode cX0_rule 2 = .ok (.iload_n 1, 1) := dk_27 (dk_at dksX0_rule_0 2 rfl rfl)
theorem dX0_rule_3 : decode cX0_rule 3 = .ok (.invokevirtual 269, 3) := dk_182 1 13 (dk_at dksX0_rule_0 3 rfl rfl)
theorem dX0_rule_6 : decode cX0_rule 6 = .ok (.ifCond .eq 19, 3) := dk_153 0 19 (dk_at dksX0_rule_0 6 rfl rfl)
theorem dX0_rule_9 : decode cX0_rule 9 = .ok (.iload_n 2, 1) := dk_28 (dk_at dksX0_rule_0 9 rfl rfl)
theorem dX0_rule_10 : decode cX0_rule 10 = .ok (.i2l, 1) := dk_133 (dk_at dksX0_rule_0 10 rfl rfl)
theorem dX0_rule_11 : decode cX0_rule 11 = .ok (.lconst 0, 1) := dk_9 (dk_at dksX0_rule_0 11 rfl rfl)
theorem dX0_rule_12 : decode cX0_rule 12 = .ok (.ldc2_w 272, 3) := dk_20 1 16 (dk_at dksX0_rule_0 12 rfl rfl)
theorem dX0_rule_15 : decode cX0_rule 15 = .ok (.invokestatic 175, 3) := dk_184 0 175 (dk_at dksX0_rule_0 15 rfl rfl)
theorem dX0_rule_18 : decode cX0_rule 18 = .ok (.ifCond .eq 7, 3) := dk_153 0 7 (dk_at dksX0_rule_0 18 rfl rfl)
theorem dX0_rule_21 : decode cX0_rule 21 = .ok (.iconst 0, 1) := dk_3 (dk_at dksX0_rule_0 21 rfl rfl)
theorem dX0_rule_22 : decode cX0_rule 22 = .ok (.goto 4, 3) := dk_167 0 4 (dk_at dksX0_rule_1 0 rfl rfl)
theorem dX0_rule_25 : decode cX0_rule 25 = .ok (.iconst 1, 1) := dk_4 (dk_at dksX0_rule_1 3 rfl rfl)
theorem dX0_rule_26 : decode cX0_rule 26 = .ok (.putfield 91, 3) := dk_181 0 91 (dk_at dksX0_rule_1 4 rfl rfl)
theorem dX0_rule_29 : decode cX0_rule 29 = .ok (.aload_n 0, 1) := dk_42 (dk_at dksX0_rule_1 7 rfl rfl)
theorem dX0_rule_30 : decode cX0_rule 30 = .ok (.getfield 91, 3) := dk_180 0 91 (dk_at dksX0_rule_1 8 rfl rfl)
theorem dX0_rule_33 : decode cX0_rule 33 = .ok (.ifCond .le 5, 3) := dk_158 0 5 (dk_at dksX0_rule_1 11 rfl rfl)
theorem dX0_rule_36 : decode cX0_rule 36 = .ok (.iconst (-1), 1) := dk_2 (dk_at dksX0_rule_1 14 rfl rfl)
theorem dX0_rule_37 : decode cX0_rule 37 = .ok (.ireturn, 1) := dk_172 (dk_at dksX0_rule_1 15 rfl rfl)
theorem dX0_rule_38 : decode cX0_rule 38 = .ok (.aload_n 0, 1) := dk_42 (dk_at dksX0_rule_1 16 rfl rfl)
theorem dX0_rule_39 : decode cX0_rule 39 = .ok (.invokevirtual 168, 3) := dk_182 0 168 (dk_at dksX0_rule_1 17 rfl rfl)
theorem dX0_rule_42 : decode cX0_rule 42 = .ok (.getfield 274, 3) := dk_180 1 18 (dk_at dksX0_rule_1 20 rfl rfl)
theorem dX0_rule_45 : decode cX0_rule 45 = .ok (.iload_n 1, 1) := dk_27 (dk_at dksX0_rule_1 23 rfl rfl)
theorem dX0_rule_46 : decode cX0_rule 46 = .ok (.aaload, 1) := dk_50 (dk_at dksX0_rule_2 0 rfl rfl)
theorem dX0_rule_47 : decode cX0_rule 47 = .ok (.astore_n 3, 1) := dk_78 (dk_at dksX0_rule_2 1 rfl rfl)
theorem dX0_rule_48 : decode cX0_rule 48 = .ok (.iload_n 2, 1) := dk_28 (dk_at dksX0_rule_2 2 rfl rfl)
theorem dX0_rule_49 : decode cX0_rule 49 = .ok (.tableswitch 81 0 3 #[31, 36, 41, 61], 31) := by decide +kernel
theorem dX0_rule_80 : decode cX0_rule 80 = .ok (.aload_n 3, 1) := dk_45 (dk_at dksX0_rule_4 0 rfl rfl)
theorem dX0_rule_81 : decode cX0_rule 81 = .ok (.getfield 278, 3) := dk_180 1 22 (dk_at dksX0_rule_4 1 rfl rfl)
theorem dX0_rule_84 : decode cX0_rule 84 = .ok (.ireturn, 1) := dk_172 (dk_at dksX0_rule_4 4 rfl rfl)
theorem dX0_rule_85 : decode cX0_rule 85 = .ok (.aload_n 3, 1) := dk_45 (dk_at dksX0_rule_4 5 rfl rfl)
theorem dX0_rule_86 : decode cX0_rule 86 = .ok (.getfield 283, 3) := dk_180 1 27 (dk_at dksX0_rule_4 6 rfl rfl)
theorem dX0_rule_89 : decode cX0_rule 89 = .ok (.ireturn, 1) := dk_172 (dk_at dksX0_rule_4 9 rfl rfl)
theorem dX0_rule_90 : decode cX0_rule 90 = .ok (.aload_n 0, 1) := dk_42 (dk_at dksX0_rule_4 10 rfl rfl)
theorem dX0_rule_91 : decode cX0_rule 91 = .ok (.aload_n 3, 1) := dk_45 (dk_at dksX0_rule_4 11 rfl rfl)
theorem dX0_rule_92 : decode cX0_rule 92 = .ok (.getfield 286, 3) := dk_180 1 30 (dk_at dksX0_rule_4 12 rfl rfl)
theorem dX0_rule_95 : decode cX0_rule 95 = .ok (.ifCond .ne 7, 3) := dk_154 0 7 (dk_at dksX0_rule_4 15 rfl rfl)
theorem dX0_rule_98 : decode cX0_rule 98 = .ok (.iconst (-1), 1) := dk_2 (dk_at dksX0_rule_4 18 rfl rfl)
theorem dX0_rule_99 : decode cX0_rule 99 = .ok (.goto 7, 3) := dk_167 0 7 (dk_at dksX0_rule_4 19 rfl rfl)
theorem dX0_rule_102 : decode cX0_rule 102 = .ok (.aload_n 3, 1) := dk_45 (dk_at dksX0_rule_4 22 rfl rfl)
theorem dX0_rule_103 : decode cX0_rule 103 = .ok (.getfield 289, 3) := dk_180 1 33 (dk_at dksX0_rule_5 0 rfl rfl)
theorem dX0_rule_106 : decode cX0_rule 106 = .ok (.invokevirtual 292, 3) := dk_182 1 36 (dk_at dksX0_rule_5 3 rfl rfl)
theorem dX0_rule_109 : decode cX0_rule 109 = .ok (.ireturn, 1) := dk_172 (dk_at dksX0_rule_5 6 rfl rfl)
theorem dX0_rule_110 : decode cX0_rule 110 = .ok (.aload_n 0, 1) := dk_42 (dk_at dksX0_rule_5 7 rfl rfl)
theorem dX0_rule_111 : decode cX0_rule 111 = .ok (.aload_n 3, 1) := dk_45 (dk_at dksX0_rule_5 8 rfl rfl)
theorem dX0_rule_112 : decode cX0_rule 112 = .ok (.getfield 295, 3) := dk_180 1 39 (dk_at dksX0_rule_5 9 rfl rfl)
theorem dX0_rule_115 : decode cX0_rule 115 = .ok (.ifCond .ne 7, 3) := dk_154 0 7 (dk_at dksX0_rule_5 12 rfl rfl)
theorem dX0_rule_118 : decode cX0_rule 118 = .ok (.iconst (-1), 1) := dk_2 (dk_at dksX0_rule_5 15 rfl rfl)
theorem dX0_rule_119 : decode cX0_rule 119 = .ok (.goto 7, 3) := dk_167 0 7 (dk_at dksX0_rule_5 16 rfl rfl)
theorem dX0_rule_122 : decode cX0_rule 122 = .ok (.aload_n 3, 1) := dk_45 (dk_at dksX0_rule_5 19 rfl rfl)
theorem dX0_rule_123 : decode cX0_rule 123 = .ok (.getfield 298, 3) := dk_180 1 42 (dk_at dksX0_rule_5 20 rfl rfl)
theorem dX0_rule_126 : decode cX0_rule 126 = .ok (.invokevirtual 292, 3) := dk_182 1 36 (dk_at dksX0_rule_6 0 rfl rfl)
theorem dX0_rule_129 : decode cX0_rule 129 = .ok (.ireturn, 1) := dk_172 (dk_at dksX0_rule_6 3 rfl rfl)
theorem dX0_rule_130 : decode cX0_rule 130 = .ok (.aload_n 0, 1) := dk_42 (dk_at dksX0_rule_6 4 rfl rfl)
theorem dX0_rule_131 : decode cX0_rule 131 = .ok (.aload_n 3, 1) := dk_45 (dk_at dksX0_rule_6 5 rfl rfl)
theorem dX0_rule_132 : decode cX0_rule 132 = .ok (.getfield 301, 3) := dk_180 1 45 (dk_at dksX0_rule_6 6 rfl rfl)
theorem dX0_rule_135 : decode cX0_rule 135 = .ok (.invokevirtual 292, 3) := dk_182 1 36 (dk_at dksX0_rule_6 9 rfl rfl)
theorem dX0_rule_138 : decode cX0_rule 138 = .ok (.ireturn, 1) := dk_172 (dk_at dksX0_rule_6 12 rfl rfl)
abbrev cX0_isRule : ByteArray := prog_1_method_25_code
def yX0_isRule : MethodName := ⟨RX0, "isRule", "(I)Z"⟩
def dkwX0_isRule_0 : List UInt8 := [27, 133, 9, 42, 182, 0, 168, 180, 0, 182, 4, 100, 133, 184, 0, 175, 172]
abbrev dktX0_isRule_0 : List UInt8 := dkwX0_isRule_0 ++ []
theorem dksX0_isRule_0 : cX0_isRule.data.toList.drop 0 = dktX0_isRule_0 := by decide +kernel
theorem dX0_isRule_0 : decode cX0_isRule 0 = .ok (.iload_n 1, 1) := dk_27 (dk_at dksX0_isRule_0 0 rfl rfl)
theorem dX0_isRule_1 : decode cX0_isRule 1 = .ok (.i2l, 1) := dk_133 (dk_at dksX0_isRule_0 1 rfl rfl)
theorem dX0_isRule_2 : decode cX0_isRule 2 = .ok (.lconst 0, 1) := dk_9 (dk_at dksX0_isRule_0 2 rfl rfl)
theorem dX0_isRule_3 : decode cX0_isRule 3 = .ok (.aload_n 0, 1) := dk_42 (dk_at dksX0_isRule_0 3 rfl rfl)
theorem dX0_isRule_4 : decode cX0_isRule 4 = .ok (.invokevirtual 168, 3) := dk_182 0 168 (dk_at dksX0_isRule_0 4 rfl rfl)
theorem dX0_isRule_7 : decode cX0_isRule 7 = .ok (.getfield 182, 3) := dk_180 0 182 (dk_at dksX0_isRule_0 7 rfl rfl)
theorem dX0_isRule_10 : decode cX0_isRule 10 = .ok (.iconst 1, 1) := dk_4 (dk_at dksX0_isRule_0 10 rfl rfl)
theorem dX0_isRule_11 : decode cX0_isRule 11 = .ok (.isub, 1) := dk_100 (dk_at dksX0_isRule_0 11 rfl rfl)
theorem dX0_isRule_12 : decode cX0_isRule 12 = .ok (.i2l, 1) := dk_133 (dk_at dksX0_isRule_0 12 rfl rfl)
theorem dX0_isRule_13 : decode cX0_isRule 13 = .ok (.invokestatic 175, 3) := dk_184 0 175 (dk_at dksX0_isRule_0 13 rfl rfl)
theorem dX0_isRule_16 : decode cX0_isRule 16 = .ok (.ireturn, 1) := dk_172 (dk_at dksX0_isRule_0 16 rfl rfl)
abbrev cX0_answer : ByteArray := prog_1_method_28_code
def yX0_answer : MethodName := ⟨RX0, "answer", "(I)I"⟩
def dkwX0_answer_0 : List UInt8 := [42, 27, 156, 0, 8, 16, 6, 167, 0, 4, 3, 181, 0, 91, 27, 172]
abbrev dktX0_answer_0 : List UInt8 := dkwX0_answer_0 ++ []
theorem dksX0_answer_0 : cX0_answer.data.toList.drop 0 = dktX0_answer_0 := by decide +kernel
theorem dX0_answer_0 : decode cX0_answer 0 = .ok (.aload_n 0, 1) := dk_42 (dk_at dksX0_answer_0 0 rfl rfl)
theorem dX0_answer_1 : decode cX0_answer 1 = .ok (.iload_n 1, 1) := dk_27 (dk_at dksX0_answer_0 1 rfl rfl)
theorem dX0_answer_2 : decode cX0_answer 2 = .ok (.ifCond .ge 8, 3) := dk_156 0 8 (dk_at dksX0_answer_0 2 rfl rfl)
theorem dX0_answer_5 : decode cX0_answer 5 = .ok (.bipush 6, 2) := dk_16 6 (dk_at dksX0_answer_0 5 rfl rfl)
theorem dX0_answer_7 : decode cX0_answer 7 = .ok (.goto 4, 3) := dk_167 0 4 (dk_at dksX0_answer_0 7 rfl rfl)
theorem dX0_answer_10 : decode cX0_answer 10 = .ok (.iconst 0, 1) := dk_3 (dk_at dksX0_answer_0 10 rfl rfl)
theorem dX0_answer_11 : decode cX0_answer 11 = .ok (.putfield 91, 3) := dk_181 0 91 (dk_at dksX0_answer_0 11 rfl rfl)
theorem dX0_answer_14 : decode cX0_answer 14 = .ok (.iload_n 1, 1) := dk_27 (dk_at dksX0_answer_0 14 rfl rfl)
theorem dX0_answer_15 : decode cX0_answer 15 = .ok (.ireturn, 1) := dk_172 (dk_at dksX0_answer_0 15 rfl rfl)
abbrev cX0_person : ByteArray := prog_1_method_40_code
def yX0_person : MethodName := ⟨RX0, "person", "(II)I"⟩
def dkwX0_person_5 : List UInt8 := [46, 172]
abbrev dktX0_person_5 : List UInt8 := dkwX0_person_5 ++ []
def dkwX0_person_4 : List UInt8 := [180, 1, 58, 27, 46, 172, 42, 182, 0, 168, 180, 0, 237, 27, 46, 172, 42, 182, 0, 168, 180, 1, 61, 27]
abbrev dktX0_person_4 : List UInt8 := dkwX0_person_4 ++ dktX0_person_5
def dkwX0_person_3 : List UInt8 := [42, 182, 0, 168, 180, 1, 52, 27, 46, 172, 42, 182, 0, 168, 180, 1, 55, 27, 46, 172, 42, 182, 0, 168]
abbrev dktX0_person_3 : List UInt8 := dkwX0_person_3 ++ dktX0_person_4
def dkwX0_person_2 : List UInt8 := [170, 0, 0, 0, 0, 0, 0, 72, 0, 0, 0, 0, 0, 0, 0, 3, 0, 0, 0, 32, 0, 0, 0, 42, 0, 0, 0, 52, 0, 0, 0, 62]
abbrev dktX0_person_2 : List UInt8 := dkwX0_person_2 ++ dktX0_person_3
def dkwX0_person_1 : List UInt8 := [167, 0, 4, 4, 181, 0, 91, 42, 180, 0, 91, 158, 0, 5, 2, 172, 28]
abbrev dktX0_person_1 : List UInt8 := dkwX0_person_1 ++ dktX0_person_2
def dkwX0_person_0 : List UInt8 := [42, 42, 27, 133, 182, 1, 48, 153, 0, 19, 28, 133, 9, 20, 1, 16, 184, 0, 175, 153, 0, 7, 3]
abbrev dktX0_person_0 : List UInt8 := dkwX0_person_0 ++ dktX0_person_1
theorem dksX0_person_0 : cX0_person.data.toList.drop 0 = dktX0_person_0 := by decide +kernel
theorem dksX0_person_1 : cX0_person.data.toList.drop 23 = dktX0_person_1 := dk_seg dksX0_person_0 23 rfl rfl
theorem dksX0_person_2 : cX0_person.data.toList.drop 40 = dktX0_person_2 := dk_seg dksX0_person_1 17 rfl rfl
theorem dksX0_person_3 : cX0_person.data.toList.drop 72 = dktX0_person_3 := dk_seg dksX0_person_2 32 rfl rfl
theorem dksX0_person_4 : cX0_person.data.toList.drop 96 = dktX0_person_4 := dk_seg dksX0_person_3 24 rfl rfl
theorem dksX0_person_5 : cX0_person.data.toList.drop 120 = dktX0_person_5 := dk_seg dksX0_person_4 24 rfl rfl
theorem dX0_person_0 : decode cX0_person 0 = .ok (.aload_n 0, 1) := dk_42 (dk_at dksX0_person_0 0 rfl rfl)
theorem dX0_person_1 : decode cX0_person 1 = .ok (.aload_n 0, 1) := dk_42 (dk_at dksX0_person_0 1 rfl rfl)
theorem dX0_person_2 : decode cX0_person 2 = .ok (.iload_n 1, 1) := dk_27 (dk_at dksX0_person_0 2 rfl rfl)
theorem dX0_person_3 : decode cX0_person 3 = .ok (.i2l, 1) := dk_133 (dk_at dksX0_person_0 3 rfl rfl)
theorem dX0_person_4 : decode cX0_person 4 = .ok (.invokevirtual 304, 3) := dk_182 1 48 (dk_at dksX0_person_0 4 rfl rfl)
theorem dX0_person_7 : decode cX0_person 7 = .ok (.ifCond .eq 19, 3) := dk_153 0 19 (dk_at dksX0_person_0 7 rfl rfl)
theorem dX0_person_10 : decode cX0_person 10 = .ok (.iload_n 2, 1) := dk_28 (dk_at dksX0_person_0 10 rfl rfl)
theorem dX0_person_11 : decode cX0_person 11 = .ok (.i2l, 1) := dk_133 (dk_at dksX0_person_0 11 rfl rfl)
theorem dX0_person_12 : decode cX0_person 12 = .ok (.lconst 0, 1) := dk_9 (dk_at dksX0_person_0 12 rfl rfl)
theorem dX0_person_13 : decode cX0_person 13 = .ok (.ldc2_w 272, 3) := dk_20 1 16 (dk_at dksX0_person_0 13 rfl rfl)
theorem dX0_person_16 : decode cX0_person 16 = .ok (.invokestatic 175, 3) := dk_184 0 175 (dk_at dksX0_person_0 16 rfl rfl)
theorem dX0_person_19 : decode cX0_person 19 = .ok (.ifCond .eq 7, 3) := dk_153 0 7 (dk_at dksX0_person_0 19 rfl rfl)
theorem dX0_person_22 : decode cX0_person 22 = .ok (.iconst 0, 1) := dk_3 (dk_at dksX0_person_0 22 rfl rfl)
theorem dX0_person_23 : decode cX0_person 23 = .ok (.goto 4, 3) := dk_167 0 4 (dk_at dksX0_person_1 0 rfl rfl)
theorem dX0_person_26 : decode cX0_person 26 = .ok (.iconst 1, 1) := dk_4 (dk_at dksX0_person_1 3 rfl rfl)
theorem dX0_person_27 : decode cX0_person 27 = .ok (.putfield 91, 3) := dk_181 0 91 (dk_at dksX0_person_1 4 rfl rfl)
theorem dX0_person_30 : decode cX0_person 30 = .ok (.aload_n 0, 1) := dk_42 (dk_at dksX0_person_1 7 rfl rfl)
theorem dX0_person_31 : decode cX0_person 31 = .ok (.getfield 91, 3) := dk_180 0 91 (dk_at dksX0_person_1 8 rfl rfl)
theorem dX0_person_34 : decode cX0_person 34 = .ok (.ifCond .le 5, 3) := dk_158 0 5 (dk_at dksX0_person_1 11 rfl rfl)
theorem dX0_person_37 : decode cX0_person 37 = .ok (.iconst (-1), 1) := dk_2 (dk_at dksX0_person_1 14 rfl rfl)
theorem dX0_person_38 : decode cX0_person 38 = .ok (.ireturn, 1) := dk_172 (dk_at dksX0_person_1 15 rfl rfl)
theorem dX0_person_39 : decode cX0_person 39 = .ok (.iload_n 2, 1) := dk_28 (dk_at dksX0_person_1 16 rfl rfl)
theorem dX0_person_40 : decode cX0_person 40 = .ok (.tableswitch 72 0 3 #[32, 42, 52, 62], 32) := by decide +kernel
theorem dX0_person_72 : decode cX0_person 72 = .ok (.aload_n 0, 1) := dk_42 (dk_at dksX0_person_3 0 rfl rfl)
theorem dX0_person_73 : decode cX0_person 73 = .ok (.invokevirtual 168, 3) := dk_182 0 168 (dk_at dksX0_person_3 1 rfl rfl)
theorem dX0_person_76 : decode cX0_person 76 = .ok (.getfield 308, 3) := dk_180 1 52 (dk_at dksX0_person_3 4 rfl rfl)
theorem dX0_person_79 : decode cX0_person 79 = .ok (.iload_n 1, 1) := dk_27 (dk_at dksX0_person_3 7 rfl rfl)
theorem dX0_person_80 : decode cX0_person 80 = .ok (.iaload, 1) := dk_46 (dk_at dksX0_person_3 8 rfl rfl)
theorem dX0_person_81 : decode cX0_person 81 = .ok (.ireturn, 1) := dk_172 (dk_at dksX0_person_3 9 rfl rfl)
theorem dX0_person_82 : decode cX0_person 82 = .ok (.aload_n 0, 1) := dk_42 (dk_at dksX0_person_3 10 rfl rfl)
theorem dX0_person_83 : decode cX0_person 83 = .ok (.invokevirtual 168, 3) := dk_182 0 168 (dk_at dksX0_person_3 11 rfl rfl)
theorem dX0_person_86 : decode cX0_person 86 = .ok (.getfield 311, 3) := dk_180 1 55 (dk_at dksX0_person_3 14 rfl rfl)
theorem dX0_person_89 : decode cX0_person 89 = .ok (.iload_n 1, 1) := dk_27 (dk_at dksX0_person_3 17 rfl rfl)
theorem dX0_person_90 : decode cX0_person 90 = .ok (.iaload, 1) := dk_46 (dk_at dksX0_person_3 18 rfl rfl)
theorem dX0_person_91 : decode cX0_person 91 = .ok (.ireturn, 1) := dk_172 (dk_at dksX0_person_3 19 rfl rfl)
theorem dX0_person_92 : decode cX0_person 92 = .ok (.aload_n 0, 1) := dk_42 (dk_at dksX0_person_3 20 rfl rfl)
theorem dX0_person_93 : decode cX0_person 93 = .ok (.invokevirtual 168, 3) := dk_182 0 168 (dk_at dksX0_person_3 21 rfl rfl)
theorem dX0_person_96 : decode cX0_person 96 = .ok (.getfield 314, 3) := dk_180 1 58 (dk_at dksX0_person_4 0 rfl rfl)
theorem dX0_person_99 : decode cX0_person 99 = .ok (.iload_n 1, 1) := dk_27 (dk_at dksX0_person_4 3 rfl rfl)
theorem dX0_person_100 : decode cX0_person 100 = .ok (.iaload, 1) := dk_46 (dk_at dksX0_person_4 4 rfl rfl)
theorem dX0_person_101 : decode cX0_person 101 = .ok (.ireturn, 1) := dk_172 (dk_at dksX0_person_4 5 rfl rfl)
theorem dX0_person_102 : decode cX0_person 102 = .ok (.aload_n 0, 1) := dk_42 (dk_at dksX0_person_4 6 rfl rfl)
theorem dX0_person_103 : decode cX0_person 103 = .ok (.invokevirtual 168, 3) := dk_182 0 168 (dk_at dksX0_person_4 7 rfl rfl)
theorem dX0_person_106 : decode cX0_person 106 = .ok (.getfield 237, 3) := dk_180 0 237 (dk_at dksX0_person_4 10 rfl rfl)
theorem dX0_person_109 : decode cX0_person 109 = .ok (.iload_n 1, 1) := dk_27 (dk_at dksX0_person_4 13 rfl rfl)
theorem dX0_person_110 : decode cX0_person 110 = .ok (.iaload, 1) := dk_46 (dk_at dksX0_person_4 14 rfl rfl)
theorem dX0_person_111 : decode cX0_person 111 = .ok (.ireturn, 1) := dk_172 (dk_at dksX0_person_4 15 rfl rfl)
theorem dX0_person_112 : decode cX0_person 112 = .ok (.aload_n 0, 1) := dk_42 (dk_at dksX0_person_4 16 rfl rfl)
theorem dX0_person_113 : decode cX0_person 113 = .ok (.invokevirtual 168, 3) := dk_182 0 168 (dk_at dksX0_person_4 17 rfl rfl)
theorem dX0_person_116 : decode cX0_person 116 = .ok (.getfield 317, 3) := dk_180 1 61 (dk_at dksX0_person_4 20 rfl rfl)
theorem dX0_person_119 : decode cX0_person 119 = .ok (.iload_n 1, 1) := dk_27 (dk_at dksX0_person_4 23 rfl rfl)
theorem dX0_person_120 : decode cX0_person 120 = .ok (.iaload, 1) := dk_46 (dk_at dksX0_person_5 0 rfl rfl)
theorem dX0_person_121 : decode cX0_person 121 = .ok (.ireturn, 1) := dk_172 (dk_at dksX0_person_5 1 rfl rfl)
abbrev cX0_isPerson : ByteArray := prog_1_method_26_code
def yX0_isPerson : MethodName := ⟨RX0, "isPerson", "(J)Z"⟩
def dkwX0_isPerson_0 : List UInt8 := [31, 9, 42, 182, 0, 168, 180, 0, 185, 4, 100, 133, 184, 0, 175, 172]
abbrev dktX0_isPerson_0 : List UInt8 := dkwX0_isPerson_0 ++ []
theorem dksX0_isPerson_0 : cX0_isPerson.data.toList.drop 0 = dktX0_isPerson_0 := by decide +kernel
theorem dX0_isPerson_0 : decode cX0_isPerson 0 = .ok (.lload_n 1, 1) := dk_31 (dk_at dksX0_isPerson_0 0 rfl rfl)
theorem dX0_isPerson_1 : decode cX0_isPerson 1 = .ok (.lconst 0, 1) := dk_9 (dk_at dksX0_isPerson_0 1 rfl rfl)
theorem dX0_isPerson_2 : decode cX0_isPerson 2 = .ok (.aload_n 0, 1) := dk_42 (dk_at dksX0_isPerson_0 2 rfl rfl)
theorem dX0_isPerson_3 : decode cX0_isPerson 3 = .ok (.invokevirtual 168, 3) := dk_182 0 168 (dk_at dksX0_isPerson_0 3 rfl rfl)
theorem dX0_isPerson_6 : decode cX0_isPerson 6 = .ok (.getfield 185, 3) := dk_180 0 185 (dk_at dksX0_isPerson_0 6 rfl rfl)
theorem dX0_isPerson_9 : decode cX0_isPerson 9 = .ok (.iconst 1, 1) := dk_4 (dk_at dksX0_isPerson_0 9 rfl rfl)
theorem dX0_isPerson_10 : decode cX0_isPerson 10 = .ok (.isub, 1) := dk_100 (dk_at dksX0_isPerson_0 10 rfl rfl)
theorem dX0_isPerson_11 : decode cX0_isPerson 11 = .ok (.i2l, 1) := dk_133 (dk_at dksX0_isPerson_0 11 rfl rfl)
theorem dX0_isPerson_12 : decode cX0_isPerson 12 = .ok (.invokestatic 175, 3) := dk_184 0 175 (dk_at dksX0_isPerson_0 12 rfl rfl)
theorem dX0_isPerson_15 : decode cX0_isPerson 15 = .ok (.ireturn, 1) := dk_172 (dk_at dksX0_isPerson_0 15 rfl rfl)
abbrev cX0_reader : ByteArray := prog_1_method_41_code
def yX0_reader : MethodName := ⟨RX0, "reader", "(II)I"⟩
def dkwX0_reader_2 : List UInt8 := [180, 1, 67, 27, 46, 167, 0, 12, 42, 182, 0, 168, 180, 1, 70, 27, 46, 172]
abbrev dktX0_reader_2 : List UInt8 := dkwX0_reader_2 ++ []
def dkwX0_reader_1 : List UInt8 := [181, 0, 91, 42, 180, 0, 91, 158, 0, 7, 2, 167, 0, 28, 28, 154, 0, 15, 42, 182, 0, 168]
abbrev dktX0_reader_1 : List UInt8 := dkwX0_reader_1 ++ dktX0_reader_2
def dkwX0_reader_0 : List UInt8 := [42, 42, 27, 182, 1, 64, 153, 0, 17, 28, 133, 9, 10, 184, 0, 175, 153, 0, 7, 3, 167, 0, 4, 4]
abbrev dktX0_reader_0 : List UInt8 := dkwX0_reader_0 ++ dktX0_reader_1
theorem dksX0_reader_0 : cX0_reader.data.toList.drop 0 = dktX0_reader_0 := by decide +kernel
theorem dksX0_reader_1 : cX0_reader.data.toList.drop 24 = dktX0_reader_1 := dk_seg dksX0_reader_0 24 rfl rfl
theorem dksX0_reader_2 : cX0_reader.data.toList.drop 46 = dktX0_reader_2 := dk_seg dksX0_reader_1 22 rfl rfl
theorem dX0_reader_0 : decode cX0_reader 0 = .ok (.aload_n 0, 1) := dk_42 (dk_at dksX0_reader_0 0 rfl rfl)
theorem dX0_reader_1 : decode cX0_reader 1 = .ok (.aload_n 0, 1) := dk_42 (dk_at dksX0_reader_0 1 rfl rfl)
theorem dX0_reader_2 : decode cX0_reader 2 = .ok (.iload_n 1, 1) := dk_27 (dk_at dksX0_reader_0 2 rfl rfl)
theorem dX0_reader_3 : decode cX0_reader 3 = .ok (.invokevirtual 320, 3) := dk_182 1 64 (dk_at dksX0_reader_0 3 rfl rfl)
theorem dX0_reader_6 : decode cX0_reader 6 = .ok (.ifCond .eq 17, 3) := dk_153 0 17 (dk_at dksX0_reader_0 6 rfl rfl)
theorem dX0_reader_9 : decode cX0_reader 9 = .ok (.iload_n 2, 1) := dk_28 (dk_at dksX0_reader_0 9 rfl rfl)
theorem dX0_reader_10 : decode cX0_reader 10 = .ok (.i2l, 1) := dk_133 (dk_at dksX0_reader_0 10 rfl rfl)
theorem dX0_reader_11 : decode cX0_reader 11 = .ok (.lconst 0, 1) := dk_9 (dk_at dksX0_reader_0 11 rfl rfl)
theorem dX0_reader_12 : decode cX0_reader 12 = .ok (.lconst 1, 1) := dk_10 (dk_at dksX0_reader_0 12 rfl rfl)
theorem dX0_reader_13 : decode cX0_reader 13 = .ok (.invokestatic 175, 3) := dk_184 0 175 (dk_at dksX0_reader_0 13 rfl rfl)
theorem dX0_reader_16 : decode cX0_reader 16 = .ok (.ifCond .eq 7, 3) := dk_153 0 7 (dk_at dksX0_reader_0 16 rfl rfl)
theorem dX0_reader_19 : decode cX0_reader 19 = .ok (.iconst 0, 1) := dk_3 (dk_at dksX0_reader_0 19 rfl rfl)
theorem dX0_reader_20 : decode cX0_reader 20 = .ok (.goto 4, 3) := dk_167 0 4 (dk_at dksX0_reader_0 20 rfl rfl)
theorem dX0_reader_23 : decode cX0_reader 23 = .ok (.iconst 1, 1) := dk_4 (dk_at dksX0_reader_0 23 rfl rfl)
theorem dX0_reader_24 : decode cX0_reader 24 = .ok (.putfield 91, 3) := dk_181 0 91 (dk_at dksX0_reader_1 0 rfl rfl)
theorem dX0_reader_27 : decode cX0_reader 27 = .ok (.aload_n 0, 1) := dk_42 (dk_at dksX0_reader_1 3 rfl rfl)
theorem dX0_reader_28 : decode cX0_reader 28 = .ok (.getfield 91, 3) := dk_180 0 91 (dk_at dksX0_reader_1 4 rfl rfl)
theorem dX0_reader_31 : decode cX0_reader 31 = .ok (.ifCond .le 7, 3) := dk_158 0 7 (dk_at dksX0_reader_1 7 rfl rfl)
theorem dX0_reader_34 : decode cX0_reader 34 = .ok (.iconst (-1), 1) := dk_2 (dk_at dksX0_reader_1 10 rfl rfl)
theorem dX0_reader_35 : decode cX0_reader 35 = .ok (.goto 28, 3) := dk_167 0 28 (dk_at dksX0_reader_1 11 rfl rfl)
theorem dX0_reader_38 : decode cX0_reader 38 = .ok (.iload_n 2, 1) := dk_28 (dk_at dksX0_reader_1 14 rfl rfl)
theorem dX0_reader_39 : decode cX0_reader 39 = .ok (.ifCond .ne 15, 3) := dk_154 0 15 (dk_at dksX0_reader_1 15 rfl rfl)
theorem dX0_reader_42 : decode cX0_reader 42 = .ok (.aload_n 0, 1) := dk_42 (dk_at dksX0_reader_1 18 rfl rfl)
theorem dX0_reader_43 : decode cX0_reader 43 = .ok (.invokevirtual 168, 3) := dk_182 0 168 (dk_at dksX0_reader_1 19 rfl rfl)
theorem dX0_reader_46 : decode cX0_reader 46 = .ok (.getfield 323, 3) := dk_180 1 67 (dk_at dksX0_reader_2 0 rfl rfl)
theorem dX0_reader_49 : decode cX0_reader 49 = .ok (.iload_n 1, 1) := dk_27 (dk_at dksX0_reader_2 3 rfl rfl)
theorem dX0_reader_50 : decode cX0_reader 50 = .ok (.iaload, 1) := dk_46 (dk_at dksX0_reader_2 4 rfl rfl)
theorem dX0_reader_51 : decode cX0_reader 51 = .ok (.goto 12, 3) := dk_167 0 12 (dk_at dksX0_reader_2 5 rfl rfl)
theorem dX0_reader_54 : decode cX0_reader 54 = .ok (.aload_n 0, 1) := dk_42 (dk_at dksX0_reader_2 8 rfl rfl)
theorem dX0_reader_55 : decode cX0_reader 55 = .ok (.invokevirtual 168, 3) := dk_182 0 168 (dk_at dksX0_reader_2 9 rfl rfl)
theorem dX0_reader_58 : decode cX0_reader 58 = .ok (.getfield 326, 3) := dk_180 1 70 (dk_at dksX0_reader_2 12 rfl rfl)
theorem dX0_reader_61 : decode cX0_reader 61 = .ok (.iload_n 1, 1) := dk_27 (dk_at dksX0_reader_2 15 rfl rfl)
theorem dX0_reader_62 : decode cX0_reader 62 = .ok (.iaload, 1) := dk_46 (dk_at dksX0_reader_2 16 rfl rfl)
theorem dX0_reader_63 : decode cX0_reader 63 = .ok (.ireturn, 1) := dk_172 (dk_at dksX0_reader_2 17 rfl rfl)
abbrev cX0_isReader : ByteArray := prog_1_method_27_code
def yX0_isReader : MethodName := ⟨RX0, "isReader", "(I)Z"⟩
def dkwX0_isReader_0 : List UInt8 := [27, 133, 9, 42, 182, 0, 168, 180, 0, 188, 4, 100, 133, 184, 0, 175, 172]
abbrev dktX0_isReader_0 : List UInt8 := dkwX0_isReader_0 ++ []
theorem dksX0_isReader_0 : cX0_isReader.data.toList.drop 0 = dktX0_isReader_0 := by decide +kernel
theorem dX0_isReader_0 : decode cX0_isReader 0 = .ok (.iload_n 1, 1) := dk_27 (dk_at dksX0_isReader_0 0 rfl rfl)
theorem dX0_isReader_1 : decode cX0_isReader 1 = .ok (.i2l, 1) := dk_133 (dk_at dksX0_isReader_0 1 rfl rfl)
theorem dX0_isReader_2 : decode cX0_isReader 2 = .ok (.lconst 0, 1) := dk_9 (dk_at dksX0_isReader_0 2 rfl rfl)
theorem dX0_isReader_3 : decode cX0_isReader 3 = .ok (.aload_n 0, 1) := dk_42 (dk_at dksX0_isReader_0 3 rfl rfl)
theorem dX0_isReader_4 : decode cX0_isReader 4 = .ok (.invokevirtual 168, 3) := dk_182 0 168 (dk_at dksX0_isReader_0 4 rfl rfl)
theorem dX0_isReader_7 : decode cX0_isReader 7 = .ok (.getfield 188, 3) := dk_180 0 188 (dk_at dksX0_isReader_0 7 rfl rfl)
theorem dX0_isReader_10 : decode cX0_isReader 10 = .ok (.iconst 1, 1) := dk_4 (dk_at dksX0_isReader_0 10 rfl rfl)
theorem dX0_isReader_11 : decode cX0_isReader 11 = .ok (.isub, 1) := dk_100 (dk_at dksX0_isReader_0 11 rfl rfl)
theorem dX0_isReader_12 : decode cX0_isReader 12 = .ok (.i2l, 1) := dk_133 (dk_at dksX0_isReader_0 12 rfl rfl)
theorem dX0_isReader_13 : decode cX0_isReader 13 = .ok (.invokestatic 175, 3) := dk_184 0 175 (dk_at dksX0_isReader_0 13 rfl rfl)
theorem dX0_isReader_16 : decode cX0_isReader 16 = .ok (.ireturn, 1) := dk_172 (dk_at dksX0_isReader_0 16 rfl rfl)
abbrev cX0_word : ByteArray := prog_1_method_42_code
def yX0_word : MethodName := ⟨RX0, "word", "(II)I"⟩
def dkwX0_word_3 : List UInt8 := [180, 1, 76, 27, 46, 172]
abbrev dktX0_word_3 : List UInt8 := dkwX0_word_3 ++ []
def dkwX0_word_2 : List UInt8 := [167, 0, 28, 28, 154, 0, 15, 42, 182, 0, 168, 180, 1, 73, 27, 46, 167, 0, 12, 42, 182, 0, 168]
abbrev dktX0_word_2 : List UInt8 := dkwX0_word_2 ++ dktX0_word_3
def dkwX0_word_1 : List UInt8 := [184, 0, 175, 153, 0, 7, 3, 167, 0, 4, 4, 181, 0, 91, 42, 180, 0, 91, 158, 0, 7, 2]
abbrev dktX0_word_1 : List UInt8 := dkwX0_word_1 ++ dktX0_word_2
def dkwX0_word_0 : List UInt8 := [42, 27, 133, 9, 42, 182, 0, 168, 180, 0, 242, 4, 100, 133, 184, 0, 175, 153, 0, 17, 28, 133, 9, 10]
abbrev dktX0_word_0 : List UInt8 := dkwX0_word_0 ++ dktX0_word_1
theorem dksX0_word_0 : cX0_word.data.toList.drop 0 = dktX0_word_0 := by decide +kernel
theorem dksX0_word_1 : cX0_word.data.toList.drop 24 = dktX0_word_1 := dk_seg dksX0_word_0 24 rfl rfl
theorem dksX0_word_2 : cX0_word.data.toList.drop 46 = dktX0_word_2 := dk_seg dksX0_word_1 22 rfl rfl
theorem dksX0_word_3 : cX0_word.data.toList.drop 69 = dktX0_word_3 := dk_seg dksX0_word_2 23 rfl rfl
theorem dX0_word_0 : decode cX0_word 0 = .ok (.aload_n 0, 1) := dk_42 (dk_at dksX0_word_0 0 rfl rfl)
theorem dX0_word_1 : decode cX0_word 1 = .ok (.iload_n 1, 1) := dk_27 (dk_at dksX0_word_0 1 rfl rfl)
theorem dX0_word_2 : decode cX0_word 2 = .ok (.i2l, 1) := dk_133 (dk_at dksX0_word_0 2 rfl rfl)
theorem dX0_word_3 : decode cX0_word 3 = .ok (.lconst 0, 1) := dk_9 (dk_at dksX0_word_0 3 rfl rfl)
theorem dX0_word_4 : decode cX0_word 4 = .ok (.aload_n 0, 1) := dk_42 (dk_at dksX0_word_0 4 rfl rfl)
theorem dX0_word_5 : decode cX0_word 5 = .ok (.invokevirtual 168, 3) := dk_182 0 168 (dk_at dksX0_word_0 5 rfl rfl)
theorem dX0_word_8 : decode cX0_word 8 = .ok (.getfield 242, 3) := dk_180 0 242 (dk_at dksX0_word_0 8 rfl rfl)
theorem dX0_word_11 : decode cX0_word 11 = .ok (.iconst 1, 1) := dk_4 (dk_at dksX0_word_0 11 rfl rfl)
theorem dX0_word_12 : decode cX0_word 12 = .ok (.isub, 1) := dk_100 (dk_at dksX0_word_0 12 rfl rfl)
theorem dX0_word_13 : decode cX0_word 13 = .ok (.i2l, 1) := dk_133 (dk_at dksX0_word_0 13 rfl rfl)
theorem dX0_word_14 : decode cX0_word 14 = .ok (.invokestatic 175, 3) := dk_184 0 175 (dk_at dksX0_word_0 14 rfl rfl)
theorem dX0_word_17 : decode cX0_word 17 = .ok (.ifCond .eq 17, 3) := dk_153 0 17 (dk_at dksX0_word_0 17 rfl rfl)
theorem dX0_word_20 : decode cX0_word 20 = .ok (.iload_n 2, 1) := dk_28 (dk_at dksX0_word_0 20 rfl rfl)
theorem dX0_word_21 : decode cX0_word 21 = .ok (.i2l, 1) := dk_133 (dk_at dksX0_word_0 21 rfl rfl)
theorem dX0_word_22 : decode cX0_word 22 = .ok (.lconst 0, 1) := dk_9 (dk_at dksX0_word_0 22 rfl rfl)
theorem dX0_word_23 : decode cX0_word 23 = .ok (.lconst 1, 1) := dk_10 (dk_at dksX0_word_0 23 rfl rfl)
theorem dX0_word_24 : decode cX0_word 24 = .ok (.invokestatic 175, 3) := dk_184 0 175 (dk_at dksX0_word_1 0 rfl rfl)
theorem dX0_word_27 : decode cX0_word 27 = .ok (.ifCond .eq 7, 3) := dk_153 0 7 (dk_at dksX0_word_1 3 rfl rfl)
theorem dX0_word_30 : decode cX0_word 30 = .ok (.iconst 0, 1) := dk_3 (dk_at dksX0_word_1 6 rfl rfl)
theorem dX0_word_31 : decode cX0_word 31 = .ok (.goto 4, 3) := dk_167 0 4 (dk_at dksX0_word_1 7 rfl rfl)
theorem dX0_word_34 : decode cX0_word 34 = .ok (.iconst 1, 1) := dk_4 (dk_at dksX0_word_1 10 rfl rfl)
theorem dX0_word_35 : decode cX0_word 35 = .ok (.putfield 91, 3) := dk_181 0 91 (dk_at dksX0_word_1 11 rfl rfl)
theorem dX0_word_38 : decode cX0_word 38 = .ok (.aload_n 0, 1) := dk_42 (dk_at dksX0_word_1 14 rfl rfl)
theorem dX0_word_39 : decode cX0_word 39 = .ok (.getfield 91, 3) := dk_180 0 91 (dk_at dksX0_word_1 15 rfl rfl)
theorem dX0_word_42 : decode cX0_word 42 = .ok (.ifCond .le 7, 3) := dk_158 0 7 (dk_at dksX0_word_1 18 rfl rfl)
theorem dX0_word_45 : decode cX0_word 45 = .ok (.iconst (-1), 1) := dk_2 (dk_at dksX0_word_1 21 rfl rfl)
theorem dX0_word_46 : decode cX0_word 46 = .ok (.goto 28, 3) := dk_167 0 28 (dk_at dksX0_word_2 0 rfl rfl)
theorem dX0_word_49 : decode cX0_word 49 = .ok (.iload_n 2, 1) := dk_28 (dk_at dksX0_word_2 3 rfl rfl)
theorem dX0_word_50 : decode cX0_word 50 = .ok (.ifCond .ne 15, 3) := dk_154 0 15 (dk_at dksX0_word_2 4 rfl rfl)
theorem dX0_word_53 : decode cX0_word 53 = .ok (.aload_n 0, 1) := dk_42 (dk_at dksX0_word_2 7 rfl rfl)
theorem dX0_word_54 : decode cX0_word 54 = .ok (.invokevirtual 168, 3) := dk_182 0 168 (dk_at dksX0_word_2 8 rfl rfl)
theorem dX0_word_57 : decode cX0_word 57 = .ok (.getfield 329, 3) := dk_180 1 73 (dk_at dksX0_word_2 11 rfl rfl)
theorem dX0_word_60 : decode cX0_word 60 = .ok (.iload_n 1, 1) := dk_27 (dk_at dksX0_word_2 14 rfl rfl)
theorem dX0_word_61 : decode cX0_word 61 = .ok (.iaload, 1) := dk_46 (dk_at dksX0_word_2 15 rfl rfl)
theorem dX0_word_62 : decode cX0_word 62 = .ok (.goto 12, 3) := dk_167 0 12 (dk_at dksX0_word_2 16 rfl rfl)
theorem dX0_word_65 : decode cX0_word 65 = .ok (.aload_n 0, 1) := dk_42 (dk_at dksX0_word_2 19 rfl rfl)
theorem dX0_word_66 : decode cX0_word 66 = .ok (.invokevirtual 168, 3) := dk_182 0 168 (dk_at dksX0_word_2 20 rfl rfl)
theorem dX0_word_69 : decode cX0_word 69 = .ok (.getfield 332, 3) := dk_180 1 76 (dk_at dksX0_word_3 0 rfl rfl)
theorem dX0_word_72 : decode cX0_word 72 = .ok (.iload_n 1, 1) := dk_27 (dk_at dksX0_word_3 3 rfl rfl)
theorem dX0_word_73 : decode cX0_word 73 = .ok (.iaload, 1) := dk_46 (dk_at dksX0_word_3 4 rfl rfl)
theorem dX0_word_74 : decode cX0_word 74 = .ok (.ireturn, 1) := dk_172 (dk_at dksX0_word_3 5 rfl rfl)
abbrev cX0_sit : ByteArray := prog_1_method_43_code
def yX0_sit : MethodName := ⟨RX0, "sit", "(I)I"⟩
def dkwX0_sit_2 : List UInt8 := [182, 0, 168, 27, 182, 1, 79, 172]
abbrev dktX0_sit_2 : List UInt8 := dkwX0_sit_2 ++ []
def dkwX0_sit_1 : List UInt8 := [160, 0, 7, 7, 167, 0, 4, 3, 181, 0, 91, 42, 180, 0, 91, 158, 0, 7, 2, 167, 0, 11, 42]
abbrev dktX0_sit_1 : List UInt8 := dkwX0_sit_1 ++ dktX0_sit_2
def dkwX0_sit_0 : List UInt8 := [42, 42, 27, 133, 182, 1, 48, 154, 0, 7, 4, 167, 0, 21, 42, 182, 0, 168, 180, 0, 248, 17, 39, 15]
abbrev dktX0_sit_0 : List UInt8 := dkwX0_sit_0 ++ dktX0_sit_1
theorem dksX0_sit_0 : cX0_sit.data.toList.drop 0 = dktX0_sit_0 := by decide +kernel
theorem dksX0_sit_1 : cX0_sit.data.toList.drop 24 = dktX0_sit_1 := dk_seg dksX0_sit_0 24 rfl rfl
theorem dksX0_sit_2 : cX0_sit.data.toList.drop 47 = dktX0_sit_2 := dk_seg dksX0_sit_1 23 rfl rfl
theorem dX0_sit_0 : decode cX0_sit 0 = .ok (.aload_n 0, 1) := dk_42 (dk_at dksX0_sit_0 0 rfl rfl)
theorem dX0_sit_1 : decode cX0_sit 1 = .ok (.aload_n 0, 1) := dk_42 (dk_at dksX0_sit_0 1 rfl rfl)
theorem dX0_sit_2 : decode cX0_sit 2 = .ok (.iload_n 1, 1) := dk_27 (dk_at dksX0_sit_0 2 rfl rfl)
theorem dX0_sit_3 : decode cX0_sit 3 = .ok (.i2l, 1) := dk_133 (dk_at dksX0_sit_0 3 rfl rfl)
theorem dX0_sit_4 : decode cX0_sit 4 = .ok (.invokevirtual 304, 3) := dk_182 1 48 (dk_at dksX0_sit_0 4 rfl rfl)
theorem dX0_sit_7 : decode cX0_sit 7 = .ok (.ifCond .ne 7, 3) := dk_154 0 7 (dk_at dksX0_sit_0 7 rfl rfl)
theorem dX0_sit_10 : decode cX0_sit 10 = .ok (.iconst 1, 1) := dk_4 (dk_at dksX0_sit_0 10 rfl rfl)
theorem dX0_sit_11 : decode cX0_sit 11 = .ok (.goto 21, 3) := dk_167 0 21 (dk_at dksX0_sit_0 11 rfl rfl)
theorem dX0_sit_14 : decode cX0_sit 14 = .ok (.aload_n 0, 1) := dk_42 (dk_at dksX0_sit_0 14 rfl rfl)
theorem dX0_sit_15 : decode cX0_sit 15 = .ok (.invokevirtual 168, 3) := dk_182 0 168 (dk_at dksX0_sit_0 15 rfl rfl)
theorem dX0_sit_18 : decode cX0_sit 18 = .ok (.getfield 248, 3) := dk_180 0 248 (dk_at dksX0_sit_0 18 rfl rfl)
theorem dX0_sit_21 : decode cX0_sit 21 = .ok (.sipush 9999, 3) := dk_17 39 15 (dk_at dksX0_sit_0 21 rfl rfl)
theorem dX0_sit_24 : decode cX0_sit 24 = .ok (.if_icmp .ne 7, 3) := dk_160 0 7 (dk_at dksX0_sit_1 0 rfl rfl)
theorem dX0_sit_27 : decode cX0_sit 27 = .ok (.iconst 4, 1) := dk_7 (dk_at dksX0_sit_1 3 rfl rfl)
theorem dX0_sit_28 : decode cX0_sit 28 = .ok (.goto 4, 3) := dk_167 0 4 (dk_at dksX0_sit_1 4 rfl rfl)
theorem dX0_sit_31 : decode cX0_sit 31 = .ok (.iconst 0, 1) := dk_3 (dk_at dksX0_sit_1 7 rfl rfl)
theorem dX0_sit_32 : decode cX0_sit 32 = .ok (.putfield 91, 3) := dk_181 0 91 (dk_at dksX0_sit_1 8 rfl rfl)
theorem dX0_sit_35 : decode cX0_sit 35 = .ok (.aload_n 0, 1) := dk_42 (dk_at dksX0_sit_1 11 rfl rfl)
theorem dX0_sit_36 : decode cX0_sit 36 = .ok (.getfield 91, 3) := dk_180 0 91 (dk_at dksX0_sit_1 12 rfl rfl)
theorem dX0_sit_39 : decode cX0_sit 39 = .ok (.ifCond .le 7, 3) := dk_158 0 7 (dk_at dksX0_sit_1 15 rfl rfl)
theorem dX0_sit_42 : decode cX0_sit 42 = .ok (.iconst (-1), 1) := dk_2 (dk_at dksX0_sit_1 18 rfl rfl)
theorem dX0_sit_43 : decode cX0_sit 43 = .ok (.goto 11, 3) := dk_167 0 11 (dk_at dksX0_sit_1 19 rfl rfl)
theorem dX0_sit_46 : decode cX0_sit 46 = .ok (.aload_n 0, 1) := dk_42 (dk_at dksX0_sit_1 22 rfl rfl)
theorem dX0_sit_47 : decode cX0_sit 47 = .ok (.invokevirtual 168, 3) := dk_182 0 168 (dk_at dksX0_sit_2 0 rfl rfl)
theorem dX0_sit_50 : decode cX0_sit 50 = .ok (.iload_n 1, 1) := dk_27 (dk_at dksX0_sit_2 3 rfl rfl)
theorem dX0_sit_51 : decode cX0_sit 51 = .ok (.invokevirtual 335, 3) := dk_182 1 79 (dk_at dksX0_sit_2 4 rfl rfl)
theorem dX0_sit_54 : decode cX0_sit 54 = .ok (.ireturn, 1) := dk_172 (dk_at dksX0_sit_2 7 rfl rfl)
abbrev cX0_compares : ByteArray := prog_1_method_7_code
def yX0_compares : MethodName := ⟨RX0, "compares", "(III)Z"⟩
def dkwX0_compares_2 : List UInt8 := [167, 0, 4, 3, 172]
abbrev dktX0_compares_2 : List UInt8 := dkwX0_compares_2 ++ []
def dkwX0_compares_1 : List UInt8 := [160, 0, 16, 26, 28, 164, 0, 7, 4, 167, 0, 17, 3, 167, 0, 13, 26, 28, 160, 0, 7, 4]
abbrev dktX0_compares_1 : List UInt8 := dkwX0_compares_1 ++ dktX0_compares_2
def dkwX0_compares_0 : List UInt8 := [27, 16, 60, 160, 0, 16, 26, 28, 162, 0, 7, 4, 167, 0, 36, 3, 167, 0, 32, 27, 16, 62]
abbrev dktX0_compares_0 : List UInt8 := dkwX0_compares_0 ++ dktX0_compares_1
theorem dksX0_compares_0 : cX0_compares.data.toList.drop 0 = dktX0_compares_0 := by decide +kernel
theorem dksX0_compares_1 : cX0_compares.data.toList.drop 22 = dktX0_compares_1 := dk_seg dksX0_compares_0 22 rfl rfl
theorem dksX0_compares_2 : cX0_compares.data.toList.drop 44 = dktX0_compares_2 := dk_seg dksX0_compares_1 22 rfl rfl
theorem dX0_compares_0 : decode cX0_compares 0 = .ok (.iload_n 1, 1) := dk_27 (dk_at dksX0_compares_0 0 rfl rfl)
theorem dX0_compares_1 : decode cX0_compares 1 = .ok (.bipush 60, 2) := dk_16 60 (dk_at dksX0_compares_0 1 rfl rfl)
theorem dX0_compares_3 : decode cX0_compares 3 = .ok (.if_icmp .ne 16, 3) := dk_160 0 16 (dk_at dksX0_compares_0 3 rfl rfl)
theorem dX0_compares_6 : decode cX0_compares 6 = .ok (.iload_n 0, 1) := dk_26 (dk_at dksX0_compares_0 6 rfl rfl)
theorem dX0_compares_7 : decode cX0_compares 7 = .ok (.iload_n 2, 1) := dk_28 (dk_at dksX0_compares_0 7 rfl rfl)
theorem dX0_compares_8 : decode cX0_compares 8 = .ok (.if_icmp .ge 7, 3) := dk_162 0 7 (dk_at dksX0_compares_0 8 rfl rfl)
theorem dX0_compares_11 : decode cX0_compares 11 = .ok (.iconst 1, 1) := dk_4 (dk_at dksX0_compares_0 11 rfl rfl)
theorem dX0_compares_12 : decode cX0_compares 12 = .ok (.goto 36, 3) := dk_167 0 36 (dk_at dksX0_compares_0 12 rfl rfl)
theorem dX0_compares_15 : decode cX0_compares 15 = .ok (.iconst 0, 1) := dk_3 (dk_at dksX0_compares_0 15 rfl rfl)
theorem dX0_compares_16 : decode cX0_compares 16 = .ok (.goto 32, 3) := dk_167 0 32 (dk_at dksX0_compares_0 16 rfl rfl)
theorem dX0_compares_19 : decode cX0_compares 19 = .ok (.iload_n 1, 1) := dk_27 (dk_at dksX0_compares_0 19 rfl rfl)
theorem dX0_compares_20 : decode cX0_compares 20 = .ok (.bipush 62, 2) := dk_16 62 (dk_at dksX0_compares_0 20 rfl rfl)
theorem dX0_compares_22 : decode cX0_compares 22 = .ok (.if_icmp .ne 16, 3) := dk_160 0 16 (dk_at dksX0_compares_1 0 rfl rfl)
theorem dX0_compares_25 : decode cX0_compares 25 = .ok (.iload_n 0, 1) := dk_26 (dk_at dksX0_compares_1 3 rfl rfl)
theorem dX0_compares_26 : decode cX0_compares 26 = .ok (.iload_n 2, 1) := dk_28 (dk_at dksX0_compares_1 4 rfl rfl)
theorem dX0_compares_27 : decode cX0_compares 27 = .ok (.if_icmp .le 7, 3) := dk_164 0 7 (dk_at dksX0_compares_1 5 rfl rfl)
theorem dX0_compares_30 : decode cX0_compares 30 = .ok (.iconst 1, 1) := dk_4 (dk_at dksX0_compares_1 8 rfl rfl)
theorem dX0_compares_31 : decode cX0_compares 31 = .ok (.goto 17, 3) := dk_167 0 17 (dk_at dksX0_compares_1 9 rfl rfl)
theorem dX0_compares_34 : decode cX0_compares 34 = .ok (.iconst 0, 1) := dk_3 (dk_at dksX0_compares_1 12 rfl rfl)
theorem dX0_compares_35 : decode cX0_compares 35 = .ok (.goto 13, 3) := dk_167 0 13 (dk_at dksX0_compares_1 13 rfl rfl)
theorem dX0_compares_38 : decode cX0_compares 38 = .ok (.iload_n 0, 1) := dk_26 (dk_at dksX0_compares_1 16 rfl rfl)
theorem dX0_compares_39 : decode cX0_compares 39 = .ok (.iload_n 2, 1) := dk_28 (dk_at dksX0_compares_1 17 rfl rfl)
theorem dX0_compares_40 : decode cX0_compares 40 = .ok (.if_icmp .ne 7, 3) := dk_160 0 7 (dk_at dksX0_compares_1 18 rfl rfl)
theorem dX0_compares_43 : decode cX0_compares 43 = .ok (.iconst 1, 1) := dk_4 (dk_at dksX0_compares_1 21 rfl rfl)
theorem dX0_compares_44 : decode cX0_compares 44 = .ok (.goto 4, 3) := dk_167 0 4 (dk_at dksX0_compares_2 0 rfl rfl)
theorem dX0_compares_47 : decode cX0_compares 47 = .ok (.iconst 0, 1) := dk_3 (dk_at dksX0_compares_2 3 rfl rfl)
theorem dX0_compares_48 : decode cX0_compares 48 = .ok (.ireturn, 1) := dk_172 (dk_at dksX0_compares_2 4 rfl rfl)
abbrev cX0_term : ByteArray := prog_1_method_44_code
def yX0_term : MethodName := ⟨RX0, "term", "()I"⟩
def dkwX0_term_2 : List UInt8 := [180, 0, 91, 158, 0, 7, 2, 167, 0, 10, 42, 182, 0, 168, 182, 1, 87, 172]
abbrev dktX0_term_2 : List UInt8 := dkwX0_term_2 ++ []
def dkwX0_term_1 : List UInt8 := [17, 39, 15, 164, 0, 7, 7, 167, 0, 13, 27, 154, 0, 8, 16, 7, 167, 0, 4, 3, 181, 0, 91, 42]
abbrev dktX0_term_1 : List UInt8 := dkwX0_term_1 ++ dktX0_term_2
def dkwX0_term_0 : List UInt8 := [42, 182, 0, 168, 3, 182, 1, 2, 60, 42, 42, 182, 0, 168, 180, 0, 248, 27, 184, 1, 82, 96]
abbrev dktX0_term_0 : List UInt8 := dkwX0_term_0 ++ dktX0_term_1
theorem dksX0_term_0 : cX0_term.data.toList.drop 0 = dktX0_term_0 := by decide +kernel
theorem dksX0_term_1 : cX0_term.data.toList.drop 22 = dktX0_term_1 := dk_seg dksX0_term_0 22 rfl rfl
theorem dksX0_term_2 : cX0_term.data.toList.drop 46 = dktX0_term_2 := dk_seg dksX0_term_1 24 rfl rfl
theorem dX0_term_0 : decode cX0_term 0 = .ok (.aload_n 0, 1) := dk_42 (dk_at dksX0_term_0 0 rfl rfl)
theorem dX0_term_1 : decode cX0_term 1 = .ok (.invokevirtual 168, 3) := dk_182 0 168 (dk_at dksX0_term_0 1 rfl rfl)
theorem dX0_term_4 : decode cX0_term 4 = .ok (.iconst 0, 1) := dk_3 (dk_at dksX0_term_0 4 rfl rfl)
theorem dX0_term_5 : decode cX0_term 5 = .ok (.invokevirtual 258, 3) := dk_182 1 2 (dk_at dksX0_term_0 5 rfl rfl)
theorem dX0_term_8 : decode cX0_term 8 = .ok (.istore_n 1, 1) := dk_60 (dk_at dksX0_term_0 8 rfl rfl)
theorem dX0_term_9 : decode cX0_term 9 = .ok (.aload_n 0, 1) := dk_42 (dk_at dksX0_term_0 9 rfl rfl)
theorem dX0_term_10 : decode cX0_term 10 = .ok (.aload_n 0, 1) := dk_42 (dk_at dksX0_term_0 10 rfl rfl)
theorem dX0_term_11 : decode cX0_term 11 = .ok (.invokevirtual 168, 3) := dk_182 0 168 (dk_at dksX0_term_0 11 rfl rfl)
theorem dX0_term_14 : decode cX0_term 14 = .ok (.getfield 248, 3) := dk_180 0 248 (dk_at dksX0_term_0 14 rfl rfl)
theorem dX0_term_17 : decode cX0_term 17 = .ok (.iload_n 1, 1) := dk_27 (dk_at dksX0_term_0 17 rfl rfl)
theorem dX0_term_18 : decode cX0_term 18 = .ok (.invokestatic 338, 3) := dk_184 1 82 (dk_at dksX0_term_0 18 rfl rfl)
theorem dX0_term_21 : decode cX0_term 21 = .ok (.iadd, 1) := dk_96 (dk_at dksX0_term_0 21 rfl rfl)
theorem dX0_term_22 : decode cX0_term 22 = .ok (.sipush 9999, 3) := dk_17 39 15 (dk_at dksX0_term_1 0 rfl rfl)
theorem dX0_term_25 : decode cX0_term 25 = .ok (.if_icmp .le 7, 3) := dk_164 0 7 (dk_at dksX0_term_1 3 rfl rfl)
theorem dX0_term_28 : decode cX0_term 28 = .ok (.iconst 4, 1) := dk_7 (dk_at dksX0_term_1 6 rfl rfl)
theorem dX0_term_29 : decode cX0_term 29 = .ok (.goto 13, 3) := dk_167 0 13 (dk_at dksX0_term_1 7 rfl rfl)
theorem dX0_term_32 : decode cX0_term 32 = .ok (.iload_n 1, 1) := dk_27 (dk_at dksX0_term_1 10 rfl rfl)
theorem dX0_term_33 : decode cX0_term 33 = .ok (.ifCond .ne 8, 3) := dk_154 0 8 (dk_at dksX0_term_1 11 rfl rfl)
theorem dX0_term_36 : decode cX0_term 36 = .ok (.bipush 7, 2) := dk_16 7 (dk_at dksX0_term_1 14 rfl rfl)
theorem dX0_term_38 : decode cX0_term 38 = .ok (.goto 4, 3) := dk_167 0 4 (dk_at dksX0_term_1 16 rfl rfl)
theorem dX0_term_41 : decode cX0_term 41 = .ok (.iconst 0, 1) := dk_3 (dk_at dksX0_term_1 19 rfl rfl)
theorem dX0_term_42 : decode cX0_term 42 = .ok (.putfield 91, 3) := dk_181 0 91 (dk_at dksX0_term_1 20 rfl rfl)
theorem dX0_term_45 : decode cX0_term 45 = .ok (.aload_n 0, 1) := dk_42 (dk_at dksX0_term_1 23 rfl rfl)
theorem dX0_term_46 : decode cX0_term 46 = .ok (.getfield 91, 3) := dk_180 0 91 (dk_at dksX0_term_2 0 rfl rfl)
theorem dX0_term_49 : decode cX0_term 49 = .ok (.ifCond .le 7, 3) := dk_158 0 7 (dk_at dksX0_term_2 3 rfl rfl)
theorem dX0_term_52 : decode cX0_term 52 = .ok (.iconst (-1), 1) := dk_2 (dk_at dksX0_term_2 6 rfl rfl)
theorem dX0_term_53 : decode cX0_term 53 = .ok (.goto 10, 3) := dk_167 0 10 (dk_at dksX0_term_2 7 rfl rfl)
theorem dX0_term_56 : decode cX0_term 56 = .ok (.aload_n 0, 1) := dk_42 (dk_at dksX0_term_2 10 rfl rfl)
theorem dX0_term_57 : decode cX0_term 57 = .ok (.invokevirtual 168, 3) := dk_182 0 168 (dk_at dksX0_term_2 11 rfl rfl)
theorem dX0_term_60 : decode cX0_term 60 = .ok (.invokevirtual 343, 3) := dk_182 1 87 (dk_at dksX0_term_2 14 rfl rfl)
theorem dX0_term_63 : decode cX0_term 63 = .ok (.ireturn, 1) := dk_172 (dk_at dksX0_term_2 17 rfl rfl)
abbrev cX0_meal : ByteArray := prog_1_method_45_code
def yX0_meal : MethodName := ⟨RX0, "meal", "(II)I"⟩
def dkwX0_meal_2 : List UInt8 := [42, 180, 0, 91, 158, 0, 7, 2, 167, 0, 12, 42, 182, 0, 168, 180, 1, 52, 27, 46, 172]
abbrev dktX0_meal_2 : List UInt8 := dkwX0_meal_2 ++ []
def dkwX0_meal_1 : List UInt8 := [167, 0, 21, 42, 182, 0, 168, 27, 28, 182, 1, 92, 153, 0, 7, 3, 167, 0, 5, 16, 7, 181, 0, 91]
abbrev dktX0_meal_1 : List UInt8 := dkwX0_meal_1 ++ dktX0_meal_2
def dkwX0_meal_0 : List UInt8 := [42, 42, 27, 133, 182, 1, 48, 153, 0, 15, 28, 133, 10, 20, 1, 90, 184, 0, 175, 154, 0, 7, 4]
abbrev dktX0_meal_0 : List UInt8 := dkwX0_meal_0 ++ dktX0_meal_1
theorem dksX0_meal_0 : cX0_meal.data.toList.drop 0 = dktX0_meal_0 := by decide +kernel
theorem dksX0_meal_1 : cX0_meal.data.toList.drop 23 = dktX0_meal_1 := dk_seg dksX0_meal_0 23 rfl rfl
theorem dksX0_meal_2 : cX0_meal.data.toList.drop 47 = dktX0_meal_2 := dk_seg dksX0_meal_1 24 rfl rfl
theorem dX0_meal_0 : decode cX0_meal 0 = .ok (.aload_n 0, 1) := dk_42 (dk_at dksX0_meal_0 0 rfl rfl)
theorem dX0_meal_1 : decode cX0_meal 1 = .ok (.aload_n 0, 1) := dk_42 (dk_at dksX0_meal_0 1 rfl rfl)
theorem dX0_meal_2 : decode cX0_meal 2 = .ok (.iload_n 1, 1) := dk_27 (dk_at dksX0_meal_0 2 rfl rfl)
theorem dX0_meal_3 : decode cX0_meal 3 = .ok (.i2l, 1) := dk_133 (dk_at dksX0_meal_0 3 rfl rfl)
theorem dX0_meal_4 : decode cX0_meal 4 = .ok (.invokevirtual 304, 3) := dk_182 1 48 (dk_at dksX0_meal_0 4 rfl rfl)
theorem dX0_meal_7 : decode cX0_meal 7 = .ok (.ifCond .eq 15, 3) := dk_153 0 15 (dk_at dksX0_meal_0 7 rfl rfl)
theorem dX0_meal_10 : decode cX0_meal 10 = .ok (.iload_n 2, 1) := dk_28 (dk_at dksX0_meal_0 10 rfl rfl)
theorem dX0_meal_11 : decode cX0_meal 11 = .ok (.i2l, 1) := dk_133 (dk_at dksX0_meal_0 11 rfl rfl)
theorem dX0_meal_12 : decode cX0_meal 12 = .ok (.lconst 1, 1) := dk_10 (dk_at dksX0_meal_0 12 rfl rfl)
theorem dX0_meal_13 : decode cX0_meal 13 = .ok (.ldc2_w 346, 3) := dk_20 1 90 (dk_at dksX0_meal_0 13 rfl rfl)
theorem dX0_meal_16 : decode cX0_meal 16 = .ok (.invokestatic 175, 3) := dk_184 0 175 (dk_at dksX0_meal_0 16 rfl rfl)
theorem dX0_meal_19 : decode cX0_meal 19 = .ok (.ifCond .ne 7, 3) := dk_154 0 7 (dk_at dksX0_meal_0 19 rfl rfl)
theorem dX0_meal_22 : decode cX0_meal 22 = .ok (.iconst 1, 1) := dk_4 (dk_at dksX0_meal_0 22 rfl rfl)
theorem dX0_meal_23 : decode cX0_meal 23 = .ok (.goto 21, 3) := dk_167 0 21 (dk_at dksX0_meal_1 0 rfl rfl)
theorem dX0_meal_26 : decode cX0_meal 26 = .ok (.aload_n 0, 1) := dk_42 (dk_at dksX0_meal_1 3 rfl rfl)
theorem dX0_meal_27 : decode cX0_meal 27 = .ok (.invokevirtual 168, 3) := dk_182 0 168 (dk_at dksX0_meal_1 4 rfl rfl)
theorem dX0_meal_30 : decode cX0_meal 30 = .ok (.iload_n 1, 1) := dk_27 (dk_at dksX0_meal_1 7 rfl rfl)
theorem dX0_meal_31 : decode cX0_meal 31 = .ok (.iload_n 2, 1) := dk_28 (dk_at dksX0_meal_1 8 rfl rfl)
theorem dX0_meal_32 : decode cX0_meal 32 = .ok (.invokevirtual 348, 3) := dk_182 1 92 (dk_at dksX0_meal_1 9 rfl rfl)
theorem dX0_meal_35 : decode cX0_meal 35 = .ok (.ifCond .eq 7, 3) := dk_153 0 7 (dk_at dksX0_meal_1 12 rfl rfl)
theorem dX0_meal_38 : decode cX0_meal 38 = .ok (.iconst 0, 1) := dk_3 (dk_at dksX0_meal_1 15 rfl rfl)
theorem dX0_meal_39 : decode cX0_meal 39 = .ok (.goto 5, 3) := dk_167 0 5 (dk_at dksX0_meal_1 16 rfl rfl)
theorem dX0_meal_42 : decode cX0_meal 42 = .ok (.bipush 7, 2) := dk_16 7 (dk_at dksX0_meal_1 19 rfl rfl)
theorem dX0_meal_44 : decode cX0_meal 44 = .ok (.putfield 91, 3) := dk_181 0 91 (dk_at dksX0_meal_1 21 rfl rfl)
theorem dX0_meal_47 : decode cX0_meal 47 = .ok (.aload_n 0, 1) := dk_42 (dk_at dksX0_meal_2 0 rfl rfl)
theorem dX0_meal_48 : decode cX0_meal 48 = .ok (.getfield 91, 3) := dk_180 0 91 (dk_at dksX0_meal_2 1 rfl rfl)
theorem dX0_meal_51 : decode cX0_meal 51 = .ok (.ifCond .le 7, 3) := dk_158 0 7 (dk_at dksX0_meal_2 4 rfl rfl)
theorem dX0_meal_54 : decode cX0_meal 54 = .ok (.iconst (-1), 1) := dk_2 (dk_at dksX0_meal_2 7 rfl rfl)
theorem dX0_meal_55 : decode cX0_meal 55 = .ok (.goto 12, 3) := dk_167 0 12 (dk_at dksX0_meal_2 8 rfl rfl)
theorem dX0_meal_58 : decode cX0_meal 58 = .ok (.aload_n 0, 1) := dk_42 (dk_at dksX0_meal_2 11 rfl rfl)
theorem dX0_meal_59 : decode cX0_meal 59 = .ok (.invokevirtual 168, 3) := dk_182 0 168 (dk_at dksX0_meal_2 12 rfl rfl)
theorem dX0_meal_62 : decode cX0_meal 62 = .ok (.getfield 308, 3) := dk_180 1 52 (dk_at dksX0_meal_2 15 rfl rfl)
theorem dX0_meal_65 : decode cX0_meal 65 = .ok (.iload_n 1, 1) := dk_27 (dk_at dksX0_meal_2 18 rfl rfl)
theorem dX0_meal_66 : decode cX0_meal 66 = .ok (.iaload, 1) := dk_46 (dk_at dksX0_meal_2 19 rfl rfl)
theorem dX0_meal_67 : decode cX0_meal 67 = .ok (.ireturn, 1) := dk_172 (dk_at dksX0_meal_2 20 rfl rfl)
abbrev cX0_scent : ByteArray := prog_1_method_46_code
def yX0_scent : MethodName := ⟨RX0, "scent", "(IIZ)Z"⟩
def dkwX0_scent_2 : List UInt8 := [180, 0, 91, 154, 0, 7, 4, 167, 0, 4, 3, 172]
abbrev dktX0_scent_2 : List UInt8 := dkwX0_scent_2 ++ []
def dkwX0_scent_1 : List UInt8 := [182, 0, 168, 27, 28, 29, 182, 1, 98, 153, 0, 7, 3, 167, 0, 5, 16, 7, 181, 0, 91, 42]
abbrev dktX0_scent_1 : List UInt8 := dkwX0_scent_1 ++ dktX0_scent_2
def dkwX0_scent_0 : List UInt8 := [42, 42, 27, 133, 182, 1, 48, 153, 0, 11, 42, 28, 182, 1, 95, 154, 0, 7, 4, 167, 0, 22, 42]
abbrev dktX0_scent_0 : List UInt8 := dkwX0_scent_0 ++ dktX0_scent_1
theorem dksX0_scent_0 : cX0_scent.data.toList.drop 0 = dktX0_scent_0 := by decide +kernel
theorem dksX0_scent_1 : cX0_scent.data.toList.drop 23 = dktX0_scent_1 := dk_seg dksX0_scent_0 23 rfl rfl
theorem dksX0_scent_2 : cX0_scent.data.toList.drop 45 = dktX0_scent_2 := dk_seg dksX0_scent_1 22 rfl rfl
theorem dX0_scent_0 : decode cX0_scent 0 = .ok (.aload_n 0, 1) := dk_42 (dk_at dksX0_scent_0 0 rfl rfl)
theorem dX0_scent_1 : decode cX0_scent 1 = .ok (.aload_n 0, 1) := dk_42 (dk_at dksX0_scent_0 1 rfl rfl)
theorem dX0_scent_2 : decode cX0_scent 2 = .ok (.iload_n 1, 1) := dk_27 (dk_at dksX0_scent_0 2 rfl rfl)
theorem dX0_scent_3 : decode cX0_scent 3 = .ok (.i2l, 1) := dk_133 (dk_at dksX0_scent_0 3 rfl rfl)
theorem dX0_scent_4 : decode cX0_scent 4 = .ok (.invokevirtual 304, 3) := dk_182 1 48 (dk_at dksX0_scent_0 4 rfl rfl)
theorem dX0_scent_7 : decode cX0_scent 7 = .ok (.ifCond .eq 11, 3) := dk_153 0 11 (dk_at dksX0_scent_0 7 rfl rfl)
theorem dX0_scent_10 : decode cX0_scent 10 = .ok (.aload_n 0, 1) := dk_42 (dk_at dksX0_scent_0 10 rfl rfl)
theorem dX0_scent_11 : decode cX0_scent 11 = .ok (.iload_n 2, 1) := dk_28 (dk_at dksX0_scent_0 11 rfl rfl)
theorem dX0_scent_12 : decode cX0_scent 12 = .ok (.invokevirtual 351, 3) := dk_182 1 95 (dk_at dksX0_scent_0 12 rfl rfl)
theorem dX0_scent_15 : decode cX0_scent 15 = .ok (.ifCond .ne 7, 3) := dk_154 0 7 (dk_at dksX0_scent_0 15 rfl rfl)
theorem dX0_scent_18 : decode cX0_scent 18 = .ok (.iconst 1, 1) := dk_4 (dk_at dksX0_scent_0 18 rfl rfl)
theorem dX0_scent_19 : decode cX0_scent 19 = .ok (.goto 22, 3) := dk_167 0 22 (dk_at dksX0_scent_0 19 rfl rfl)
theorem dX0_scent_22 : decode cX0_scent 22 = .ok (.aload_n 0, 1) := dk_42 (dk_at dksX0_scent_0 22 rfl rfl)
theorem dX0_scent_23 : decode cX0_scent 23 = .ok (.invokevirtual 168, 3) := dk_182 0 168 (dk_at dksX0_scent_1 0 rfl rfl)
theorem dX0_scent_26 : decode cX0_scent 26 = .ok (.iload_n 1, 1) := dk_27 (dk_at dksX0_scent_1 3 rfl rfl)
theorem dX0_scent_27 : decode cX0_scent 27 = .ok (.iload_n 2, 1) := dk_28 (dk_at dksX0_scent_1 4 rfl rfl)
theorem dX0_scent_28 : decode cX0_scent 28 = .ok (.iload_n 3, 1) := dk_29 (dk_at dksX0_scent_1 5 rfl rfl)
theorem dX0_scent_29 : decode cX0_scent 29 = .ok (.invokevirtual 354, 3) := dk_182 1 98 (dk_at dksX0_scent_1 6 rfl rfl)
theorem dX0_scent_32 : decode cX0_scent 32 = .ok (.ifCond .eq 7, 3) := dk_153 0 7 (dk_at dksX0_scent_1 9 rfl rfl)
theorem dX0_scent_35 : decode cX0_scent 35 = .ok (.iconst 0, 1) := dk_3 (dk_at dksX0_scent_1 12 rfl rfl)
theorem dX0_scent_36 : decode cX0_scent 36 = .ok (.goto 5, 3) := dk_167 0 5 (dk_at dksX0_scent_1 13 rfl rfl)
theorem dX0_scent_39 : decode cX0_scent 39 = .ok (.bipush 7, 2) := dk_16 7 (dk_at dksX0_scent_1 16 rfl rfl)
theorem dX0_scent_41 : decode cX0_scent 41 = .ok (.putfield 91, 3) := dk_181 0 91 (dk_at dksX0_scent_1 18 rfl rfl)
theorem dX0_scent_44 : decode cX0_scent 44 = .ok (.aload_n 0, 1) := dk_42 (dk_at dksX0_scent_1 21 rfl rfl)
theorem dX0_scent_45 : decode cX0_scent 45 = .ok (.getfield 91, 3) := dk_180 0 91 (dk_at dksX0_scent_2 0 rfl rfl)
theorem dX0_scent_48 : decode cX0_scent 48 = .ok (.ifCond .ne 7, 3) := dk_154 0 7 (dk_at dksX0_scent_2 3 rfl rfl)
theorem dX0_scent_51 : decode cX0_scent 51 = .ok (.iconst 1, 1) := dk_4 (dk_at dksX0_scent_2 6 rfl rfl)
theorem dX0_scent_52 : decode cX0_scent 52 = .ok (.goto 4, 3) := dk_167 0 4 (dk_at dksX0_scent_2 7 rfl rfl)
theorem dX0_scent_55 : decode cX0_scent 55 = .ok (.iconst 0, 1) := dk_3 (dk_at dksX0_scent_2 10 rfl rfl)
theorem dX0_scent_56 : decode cX0_scent 56 = .ok (.ireturn, 1) := dk_172 (dk_at dksX0_scent_2 11 rfl rfl)
abbrev cX0_isSmell : ByteArray := prog_1_method_23_code
def yX0_isSmell : MethodName := ⟨RX0, "isSmell", "(I)Z"⟩
def dkwX0_isSmell_0 : List UInt8 := [27, 133, 9, 42, 182, 0, 168, 180, 0, 172, 4, 100, 133, 184, 0, 175, 172]
abbrev dktX0_isSmell_0 : List UInt8 := dkwX0_isSmell_0 ++ []
theorem dksX0_isSmell_0 : cX0_isSmell.data.toList.drop 0 = dktX0_isSmell_0 := by decide +kernel
theorem dX0_isSmell_0 : decode cX0_isSmell 0 = .ok (.iload_n 1, 1) := dk_27 (dk_at dksX0_isSmell_0 0 rfl rfl)
theorem dX0_isSmell_1 : decode cX0_isSmell 1 = .ok (.i2l, 1) := dk_133 (dk_at dksX0_isSmell_0 1 rfl rfl)
theorem dX0_isSmell_2 : decode cX0_isSmell 2 = .ok (.lconst 0, 1) := dk_9 (dk_at dksX0_isSmell_0 2 rfl rfl)
theorem dX0_isSmell_3 : decode cX0_isSmell 3 = .ok (.aload_n 0, 1) := dk_42 (dk_at dksX0_isSmell_0 3 rfl rfl)
theorem dX0_isSmell_4 : decode cX0_isSmell 4 = .ok (.invokevirtual 168, 3) := dk_182 0 168 (dk_at dksX0_isSmell_0 4 rfl rfl)
theorem dX0_isSmell_7 : decode cX0_isSmell 7 = .ok (.getfield 172, 3) := dk_180 0 172 (dk_at dksX0_isSmell_0 7 rfl rfl)
theorem dX0_isSmell_10 : decode cX0_isSmell 10 = .ok (.iconst 1, 1) := dk_4 (dk_at dksX0_isSmell_0 10 rfl rfl)
theorem dX0_isSmell_11 : decode cX0_isSmell 11 = .ok (.isub, 1) := dk_100 (dk_at dksX0_isSmell_0 11 rfl rfl)
theorem dX0_isSmell_12 : decode cX0_isSmell 12 = .ok (.i2l, 1) := dk_133 (dk_at dksX0_isSmell_0 12 rfl rfl)
theorem dX0_isSmell_13 : decode cX0_isSmell 13 = .ok (.invokestatic 175, 3) := dk_184 0 175 (dk_at dksX0_isSmell_0 13 rfl rfl)
theorem dX0_isSmell_16 : decode cX0_isSmell 16 = .ok (.ireturn, 1) := dk_172 (dk_at dksX0_isSmell_0 16 rfl rfl)
abbrev cX0_night : ByteArray := prog_1_method_47_code
def yX0_night : MethodName := ⟨RX0, "night", "()I"⟩
def dkwX0_night_1 : List UInt8 := [182, 0, 168, 3, 181, 0, 245, 27, 154, 0, 7, 2, 167, 0, 4, 27, 172]
abbrev dktX0_night_1 : List UInt8 := dkwX0_night_1 ++ []
def dkwX0_night_0 : List UInt8 := [42, 182, 0, 168, 180, 0, 245, 60, 42, 27, 154, 0, 8, 16, 7, 167, 0, 4, 3, 181, 0, 91, 42]
abbrev dktX0_night_0 : List UInt8 := dkwX0_night_0 ++ dktX0_night_1
theorem dksX0_night_0 : cX0_night.data.toList.drop 0 = dktX0_night_0 := by decide +kernel
theorem dksX0_night_1 : cX0_night.data.toList.drop 23 = dktX0_night_1 := dk_seg dksX0_night_0 23 rfl rfl
theorem dX0_night_0 : decode cX0_night 0 = .ok (.aload_n 0, 1) := dk_42 (dk_at dksX0_night_0 0 rfl rfl)
theorem dX0_night_1 : decode cX0_night 1 = .ok (.invokevirtual 168, 3) := dk_182 0 168 (dk_at dksX0_night_0 1 rfl rfl)
theorem dX0_night_4 : decode cX0_night 4 = .ok (.getfield 245, 3) := dk_180 0 245 (dk_at dksX0_night_0 4 rfl rfl)
theorem dX0_night_7 : decode cX0_night 7 = .ok (.istore_n 1, 1) := dk_60 (dk_at dksX0_night_0 7 rfl rfl)
theorem dX0_night_8 : decode cX0_night 8 = .ok (.aload_n 0, 1) := dk_42 (dk_at dksX0_night_0 8 rfl rfl)
theorem dX0_night_9 : decode cX0_night 9 = .ok (.iload_n 1, 1) := dk_27 (dk_at dksX0_night_0 9 rfl rfl)
theorem dX0_night_10 : decode cX0_night 10 = .ok (.ifCond .ne 8, 3) := dk_154 0 8 (dk_at dksX0_night_0 10 rfl rfl)
theorem dX0_night_13 : decode cX0_night 13 = .ok (.bipush 7, 2) := dk_16 7 (dk_at dksX0_night_0 13 rfl rfl)
theorem dX0_night_15 : decode cX0_night 15 = .ok (.goto 4, 3) := dk_167 0 4 (dk_at dksX0_night_0 15 rfl rfl)
theorem dX0_night_18 : decode cX0_night 18 = .ok (.iconst 0, 1) := dk_3 (dk_at dksX0_night_0 18 rfl rfl)
theorem dX0_night_19 : decode cX0_night 19 = .ok (.putfield 91, 3) := dk_181 0 91 (dk_at dksX0_night_0 19 rfl rfl)
theorem dX0_night_22 : decode cX0_night 22 = .ok (.aload_n 0, 1) := dk_42 (dk_at dksX0_night_0 22 rfl rfl)
theorem dX0_night_23 : decode cX0_night 23 = .ok (.invokevirtual 168, 3) := dk_182 0 168 (dk_at dksX0_night_1 0 rfl rfl)
theorem dX0_night_26 : decode cX0_night 26 = .ok (.iconst 0, 1) := dk_3 (dk_at dksX0_night_1 3 rfl rfl)
theorem dX0_night_27 : decode cX0_night 27 = .ok (.putfield 245, 3) := dk_181 0 245 (dk_at dksX0_night_1 4 rfl rfl)
theorem dX0_night_30 : decode cX0_night 30 = .ok (.iload_n 1, 1) := dk_27 (dk_at dksX0_night_1 7 rfl rfl)
theorem dX0_night_31 : decode cX0_night 31 = .ok (.ifCond .ne 7, 3) := dk_154 0 7 (dk_at dksX0_night_1 8 rfl rfl)
theorem dX0_night_34 : decode cX0_night 34 = .ok (.iconst (-1), 1) := dk_2 (dk_at dksX0_night_1 11 rfl rfl)
theorem dX0_night_35 : decode cX0_night 35 = .ok (.goto 4, 3) := dk_167 0 4 (dk_at dksX0_night_1 12 rfl rfl)
theorem dX0_night_38 : decode cX0_night 38 = .ok (.iload_n 1, 1) := dk_27 (dk_at dksX0_night_1 15 rfl rfl)
theorem dX0_night_39 : decode cX0_night 39 = .ok (.ireturn, 1) := dk_172 (dk_at dksX0_night_1 16 rfl rfl)
abbrev cX0_appeal : ByteArray := prog_1_method_48_code
def yX0_appeal : MethodName := ⟨RX0, "appeal", "(I)I"⟩
def dkwX0_appeal_2 : List UInt8 := [182, 0, 168, 180, 1, 58, 27, 46, 61, 42, 182, 0, 168, 180, 1, 58, 27, 3, 79, 28, 172]
abbrev dktX0_appeal_2 : List UInt8 := dkwX0_appeal_2 ++ []
def dkwX0_appeal_1 : List UInt8 := [154, 0, 8, 16, 7, 167, 0, 4, 3, 181, 0, 91, 42, 180, 0, 91, 158, 0, 5, 2, 172, 42]
abbrev dktX0_appeal_1 : List UInt8 := dkwX0_appeal_1 ++ dktX0_appeal_2
def dkwX0_appeal_0 : List UInt8 := [42, 42, 27, 133, 182, 1, 48, 154, 0, 7, 4, 167, 0, 21, 42, 182, 0, 168, 180, 1, 58, 27, 46]
abbrev dktX0_appeal_0 : List UInt8 := dkwX0_appeal_0 ++ dktX0_appeal_1
theorem dksX0_appeal_0 : cX0_appeal.data.toList.drop 0 = dktX0_appeal_0 := by decide +kernel
theorem dksX0_appeal_1 : cX0_appeal.data.toList.drop 23 = dktX0_appeal_1 := dk_seg dksX0_appeal_0 23 rfl rfl
theorem dksX0_appeal_2 : cX0_appeal.data.toList.drop 45 = dktX0_appeal_2 := dk_seg dksX0_appeal_1 22 rfl rfl
theorem dX0_appeal_0 : decode cX0_appeal 0 = .ok (.aload_n 0, 1) := dk_42 (dk_at dksX0_appeal_0 0 rfl rfl)
theorem dX0_appeal_1 : decode cX0_appeal 1 = .ok (.aload_n 0, 1) := dk_42 (dk_at dksX0_appeal_0 1 rfl rfl)
theorem dX0_appeal_2 : decode cX0_appeal 2 = .ok (.iload_n 1, 1) := dk_27 (dk_at dksX0_appeal_0 2 rfl rfl)
theorem dX0_appeal_3 : decode cX0_appeal 3 = .ok (.i2l, 1) := dk_133 (dk_at dksX0_appeal_0 3 rfl rfl)
theorem dX0_appeal_4 : decode cX0_appeal 4 = .ok (.invokevirtual 304, 3) := dk_182 1 48 (dk_at dksX0_appeal_0 4 rfl rfl)
theorem dX0_appeal_7 : decode cX0_appeal 7 = .ok (.ifCond .ne 7, 3) := dk_154 0 7 (dk_at dksX0_appeal_0 7 rfl rfl)
theorem dX0_appeal_10 : decode cX0_appeal 10 = .ok (.iconst 1, 1) := dk_4 (dk_at dksX0_appeal_0 10 rfl rfl)
theorem dX0_appeal_11 : decode cX0_appeal 11 = .ok (.goto 21, 3) := dk_167 0 21 (dk_at dksX0_appeal_0 11 rfl rfl)
theorem dX0_appeal_14 : decode cX0_appeal 14 = .ok (.aload_n 0, 1) := dk_42 (dk_at dksX0_appeal_0 14 rfl rfl)
theorem dX0_appeal_15 : decode cX0_appeal 15 = .ok (.invokevirtual 168, 3) := dk_182 0 168 (dk_at dksX0_appeal_0 15 rfl rfl)
theorem dX0_appeal_18 : decode cX0_appeal 18 = .ok (.getfield 314, 3) := dk_180 1 58 (dk_at dksX0_appeal_0 18 rfl rfl)
theorem dX0_appeal_21 : decode cX0_appeal 21 = .ok (.iload_n 1, 1) := dk_27 (dk_at dksX0_appeal_0 21 rfl rfl)
theorem dX0_appeal_22 : decode cX0_appeal 22 = .ok (.iaload, 1) := dk_46 (dk_at dksX0_appeal_0 22 rfl rfl)
theorem dX0_appeal_23 : decode cX0_appeal 23 = .ok (.ifCond .ne 8, 3) := dk_154 0 8 (dk_at dksX0_appeal_1 0 rfl rfl)
theorem dX0_appeal_26 : decode cX0_appeal 26 = .ok (.bipush 7, 2) := dk_16 7 (dk_at dksX0_appeal_1 3 rfl rfl)
theorem dX0_appeal_28 : decode cX0_appeal 28 = .ok (.goto 4, 3) := dk_167 0 4 (dk_at dksX0_appeal_1 5 rfl rfl)
theorem dX0_appeal_31 : decode cX0_appeal 31 = .ok (.iconst 0, 1) := dk_3 (dk_at dksX0_appeal_1 8 rfl rfl)
theorem dX0_appeal_32 : decode cX0_appeal 32 = .ok (.putfield 91, 3) := dk_181 0 91 (dk_at dksX0_appeal_1 9 rfl rfl)
theorem dX0_appeal_35 : decode cX0_appeal 35 = .ok (.aload_n 0, 1) := dk_42 (dk_at dksX0_appeal_1 12 rfl rfl)
theorem dX0_appeal_36 : decode cX0_appeal 36 = .ok (.getfield 91, 3) := dk_180 0 91 (dk_at dksX0_appeal_1 13 rfl rfl)
theorem dX0_appeal_39 : decode cX0_appeal 39 = .ok (.ifCond .le 5, 3) := dk_158 0 5 (dk_at dksX0_appeal_1 16 rfl rfl)
theorem dX0_appeal_42 : decode cX0_appeal 42 = .ok (.iconst (-1), 1) := dk_2 (dk_at dksX0_appeal_1 19 rfl rfl)
theorem dX0_appeal_43 : decode cX0_appeal 43 = .ok (.ireturn, 1) := dk_172 (dk_at dksX0_appeal_1 20 rfl rfl)
theorem dX0_appeal_44 : decode cX0_appeal 44 = .ok (.aload_n 0, 1) := dk_42 (dk_at dksX0_appeal_1 21 rfl rfl)
theorem dX0_appeal_45 : decode cX0_appeal 45 = .ok (.invokevirtual 168, 3) := dk_182 0 168 (dk_at dksX0_appeal_2 0 rfl rfl)
theorem dX0_appeal_48 : decode cX0_appeal 48 = .ok (.getfield 314, 3) := dk_180 1 58 (dk_at dksX0_appeal_2 3 rfl rfl)
theorem dX0_appeal_51 : decode cX0_appeal 51 = .ok (.iload_n 1, 1) := dk_27 (dk_at dksX0_appeal_2 6 rfl rfl)
theorem dX0_appeal_52 : decode cX0_appeal 52 = .ok (.iaload, 1) := dk_46 (dk_at dksX0_appeal_2 7 rfl rfl)
theorem dX0_appeal_53 : decode cX0_appeal 53 = .ok (.istore_n 2, 1) := dk_61 (dk_at dksX0_appeal_2 8 rfl rfl)
theorem dX0_appeal_54 : decode cX0_appeal 54 = .ok (.aload_n 0, 1) := dk_42 (dk_at dksX0_appeal_2 9 rfl rfl)
theorem dX0_appeal_55 : decode cX0_appeal 55 = .ok (.invokevirtual 168, 3) := dk_182 0 168 (dk_at dksX0_appeal_2 10 rfl rfl)
theorem dX0_appeal_58 : decode cX0_appeal 58 = .ok (.getfield 314, 3) := dk_180 1 58 (dk_at dksX0_appeal_2 13 rfl rfl)
theorem dX0_appeal_61 : decode cX0_appeal 61 = .ok (.iload_n 1, 1) := dk_27 (dk_at dksX0_appeal_2 16 rfl rfl)
theorem dX0_appeal_62 : decode cX0_appeal 62 = .ok (.iconst 0, 1) := dk_3 (dk_at dksX0_appeal_2 17 rfl rfl)
theorem dX0_appeal_63 : decode cX0_appeal 63 = .ok (.iastore, 1) := dk_79 (dk_at dksX0_appeal_2 18 rfl rfl)
theorem dX0_appeal_64 : decode cX0_appeal 64 = .ok (.iload_n 2, 1) := dk_28 (dk_at dksX0_appeal_2 19 rfl rfl)
theorem dX0_appeal_65 : decode cX0_appeal 65 = .ok (.ireturn, 1) := dk_172 (dk_at dksX0_appeal_2 20 rfl rfl)
abbrev cX0_blame : ByteArray := prog_1_method_49_code
def yX0_blame : MethodName := ⟨RX0, "blame", "(IZ)Z"⟩
def dkwX0_blame_3 : List UInt8 := [42, 180, 0, 91, 154, 0, 7, 4, 167, 0, 4, 3, 172]
abbrev dktX0_blame_3 : List UInt8 := dkwX0_blame_3 ++ []
def dkwX0_blame_2 : List UInt8 := [180, 0, 91, 154, 0, 21, 42, 182, 0, 168, 180, 0, 237, 27, 28, 153, 0, 7, 4, 167, 0, 4, 3, 79]
abbrev dktX0_blame_2 : List UInt8 := dkwX0_blame_2 ++ dktX0_blame_3
def dkwX0_blame_1 : List UInt8 := [160, 0, 7, 4, 167, 0, 4, 3, 28, 160, 0, 8, 16, 7, 167, 0, 4, 3, 181, 0, 91, 42]
abbrev dktX0_blame_1 : List UInt8 := dkwX0_blame_1 ++ dktX0_blame_2
def dkwX0_blame_0 : List UInt8 := [42, 42, 27, 133, 182, 1, 48, 154, 0, 7, 4, 167, 0, 31, 42, 182, 0, 168, 180, 0, 237, 27, 46, 4]
abbrev dktX0_blame_0 : List UInt8 := dkwX0_blame_0 ++ dktX0_blame_1
theorem dksX0_blame_0 : cX0_blame.data.toList.drop 0 = dktX0_blame_0 := by decide +kernel
theorem dksX0_blame_1 : cX0_blame.data.toList.drop 24 = dktX0_blame_1 := dk_seg dksX0_blame_0 24 rfl rfl
theorem dksX0_blame_2 : cX0_blame.data.toList.drop 46 = dktX0_blame_2 := dk_seg dksX0_blame_1 22 rfl rfl
theorem dksX0_blame_3 : cX0_blame.data.toList.drop 70 = dktX0_blame_3 := dk_seg dksX0_blame_2 24 rfl rfl
theorem dX0_blame_0 : decode cX0_blame 0 = .ok (.aload_n 0, 1) := dk_42 (dk_at dksX0_blame_0 0 rfl rfl)
theorem dX0_blame_1 : decode cX0_blame 1 = .ok (.aload_n 0, 1) := dk_42 (dk_at dksX0_blame_0 1 rfl rfl)
theorem dX0_blame_2 : decode cX0_blame 2 = .ok (.iload_n 1, 1) := dk_27 (dk_at dksX0_blame_0 2 rfl rfl)
theorem dX0_blame_3 : decode cX0_blame 3 = .ok (.i2l, 1) := dk_133 (dk_at dksX0_blame_0 3 rfl rfl)
theorem dX0_blame_4 : decode cX0_blame 4 = .ok (.invokevirtual 304, 3) := dk_182 1 48 (dk_at dksX0_blame_0 4 rfl rfl)
theorem dX0_blame_7 : decode cX0_blame 7 = .ok (.ifCond .ne 7, 3) := dk_154 0 7 (dk_at dksX0_blame_0 7 rfl rfl)
theorem dX0_blame_10 : decode cX0_blame 10 = .ok (.iconst 1, 1) := dk_4 (dk_at dksX0_blame_0 10 rfl rfl)
theorem dX0_blame_11 : decode cX0_blame 11 = .ok (.goto 31, 3) := dk_167 0 31 (dk_at dksX0_blame_0 11 rfl rfl)
theorem dX0_blame_14 : decode cX0_blame 14 = .ok (.aload_n 0, 1) := dk_42 (dk_at dksX0_blame_0 14 rfl rfl)
theorem dX0_blame_15 : decode cX0_blame 15 = .ok (.invokevirtual 168, 3) := dk_182 0 168 (dk_at dksX0_blame_0 15 rfl rfl)
theorem dX0_blame_18 : decode cX0_blame 18 = .ok (.getfield 237, 3) := dk_180 0 237 (dk_at dksX0_blame_0 18 rfl rfl)
theorem dX0_blame_21 : decode cX0_blame 21 = .ok (.iload_n 1, 1) := dk_27 (dk_at dksX0_blame_0 21 rfl rfl)
theorem dX0_blame_22 : decode cX0_blame 22 = .ok (.iaload, 1) := dk_46 (dk_at dksX0_blame_0 22 rfl rfl)
theorem dX0_blame_23 : decode cX0_blame 23 = .ok (.iconst 1, 1) := dk_4 (dk_at dksX0_blame_0 23 rfl rfl)
theorem dX0_blame_24 : decode cX0_blame 24 = .ok (.if_icmp .ne 7, 3) := dk_160 0 7 (dk_at dksX0_blame_1 0 rfl rfl)
theorem dX0_blame_27 : decode cX0_blame 27 = .ok (.iconst 1, 1) := dk_4 (dk_at dksX0_blame_1 3 rfl rfl)
theorem dX0_blame_28 : decode cX0_blame 28 = .ok (.goto 4, 3) := dk_167 0 4 (dk_at dksX0_blame_1 4 rfl rfl)
theorem dX0_blame_31 : decode cX0_blame 31 = .ok (.iconst 0, 1) := dk_3 (dk_at dksX0_blame_1 7 rfl rfl)
theorem dX0_blame_32 : decode cX0_blame 32 = .ok (.iload_n 2, 1) := dk_28 (dk_at dksX0_blame_1 8 rfl rfl)
theorem dX0_blame_33 : decode cX0_blame 33 = .ok (.if_icmp .ne 8, 3) := dk_160 0 8 (dk_at dksX0_blame_1 9 rfl rfl)
theorem dX0_blame_36 : decode cX0_blame 36 = .ok (.bipush 7, 2) := dk_16 7 (dk_at dksX0_blame_1 12 rfl rfl)
theorem dX0_blame_38 : decode cX0_blame 38 = .ok (.goto 4, 3) := dk_167 0 4 (dk_at dksX0_blame_1 14 rfl rfl)
theorem dX0_blame_41 : decode cX0_blame 41 = .ok (.iconst 0, 1) := dk_3 (dk_at dksX0_blame_1 17 rfl rfl)
theorem dX0_blame_42 : decode cX0_blame 42 = .ok (.putfield 91, 3) := dk_181 0 91 (dk_at dksX0_blame_1 18 rfl rfl)
theorem dX0_blame_45 : decode cX0_blame 45 = .ok (.aload_n 0, 1) := dk_42 (dk_at dksX0_blame_1 21 rfl rfl)
theorem dX0_blame_46 : decode cX0_blame 46 = .ok (.getfield 91, 3) := dk_180 0 91 (dk_at dksX0_blame_2 0 rfl rfl)
theorem dX0_blame_49 : decode cX0_blame 49 = .ok (.ifCond .ne 21, 3) := dk_154 0 21 (dk_at dksX0_blame_2 3 rfl rfl)
theorem dX0_blame_52 : decode cX0_blame 52 = .ok (.aload_n 0, 1) := dk_42 (dk_at dksX0_blame_2 6 rfl rfl)
theorem dX0_blame_53 : decode cX0_blame 53 = .ok (.invokevirtual 168, 3) := dk_182 0 168 (dk_at dksX0_blame_2 7 rfl rfl)
theorem dX0_blame_56 : decode cX0_blame 56 = .ok (.getfield 237, 3) := dk_180 0 237 (dk_at dksX0_blame_2 10 rfl rfl)
theorem dX0_blame_59 : decode cX0_blame 59 = .ok (.iload_n 1, 1) := dk_27 (dk_at dksX0_blame_2 13 rfl rfl)
theorem dX0_blame_60 : decode cX0_blame 60 = .ok (.iload_n 2, 1) := dk_28 (dk_at dksX0_blame_2 14 rfl rfl)
theorem dX0_blame_61 : decode cX0_blame 61 = .ok (.ifCond .eq 7, 3) := dk_153 0 7 (dk_at dksX0_blame_2 15 rfl rfl)
theorem dX0_blame_64 : decode cX0_blame 64 = .ok (.iconst 1, 1) := dk_4 (dk_at dksX0_blame_2 18 rfl rfl)
theorem dX0_blame_65 : decode cX0_blame 65 = .ok (.goto 4, 3) := dk_167 0 4 (dk_at dksX0_blame_2 19 rfl rfl)
theorem dX0_blame_68 : decode cX0_blame 68 = .ok (.iconst 0, 1) := dk_3 (dk_at dksX0_blame_2 22 rfl rfl)
theorem dX0_blame_69 : decode cX0_blame 69 = .ok (.iastore, 1) := dk_79 (dk_at dksX0_blame_2 23 rfl rfl)
theorem dX0_blame_70 : decode cX0_blame 70 = .ok (.aload_n 0, 1) := dk_42 (dk_at dksX0_blame_3 0 rfl rfl)
theorem dX0_blame_71 : decode cX0_blame 71 = .ok (.getfield 91, 3) := dk_180 0 91 (dk_at dksX0_blame_3 1 rfl rfl)
theorem dX0_blame_74 : decode cX0_blame 74 = .ok (.ifCond .ne 7, 3) := dk_154 0 7 (dk_at dksX0_blame_3 4 rfl rfl)
theorem dX0_blame_77 : decode cX0_blame 77 = .ok (.iconst 1, 1) := dk_4 (dk_at dksX0_blame_3 7 rfl rfl)
theorem dX0_blame_78 : decode cX0_blame 78 = .ok (.goto 4, 3) := dk_167 0 4 (dk_at dksX0_blame_3 8 rfl rfl)
theorem dX0_blame_81 : decode cX0_blame 81 = .ok (.iconst 0, 1) := dk_3 (dk_at dksX0_blame_3 11 rfl rfl)
theorem dX0_blame_82 : decode cX0_blame 82 = .ok (.ireturn, 1) := dk_172 (dk_at dksX0_blame_3 12 rfl rfl)
abbrev cX0_reread : ByteArray := prog_1_method_50_code
def yX0_reread : MethodName := ⟨RX0, "reread", "(II)Z"⟩
def dkwX0_reread_2 : List UInt8 := [42, 180, 0, 91, 154, 0, 7, 4, 167, 0, 4, 3, 172]
abbrev dktX0_reread_2 : List UInt8 := dkwX0_reread_2 ++ []
def dkwX0_reread_1 : List UInt8 := [167, 0, 4, 4, 181, 0, 91, 42, 180, 0, 91, 154, 0, 13, 42, 182, 0, 168, 180, 1, 10, 27, 28, 79]
abbrev dktX0_reread_1 : List UInt8 := dkwX0_reread_1 ++ dktX0_reread_2
def dkwX0_reread_0 : List UInt8 := [42, 42, 27, 182, 1, 6, 153, 0, 19, 28, 133, 9, 20, 1, 101, 184, 0, 175, 153, 0, 7, 3]
abbrev dktX0_reread_0 : List UInt8 := dkwX0_reread_0 ++ dktX0_reread_1
theorem dksX0_reread_0 : cX0_reread.data.toList.drop 0 = dktX0_reread_0 := by decide +kernel
theorem dksX0_reread_1 : cX0_reread.data.toList.drop 22 = dktX0_reread_1 := dk_seg dksX0_reread_0 22 rfl rfl
theorem dksX0_reread_2 : cX0_reread.data.toList.drop 46 = dktX0_reread_2 := dk_seg dksX0_reread_1 24 rfl rfl
theorem dX0_reread_0 : decode cX0_reread 0 = .ok (.aload_n 0, 1) := dk_42 (dk_at dksX0_reread_0 0 rfl rfl)
theorem dX0_reread_1 : decode cX0_reread 1 = .ok (.aload_n 0, 1) := dk_42 (dk_at dksX0_reread_0 1 rfl rfl)
theorem dX0_reread_2 : decode cX0_reread 2 = .ok (.iload_n 1, 1) := dk_27 (dk_at dksX0_reread_0 2 rfl rfl)
theorem dX0_reread_3 : decode cX0_reread 3 = .ok (.invokevirtual 262, 3) := dk_182 1 6 (dk_at dksX0_reread_0 3 rfl rfl)
theorem dX0_reread_6 : decode cX0_reread 6 = .ok (.ifCond .eq 19, 3) := dk_153 0 19 (dk_at dksX0_reread_0 6 rfl rfl)
theorem dX0_reread_9 : decode cX0_reread 9 = .ok (.iload_n 2, 1) := dk_28 (dk_at dksX0_reread_0 9 rfl rfl)
theorem dX0_reread_10 : decode cX0_reread 10 = .ok (.i2l, 1) := dk_133 (dk_at dksX0_reread_0 10 rfl rfl)
theorem dX0_reread_11 : decode cX0_reread 11 = .ok (.lconst 0, 1) := dk_9 (dk_at dksX0_reread_0 11 rfl rfl)
theorem dX0_reread_12 : decode cX0_reread 12 = .ok (.ldc2_w 357, 3) := dk_20 1 101 (dk_at dksX0_reread_0 12 rfl rfl)
theorem dX0_reread_15 : decode cX0_reread 15 = .ok (.invokestatic 175, 3) := dk_184 0 175 (dk_at dksX0_reread_0 15 rfl rfl)
theorem dX0_reread_18 : decode cX0_reread 18 = .ok (.ifCond .eq 7, 3) := dk_153 0 7 (dk_at dksX0_reread_0 18 rfl rfl)
theorem dX0_reread_21 : decode cX0_reread 21 = .ok (.iconst 0, 1) := dk_3 (dk_at dksX0_reread_0 21 rfl rfl)
theorem dX0_reread_22 : decode cX0_reread 22 = .ok (.goto 4, 3) := dk_167 0 4 (dk_at dksX0_reread_1 0 rfl rfl)
theorem dX0_reread_25 : decode cX0_reread 25 = .ok (.iconst 1, 1) := dk_4 (dk_at dksX0_reread_1 3 rfl rfl)
theorem dX0_reread_26 : decode cX0_reread 26 = .ok (.putfield 91, 3) := dk_181 0 91 (dk_at dksX0_reread_1 4 rfl rfl)
theorem dX0_reread_29 : decode cX0_reread 29 = .ok (.aload_n 0, 1) := dk_42 (dk_at dksX0_reread_1 7 rfl rfl)
theorem dX0_reread_30 : decode cX0_reread 30 = .ok (.getfield 91, 3) := dk_180 0 91 (dk_at dksX0_reread_1 8 rfl rfl)
theorem dX0_reread_33 : decode cX0_reread 33 = .ok (.ifCond .ne 13, 3) := dk_154 0 13 (dk_at dksX0_reread_1 11 rfl rfl)
theorem dX0_reread_36 : decode cX0_reread 36 = .ok (.aload_n 0, 1) := dk_42 (dk_at dksX0_reread_1 14 rfl rfl)
theorem dX0_reread_37 : decode cX0_reread 37 = .ok (.invokevirtual 168, 3) := dk_182 0 168 (dk_at dksX0_reread_1 15 rfl rfl)
theorem dX0_reread_40 : decode cX0_reread 40 = .ok (.getfield 266, 3) := dk_180 1 10 (dk_at dksX0_reread_1 18 rfl rfl)
theorem dX0_reread_43 : decode cX0_reread 43 = .ok (.iload_n 1, 1) := dk_27 (dk_at dksX0_reread_1 21 rfl rfl)
theorem dX0_reread_44 : decode cX0_reread 44 = .ok (.iload_n 2, 1) := dk_28 (dk_at dksX0_reread_1 22 rfl rfl)
theorem dX0_reread_45 : decode cX0_reread 45 = .ok (.iastore, 1) := dk_79 (dk_at dksX0_reread_1 23 rfl rfl)
theorem dX0_reread_46 : decode cX0_reread 46 = .ok (.aload_n 0, 1) := dk_42 (dk_at dksX0_reread_2 0 rfl rfl)
theorem dX0_reread_47 : decode cX0_reread 47 = .ok (.getfield 91, 3) := dk_180 0 91 (dk_at dksX0_reread_2 1 rfl rfl)
theorem dX0_reread_50 : decode cX0_reread 50 = .ok (.ifCond .ne 7, 3) := dk_154 0 7 (dk_at dksX0_reread_2 4 rfl rfl)
theorem dX0_reread_53 : decode cX0_reread 53 = .ok (.iconst 1, 1) := dk_4 (dk_at dksX0_reread_2 7 rfl rfl)
theorem dX0_reread_54 : decode cX0_reread 54 = .ok (.goto 4, 3) := dk_167 0 4 (dk_at dksX0_reread_2 8 rfl rfl)
theorem dX0_reread_57 : decode cX0_reread 57 = .ok (.iconst 0, 1) := dk_3 (dk_at dksX0_reread_2 11 rfl rfl)
theorem dX0_reread_58 : decode cX0_reread 58 = .ok (.ireturn, 1) := dk_172 (dk_at dksX0_reread_2 12 rfl rfl)
abbrev cX0_enact : ByteArray := prog_1_method_51_code
def yX0_enact : MethodName := ⟨RX0, "enact", "(III)I"⟩
def dkwX0_enact_5 : List UInt8 := [42, 182, 0, 168, 89, 180, 0, 182, 4, 96, 181, 0, 182, 42, 182, 0, 168, 180, 0, 182, 4, 100, 172]
abbrev dktX0_enact_5 : List UInt8 := dkwX0_enact_5 ++ []
def dkwX0_enact_4 : List UInt8 := [187, 1, 23, 89, 27, 28, 3, 3, 3, 3, 21, 4, 153, 0, 7, 2, 167, 0, 4, 29, 183, 1, 103, 83]
abbrev dktX0_enact_4 : List UInt8 := dkwX0_enact_4 ++ dktX0_enact_5
def dkwX0_enact_3 : List UInt8 := [180, 0, 91, 158, 0, 5, 2, 172, 42, 182, 0, 168, 180, 1, 18, 42, 182, 0, 168, 180, 0, 182]
abbrev dktX0_enact_3 : List UInt8 := dkwX0_enact_3 ++ dktX0_enact_4
def dkwX0_enact_2 : List UInt8 := [167, 0, 20, 42, 182, 0, 168, 180, 0, 182, 16, 8, 160, 0, 7, 7, 167, 0, 4, 3, 181, 0, 91, 42]
abbrev dktX0_enact_2 : List UInt8 := dkwX0_enact_2 ++ dktX0_enact_3
def dkwX0_enact_1 : List UInt8 := [20, 1, 101, 184, 0, 175, 153, 0, 16, 42, 29, 182, 1, 95, 154, 0, 12, 21, 4, 154, 0, 7, 4]
abbrev dktX0_enact_1 : List UInt8 := dkwX0_enact_1 ++ dktX0_enact_2
def dkwX0_enact_0 : List UInt8 := [29, 8, 160, 0, 7, 4, 167, 0, 4, 3, 54, 4, 42, 42, 27, 182, 1, 6, 153, 0, 28, 28, 133, 9]
abbrev dktX0_enact_0 : List UInt8 := dkwX0_enact_0 ++ dktX0_enact_1
theorem dksX0_enact_0 : cX0_enact.data.toList.drop 0 = dktX0_enact_0 := by decide +kernel
theorem dksX0_enact_1 : cX0_enact.data.toList.drop 24 = dktX0_enact_1 := dk_seg dksX0_enact_0 24 rfl rfl
theorem dksX0_enact_2 : cX0_enact.data.toList.drop 47 = dktX0_enact_2 := dk_seg dksX0_enact_1 23 rfl rfl
theorem dksX0_enact_3 : cX0_enact.data.toList.drop 71 = dktX0_enact_3 := dk_seg dksX0_enact_2 24 rfl rfl
theorem dksX0_enact_4 : cX0_enact.data.toList.drop 93 = dktX0_enact_4 := dk_seg dksX0_enact_3 22 rfl rfl
theorem dksX0_enact_5 : cX0_enact.data.toList.drop 117 = dktX0_enact_5 := dk_seg dksX0_enact_4 24 rfl rfl
theorem dX0_enact_0 : decode cX0_enact 0 = .ok (.iload_n 3, 1) := dk_29 (dk_at dksX0_enact_0 0 rfl rfl)
theorem dX0_enact_1 : decode cX0_enact 1 = .ok (.iconst 5, 1) := dk_8 (dk_at dksX0_enact_0 1 rfl rfl)
theorem dX0_enact_2 : decode cX0_enact 2 = .ok (.if_icmp .ne 7, 3) := dk_160 0 7 (dk_at dksX0_enact_0 2 rfl rfl)
theorem dX0_enact_5 : decode cX0_enact 5 = .ok (.iconst 1, 1) := dk_4 (dk_at dksX0_enact_0 5 rfl rfl)
theorem dX0_enact_6 : decode cX0_enact 6 = .ok (.goto 4, 3) := dk_167 0 4 (dk_at dksX0_enact_0 6 rfl rfl)
theorem dX0_enact_9 : decode cX0_enact 9 = .ok (.iconst 0, 1) := dk_3 (dk_at dksX0_enact_0 9 rfl rfl)
theorem dX0_enact_10 : decode cX0_enact 10 = .ok (.istore 4, 2) := dk_54 4 (dk_at dksX0_enact_0 10 rfl rfl)
theorem dX0_enact_12 : decode cX0_enact 12 = .ok (.aload_n 0, 1) := dk_42 (dk_at dksX0_enact_0 12 rfl rfl)
theorem dX0_enact_13 : decode cX0_enact 13 = .ok (.aload_n 0, 1) := dk_42 (dk_at dksX0_enact_0 13 rfl rfl)
theorem dX0_enact_14 : decode cX0_enact 14 = .ok (.iload_n 1, 1) := dk_27 (dk_at dksX0_enact_0 14 rfl rfl)
theorem dX0_enact_15 : decode cX0_enact 15 = .ok (.invokevirtual 262, 3) := dk_182 1 6 (dk_at dksX0_enact_0 15 rfl rfl)
theorem dX0_enact_18 : decode cX0_enact 18 = .ok (.ifCond .eq 28, 3) := dk_153 0 28 (dk_at dksX0_enact_0 18 rfl rfl)
theorem dX0_enact_21 : decode cX0_enact 21 = .ok (.iload_n 2, 1) := dk_28 (dk_at dksX0_enact_0 21 rfl rfl)
theorem dX0_enact_22 : decode cX0_enact 22 = .ok (.i2l, 1) := dk_133 (dk_at dksX0_enact_0 22 rfl rfl)
theorem dX0_enact_23 : decode cX0_enact 23 = .ok (.lconst 0, 1) := dk_9 (dk_at dksX0_enact_0 23 rfl rfl)
theorem dX0_enact_24 : decode cX0_enact 24 = .ok (.ldc2_w 357, 3) := dk_20 1 101 (dk_at dksX0_enact_1 0 rfl rfl)
theorem dX0_enact_27 : decode cX0_enact 27 = .ok (.invokestatic 175, 3) := dk_184 0 175 (dk_at dksX0_enact_1 3 rfl rfl)
theorem dX0_enact_30 : decode cX0_enact 30 = .ok (.ifCond .eq 16, 3) := dk_153 0 16 (dk_at dksX0_enact_1 6 rfl rfl)
theorem dX0_enact_33 : decode cX0_enact 33 = .ok (.aload_n 0, 1) := dk_42 (dk_at dksX0_enact_1 9 rfl rfl)
theorem dX0_enact_34 : decode cX0_enact 34 = .ok (.iload_n 3, 1) := dk_29 (dk_at dksX0_enact_1 10 rfl rfl)
theorem dX0_enact_35 : decode cX0_enact 35 = .ok (.invokevirtual 351, 3) := dk_182 1 95 (dk_at dksX0_enact_1 11 rfl rfl)
theorem dX0_enact_38 : decode cX0_enact 38 = .ok (.ifCond .ne 12, 3) := dk_154 0 12 (dk_at dksX0_enact_1 14 rfl rfl)
theorem dX0_enact_41 : decode cX0_enact 41 = .ok (.iload 4, 2) := dk_21 4 (dk_at dksX0_enact_1 17 rfl rfl)
theorem dX0_enact_43 : decode cX0_enact 43 = .ok (.ifCond .ne 7, 3) := dk_154 0 7 (dk_at dksX0_enact_1 19 rfl rfl)
theorem dX0_enact_46 : decode cX0_enact 46 = .ok (.iconst 1, 1) := dk_4 (dk_at dksX0_enact_1 22 rfl rfl)
theorem dX0_enact_47 : decode cX0_enact 47 = .ok (.goto 20, 3) := dk_167 0 20 (dk_at dksX0_enact_2 0 rfl rfl)
theorem dX0_enact_50 : decode cX0_enact 50 = .ok (.aload_n 0, 1) := dk_42 (dk_at dksX0_enact_2 3 rfl rfl)
theorem dX0_enact_51 : decode cX0_enact 51 = .ok (.invokevirtual 168, 3) := dk_182 0 168 (dk_at dksX0_enact_2 4 rfl rfl)
theorem dX0_enact_54 : decode cX0_enact 54 = .ok (.getfield 182, 3) := dk_180 0 182 (dk_at dksX0_enact_2 7 rfl rfl)
theorem dX0_enact_57 : decode cX0_enact 57 = .ok (.bipush 8, 2) := dk_16 8 (dk_at dksX0_enact_2 10 rfl rfl)
theorem dX0_enact_59 : decode cX0_enact 59 = .ok (.if_icmp .ne 7, 3) := dk_160 0 7 (dk_at dksX0_enact_2 12 rfl rfl)
theorem dX0_enact_62 : decode cX0_enact 62 = .ok (.iconst 4, 1) := dk_7 (dk_at dksX0_enact_2 15 rfl rfl)
theorem dX0_enact_63 : decode cX0_enact 63 = .ok (.goto 4, 3) := dk_167 0 4 (dk_at dksX0_enact_2 16 rfl rfl)
theorem dX0_enact_66 : decode cX0_enact 66 = .ok (.iconst 0, 1) := dk_3 (dk_at dksX0_enact_2 19 rfl rfl)
theorem dX0_enact_67 : decode cX0_enact 67 = .ok (.putfield 91, 3) := dk_181 0 91 (dk_at dksX0_enact_2 20 rfl rfl)
theorem dX0_enact_70 : decode cX0_enact 70 = .ok (.aload_n 0, 1) := dk_42 (dk_at dksX0_enact_2 23 rfl rfl)
theorem dX0_enact_71 : decode cX0_enact 71 = .ok (.getfield 91, 3) := dk_180 0 91 (dk_at dksX0_enact_3 0 rfl rfl)
theorem dX0_enact_74 : decode cX0_enact 74 = .ok (.ifCond .le 5, 3) := dk_158 0 5 (dk_at dksX0_enact_3 3 rfl rfl)
theorem dX0_enact_77 : decode cX0_enact 77 = .ok (.iconst (-1), 1) := dk_2 (dk_at dksX0_enact_3 6 rfl rfl)
theorem dX0_enact_78 : decode cX0_enact 78 = .ok (.ireturn, 1) := dk_172 (dk_at dksX0_enact_3 7 rfl rfl)
theorem dX0_enact_79 : decode cX0_enact 79 = .ok (.aload_n 0, 1) := dk_42 (dk_at dksX0_enact_3 8 rfl rfl)
theorem dX0_enact_80 : decode cX0_enact 80 = .ok (.invokevirtual 168, 3) := dk_182 0 168 (dk_at dksX0_enact_3 9 rfl rfl)
theorem dX0_enact_83 : decode cX0_enact 83 = .ok (.getfield 274, 3) := dk_180 1 18 (dk_at dksX0_enact_3 12 rfl rfl)
theorem dX0_enact_86 : decode cX0_enact 86 = .ok (.aload_n 0, 1) := dk_42 (dk_at dksX0_enact_3 15 rfl rfl)
theorem dX0_enact_87 : decode cX0_enact 87 = .ok (.invokevirtual 168, 3) := dk_182 0 168 (dk_at dksX0_enact_3 16 rfl rfl)
theorem dX0_enact_90 : decode cX0_enact 90 = .ok (.getfield 182, 3) := dk_180 0 182 (dk_at dksX0_enact_3 19 rfl rfl)
theorem dX0_enact_93 : decode cX0_enact 93 = .ok (.new 279, 3) := dk_187 1 23 (dk_at dksX0_enact_4 0 rfl rfl)
theorem dX0_enact_96 : decode cX0_enact 96 = .ok (.dup, 1) := dk_89 (dk_at dksX0_enact_4 3 rfl rfl)
theorem dX0_enact_97 : decode cX0_enact 97 = .ok (.iload_n 1, 1) := dk_27 (dk_at dksX0_enact_4 4 rfl rfl)
theorem dX0_enact_98 : decode cX0_enact 98 = .ok (.iload_n 2, 1) := dk_28 (dk_at dksX0_enact_4 5 rfl rfl)
theorem dX0_enact_99 : decode cX0_enact 99 = .ok (.iconst 0, 1) := dk_3 (dk_at dksX0_enact_4 6 rfl rfl)
theorem dX0_enact_100 : decode cX0_enact 100 = .ok (.iconst 0, 1) := dk_3 (dk_at dksX0_enact_4 7 rfl rfl)
theorem dX0_enact_101 : decode cX0_enact 101 = .ok (.iconst 0, 1) := dk_3 (dk_at dksX0_enact_4 8 rfl rfl)
theorem dX0_enact_102 : decode cX0_enact 102 = .ok (.iconst 0, 1) := dk_3 (dk_at dksX0_enact_4 9 rfl rfl)
theorem dX0_enact_103 : decode cX0_enact 103 = .ok (.iload 4, 2) := dk_21 4 (dk_at dksX0_enact_4 10 rfl rfl)
theorem dX0_enact_105 : decode cX0_enact 105 = .ok (.ifCond .eq 7, 3) := dk_153 0 7 (dk_at dksX0_enact_4 12 rfl rfl)
theorem dX0_enact_108 : decode cX0_enact 108 = .ok (.iconst (-1), 1) := dk_2 (dk_at dksX0_enact_4 15 rfl rfl)
theorem dX0_enact_109 : decode cX0_enact 109 = .ok (.goto 4, 3) := dk_167 0 4 (dk_at dksX0_enact_4 16 rfl rfl)
theorem dX0_enact_112 : decode cX0_enact 112 = .ok (.iload_n 3, 1) := dk_29 (dk_at dksX0_enact_4 19 rfl rfl)
theorem dX0_enact_113 : decode cX0_enact 113 = .ok (.invokespecial 359, 3) := dk_183 1 103 (dk_at dksX0_enact_4 20 rfl rfl)
theorem dX0_enact_116 : decode cX0_enact 116 = .ok (.aastore, 1) := dk_83 (dk_at dksX0_enact_4 23 rfl rfl)
theorem dX0_enact_117 : decode cX0_enact 117 = .ok (.aload_n 0, 1) := dk_42 (dk_at dksX0_enact_5 0 rfl rfl)
theorem dX0_enact_118 : decode cX0_enact 118 = .ok (.invokevirtual 168, 3) := dk_182 0 168 (dk_at dksX0_enact_5 1 rfl rfl)
theorem dX0_enact_121 : decode cX0_enact 121 = .ok (.dup, 1) := dk_89 (dk_at dksX0_enact_5 4 rfl rfl)
theorem dX0_enact_122 : decode cX0_enact 122 = .ok (.getfield 182, 3) := dk_180 0 182 (dk_at dksX0_enact_5 5 rfl rfl)
theorem dX0_enact_125 : decode cX0_enact 125 = .ok (.iconst 1, 1) := dk_4 (dk_at dksX0_enact_5 8 rfl rfl)
theorem dX0_enact_126 : decode cX0_enact 126 = .ok (.iadd, 1) := dk_96 (dk_at dksX0_enact_5 9 rfl rfl)
theorem dX0_enact_127 : decode cX0_enact 127 = .ok (.putfield 182, 3) := dk_181 0 182 (dk_at dksX0_enact_5 10 rfl rfl)
theorem dX0_enact_130 : decode cX0_enact 130 = .ok (.aload_n 0, 1) := dk_42 (dk_at dksX0_enact_5 13 rfl rfl)
theorem dX0_enact_131 : decode cX0_enact 131 = .ok (.invokevirtual 168, 3) := dk_182 0 168 (dk_at dksX0_enact_5 14 rfl rfl)
theorem dX0_enact_134 : decode cX0_enact 134 = .ok (.getfield 182, 3) := dk_180 0 182 (dk_at dksX0_enact_5 17 rfl rfl)
theorem dX0_enact_137 : decode cX0_enact 137 = .ok (.iconst 1, 1) := dk_4 (dk_at dksX0_enact_5 20 rfl rfl)
theorem dX0_enact_138 : decode cX0_enact 138 = .ok (.isub, 1) := dk_100 (dk_at dksX0_enact_5 21 rfl rfl)
theorem dX0_enact_139 : decode cX0_enact 139 = .ok (.ireturn, 1) := dk_172 (dk_at dksX0_enact_5 22 rfl rfl)
abbrev cX0_repeal : ByteArray := prog_1_method_52_code
def yX0_repeal : MethodName := ⟨RX0, "repeal", "(I)I"⟩
def dkwX0_repeal_3 : List UInt8 := [182, 0, 168, 180, 0, 182, 172]
abbrev dktX0_repeal_3 : List UInt8 := dkwX0_repeal_3 ++ []
def dkwX0_repeal_2 : List UInt8 := [96, 42, 182, 0, 168, 180, 1, 18, 27, 42, 182, 0, 168, 180, 0, 182, 27, 100, 184, 0, 157, 42]
abbrev dktX0_repeal_2 : List UInt8 := dkwX0_repeal_2 ++ dktX0_repeal_3
def dkwX0_repeal_1 : List UInt8 := [2, 172, 42, 182, 0, 168, 89, 180, 0, 182, 4, 100, 181, 0, 182, 42, 182, 0, 168, 180, 1, 18, 27, 4]
abbrev dktX0_repeal_1 : List UInt8 := dkwX0_repeal_1 ++ dktX0_repeal_2
def dkwX0_repeal_0 : List UInt8 := [42, 42, 27, 182, 1, 13, 153, 0, 7, 3, 167, 0, 4, 4, 181, 0, 91, 42, 180, 0, 91, 158, 0, 5]
abbrev dktX0_repeal_0 : List UInt8 := dkwX0_repeal_0 ++ dktX0_repeal_1
theorem dksX0_repeal_0 : cX0_repeal.data.toList.drop 0 = dktX0_repeal_0 := by decide +kernel
theorem dksX0_repeal_1 : cX0_repeal.data.toList.drop 24 = dktX0_repeal_1 := dk_seg dksX0_repeal_0 24 rfl rfl
theorem dksX0_repeal_2 : cX0_repeal.data.toList.drop 48 = dktX0_repeal_2 := dk_seg dksX0_repeal_1 24 rfl rfl
theorem dksX0_repeal_3 : cX0_repeal.data.toList.drop 70 = dktX0_repeal_3 := dk_seg dksX0_repeal_2 22 rfl rfl
theorem dX0_repeal_0 : decode cX0_repeal 0 = .ok (.aload_n 0, 1) := dk_42 (dk_at dksX0_repeal_0 0 rfl rfl)
theorem dX0_repeal_1 : decode cX0_repeal 1 = .ok (.aload_n 0, 1) := dk_42 (dk_at dksX0_repeal_0 1 rfl rfl)
theorem dX0_repeal_2 : decode cX0_repeal 2 = .ok (.iload_n 1, 1) := dk_27 (dk_at dksX0_repeal_0 2 rfl rfl)
theorem dX0_repeal_3 : decode cX0_repeal 3 = .ok (.invokevirtual 269, 3) := dk_182 1 13 (dk_at dksX0_repeal_0 3 rfl rfl)
theorem dX0_repeal_6 : decode cX0_repeal 6 = .ok (.ifCond .eq 7, 3) := dk_153 0 7 (dk_at dksX0_repeal_0 6 rfl rfl)
theorem dX0_repeal_9 : decode cX0_repeal 9 = .ok (.iconst 0, 1) := dk_3 (dk_at dksX0_repeal_0 9 rfl rfl)
theorem dX0_repeal_10 : decode cX0_repeal 10 = .ok (.goto 4, 3) := dk_167 0 4 (dk_at dksX0_repeal_0 10 rfl rfl)
theorem dX0_repeal_13 : decode cX0_repeal 13 = .ok (.iconst 1, 1) := dk_4 (dk_at dksX0_repeal_0 13 rfl rfl)
theorem dX0_repeal_14 : decode cX0_repeal 14 = .ok (.putfield 91, 3) := dk_181 0 91 (dk_at dksX0_repeal_0 14 rfl rfl)
theorem dX0_repeal_17 : decode cX0_repeal 17 = .ok (.aload_n 0, 1) := dk_42 (dk_at dksX0_repeal_0 17 rfl rfl)
theorem dX0_repeal_18 : decode cX0_repeal 18 = .ok (.getfield 91, 3) := dk_180 0 91 (dk_at dksX0_repeal_0 18 rfl rfl)
theorem dX0_repeal_21 : decode cX0_repeal 21 = .ok (.ifCond .le 5, 3) := dk_158 0 5 (dk_at dksX0_repeal_0 21 rfl rfl)
theorem dX0_repeal_24 : decode cX0_repeal 24 = .ok (.iconst (-1), 1) := dk_2 (dk_at dksX0_repeal_1 0 rfl rfl)
theorem dX0_repeal_25 : decode cX0_repeal 25 = .ok (.ireturn, 1) := dk_172 (dk_at dksX0_repeal_1 1 rfl rfl)
theorem dX0_repeal_26 : decode cX0_repeal 26 = .ok (.aload_n 0, 1) := dk_42 (dk_at dksX0_repeal_1 2 rfl rfl)
theorem dX0_repeal_27 : decode cX0_repeal 27 = .ok (.invokevirtual 168, 3) := dk_182 0 168 (dk_at dksX0_repeal_1 3 rfl rfl)
theorem dX0_repeal_30 : decode cX0_repeal 30 = .ok (.dup, 1) := dk_89 (dk_at dksX0_repeal_1 6 rfl rfl)
theorem dX0_repeal_31 : decode cX0_repeal 31 = .ok (.getfield 182, 3) := dk_180 0 182 (dk_at dksX0_repeal_1 7 rfl rfl)
theorem dX0_repeal_34 : decode cX0_repeal 34 = .ok (.iconst 1, 1) := dk_4 (dk_at dksX0_repeal_1 10 rfl rfl)
theorem dX0_repeal_35 : decode cX0_repeal 35 = .ok (.isub, 1) := dk_100 (dk_at dksX0_repeal_1 11 rfl rfl)
theorem dX0_repeal_36 : decode cX0_repeal 36 = .ok (.putfield 182, 3) := dk_181 0 182 (dk_at dksX0_repeal_1 12 rfl rfl)
theorem dX0_repeal_39 : decode cX0_repeal 39 = .ok (.aload_n 0, 1) := dk_42 (dk_at dksX0_repeal_1 15 rfl rfl)
theorem dX0_repeal_40 : decode cX0_repeal 40 = .ok (.invokevirtual 168, 3) := dk_182 0 168 (dk_at dksX0_repeal_1 16 rfl rfl)
theorem dX0_repeal_43 : decode cX0_repeal 43 = .ok (.getfield 274, 3) := dk_180 1 18 (dk_at dksX0_repeal_1 19 rfl rfl)
theorem dX0_repeal_46 : decode cX0_repeal 46 = .ok (.iload_n 1, 1) := dk_27 (dk_at dksX0_repeal_1 22 rfl rfl)
theorem dX0_repeal_47 : decode cX0_repeal 47 = .ok (.iconst 1, 1) := dk_4 (dk_at dksX0_repeal_1 23 rfl rfl)
theorem dX0_repeal_48 : decode cX0_repeal 48 = .ok (.iadd, 1) := dk_96 (dk_at dksX0_repeal_2 0 rfl rfl)
theorem dX0_repeal_49 : decode cX0_repeal 49 = .ok (.aload_n 0, 1) := dk_42 (dk_at dksX0_repeal_2 1 rfl rfl)
theorem dX0_repeal_50 : decode cX0_repeal 50 = .ok (.invokevirtual 168, 3) := dk_182 0 168 (dk_at dksX0_repeal_2 2 rfl rfl)
theorem dX0_repeal_53 : decode cX0_repeal 53 = .ok (.getfield 274, 3) := dk_180 1 18 (dk_at dksX0_repeal_2 5 rfl rfl)
theorem dX0_repeal_56 : decode cX0_repeal 56 = .ok (.iload_n 1, 1) := dk_27 (dk_at dksX0_repeal_2 8 rfl rfl)
theorem dX0_repeal_57 : decode cX0_repeal 57 = .ok (.aload_n 0, 1) := dk_42 (dk_at dksX0_repeal_2 9 rfl rfl)
theorem dX0_repeal_58 : decode cX0_repeal 58 = .ok (.invokevirtual 168, 3) := dk_182 0 168 (dk_at dksX0_repeal_2 10 rfl rfl)
theorem dX0_repeal_61 : decode cX0_repeal 61 = .ok (.getfield 182, 3) := dk_180 0 182 (dk_at dksX0_repeal_2 13 rfl rfl)
theorem dX0_repeal_64 : decode cX0_repeal 64 = .ok (.iload_n 1, 1) := dk_27 (dk_at dksX0_repeal_2 16 rfl rfl)
theorem dX0_repeal_65 : decode cX0_repeal 65 = .ok (.isub, 1) := dk_100 (dk_at dksX0_repeal_2 17 rfl rfl)
theorem dX0_repeal_66 : decode cX0_repeal 66 = .ok (.invokestatic 157, 3) := dk_184 0 157 (dk_at dksX0_repeal_2 18 rfl rfl)
theorem dX0_repeal_69 : decode cX0_repeal 69 = .ok (.aload_n 0, 1) := dk_42 (dk_at dksX0_repeal_2 21 rfl rfl)
theorem dX0_repeal_70 : decode cX0_repeal 70 = .ok (.invokevirtual 168, 3) := dk_182 0 168 (dk_at dksX0_repeal_3 0 rfl rfl)
theorem dX0_repeal_73 : decode cX0_repeal 73 = .ok (.getfield 182, 3) := dk_180 0 182 (dk_at dksX0_repeal_3 3 rfl rfl)
theorem dX0_repeal_76 : decode cX0_repeal 76 = .ok (.ireturn, 1) := dk_172 (dk_at dksX0_repeal_3 6 rfl rfl)
abbrev cX0_strain : ByteArray := prog_1_method_53_code
def yX0_strain : MethodName := ⟨RX0, "strain", "(II)Z"⟩
def dkwX0_strain_2 : List UInt8 := [42, 180, 0, 91, 154, 0, 7, 4, 167, 0, 4, 3, 172]
abbrev dktX0_strain_2 : List UInt8 := dkwX0_strain_2 ++ []
def dkwX0_strain_1 : List UInt8 := [167, 0, 4, 4, 181, 0, 91, 42, 180, 0, 91, 154, 0, 13, 42, 182, 0, 168, 180, 1, 67, 27, 28, 79]
abbrev dktX0_strain_1 : List UInt8 := dkwX0_strain_1 ++ dktX0_strain_2
def dkwX0_strain_0 : List UInt8 := [42, 42, 27, 182, 1, 64, 153, 0, 19, 28, 133, 9, 20, 1, 106, 184, 0, 175, 153, 0, 7, 3]
abbrev dktX0_strain_0 : List UInt8 := dkwX0_strain_0 ++ dktX0_strain_1
theorem dksX0_strain_0 : cX0_strain.data.toList.drop 0 = dktX0_strain_0 := by decide +kernel
theorem dksX0_strain_1 : cX0_strain.data.toList.drop 22 = dktX0_strain_1 := dk_seg dksX0_strain_0 22 rfl rfl
theorem dksX0_strain_2 : cX0_strain.data.toList.drop 46 = dktX0_strain_2 := dk_seg dksX0_strain_1 24 rfl rfl
theorem dX0_strain_0 : decode cX0_strain 0 = .ok (.aload_n 0, 1) := dk_42 (dk_at dksX0_strain_0 0 rfl rfl)
theorem dX0_strain_1 : decode cX0_strain 1 = .ok (.aload_n 0, 1) := dk_42 (dk_at dksX0_strain_0 1 rfl rfl)
theorem dX0_strain_2 : decode cX0_strain 2 = .ok (.iload_n 1, 1) := dk_27 (dk_at dksX0_strain_0 2 rfl rfl)
theorem dX0_strain_3 : decode cX0_strain 3 = .ok (.invokevirtual 320, 3) := dk_182 1 64 (dk_at dksX0_strain_0 3 rfl rfl)
theorem dX0_strain_6 : decode cX0_strain 6 = .ok (.ifCond .eq 19, 3) := dk_153 0 19 (dk_at dksX0_strain_0 6 rfl rfl)
theorem dX0_strain_9 : decode cX0_strain 9 = .ok (.iload_n 2, 1) := dk_28 (dk_at dksX0_strain_0 9 rfl rfl)
theorem dX0_strain_10 : decode cX0_strain 10 = .ok (.i2l, 1) := dk_133 (dk_at dksX0_strain_0 10 rfl rfl)
theorem dX0_strain_11 : decode cX0_strain 11 = .ok (.lconst 0, 1) := dk_9 (dk_at dksX0_strain_0 11 rfl rfl)
theorem dX0_strain_12 : decode cX0_strain 12 = .ok (.ldc2_w 362, 3) := dk_20 1 106 (dk_at dksX0_strain_0 12 rfl rfl)
theorem dX0_strain_15 : decode cX0_strain 15 = .ok (.invokestatic 175, 3) := dk_184 0 175 (dk_at dksX0_strain_0 15 rfl rfl)
theorem dX0_strain_18 : decode cX0_strain 18 = .ok (.ifCond .eq 7, 3) := dk_153 0 7 (dk_at dksX0_strain_0 18 rfl rfl)
theorem dX0_strain_21 : decode cX0_strain 21 = .ok (.iconst 0, 1) := dk_3 (dk_at dksX0_strain_0 21 rfl rfl)
theorem dX0_strain_22 : decode cX0_strain 22 = .ok (.goto 4, 3) := dk_167 0 4 (dk_at dksX0_strain_1 0 rfl rfl)
theorem dX0_strain_25 : decode cX0_strain 25 = .ok (.iconst 1, 1) := dk_4 (dk_at dksX0_strain_1 3 rfl rfl)
theorem dX0_strain_26 : decode cX0_strain 26 = .ok (.putfield 91, 3) := dk_181 0 91 (dk_at dksX0_strain_1 4 rfl rfl)
theorem dX0_strain_29 : decode cX0_strain 29 = .ok (.aload_n 0, 1) := dk_42 (dk_at dksX0_strain_1 7 rfl rfl)
theorem dX0_strain_30 : decode cX0_strain 30 = .ok (.getfield 91, 3) := dk_180 0 91 (dk_at dksX0_strain_1 8 rfl rfl)
theorem dX0_strain_33 : decode cX0_strain 33 = .ok (.ifCond .ne 13, 3) := dk_154 0 13 (dk_at dksX0_strain_1 11 rfl rfl)
theorem dX0_strain_36 : decode cX0_strain 36 = .ok (.aload_n 0, 1) := dk_42 (dk_at dksX0_strain_1 14 rfl rfl)
theorem dX0_strain_37 : decode cX0_strain 37 = .ok (.invokevirtual 168, 3) := dk_182 0 168 (dk_at dksX0_strain_1 15 rfl rfl)
theorem dX0_strain_40 : decode cX0_strain 40 = .ok (.getfield 323, 3) := dk_180 1 67 (dk_at dksX0_strain_1 18 rfl rfl)
theorem dX0_strain_43 : decode cX0_strain 43 = .ok (.iload_n 1, 1) := dk_27 (dk_at dksX0_strain_1 21 rfl rfl)
theorem dX0_strain_44 : decode cX0_strain 44 = .ok (.iload_n 2, 1) := dk_28 (dk_at dksX0_strain_1 22 rfl rfl)
theorem dX0_strain_45 : decode cX0_strain 45 = .ok (.iastore, 1) := dk_79 (dk_at dksX0_strain_1 23 rfl rfl)
theorem dX0_strain_46 : decode cX0_strain 46 = .ok (.aload_n 0, 1) := dk_42 (dk_at dksX0_strain_2 0 rfl rfl)
theorem dX0_strain_47 : decode cX0_strain 47 = .ok (.getfield 91, 3) := dk_180 0 91 (dk_at dksX0_strain_2 1 rfl rfl)
theorem dX0_strain_50 : decode cX0_strain 50 = .ok (.ifCond .ne 7, 3) := dk_154 0 7 (dk_at dksX0_strain_2 4 rfl rfl)
theorem dX0_strain_53 : decode cX0_strain 53 = .ok (.iconst 1, 1) := dk_4 (dk_at dksX0_strain_2 7 rfl rfl)
theorem dX0_strain_54 : decode cX0_strain 54 = .ok (.goto 4, 3) := dk_167 0 4 (dk_at dksX0_strain_2 8 rfl rfl)
theorem dX0_strain_57 : decode cX0_strain 57 = .ok (.iconst 0, 1) := dk_3 (dk_at dksX0_strain_2 11 rfl rfl)
theorem dX0_strain_58 : decode cX0_strain 58 = .ok (.ireturn, 1) := dk_172 (dk_at dksX0_strain_2 12 rfl rfl)
abbrev cX0_cue : ByteArray := prog_1_method_55_code
def yX0_cue : MethodName := ⟨RX0, "cue", "(I)I"⟩
def dkwX0_cue_1 : List UInt8 := [158, 0, 7, 2, 167, 0, 15, 42, 42, 182, 0, 168, 27, 182, 1, 108, 182, 1, 111, 172]
abbrev dktX0_cue_1 : List UInt8 := dkwX0_cue_1 ++ []
def dkwX0_cue_0 : List UInt8 := [42, 42, 27, 133, 182, 1, 48, 153, 0, 7, 3, 167, 0, 4, 4, 181, 0, 91, 42, 180, 0, 91]
abbrev dktX0_cue_0 : List UInt8 := dkwX0_cue_0 ++ dktX0_cue_1
theorem dksX0_cue_0 : cX0_cue.data.toList.drop 0 = dktX0_cue_0 := by decide +kernel
theorem dksX0_cue_1 : cX0_cue.data.toList.drop 22 = dktX0_cue_1 := dk_seg dksX0_cue_0 22 rfl rfl
theorem dX0_cue_0 : decode cX0_cue 0 = .ok (.aload_n 0, 1) := dk_42 (dk_at dksX0_cue_0 0 rfl rfl)
theorem dX0_cue_1 : decode cX0_cue 1 = .ok (.aload_n 0, 1) := dk_42 (dk_at dksX0_cue_0 1 rfl rfl)
theorem dX0_cue_2 : decode cX0_cue 2 = .ok (.iload_n 1, 1) := dk_27 (dk_at dksX0_cue_0 2 rfl rfl)
theorem dX0_cue_3 : decode cX0_cue 3 = .ok (.i2l, 1) := dk_133 (dk_at dksX0_cue_0 3 rfl rfl)
theorem dX0_cue_4 : decode cX0_cue 4 = .ok (.invokevirtual 304, 3) := dk_182 1 48 (dk_at dksX0_cue_0 4 rfl rfl)
theorem dX0_cue_7 : decode cX0_cue 7 = .ok (.ifCond .eq 7, 3) := dk_153 0 7 (dk_at dksX0_cue_0 7 rfl rfl)
theorem dX0_cue_10 : decode cX0_cue 10 = .ok (.iconst 0, 1) := dk_3 (dk_at dksX0_cue_0 10 rfl rfl)
theorem dX0_cue_11 : decode cX0_cue 11 = .ok (.goto 4, 3) := dk_167 0 4 (dk_at dksX0_cue_0 11 rfl rfl)
theorem dX0_cue_14 : decode cX0_cue 14 = .ok (.iconst 1, 1) := dk_4 (dk_at dksX0_cue_0 14 rfl rfl)
theorem dX0_cue_15 : decode cX0_cue 15 = .ok (.putfield 91, 3) := dk_181 0 91 (dk_at dksX0_cue_0 15 rfl rfl)
theorem dX0_cue_18 : decode cX0_cue 18 = .ok (.aload_n 0, 1) := dk_42 (dk_at dksX0_cue_0 18 rfl rfl)
theorem dX0_cue_19 : decode cX0_cue 19 = .ok (.getfield 91, 3) := dk_180 0 91 (dk_at dksX0_cue_0 19 rfl rfl)
theorem dX0_cue_22 : decode cX0_cue 22 = .ok (.ifCond .le 7, 3) := dk_158 0 7 (dk_at dksX0_cue_1 0 rfl rfl)
theorem dX0_cue_25 : decode cX0_cue 25 = .ok (.iconst (-1), 1) := dk_2 (dk_at dksX0_cue_1 3 rfl rfl)
theorem dX0_cue_26 : decode cX0_cue 26 = .ok (.goto 15, 3) := dk_167 0 15 (dk_at dksX0_cue_1 4 rfl rfl)
theorem dX0_cue_29 : decode cX0_cue 29 = .ok (.aload_n 0, 1) := dk_42 (dk_at dksX0_cue_1 7 rfl rfl)
theorem dX0_cue_30 : decode cX0_cue 30 = .ok (.aload_n 0, 1) := dk_42 (dk_at dksX0_cue_1 8 rfl rfl)
theorem dX0_cue_31 : decode cX0_cue 31 = .ok (.invokevirtual 168, 3) := dk_182 0 168 (dk_at dksX0_cue_1 9 rfl rfl)
theorem dX0_cue_34 : decode cX0_cue 34 = .ok (.iload_n 1, 1) := dk_27 (dk_at dksX0_cue_1 12 rfl rfl)
theorem dX0_cue_35 : decode cX0_cue 35 = .ok (.invokevirtual 364, 3) := dk_182 1 108 (dk_at dksX0_cue_1 13 rfl rfl)
theorem dX0_cue_38 : decode cX0_cue 38 = .ok (.invokevirtual 367, 3) := dk_182 1 111 (dk_at dksX0_cue_1 16 rfl rfl)
theorem dX0_cue_41 : decode cX0_cue 41 = .ok (.ireturn, 1) := dk_172 (dk_at dksX0_cue_1 19 rfl rfl)
abbrev cX0_answerCue : ByteArray := prog_1_method_54_code
def yX0_answerCue : MethodName := ⟨RX0, "answerCue", "(I)I"⟩
def dkwX0_answerCue_0 : List UInt8 := [42, 27, 42, 182, 0, 168, 180, 0, 179, 160, 0, 7, 2, 167, 0, 4, 27, 182, 1, 36, 172]
abbrev dktX0_answerCue_0 : List UInt8 := dkwX0_answerCue_0 ++ []
theorem dksX0_answerCue_0 : cX0_answerCue.data.toList.drop 0 = dktX0_answerCue_0 := by decide +kernel
theorem dX0_answerCue_0 : decode cX0_answerCue 0 = .ok (.aload_n 0, 1) := dk_42 (dk_at dksX0_answerCue_0 0 rfl rfl)
theorem dX0_answerCue_1 : decode cX0_answerCue 1 = .ok (.iload_n 1, 1) := dk_27 (dk_at dksX0_answerCue_0 1 rfl rfl)
theorem dX0_answerCue_2 : decode cX0_answerCue 2 = .ok (.aload_n 0, 1) := dk_42 (dk_at dksX0_answerCue_0 2 rfl rfl)
theorem dX0_answerCue_3 : decode cX0_answerCue 3 = .ok (.invokevirtual 168, 3) := dk_182 0 168 (dk_at dksX0_answerCue_0 3 rfl rfl)
theorem dX0_answerCue_6 : decode cX0_answerCue 6 = .ok (.getfield 179, 3) := dk_180 0 179 (dk_at dksX0_answerCue_0 6 rfl rfl)
theorem dX0_answerCue_9 : decode cX0_answerCue 9 = .ok (.if_icmp .ne 7, 3) := dk_160 0 7 (dk_at dksX0_answerCue_0 9 rfl rfl)
theorem dX0_answerCue_12 : decode cX0_answerCue 12 = .ok (.iconst (-1), 1) := dk_2 (dk_at dksX0_answerCue_0 12 rfl rfl)
theorem dX0_answerCue_13 : decode cX0_answerCue 13 = .ok (.goto 4, 3) := dk_167 0 4 (dk_at dksX0_answerCue_0 13 rfl rfl)
theorem dX0_answerCue_16 : decode cX0_answerCue 16 = .ok (.iload_n 1, 1) := dk_27 (dk_at dksX0_answerCue_0 16 rfl rfl)
theorem dX0_answerCue_17 : decode cX0_answerCue 17 = .ok (.invokevirtual 292, 3) := dk_182 1 36 (dk_at dksX0_answerCue_0 17 rfl rfl)
theorem dX0_answerCue_20 : decode cX0_answerCue 20 = .ok (.ireturn, 1) := dk_172 (dk_at dksX0_answerCue_0 20 rfl rfl)
abbrev cX0_cueAt : ByteArray := prog_1_method_56_code
def yX0_cueAt : MethodName := ⟨RX0, "cueAt", "(II)I"⟩
def dkwX0_cueAt_2 : List UInt8 := [28, 182, 1, 116, 182, 1, 111, 172]
abbrev dktX0_cueAt_2 : List UInt8 := dkwX0_cueAt_2 ++ []
def dkwX0_cueAt_1 : List UInt8 := [167, 0, 4, 4, 181, 0, 91, 42, 180, 0, 91, 158, 0, 7, 2, 167, 0, 16, 42, 42, 182, 0, 168, 27]
abbrev dktX0_cueAt_1 : List UInt8 := dkwX0_cueAt_1 ++ dktX0_cueAt_2
def dkwX0_cueAt_0 : List UInt8 := [42, 42, 27, 133, 182, 1, 48, 153, 0, 19, 28, 133, 9, 20, 1, 114, 184, 0, 175, 153, 0, 7, 3]
abbrev dktX0_cueAt_0 : List UInt8 := dkwX0_cueAt_0 ++ dktX0_cueAt_1
theorem dksX0_cueAt_0 : cX0_cueAt.data.toList.drop 0 = dktX0_cueAt_0 := by decide +kernel
theorem dksX0_cueAt_1 : cX0_cueAt.data.toList.drop 23 = dktX0_cueAt_1 := dk_seg dksX0_cueAt_0 23 rfl rfl
theorem dksX0_cueAt_2 : cX0_cueAt.data.toList.drop 47 = dktX0_cueAt_2 := dk_seg dksX0_cueAt_1 24 rfl rfl
theorem dX0_cueAt_0 : decode cX0_cueAt 0 = .ok (.aload_n 0, 1) := dk_42 (dk_at dksX0_cueAt_0 0 rfl rfl)
theorem dX0_cueAt_1 : decode cX0_cueAt 1 = .ok (.aload_n 0, 1) := dk_42 (dk_at dksX0_cueAt_0 1 rfl rfl)
theorem dX0_cueAt_2 : decode cX0_cueAt 2 = .ok (.iload_n 1, 1) := dk_27 (dk_at dksX0_cueAt_0 2 rfl rfl)
theorem dX0_cueAt_3 : decode cX0_cueAt 3 = .ok (.i2l, 1) := dk_133 (dk_at dksX0_cueAt_0 3 rfl rfl)
theorem dX0_cueAt_4 : decode cX0_cueAt 4 = .ok (.invokevirtual 304, 3) := dk_182 1 48 (dk_at dksX0_cueAt_0 4 rfl rfl)
theorem dX0_cueAt_7 : decode cX0_cueAt 7 = .ok (.ifCond .eq 19, 3) := dk_153 0 19 (dk_at dksX0_cueAt_0 7 rfl rfl)
theorem dX0_cueAt_10 : decode cX0_cueAt 10 = .ok (.iload_n 2, 1) := dk_28 (dk_at dksX0_cueAt_0 10 rfl rfl)
theorem dX0_cueAt_11 : decode cX0_cueAt 11 = .ok (.i2l, 1) := dk_133 (dk_at dksX0_cueAt_0 11 rfl rfl)
theorem dX0_cueAt_12 : decode cX0_cueAt 12 = .ok (.lconst 0, 1) := dk_9 (dk_at dksX0_cueAt_0 12 rfl rfl)
theorem dX0_cueAt_13 : decode cX0_cueAt 13 = .ok (.ldc2_w 370, 3) := dk_20 1 114 (dk_at dksX0_cueAt_0 13 rfl rfl)
theorem dX0_cueAt_16 : decode cX0_cueAt 16 = .ok (.invokestatic 175, 3) := dk_184 0 175 (dk_at dksX0_cueAt_0 16 rfl rfl)
theorem dX0_cueAt_19 : decode cX0_cueAt 19 = .ok (.ifCond .eq 7, 3) := dk_153 0 7 (dk_at dksX0_cueAt_0 19 rfl rfl)
theorem dX0_cueAt_22 : decode cX0_cueAt 22 = .ok (.iconst 0, 1) := dk_3 (dk_at dksX0_cueAt_0 22 rfl rfl)
theorem dX0_cueAt_23 : decode cX0_cueAt 23 = .ok (.goto 4, 3) := dk_167 0 4 (dk_at dksX0_cueAt_1 0 rfl rfl)
theorem dX0_cueAt_26 : decode cX0_cueAt 26 = .ok (.iconst 1, 1) := dk_4 (dk_at dksX0_cueAt_1 3 rfl rfl)
theorem dX0_cueAt_27 : decode cX0_cueAt 27 = .ok (.putfield 91, 3) := dk_181 0 91 (dk_at dksX0_cueAt_1 4 rfl rfl)
theorem dX0_cueAt_30 : decode cX0_cueAt 30 = .ok (.aload_n 0, 1) := dk_42 (dk_at dksX0_cueAt_1 7 rfl rfl)
theorem dX0_cueAt_31 : decode cX0_cueAt 31 = .ok (.getfield 91, 3) := dk_180 0 91 (dk_at dksX0_cueAt_1 8 rfl rfl)
theorem dX0_cueAt_34 : decode cX0_cueAt 34 = .ok (.ifCond .le 7, 3) := dk_158 0 7 (dk_at dksX0_cueAt_1 11 rfl rfl)
theorem dX0_cueAt_37 : decode cX0_cueAt 37 = .ok (.iconst (-1), 1) := dk_2 (dk_at dksX0_cueAt_1 14 rfl rfl)
theorem dX0_cueAt_38 : decode cX0_cueAt 38 = .ok (.goto 16, 3) := dk_167 0 16 (dk_at dksX0_cueAt_1 15 rfl rfl)
theorem dX0_cueAt_41 : decode cX0_cueAt 41 = .ok (.aload_n 0, 1) := dk_42 (dk_at dksX0_cueAt_1 18 rfl rfl)
theorem dX0_cueAt_42 : decode cX0_cueAt 42 = .ok (.aload_n 0, 1) := dk_42 (dk_at dksX0_cueAt_1 19 rfl rfl)
theorem dX0_cueAt_43 : decode cX0_cueAt 43 = .ok (.invokevirtual 168, 3) := dk_182 0 168 (dk_at dksX0_cueAt_1 20 rfl rfl)
theorem dX0_cueAt_46 : decode cX0_cueAt 46 = .ok (.iload_n 1, 1) := dk_27 (dk_at dksX0_cueAt_1 23 rfl rfl)
theorem dX0_cueAt_47 : decode cX0_cueAt 47 = .ok (.iload_n 2, 1) := dk_28 (dk_at dksX0_cueAt_2 0 rfl rfl)
theorem dX0_cueAt_48 : decode cX0_cueAt 48 = .ok (.invokevirtual 372, 3) := dk_182 1 116 (dk_at dksX0_cueAt_2 1 rfl rfl)
theorem dX0_cueAt_51 : decode cX0_cueAt 51 = .ok (.invokevirtual 367, 3) := dk_182 1 111 (dk_at dksX0_cueAt_2 4 rfl rfl)
theorem dX0_cueAt_54 : decode cX0_cueAt 54 = .ok (.ireturn, 1) := dk_172 (dk_at dksX0_cueAt_2 7 rfl rfl)
abbrev cX0_bears : ByteArray := prog_1_method_57_code
def yX0_bears : MethodName := ⟨RX0, "bears", "(I)I"⟩
def dkwX0_bears_3 : List UInt8 := [42, 182, 0, 168, 180, 1, 55, 27, 46, 182, 1, 120, 182, 1, 36, 172]
abbrev dktX0_bears_3 : List UInt8 := dkwX0_bears_3 ++ []
def dkwX0_bears_2 : List UInt8 := [160, 0, 7, 4, 167, 0, 4, 3, 42, 182, 0, 168, 180, 1, 52, 27, 46, 42, 182, 0, 168, 180, 0, 245]
abbrev dktX0_bears_2 : List UInt8 := dkwX0_bears_2 ++ dktX0_bears_3
def dkwX0_bears_1 : List UInt8 := [158, 0, 7, 2, 167, 0, 57, 42, 42, 182, 0, 168, 42, 182, 0, 168, 180, 0, 237, 27, 46, 4]
abbrev dktX0_bears_1 : List UInt8 := dkwX0_bears_1 ++ dktX0_bears_2
def dkwX0_bears_0 : List UInt8 := [42, 42, 27, 133, 182, 1, 48, 153, 0, 7, 3, 167, 0, 4, 4, 181, 0, 91, 42, 180, 0, 91]
abbrev dktX0_bears_0 : List UInt8 := dkwX0_bears_0 ++ dktX0_bears_1
theorem dksX0_bears_0 : cX0_bears.data.toList.drop 0 = dktX0_bears_0 := by decide +kernel
theorem dksX0_bears_1 : cX0_bears.data.toList.drop 22 = dktX0_bears_1 := dk_seg dksX0_bears_0 22 rfl rfl
theorem dksX0_bears_2 : cX0_bears.data.toList.drop 44 = dktX0_bears_2 := dk_seg dksX0_bears_1 22 rfl rfl
theorem dksX0_bears_3 : cX0_bears.data.toList.drop 68 = dktX0_bears_3 := dk_seg dksX0_bears_2 24 rfl rfl
theorem dX0_bears_0 : decode cX0_bears 0 = .ok (.aload_n 0, 1) := dk_42 (dk_at dksX0_bears_0 0 rfl rfl)
theorem dX0_bears_1 : decode cX0_bears 1 = .ok (.aload_n 0, 1) := dk_42 (dk_at dksX0_bears_0 1 rfl rfl)
theorem dX0_bears_2 : decode cX0_bears 2 = .ok (.iload_n 1, 1) := dk_27 (dk_at dksX0_bears_0 2 rfl rfl)
theorem dX0_bears_3 : decode cX0_bears 3 = .ok (.i2l, 1) := dk_133 (dk_at dksX0_bears_0 3 rfl rfl)
theorem dX0_bears_4 : decode cX0_bears 4 = .ok (.invokevirtual 304, 3) := dk_182 1 48 (dk_at dksX0_bears_0 4 rfl rfl)
theorem dX0_bears_7 : decode cX0_bears 7 = .ok (.ifCond .eq 7, 3) := dk_153 0 7 (dk_at dksX0_bears_0 7 rfl rfl)
theorem dX0_bears_10 : decode cX0_bears 10 = .ok (.iconst 0, 1) := dk_3 (dk_at dksX0_bears_0 10 rfl rfl)
theorem dX0_bears_11 : decode cX0_bears 11 = .ok (.goto 4, 3) := dk_167 0 4 (dk_at dksX0_bears_0 11 rfl rfl)
theorem dX0_bears_14 : decode cX0_bears 14 = .ok (.iconst 1, 1) := dk_4 (dk_at dksX0_bears_0 14 rfl rfl)
theorem dX0_bears_15 : decode cX0_bears 15 = .ok (.putfield 91, 3) := dk_181 0 91 (dk_at dksX0_bears_0 15 rfl rfl)
theorem dX0_bears_18 : decode cX0_bears 18 = .ok (.aload_n 0, 1) := dk_42 (dk_at dksX0_bears_0 18 rfl rfl)
theorem dX0_bears_19 : decode cX0_bears 19 = .ok (.getfield 91, 3) := dk_180 0 91 (dk_at dksX0_bears_0 19 rfl rfl)
theorem dX0_bears_22 : decode cX0_bears 22 = .ok (.ifCond .le 7, 3) := dk_158 0 7 (dk_at dksX0_bears_1 0 rfl rfl)
theorem dX0_bears_25 : decode cX0_bears 25 = .ok (.iconst (-1), 1) := dk_2 (dk_at dksX0_bears_1 3 rfl rfl)
theorem dX0_bears_26 : decode cX0_bears 26 = .ok (.goto 57, 3) := dk_167 0 57 (dk_at dksX0_bears_1 4 rfl rfl)
theorem dX0_bears_29 : decode cX0_bears 29 = .ok (.aload_n 0, 1) := dk_42 (dk_at dksX0_bears_1 7 rfl rfl)
theorem dX0_bears_30 : decode cX0_bears 30 = .ok (.aload_n 0, 1) := dk_42 (dk_at dksX0_bears_1 8 rfl rfl)
theorem dX0_bears_31 : decode cX0_bears 31 = .ok (.invokevirtual 168, 3) := dk_182 0 168 (dk_at dksX0_bears_1 9 rfl rfl)
theorem dX0_bears_34 : decode cX0_bears 34 = .ok (.aload_n 0, 1) := dk_42 (dk_at dksX0_bears_1 12 rfl rfl)
theorem dX0_bears_35 : decode cX0_bears 35 = .ok (.invokevirtual 168, 3) := dk_182 0 168 (dk_at dksX0_bears_1 13 rfl rfl)
theorem dX0_bears_38 : decode cX0_bears 38 = .ok (.getfield 237, 3) := dk_180 0 237 (dk_at dksX0_bears_1 16 rfl rfl)
theorem dX0_bears_41 : decode cX0_bears 41 = .ok (.iload_n 1, 1) := dk_27 (dk_at dksX0_bears_1 19 rfl rfl)
theorem dX0_bears_42 : decode cX0_bears 42 = .ok (.iaload, 1) := dk_46 (dk_at dksX0_bears_1 20 rfl rfl)
theorem dX0_bears_43 : decode cX0_bears 43 = .ok (.iconst 1, 1) := dk_4 (dk_at dksX0_bears_1 21 rfl rfl)
theorem dX0_bears_44 : decode cX0_bears 44 = .ok (.if_icmp .ne 7, 3) := dk_160 0 7 (dk_at dksX0_bears_2 0 rfl rfl)
theorem dX0_bears_47 : decode cX0_bears 47 = .ok (.iconst 1, 1) := dk_4 (dk_at dksX0_bears_2 3 rfl rfl)
theorem dX0_bears_48 : decode cX0_bears 48 = .ok (.goto 4, 3) := dk_167 0 4 (dk_at dksX0_bears_2 4 rfl rfl)
theorem dX0_bears_51 : decode cX0_bears 51 = .ok (.iconst 0, 1) := dk_3 (dk_at dksX0_bears_2 7 rfl rfl)
theorem dX0_bears_52 : decode cX0_bears 52 = .ok (.aload_n 0, 1) := dk_42 (dk_at dksX0_bears_2 8 rfl rfl)
theorem dX0_bears_53 : decode cX0_bears 53 = .ok (.invokevirtual 168, 3) := dk_182 0 168 (dk_at dksX0_bears_2 9 rfl rfl)
theorem dX0_bears_56 : decode cX0_bears 56 = .ok (.getfield 308, 3) := dk_180 1 52 (dk_at dksX0_bears_2 12 rfl rfl)
theorem dX0_bears_59 : decode cX0_bears 59 = .ok (.iload_n 1, 1) := dk_27 (dk_at dksX0_bears_2 15 rfl rfl)
theorem dX0_bears_60 : decode cX0_bears 60 = .ok (.iaload, 1) := dk_46 (dk_at dksX0_bears_2 16 rfl rfl)
theorem dX0_bears_61 : decode cX0_bears 61 = .ok (.aload_n 0, 1) := dk_42 (dk_at dksX0_bears_2 17 rfl rfl)
theorem dX0_bears_62 : decode cX0_bears 62 = .ok (.invokevirtual 168, 3) := dk_182 0 168 (dk_at dksX0_bears_2 18 rfl rfl)
theorem dX0_bears_65 : decode cX0_bears 65 = .ok (.getfield 245, 3) := dk_180 0 245 (dk_at dksX0_bears_2 21 rfl rfl)
theorem dX0_bears_68 : decode cX0_bears 68 = .ok (.aload_n 0, 1) := dk_42 (dk_at dksX0_bears_3 0 rfl rfl)
theorem dX0_bears_69 : decode cX0_bears 69 = .ok (.invokevirtual 168, 3) := dk_182 0 168 (dk_at dksX0_bears_3 1 rfl rfl)
theorem dX0_bears_72 : decode cX0_bears 72 = .ok (.getfield 311, 3) := dk_180 1 55 (dk_at dksX0_bears_3 4 rfl rfl)
theorem dX0_bears_75 : decode cX0_bears 75 = .ok (.iload_n 1, 1) := dk_27 (dk_at dksX0_bears_3 7 rfl rfl)
theorem dX0_bears_76 : decode cX0_bears 76 = .ok (.iaload, 1) := dk_46 (dk_at dksX0_bears_3 8 rfl rfl)
theorem dX0_bears_77 : decode cX0_bears 77 = .ok (.invokevirtual 376, 3) := dk_182 1 120 (dk_at dksX0_bears_3 9 rfl rfl)
theorem dX0_bears_80 : decode cX0_bears 80 = .ok (.invokevirtual 292, 3) := dk_182 1 36 (dk_at dksX0_bears_3 12 rfl rfl)
theorem dX0_bears_83 : decode cX0_bears 83 = .ok (.ireturn, 1) := dk_172 (dk_at dksX0_bears_3 15 rfl rfl)
abbrev cX0_bearing : ByteArray := prog_1_method_58_code
def yX0_bearing : MethodName := ⟨RX0, "bearing", "(I)I"⟩
def dkwX0_bearing_5 : List UInt8 := [167, 255, 174, 28, 172]
abbrev dktX0_bearing_5 : List UInt8 := dkwX0_bearing_5 ++ []
def dkwX0_bearing_4 : List UInt8 := [180, 1, 55, 27, 46, 182, 1, 124, 153, 0, 9, 4, 29, 120, 167, 0, 4, 3, 128, 61, 132, 3, 1]
abbrev dktX0_bearing_4 : List UInt8 := dkwX0_bearing_4 ++ dktX0_bearing_5
def dkwX0_bearing_3 : List UInt8 := [167, 0, 4, 3, 42, 182, 0, 168, 180, 1, 52, 27, 46, 42, 182, 0, 168, 180, 0, 245, 42, 182, 0, 168]
abbrev dktX0_bearing_3 : List UInt8 := dkwX0_bearing_3 ++ dktX0_bearing_4
def dkwX0_bearing_2 : List UInt8 := [182, 0, 168, 180, 1, 18, 29, 50, 42, 182, 0, 168, 180, 0, 237, 27, 46, 4, 160, 0, 7, 4]
abbrev dktX0_bearing_2 : List UInt8 := dkwX0_bearing_2 ++ dktX0_bearing_3
def dkwX0_bearing_1 : List UInt8 := [158, 0, 5, 2, 172, 3, 61, 3, 62, 29, 42, 182, 0, 168, 180, 0, 182, 162, 0, 77, 28, 42]
abbrev dktX0_bearing_1 : List UInt8 := dkwX0_bearing_1 ++ dktX0_bearing_2
def dkwX0_bearing_0 : List UInt8 := [42, 42, 27, 133, 182, 1, 48, 153, 0, 7, 3, 167, 0, 4, 4, 181, 0, 91, 42, 180, 0, 91]
abbrev dktX0_bearing_0 : List UInt8 := dkwX0_bearing_0 ++ dktX0_bearing_1
theorem dksX0_bearing_0 : cX0_bearing.data.toList.drop 0 = dktX0_bearing_0 := by decide +kernel
theorem dksX0_bearing_1 : cX0_bearing.data.toList.drop 22 = dktX0_bearing_1 := dk_seg dksX0_bearing_0 22 rfl rfl
theorem dksX0_bearing_2 : cX0_bearing.data.toList.drop 44 = dktX0_bearing_2 := dk_seg dksX0_bearing_1 22 rfl rfl
theorem dksX0_bearing_3 : cX0_bearing.data.toList.drop 66 = dktX0_bearing_3 := dk_seg dksX0_bearing_2 22 rfl rfl
theorem dksX0_bearing_4 : cX0_bearing.data.toList.drop 90 = dktX0_bearing_4 := dk_seg dksX0_bearing_3 24 rfl rfl
theorem dksX0_bearing_5 : cX0_bearing.data.toList.drop 113 = dktX0_bearing_5 := dk_seg dksX0_bearing_4 23 rfl rfl
theorem dX0_bearing_0 : decode cX0_bearing 0 = .ok (.aload_n 0, 1) := dk_42 (dk_at dksX0_bearing_0 0 rfl rfl)
theorem dX0_bearing_1 : decode cX0_bearing 1 = .ok (.aload_n 0, 1) := dk_42 (dk_at dksX0_bearing_0 1 rfl rfl)
theorem dX0_bearing_2 : decode cX0_bearing 2 = .ok (.iload_n 1, 1) := dk_27 (dk_at dksX0_bearing_0 2 rfl rfl)
theorem dX0_bearing_3 : decode cX0_bearing 3 = .ok (.i2l, 1) := dk_133 (dk_at dksX0_bearing_0 3 rfl rfl)
theorem dX0_bearing_4 : decode cX0_bearing 4 = .ok (.invokevirtual 304, 3) := dk_182 1 48 (dk_at dksX0_bearing_0 4 rfl rfl)
theorem dX0_bearing_7 : decode cX0_bearing 7 = .ok (.ifCond .eq 7, 3) := dk_153 0 7 (dk_at dksX0_bearing_0 7 rfl rfl)
theorem dX0_bearing_10 : decode cX0_bearing 10 = .ok (.iconst 0, 1) := dk_3 (dk_at dksX0_bearing_0 10 rfl rfl)
theorem dX0_bearing_11 : decode cX0_bearing 11 = .ok (.goto 4, 3) := dk_167 0 4 (dk_at dksX0_bearing_0 11 rfl rfl)
theorem dX0_bearing_14 : decode cX0_bearing 14 = .ok (.iconst 1, 1) := dk_4 (dk_at dksX0_bearing_0 14 rfl rfl)
theorem dX0_bearing_15 : decode cX0_bearing 15 = .ok (.putfield 91, 3) := dk_181 0 91 (dk_at dksX0_bearing_0 15 rfl rfl)
theorem dX0_bearing_18 : decode cX0_bearing 18 = .ok (.aload_n 0, 1) := dk_42 (dk_at dksX0_bearing_0 18 rfl rfl)
theorem dX0_bearing_19 : decode cX0_bearing 19 = .ok (.getfield 91, 3) := dk_180 0 91 (dk_at dksX0_bearing_0 19 rfl rfl)
theorem dX0_bearing_22 : decode cX0_bearing 22 = .ok (.ifCond .le 5, 3) := dk_158 0 5 (dk_at dksX0_bearing_1 0 rfl rfl)
theorem dX0_bearing_25 : decode cX0_bearing 25 = .ok (.iconst (-1), 1) := dk_2 (dk_at dksX0_bearing_1 3 rfl rfl)
theorem dX0_bearing_26 : decode cX0_bearing 26 = .ok (.ireturn, 1) := dk_172 (dk_at dksX0_bearing_1 4 rfl rfl)
theorem dX0_bearing_27 : decode cX0_bearing 27 = .ok (.iconst 0, 1) := dk_3 (dk_at dksX0_bearing_1 5 rfl rfl)
theorem dX0_bearing_28 : decode cX0_bearing 28 = .ok (.istore_n 2, 1) := dk_61 (dk_at dksX0_bearing_1 6 rfl rfl)
theorem dX0_bearing_29 : decode cX0_bearing 29 = .ok (.iconst 0, 1) := dk_3 (dk_at dksX0_bearing_1 7 rfl rfl)
theorem dX0_bearing_30 : decode cX0_bearing 30 = .ok (.istore_n 3, 1) := dk_62 (dk_at dksX0_bearing_1 8 rfl rfl)
theorem dX0_bearing_31 : decode cX0_bearing 31 = .ok (.iload_n 3, 1) := dk_29 (dk_at dksX0_bearing_1 9 rfl rfl)
theorem dX0_bearing_32 : decode cX0_bearing 32 = .ok (.aload_n 0, 1) := dk_42 (dk_at dksX0_bearing_1 10 rfl rfl)
theorem dX0_bearing_33 : decode cX0_bearing 33 = .ok (.invokevirtual 168, 3) := dk_182 0 168 (dk_at dksX0_bearing_1 11 rfl rfl)
theorem dX0_bearing_36 : decode cX0_bearing 36 = .ok (.getfield 182, 3) := dk_180 0 182 (dk_at dksX0_bearing_1 14 rfl rfl)
theorem dX0_bearing_39 : decode cX0_bearing 39 = .ok (.if_icmp .ge 77, 3) := dk_162 0 77 (dk_at dksX0_bearing_1 17 rfl rfl)
theorem dX0_bearing_42 : decode cX0_bearing 42 = .ok (.iload_n 2, 1) := dk_28 (dk_at dksX0_bearing_1 20 rfl rfl)
theorem dX0_bearing_43 : decode cX0_bearing 43 = .ok (.aload_n 0, 1) := dk_42 (dk_at dksX0_bearing_1 21 rfl rfl)
theorem dX0_bearing_44 : decode cX0_bearing 44 = .ok (.invokevirtual 168, 3) := dk_182 0 168 (dk_at dksX0_bearing_2 0 rfl rfl)
theorem dX0_bearing_47 : decode cX0_bearing 47 = .ok (.getfield 274, 3) := dk_180 1 18 (dk_at dksX0_bearing_2 3 rfl rfl)
theorem dX0_bearing_50 : decode cX0_bearing 50 = .ok (.iload_n 3, 1) := dk_29 (dk_at dksX0_bearing_2 6 rfl rfl)
theorem dX0_bearing_51 : decode cX0_bearing 51 = .ok (.aaload, 1) := dk_50 (dk_at dksX0_bearing_2 7 rfl rfl)
theorem dX0_bearing_52 : decode cX0_bearing 52 = .ok (.aload_n 0, 1) := dk_42 (dk_at dksX0_bearing_2 8 rfl rfl)
theorem dX0_bearing_53 : decode cX0_bearing 53 = .ok (.invokevirtual 168, 3) := dk_182 0 168 (dk_at dksX0_bearing_2 9 rfl rfl)
theorem dX0_bearing_56 : decode cX0_bearing 56 = .ok (.getfield 237, 3) := dk_180 0 237 (dk_at dksX0_bearing_2 12 rfl rfl)
theorem dX0_bearing_59 : decode cX0_bearing 59 = .ok (.iload_n 1, 1) := dk_27 (dk_at dksX0_bearing_2 15 rfl rfl)
theorem dX0_bearing_60 : decode cX0_bearing 60 = .ok (.iaload, 1) := dk_46 (dk_at dksX0_bearing_2 16 rfl rfl)
theorem dX0_bearing_61 : decode cX0_bearing 61 = .ok (.iconst 1, 1) := dk_4 (dk_at dksX0_bearing_2 17 rfl rfl)
theorem dX0_bearing_62 : decode cX0_bearing 62 = .ok (.if_icmp .ne 7, 3) := dk_160 0 7 (dk_at dksX0_bearing_2 18 rfl rfl)
theorem dX0_bearing_65 : decode cX0_bearing 65 = .ok (.iconst 1, 1) := dk_4 (dk_at dksX0_bearing_2 21 rfl rfl)
theorem dX0_bearing_66 : decode cX0_bearing 66 = .ok (.goto 4, 3) := dk_167 0 4 (dk_at dksX0_bearing_3 0 rfl rfl)
theorem dX0_bearing_69 : decode cX0_bearing 69 = .ok (.iconst 0, 1) := dk_3 (dk_at dksX0_bearing_3 3 rfl rfl)
theorem dX0_bearing_70 : decode cX0_bearing 70 = .ok (.aload_n 0, 1) := dk_42 (dk_at dksX0_bearing_3 4 rfl rfl)
theorem dX0_bearing_71 : decode cX0_bearing 71 = .ok (.invokevirtual 168, 3) := dk_182 0 168 (dk_at dksX0_bearing_3 5 rfl rfl)
theorem dX0_bearing_74 : decode cX0_bearing 74 = .ok (.getfield 308, 3) := dk_180 1 52 (dk_at dksX0_bearing_3 8 rfl rfl)
theorem dX0_bearing_77 : decode cX0_bearing 77 = .ok (.iload_n 1, 1) := dk_27 (dk_at dksX0_bearing_3 11 rfl rfl)
theorem dX0_bearing_78 : decode cX0_bearing 78 = .ok (.iaload, 1) := dk_46 (dk_at dksX0_bearing_3 12 rfl rfl)
theorem dX0_bearing_79 : decode cX0_bearing 79 = .ok (.aload_n 0, 1) := dk_42 (dk_at dksX0_bearing_3 13 rfl rfl)
theorem dX0_bearing_80 : decode cX0_bearing 80 = .ok (.invokevirtual 168, 3) := dk_182 0 168 (dk_at dksX0_bearing_3 14 rfl rfl)
theorem dX0_bearing_83 : decode cX0_bearing 83 = .ok (.getfield 245, 3) := dk_180 0 245 (dk_at dksX0_bearing_3 17 rfl rfl)
theorem dX0_bearing_86 : decode cX0_bearing 86 = .ok (.aload_n 0, 1) := dk_42 (dk_at dksX0_bearing_3 20 rfl rfl)
theorem dX0_bearing_87 : decode cX0_bearing 87 = .ok (.invokevirtual 168, 3) := dk_182 0 168 (dk_at dksX0_bearing_3 21 rfl rfl)
theorem dX0_bearing_90 : decode cX0_bearing 90 = .ok (.getfield 311, 3) := dk_180 1 55 (dk_at dksX0_bearing_4 0 rfl rfl)
theorem dX0_bearing_93 : decode cX0_bearing 93 = .ok (.iload_n 1, 1) := dk_27 (dk_at dksX0_bearing_4 3 rfl rfl)
theorem dX0_bearing_94 : decode cX0_bearing 94 = .ok (.iaload, 1) := dk_46 (dk_at dksX0_bearing_4 4 rfl rfl)
theorem dX0_bearing_95 : decode cX0_bearing 95 = .ok (.invokevirtual 380, 3) := dk_182 1 124 (dk_at dksX0_bearing_4 5 rfl rfl)
theorem dX0_bearing_98 : decode cX0_bearing 98 = .ok (.ifCond .eq 9, 3) := dk_153 0 9 (dk_at dksX0_bearing_4 8 rfl rfl)
theorem dX0_bearing_101 : decode cX0_bearing 101 = .ok (.iconst 1, 1) := dk_4 (dk_at dksX0_bearing_4 11 rfl rfl)
theorem dX0_bearing_102 : decode cX0_bearing 102 = .ok (.iload_n 3, 1) := dk_29 (dk_at dksX0_bearing_4 12 rfl rfl)
theorem dX0_bearing_103 : decode cX0_bearing 103 = .ok (.ishl, 1) := dk_120 (dk_at dksX0_bearing_4 13 rfl rfl)
theorem dX0_bearing_104 : decode cX0_bearing 104 = .ok (.goto 4, 3) := dk_167 0 4 (dk_at dksX0_bearing_4 14 rfl rfl)
theorem dX0_bearing_107 : decode cX0_bearing 107 = .ok (.iconst 0, 1) := dk_3 (dk_at dksX0_bearing_4 17 rfl rfl)
theorem dX0_bearing_108 : decode cX0_bearing 108 = .ok (.ior, 1) := dk_128 (dk_at dksX0_bearing_4 18 rfl rfl)
theorem dX0_bearing_109 : decode cX0_bearing 109 = .ok (.istore_n 2, 1) := dk_61 (dk_at dksX0_bearing_4 19 rfl rfl)
theorem dX0_bearing_110 : decode cX0_bearing 110 = .ok (.iinc 3 1, 3) := dk_132 3 1 (dk_at dksX0_bearing_4 20 rfl rfl)
theorem dX0_bearing_113 : decode cX0_bearing 113 = .ok (.goto (-82), 3) := dk_167 255 174 (dk_at dksX0_bearing_5 0 rfl rfl)
theorem dX0_bearing_116 : decode cX0_bearing 116 = .ok (.iload_n 2, 1) := dk_28 (dk_at dksX0_bearing_5 3 rfl rfl)
theorem dX0_bearing_117 : decode cX0_bearing 117 = .ok (.ireturn, 1) := dk_172 (dk_at dksX0_bearing_5 4 rfl rfl)
abbrev cX0_shown : ByteArray := prog_1_method_59_code
def yX0_shown : MethodName := ⟨RX0, "shown", "(I)I"⟩
def dkwX0_shown_2 : List UInt8 := [182, 1, 108, 27, 160, 0, 9, 4, 29, 120, 167, 0, 4, 3, 128, 61, 132, 3, 1, 167, 255, 220, 28, 172]
abbrev dktX0_shown_2 : List UInt8 := dkwX0_shown_2 ++ []
def dkwX0_shown_1 : List UInt8 := [2, 172, 3, 61, 3, 62, 29, 42, 182, 0, 168, 180, 0, 185, 162, 0, 31, 28, 42, 182, 0, 168, 29]
abbrev dktX0_shown_1 : List UInt8 := dkwX0_shown_1 ++ dktX0_shown_2
def dkwX0_shown_0 : List UInt8 := [42, 42, 27, 182, 1, 6, 153, 0, 7, 3, 167, 0, 4, 4, 181, 0, 91, 42, 180, 0, 91, 158, 0, 5]
abbrev dktX0_shown_0 : List UInt8 := dkwX0_shown_0 ++ dktX0_shown_1
theorem dksX0_shown_0 : cX0_shown.data.toList.drop 0 = dktX0_shown_0 := by decide +kernel
theorem dksX0_shown_1 : cX0_shown.data.toList.drop 24 = dktX0_shown_1 := dk_seg dksX0_shown_0 24 rfl rfl
theorem dksX0_shown_2 : cX0_shown.data.toList.drop 47 = dktX0_shown_2 := dk_seg dksX0_shown_1 23 rfl rfl
theorem dX0_shown_0 : decode cX0_shown 0 = .ok (.aload_n 0, 1) := dk_42 (dk_at dksX0_shown_0 0 rfl rfl)
theorem dX0_shown_1 : decode cX0_shown 1 = .ok (.aload_n 0, 1) := dk_42 (dk_at dksX0_shown_0 1 rfl rfl)
theorem dX0_shown_2 : decode cX0_shown 2 = .ok (.iload_n 1, 1) := dk_27 (dk_at dksX0_shown_0 2 rfl rfl)
theorem dX0_shown_3 : decode cX0_shown 3 = .ok (.invokevirtual 262, 3) := dk_182 1 6 (dk_at dksX0_shown_0 3 rfl rfl)
theorem dX0_shown_6 : decode cX0_shown 6 = .ok (.ifCond .eq 7, 3) := dk_153 0 7 (dk_at dksX0_shown_0 6 rfl rfl)
theorem dX0_shown_9 : decode cX0_shown 9 = .ok (.iconst 0, 1) := dk_3 (dk_at dksX0_shown_0 9 rfl rfl)
theorem dX0_shown_10 : decode cX0_shown 10 = .ok (.goto 4, 3) := dk_167 0 4 (dk_at dksX0_shown_0 10 rfl rfl)
theorem dX0_shown_13 : decode cX0_shown 13 = .ok (.iconst 1, 1) := dk_4 (dk_at dksX0_shown_0 13 rfl rfl)
theorem dX0_shown_14 : decode cX0_shown 14 = .ok (.putfield 91, 3) := dk_181 0 91 (dk_at dksX0_shown_0 14 rfl rfl)
theorem dX0_shown_17 : decode cX0_shown 17 = .ok (.aload_n 0, 1) := dk_42 (dk_at dksX0_shown_0 17 rfl rfl)
theorem dX0_shown_18 : decode cX0_shown 18 = .ok (.getfield 91, 3) := dk_180 0 91 (dk_at dksX0_shown_0 18 rfl rfl)
theorem dX0_shown_21 : decode cX0_shown 21 = .ok (.ifCond .le 5, 3) := dk_158 0 5 (dk_at dksX0_shown_0 21 rfl rfl)
theorem dX0_shown_24 : decode cX0_shown 24 = .ok (.iconst (-1), 1) := dk_2 (dk_at dksX0_shown_1 0 rfl rfl)
theorem dX0_shown_25 : decode cX0_shown 25 = .ok (.ireturn, 1) := dk_172 (dk_at dksX0_shown_1 1 rfl rfl)
theorem dX0_shown_26 : decode cX0_shown 26 = .ok (.iconst 0, 1) := dk_3 (dk_at dksX0_shown_1 2 rfl rfl)
theorem dX0_shown_27 : decode cX0_shown 27 = .ok (.istore_n 2, 1) := dk_61 (dk_at dksX0_shown_1 3 rfl rfl)
theorem dX0_shown_28 : decode cX0_shown 28 = .ok (.iconst 0, 1) := dk_3 (dk_at dksX0_shown_1 4 rfl rfl)
theorem dX0_shown_29 : decode cX0_shown 29 = .ok (.istore_n 3, 1) := dk_62 (dk_at dksX0_shown_1 5 rfl rfl)
theorem dX0_shown_30 : decode cX0_shown 30 = .ok (.iload_n 3, 1) := dk_29 (dk_at dksX0_shown_1 6 rfl rfl)
theorem dX0_shown_31 : decode cX0_shown 31 = .ok (.aload_n 0, 1) := dk_42 (dk_at dksX0_shown_1 7 rfl rfl)
theorem dX0_shown_32 : decode cX0_shown 32 = .ok (.invokevirtual 168, 3) := dk_182 0 168 (dk_at dksX0_shown_1 8 rfl rfl)
theorem dX0_shown_35 : decode cX0_shown 35 = .ok (.getfield 185, 3) := dk_180 0 185 (dk_at dksX0_shown_1 11 rfl rfl)
theorem dX0_shown_38 : decode cX0_shown 38 = .ok (.if_icmp .ge 31, 3) := dk_162 0 31 (dk_at dksX0_shown_1 14 rfl rfl)
theorem dX0_shown_41 : decode cX0_shown 41 = .ok (.iload_n 2, 1) := dk_28 (dk_at dksX0_shown_1 17 rfl rfl)
theorem dX0_shown_42 : decode cX0_shown 42 = .ok (.aload_n 0, 1) := dk_42 (dk_at dksX0_shown_1 18 rfl rfl)
theorem dX0_shown_43 : decode cX0_shown 43 = .ok (.invokevirtual 168, 3) := dk_182 0 168 (dk_at dksX0_shown_1 19 rfl rfl)
theorem dX0_shown_46 : decode cX0_shown 46 = .ok (.iload_n 3, 1) := dk_29 (dk_at dksX0_shown_1 22 rfl rfl)
theorem dX0_shown_47 : decode cX0_shown 47 = .ok (.invokevirtual 364, 3) := dk_182 1 108 (dk_at dksX0_shown_2 0 rfl rfl)
theorem dX0_shown_50 : decode cX0_shown 50 = .ok (.iload_n 1, 1) := dk_27 (dk_at dksX0_shown_2 3 rfl rfl)
theorem dX0_shown_51 : decode cX0_shown 51 = .ok (.if_icmp .ne 9, 3) := dk_160 0 9 (dk_at dksX0_shown_2 4 rfl rfl)
theorem dX0_shown_54 : decode cX0_shown 54 = .ok (.iconst 1, 1) := dk_4 (dk_at dksX0_shown_2 7 rfl rfl)
theorem dX0_shown_55 : decode cX0_shown 55 = .ok (.iload_n 3, 1) := dk_29 (dk_at dksX0_shown_2 8 rfl rfl)
theorem dX0_shown_56 : decode cX0_shown 56 = .ok (.ishl, 1) := dk_120 (dk_at dksX0_shown_2 9 rfl rfl)
theorem dX0_shown_57 : decode cX0_shown 57 = .ok (.goto 4, 3) := dk_167 0 4 (dk_at dksX0_shown_2 10 rfl rfl)
theorem dX0_shown_60 : decode cX0_shown 60 = .ok (.iconst 0, 1) := dk_3 (dk_at dksX0_shown_2 13 rfl rfl)
theorem dX0_shown_61 : decode cX0_shown 61 = .ok (.ior, 1) := dk_128 (dk_at dksX0_shown_2 14 rfl rfl)
theorem dX0_shown_62 : decode cX0_shown 62 = .ok (.istore_n 2, 1) := dk_61 (dk_at dksX0_shown_2 15 rfl rfl)
theorem dX0_shown_63 : decode cX0_shown 63 = .ok (.iinc 3 1, 3) := dk_132 3 1 (dk_at dksX0_shown_2 16 rfl rfl)
theorem dX0_shown_66 : decode cX0_shown 66 = .ok (.goto (-36), 3) := dk_167 255 220 (dk_at dksX0_shown_2 19 rfl rfl)
theorem dX0_shown_69 : decode cX0_shown 69 = .ok (.iload_n 2, 1) := dk_28 (dk_at dksX0_shown_2 22 rfl rfl)
theorem dX0_shown_70 : decode cX0_shown 70 = .ok (.ireturn, 1) := dk_172 (dk_at dksX0_shown_2 23 rfl rfl)
abbrev cX0_freeIn : ByteArray := prog_1_method_60_code
def yX0_freeIn : MethodName := ⟨RX0, "freeIn", "(I)I"⟩
def dkwX0_freeIn_3 : List UInt8 := [182, 1, 2, 172]
abbrev dktX0_freeIn_3 : List UInt8 := dkwX0_freeIn_3 ++ []
def dkwX0_freeIn_2 : List UInt8 := [162, 0, 17, 42, 180, 0, 66, 182, 1, 87, 87, 132, 2, 1, 167, 255, 240, 42, 180, 0, 66, 4]
abbrev dktX0_freeIn_2 : List UInt8 := dkwX0_freeIn_2 ++ dktX0_freeIn_3
def dkwX0_freeIn_1 : List UInt8 := [180, 0, 91, 158, 0, 5, 2, 172, 42, 180, 0, 66, 42, 182, 0, 168, 182, 0, 216, 3, 61, 28, 27]
abbrev dktX0_freeIn_1 : List UInt8 := dkwX0_freeIn_1 ++ dktX0_freeIn_2
def dkwX0_freeIn_0 : List UInt8 := [42, 27, 133, 9, 20, 1, 128, 184, 0, 175, 153, 0, 7, 3, 167, 0, 4, 4, 181, 0, 91, 42]
abbrev dktX0_freeIn_0 : List UInt8 := dkwX0_freeIn_0 ++ dktX0_freeIn_1
theorem dksX0_freeIn_0 : cX0_freeIn.data.toList.drop 0 = dktX0_freeIn_0 := by decide +kernel
theorem dksX0_freeIn_1 : cX0_freeIn.data.toList.drop 22 = dktX0_freeIn_1 := dk_seg dksX0_freeIn_0 22 rfl rfl
theorem dksX0_freeIn_2 : cX0_freeIn.data.toList.drop 45 = dktX0_freeIn_2 := dk_seg dksX0_freeIn_1 23 rfl rfl
theorem dksX0_freeIn_3 : cX0_freeIn.data.toList.drop 67 = dktX0_freeIn_3 := dk_seg dksX0_freeIn_2 22 rfl rfl
theorem dX0_freeIn_0 : decode cX0_freeIn 0 = .ok (.aload_n 0, 1) := dk_42 (dk_at dksX0_freeIn_0 0 rfl rfl)
theorem dX0_freeIn_1 : decode cX0_freeIn 1 = .ok (.iload_n 1, 1) := dk_27 (dk_at dksX0_freeIn_0 1 rfl rfl)
theorem dX0_freeIn_2 : decode cX0_freeIn 2 = .ok (.i2l, 1) := dk_133 (dk_at dksX0_freeIn_0 2 rfl rfl)
theorem dX0_freeIn_3 : decode cX0_freeIn 3 = .ok (.lconst 0, 1) := dk_9 (dk_at dksX0_freeIn_0 3 rfl rfl)
theorem dX0_freeIn_4 : decode cX0_freeIn 4 = .ok (.ldc2_w 384, 3) := dk_20 1 128 (dk_at dksX0_freeIn_0 4 rfl rfl)
theorem dX0_freeIn_7 : decode cX0_freeIn 7 = .ok (.invokestatic 175, 3) := dk_184 0 175 (dk_at dksX0_freeIn_0 7 rfl rfl)
theorem dX0_freeIn_10 : decode cX0_freeIn 10 = .ok (.ifCond .eq 7, 3) := dk_153 0 7 (dk_at dksX0_freeIn_0 10 rfl rfl)
theorem dX0_freeIn_13 : decode cX0_freeIn 13 = .ok (.iconst 0, 1) := dk_3 (dk_at dksX0_freeIn_0 13 rfl rfl)
theorem dX0_freeIn_14 : decode cX0_freeIn 14 = .ok (.goto 4, 3) := dk_167 0 4 (dk_at dksX0_freeIn_0 14 rfl rfl)
theorem dX0_freeIn_17 : decode cX0_freeIn 17 = .ok (.iconst 1, 1) := dk_4 (dk_at dksX0_freeIn_0 17 rfl rfl)
theorem dX0_freeIn_18 : decode cX0_freeIn 18 = .ok (.putfield 91, 3) := dk_181 0 91 (dk_at dksX0_freeIn_0 18 rfl rfl)
theorem dX0_freeIn_21 : decode cX0_freeIn 21 = .ok (.aload_n 0, 1) := dk_42 (dk_at dksX0_freeIn_0 21 rfl rfl)
theorem dX0_freeIn_22 : decode cX0_freeIn 22 = .ok (.getfield 91, 3) := dk_180 0 91 (dk_at dksX0_freeIn_1 0 rfl rfl)
theorem dX0_freeIn_25 : decode cX0_freeIn 25 = .ok (.ifCond .le 5, 3) := dk_158 0 5 (dk_at dksX0_freeIn_1 3 rfl rfl)
theorem dX0_freeIn_28 : decode cX0_freeIn 28 = .ok (.iconst (-1), 1) := dk_2 (dk_at dksX0_freeIn_1 6 rfl rfl)
theorem dX0_freeIn_29 : decode cX0_freeIn 29 = .ok (.ireturn, 1) := dk_172 (dk_at dksX0_freeIn_1 7 rfl rfl)
theorem dX0_freeIn_30 : decode cX0_freeIn 30 = .ok (.aload_n 0, 1) := dk_42 (dk_at dksX0_freeIn_1 8 rfl rfl)
theorem dX0_freeIn_31 : decode cX0_freeIn 31 = .ok (.getfield 66, 3) := dk_180 0 66 (dk_at dksX0_freeIn_1 9 rfl rfl)
theorem dX0_freeIn_34 : decode cX0_freeIn 34 = .ok (.aload_n 0, 1) := dk_42 (dk_at dksX0_freeIn_1 12 rfl rfl)
theorem dX0_freeIn_35 : decode cX0_freeIn 35 = .ok (.invokevirtual 168, 3) := dk_182 0 168 (dk_at dksX0_freeIn_1 13 rfl rfl)
theorem dX0_freeIn_38 : decode cX0_freeIn 38 = .ok (.invokevirtual 216, 3) := dk_182 0 216 (dk_at dksX0_freeIn_1 16 rfl rfl)
theorem dX0_freeIn_41 : decode cX0_freeIn 41 = .ok (.iconst 0, 1) := dk_3 (dk_at dksX0_freeIn_1 19 rfl rfl)
theorem dX0_freeIn_42 : decode cX0_freeIn 42 = .ok (.istore_n 2, 1) := dk_61 (dk_at dksX0_freeIn_1 20 rfl rfl)
theorem dX0_freeIn_43 : decode cX0_freeIn 43 = .ok (.iload_n 2, 1) := dk_28 (dk_at dksX0_freeIn_1 21 rfl rfl)
theorem dX0_freeIn_44 : decode cX0_freeIn 44 = .ok (.iload_n 1, 1) := dk_27 (dk_at dksX0_freeIn_1 22 rfl rfl)
theorem dX0_freeIn_45 : decode cX0_freeIn 45 = .ok (.if_icmp .ge 17, 3) := dk_162 0 17 (dk_at dksX0_freeIn_2 0 rfl rfl)
theorem dX0_freeIn_48 : decode cX0_freeIn 48 = .ok (.aload_n 0, 1) := dk_42 (dk_at dksX0_freeIn_2 3 rfl rfl)
theorem dX0_freeIn_49 : decode cX0_freeIn 49 = .ok (.getfield 66, 3) := dk_180 0 66 (dk_at dksX0_freeIn_2 4 rfl rfl)
theorem dX0_freeIn_52 : decode cX0_freeIn 52 = .ok (.invokevirtual 343, 3) := dk_182 1 87 (dk_at dksX0_freeIn_2 7 rfl rfl)
theorem dX0_freeIn_55 : decode cX0_freeIn 55 = .ok (.pop, 1) := dk_87 (dk_at dksX0_freeIn_2 10 rfl rfl)
theorem dX0_freeIn_56 : decode cX0_freeIn 56 = .ok (.iinc 2 1, 3) := dk_132 2 1 (dk_at dksX0_freeIn_2 11 rfl rfl)
theorem dX0_freeIn_59 : decode cX0_freeIn 59 = .ok (.goto (-16), 3) := dk_167 255 240 (dk_at dksX0_freeIn_2 14 rfl rfl)
theorem dX0_freeIn_62 : decode cX0_freeIn 62 = .ok (.aload_n 0, 1) := dk_42 (dk_at dksX0_freeIn_2 17 rfl rfl)
theorem dX0_freeIn_63 : decode cX0_freeIn 63 = .ok (.getfield 66, 3) := dk_180 0 66 (dk_at dksX0_freeIn_2 18 rfl rfl)
theorem dX0_freeIn_66 : decode cX0_freeIn 66 = .ok (.iconst 1, 1) := dk_4 (dk_at dksX0_freeIn_2 21 rfl rfl)
theorem dX0_freeIn_67 : decode cX0_freeIn 67 = .ok (.invokevirtual 258, 3) := dk_182 1 2 (dk_at dksX0_freeIn_3 0 rfl rfl)
theorem dX0_freeIn_70 : decode cX0_freeIn 70 = .ok (.ireturn, 1) := dk_172 (dk_at dksX0_freeIn_3 3 rfl rfl)
abbrev cX0_judgedIn : ByteArray := prog_1_method_61_code
def yX0_judgedIn : MethodName := ⟨RX0, "judgedIn", "(I)I"⟩
def dkwX0_judgedIn_4 : List UInt8 := [132, 2, 1, 167, 255, 221, 42, 2, 182, 1, 36, 172]
abbrev dktX0_judgedIn_4 : List UInt8 := dkwX0_judgedIn_4 ++ []
def dkwX0_judgedIn_3 : List UInt8 := [182, 1, 87, 87, 42, 180, 0, 66, 180, 1, 58, 27, 46, 153, 0, 9, 42, 28, 182, 1, 36, 172]
abbrev dktX0_judgedIn_3 : List UInt8 := dkwX0_judgedIn_3 ++ dktX0_judgedIn_4
def dkwX0_judgedIn_2 : List UInt8 := [180, 0, 66, 42, 182, 0, 168, 182, 0, 216, 4, 61, 28, 16, 40, 163, 0, 35, 42, 180, 0, 66]
abbrev dktX0_judgedIn_2 : List UInt8 := dkwX0_judgedIn_2 ++ dktX0_judgedIn_3
def dkwX0_judgedIn_1 : List UInt8 := [154, 0, 7, 3, 167, 0, 5, 16, 7, 181, 0, 91, 42, 180, 0, 91, 158, 0, 5, 2, 172, 42]
abbrev dktX0_judgedIn_1 : List UInt8 := dkwX0_judgedIn_1 ++ dktX0_judgedIn_2
def dkwX0_judgedIn_0 : List UInt8 := [42, 42, 27, 133, 182, 1, 48, 154, 0, 7, 4, 167, 0, 21, 42, 182, 0, 168, 180, 1, 58, 27, 46]
abbrev dktX0_judgedIn_0 : List UInt8 := dkwX0_judgedIn_0 ++ dktX0_judgedIn_1
theorem dksX0_judgedIn_0 : cX0_judgedIn.data.toList.drop 0 = dktX0_judgedIn_0 := by decide +kernel
theorem dksX0_judgedIn_1 : cX0_judgedIn.data.toList.drop 23 = dktX0_judgedIn_1 := dk_seg dksX0_judgedIn_0 23 rfl rfl
theorem dksX0_judgedIn_2 : cX0_judgedIn.data.toList.drop 45 = dktX0_judgedIn_2 := dk_seg dksX0_judgedIn_1 22 rfl rfl
theorem dksX0_judgedIn_3 : cX0_judgedIn.data.toList.drop 67 = dktX0_judgedIn_3 := dk_seg dksX0_judgedIn_2 22 rfl rfl
theorem dksX0_judgedIn_4 : cX0_judgedIn.data.toList.drop 89 = dktX0_judgedIn_4 := dk_seg dksX0_judgedIn_3 22 rfl rfl
theorem dX0_judgedIn_0 : decode cX0_judgedIn 0 = .ok (.aload_n 0, 1) := dk_42 (dk_at dksX0_judgedIn_0 0 rfl rfl)
theorem dX0_judgedIn_1 : decode cX0_judgedIn 1 = .ok (.aload_n 0, 1) := dk_42 (dk_at dksX0_judgedIn_0 1 rfl rfl)
theorem dX0_judgedIn_2 : decode cX0_judgedIn 2 = .ok (.iload_n 1, 1) := dk_27 (dk_at dksX0_judgedIn_0 2 rfl rfl)
theorem dX0_judgedIn_3 : decode cX0_judgedIn 3 = .ok (.i2l, 1) := dk_133 (dk_at dksX0_judgedIn_0 3 rfl rfl)
theorem dX0_judgedIn_4 : decode cX0_judgedIn 4 = .ok (.invokevirtual 304, 3) := dk_182 1 48 (dk_at dksX0_judgedIn_0 4 rfl rfl)
theorem dX0_judgedIn_7 : decode cX0_judgedIn 7 = .ok (.ifCond .ne 7, 3) := dk_154 0 7 (dk_at dksX0_judgedIn_0 7 rfl rfl)
theorem dX0_judgedIn_10 : decode cX0_judgedIn 10 = .ok (.iconst 1, 1) := dk_4 (dk_at dksX0_judgedIn_0 10 rfl rfl)
theorem dX0_judgedIn_11 : decode cX0_judgedIn 11 = .ok (.goto 21, 3) := dk_167 0 21 (dk_at dksX0_judgedIn_0 11 rfl rfl)
theorem dX0_judgedIn_14 : decode cX0_judgedIn 14 = .ok (.aload_n 0, 1) := dk_42 (dk_at dksX0_judgedIn_0 14 rfl rfl)
theorem dX0_judgedIn_15 : decode cX0_judgedIn 15 = .ok (.invokevirtual 168, 3) := dk_182 0 168 (dk_at dksX0_judgedIn_0 15 rfl rfl)
theorem dX0_judgedIn_18 : decode cX0_judgedIn 18 = .ok (.getfield 314, 3) := dk_180 1 58 (dk_at dksX0_judgedIn_0 18 rfl rfl)
theorem dX0_judgedIn_21 : decode cX0_judgedIn 21 = .ok (.iload_n 1, 1) := dk_27 (dk_at dksX0_judgedIn_0 21 rfl rfl)
theorem dX0_judgedIn_22 : decode cX0_judgedIn 22 = .ok (.iaload, 1) := dk_46 (dk_at dksX0_judgedIn_0 22 rfl rfl)
theorem dX0_judgedIn_23 : decode cX0_judgedIn 23 = .ok (.ifCond .ne 7, 3) := dk_154 0 7 (dk_at dksX0_judgedIn_1 0 rfl rfl)
theorem dX0_judgedIn_26 : decode cX0_judgedIn 26 = .ok (.iconst 0, 1) := dk_3 (dk_at dksX0_judgedIn_1 3 rfl rfl)
theorem dX0_judgedIn_27 : decode cX0_judgedIn 27 = .ok (.goto 5, 3) := dk_167 0 5 (dk_at dksX0_judgedIn_1 4 rfl rfl)
theorem dX0_judgedIn_30 : decode cX0_judgedIn 30 = .ok (.bipush 7, 2) := dk_16 7 (dk_at dksX0_judgedIn_1 7 rfl rfl)
theorem dX0_judgedIn_32 : decode cX0_judgedIn 32 = .ok (.putfield 91, 3) := dk_181 0 91 (dk_at dksX0_judgedIn_1 9 rfl rfl)
theorem dX0_judgedIn_35 : decode cX0_judgedIn 35 = .ok (.aload_n 0, 1) := dk_42 (dk_at dksX0_judgedIn_1 12 rfl rfl)
theorem dX0_judgedIn_36 : decode cX0_judgedIn 36 = .ok (.getfield 91, 3) := dk_180 0 91 (dk_at dksX0_judgedIn_1 13 rfl rfl)
theorem dX0_judgedIn_39 : decode cX0_judgedIn 39 = .ok (.ifCond .le 5, 3) := dk_158 0 5 (dk_at dksX0_judgedIn_1 16 rfl rfl)
theorem dX0_judgedIn_42 : decode cX0_judgedIn 42 = .ok (.iconst (-1), 1) := dk_2 (dk_at dksX0_judgedIn_1 19 rfl rfl)
theorem dX0_judgedIn_43 : decode cX0_judgedIn 43 = .ok (.ireturn, 1) := dk_172 (dk_at dksX0_judgedIn_1 20 rfl rfl)
theorem dX0_judgedIn_44 : decode cX0_judgedIn 44 = .ok (.aload_n 0, 1) := dk_42 (dk_at dksX0_judgedIn_1 21 rfl rfl)
theorem dX0_judgedIn_45 : decode cX0_judgedIn 45 = .ok (.getfield 66, 3) := dk_180 0 66 (dk_at dksX0_judgedIn_2 0 rfl rfl)
theorem dX0_judgedIn_48 : decode cX0_judgedIn 48 = .ok (.aload_n 0, 1) := dk_42 (dk_at dksX0_judgedIn_2 3 rfl rfl)
theorem dX0_judgedIn_49 : decode cX0_judgedIn 49 = .ok (.invokevirtual 168, 3) := dk_182 0 168 (dk_at dksX0_judgedIn_2 4 rfl rfl)
theorem dX0_judgedIn_52 : decode cX0_judgedIn 52 = .ok (.invokevirtual 216, 3) := dk_182 0 216 (dk_at dksX0_judgedIn_2 7 rfl rfl)
theorem dX0_judgedIn_55 : decode cX0_judgedIn 55 = .ok (.iconst 1, 1) := dk_4 (dk_at dksX0_judgedIn_2 10 rfl rfl)
theorem dX0_judgedIn_56 : decode cX0_judgedIn 56 = .ok (.istore_n 2, 1) := dk_61 (dk_at dksX0_judgedIn_2 11 rfl rfl)
theorem dX0_judgedIn_57 : decode cX0_judgedIn 57 = .ok (.iload_n 2, 1) := dk_28 (dk_at dksX0_judgedIn_2 12 rfl rfl)
theorem dX0_judgedIn_58 : decode cX0_judgedIn 58 = .ok (.bipush 40, 2) := dk_16 40 (dk_at dksX0_judgedIn_2 13 rfl rfl)
theorem dX0_judgedIn_60 : decode cX0_judgedIn 60 = .ok (.if_icmp .gt 35, 3) := dk_163 0 35 (dk_at dksX0_judgedIn_2 15 rfl rfl)
theorem dX0_judgedIn_63 : decode cX0_judgedIn 63 = .ok (.aload_n 0, 1) := dk_42 (dk_at dksX0_judgedIn_2 18 rfl rfl)
theorem dX0_judgedIn_64 : decode cX0_judgedIn 64 = .ok (.getfield 66, 3) := dk_180 0 66 (dk_at dksX0_judgedIn_2 19 rfl rfl)
theorem dX0_judgedIn_67 : decode cX0_judgedIn 67 = .ok (.invokevirtual 343, 3) := dk_182 1 87 (dk_at dksX0_judgedIn_3 0 rfl rfl)
theorem dX0_judgedIn_70 : decode cX0_judgedIn 70 = .ok (.pop, 1) := dk_87 (dk_at dksX0_judgedIn_3 3 rfl rfl)
theorem dX0_judgedIn_71 : decode cX0_judgedIn 71 = .ok (.aload_n 0, 1) := dk_42 (dk_at dksX0_judgedIn_3 4 rfl rfl)
theorem dX0_judgedIn_72 : decode cX0_judgedIn 72 = .ok (.getfield 66, 3) := dk_180 0 66 (dk_at dksX0_judgedIn_3 5 rfl rfl)
theorem dX0_judgedIn_75 : decode cX0_judgedIn 75 = .ok (.getfield 314, 3) := dk_180 1 58 (dk_at dksX0_judgedIn_3 8 rfl rfl)
theorem dX0_judgedIn_78 : decode cX0_judgedIn 78 = .ok (.iload_n 1, 1) := dk_27 (dk_at dksX0_judgedIn_3 11 rfl rfl)
theorem dX0_judgedIn_79 : decode cX0_judgedIn 79 = .ok (.iaload, 1) := dk_46 (dk_at dksX0_judgedIn_3 12 rfl rfl)
theorem dX0_judgedIn_80 : decode cX0_judgedIn 80 = .ok (.ifCond .eq 9, 3) := dk_153 0 9 (dk_at dksX0_judgedIn_3 13 rfl rfl)
theorem dX0_judgedIn_83 : decode cX0_judgedIn 83 = .ok (.aload_n 0, 1) := dk_42 (dk_at dksX0_judgedIn_3 16 rfl rfl)
theorem dX0_judgedIn_84 : decode cX0_judgedIn 84 = .ok (.iload_n 2, 1) := dk_28 (dk_at dksX0_judgedIn_3 17 rfl rfl)
theorem dX0_judgedIn_85 : decode cX0_judgedIn 85 = .ok (.invokevirtual 292, 3) := dk_182 1 36 (dk_at dksX0_judgedIn_3 18 rfl rfl)
theorem dX0_judgedIn_88 : decode cX0_judgedIn 88 = .ok (.ireturn, 1) := dk_172 (dk_at dksX0_judgedIn_3 21 rfl rfl)
theorem dX0_judgedIn_89 : decode cX0_judgedIn 89 = .ok (.iinc 2 1, 3) := dk_132 2 1 (dk_at dksX0_judgedIn_4 0 rfl rfl)
theorem dX0_judgedIn_92 : decode cX0_judgedIn 92 = .ok (.goto (-35), 3) := dk_167 255 221 (dk_at dksX0_judgedIn_4 3 rfl rfl)
theorem dX0_judgedIn_95 : decode cX0_judgedIn 95 = .ok (.aload_n 0, 1) := dk_42 (dk_at dksX0_judgedIn_4 6 rfl rfl)
theorem dX0_judgedIn_96 : decode cX0_judgedIn 96 = .ok (.iconst (-1), 1) := dk_2 (dk_at dksX0_judgedIn_4 7 rfl rfl)
theorem dX0_judgedIn_97 : decode cX0_judgedIn 97 = .ok (.invokevirtual 292, 3) := dk_182 1 36 (dk_at dksX0_judgedIn_4 8 rfl rfl)
theorem dX0_judgedIn_100 : decode cX0_judgedIn 100 = .ok (.ireturn, 1) := dk_172 (dk_at dksX0_judgedIn_4 11 rfl rfl)
abbrev cX0_fits : ByteArray := prog_1_method_65_code
def yX0_fits : MethodName := ⟨RX0, "fits", "(II)I"⟩
def dkwX0_fits_0 : List UInt8 := [42, 3, 181, 0, 91, 42, 27, 28, 182, 1, 143, 42, 182, 1, 147, 172, 78, 42, 45, 182, 0, 149, 172]
abbrev dktX0_fits_0 : List UInt8 := dkwX0_fits_0 ++ []
theorem dksX0_fits_0 : cX0_fits.data.toList.drop 0 = dktX0_fits_0 := by decide +kernel
theorem dX0_fits_0 : decode cX0_fits 0 = .ok (.aload_n 0, 1) := dk_42 (dk_at dksX0_fits_0 0 rfl rfl)
theorem dX0_fits_1 : decode cX0_fits 1 = .ok (.iconst 0, 1) := dk_3 (dk_at dksX0_fits_0 1 rfl rfl)
theorem dX0_fits_2 : decode cX0_fits 2 = .ok (.putfield 91, 3) := dk_181 0 91 (dk_at dksX0_fits_0 2 rfl rfl)
theorem dX0_fits_5 : decode cX0_fits 5 = .ok (.aload_n 0, 1) := dk_42 (dk_at dksX0_fits_0 5 rfl rfl)
theorem dX0_fits_6 : decode cX0_fits 6 = .ok (.iload_n 1, 1) := dk_27 (dk_at dksX0_fits_0 6 rfl rfl)
theorem dX0_fits_7 : decode cX0_fits 7 = .ok (.iload_n 2, 1) := dk_28 (dk_at dksX0_fits_0 7 rfl rfl)
theorem dX0_fits_8 : decode cX0_fits 8 = .ok (.invokevirtual 399, 3) := dk_182 1 143 (dk_at dksX0_fits_0 8 rfl rfl)
theorem dX0_fits_11 : decode cX0_fits 11 = .ok (.aload_n 0, 1) := dk_42 (dk_at dksX0_fits_0 11 rfl rfl)
theorem dX0_fits_12 : decode cX0_fits 12 = .ok (.invokevirtual 403, 3) := dk_182 1 147 (dk_at dksX0_fits_0 12 rfl rfl)
theorem dX0_fits_15 : decode cX0_fits 15 = .ok (.ireturn, 1) := dk_172 (dk_at dksX0_fits_0 15 rfl rfl)
theorem dX0_fits_16 : decode cX0_fits 16 = .ok (.astore_n 3, 1) := dk_78 (dk_at dksX0_fits_0 16 rfl rfl)
theorem dX0_fits_17 : decode cX0_fits 17 = .ok (.aload_n 0, 1) := dk_42 (dk_at dksX0_fits_0 17 rfl rfl)
theorem dX0_fits_18 : decode cX0_fits 18 = .ok (.aload_n 3, 1) := dk_45 (dk_at dksX0_fits_0 18 rfl rfl)
theorem dX0_fits_19 : decode cX0_fits 19 = .ok (.invokevirtual 149, 3) := dk_182 0 149 (dk_at dksX0_fits_0 19 rfl rfl)
theorem dX0_fits_22 : decode cX0_fits 22 = .ok (.ireturn, 1) := dk_172 (dk_at dksX0_fits_0 22 rfl rfl)
abbrev cX0_laysFits : ByteArray := prog_1_method_62_code
def yX0_laysFits : MethodName := ⟨RX0, "laysFits", "(II)V"⟩
def dkwX0_laysFits_11 : List UInt8 := [167, 255, 171, 177]
abbrev dktX0_laysFits_11 : List UInt8 := dkwX0_laysFits_11 ++ []
def dkwX0_laysFits_10 : List UInt8 := [180, 0, 70, 21, 5, 92, 46, 4, 21, 6, 120, 2, 130, 126, 79, 132, 6, 1, 167, 255, 197, 132, 4, 1]
abbrev dktX0_laysFits_10 : List UInt8 := dkwX0_laysFits_10 ++ dktX0_laysFits_11
def dkwX0_laysFits_9 : List UInt8 := [184, 0, 143, 136, 182, 1, 137, 133, 45, 6, 21, 4, 104, 5, 96, 184, 0, 143, 148, 153, 0, 19, 42]
abbrev dktX0_laysFits_9 : List UInt8 := dkwX0_laysFits_9 ++ dktX0_laysFits_10
def dkwX0_laysFits_8 : List UInt8 := [54, 5, 3, 54, 6, 21, 6, 5, 162, 0, 59, 42, 21, 5, 21, 6, 45, 6, 21, 4, 104, 4, 96]
abbrev dktX0_laysFits_8 : List UInt8 := dkwX0_laysFits_8 ++ dktX0_laysFits_9
def dkwX0_laysFits_7 : List UInt8 := [132, 4, 1, 167, 255, 238, 3, 54, 4, 21, 4, 28, 162, 0, 85, 45, 6, 21, 4, 104, 184, 0, 143, 136]
abbrev dktX0_laysFits_7 : List UInt8 := dkwX0_laysFits_7 ++ dktX0_laysFits_8
def dkwX0_laysFits_6 : List UInt8 := [132, 4, 1, 167, 255, 177, 3, 54, 4, 21, 4, 16, 6, 162, 0, 17, 42, 180, 0, 70, 21, 4, 6, 79]
abbrev dktX0_laysFits_6 : List UInt8 := dkwX0_laysFits_6 ++ dktX0_laysFits_7
def dkwX0_laysFits_5 : List UInt8 := [42, 182, 0, 168, 180, 0, 179, 133, 184, 0, 175, 153, 0, 7, 4, 167, 0, 4, 3, 8, 182, 0, 116]
abbrev dktX0_laysFits_5 : List UInt8 := dkwX0_laysFits_5 ++ dktX0_laysFits_6
def dkwX0_laysFits_4 : List UInt8 := [184, 0, 143, 9, 20, 1, 114, 184, 0, 175, 153, 0, 32, 45, 6, 21, 4, 104, 5, 96, 184, 0, 143, 9]
abbrev dktX0_laysFits_4 : List UInt8 := dkwX0_laysFits_4 ++ dktX0_laysFits_5
def dkwX0_laysFits_3 : List UInt8 := [42, 45, 6, 21, 4, 104, 184, 0, 143, 182, 1, 48, 153, 0, 52, 45, 6, 21, 4, 104, 4, 96]
abbrev dktX0_laysFits_3 : List UInt8 := dkwX0_laysFits_3 ++ dktX0_laysFits_4
def dkwX0_laysFits_2 : List UInt8 := [28, 104, 161, 0, 7, 4, 167, 0, 4, 3, 6, 182, 0, 116, 3, 54, 4, 21, 4, 28, 162, 0, 79, 42]
abbrev dktX0_laysFits_2 : List UInt8 := dkwX0_laysFits_2 ++ dktX0_laysFits_3
def dkwX0_laysFits_1 : List UInt8 := [153, 0, 7, 4, 167, 0, 4, 3, 4, 182, 0, 116, 42, 27, 182, 0, 133, 78, 42, 45, 184, 1, 134, 6]
abbrev dktX0_laysFits_1 : List UInt8 := dkwX0_laysFits_1 ++ dktX0_laysFits_2
def dkwX0_laysFits_0 : List UInt8 := [42, 28, 133, 9, 20, 1, 130, 184, 0, 175, 153, 0, 19, 27, 133, 9, 20, 1, 132, 184, 0, 175]
abbrev dktX0_laysFits_0 : List UInt8 := dkwX0_laysFits_0 ++ dktX0_laysFits_1
theorem dksX0_laysFits_0 : cX0_laysFits.data.toList.drop 0 = dktX0_laysFits_0 := by decide +kernel
theorem dksX0_laysFits_1 : cX0_laysFits.data.toList.drop 22 = dktX0_laysFits_1 := dk_seg dksX0_laysFits_0 22 rfl rfl
theorem dksX0_laysFits_2 : cX0_laysFits.data.toList.drop 46 = dktX0_laysFits_2 := dk_seg dksX0_laysFits_1 24 rfl rfl
theorem dksX0_laysFits_3 : cX0_laysFits.data.toList.drop 70 = dktX0_laysFits_3 := dk_seg dksX0_laysFits_2 24 rfl rfl
theorem dksX0_laysFits_4 : cX0_laysFits.data.toList.drop 92 = dktX0_laysFits_4 := dk_seg dksX0_laysFits_3 22 rfl rfl
theorem dksX0_laysFits_5 : cX0_laysFits.data.toList.drop 116 = dktX0_laysFits_5 := dk_seg dksX0_laysFits_4 24 rfl rfl
theorem dksX0_laysFits_6 : cX0_laysFits.data.toList.drop 139 = dktX0_laysFits_6 := dk_seg dksX0_laysFits_5 23 rfl rfl
theorem dksX0_laysFits_7 : cX0_laysFits.data.toList.drop 163 = dktX0_laysFits_7 := dk_seg dksX0_laysFits_6 24 rfl rfl
theorem dksX0_laysFits_8 : cX0_laysFits.data.toList.drop 187 = dktX0_laysFits_8 := dk_seg dksX0_laysFits_7 24 rfl rfl
theorem dksX0_laysFits_9 : cX0_laysFits.data.toList.drop 210 = dktX0_laysFits_9 := dk_seg dksX0_laysFits_8 23 rfl rfl
theorem dksX0_laysFits_10 : cX0_laysFits.data.toList.drop 233 = dktX0_laysFits_10 := dk_seg dksX0_laysFits_9 23 rfl rfl
theorem dksX0_laysFits_11 : cX0_laysFits.data.toList.drop 257 = dktX0_laysFits_11 := dk_seg dksX0_laysFits_10 24 rfl rfl
theorem dX0_laysFits_0 : decode cX0_laysFits 0 = .ok (.aload_n 0, 1) := dk_42 (dk_at dksX0_laysFits_0 0 rfl rfl)
theorem dX0_laysFits_1 : decode cX0_laysFits 1 = .ok (.iload_n 2, 1) := dk_28 (dk_at dksX0_laysFits_0 1 rfl rfl)
theorem dX0_laysFits_2 : decode cX0_laysFits 2 = .ok (.i2l, 1) := dk_133 (dk_at dksX0_laysFits_0 2 rfl rfl)
theorem dX0_laysFits_3 : decode cX0_laysFits 3 = .ok (.lconst 0, 1) := dk_9 (dk_at dksX0_laysFits_0 3 rfl rfl)
theorem dX0_laysFits_4 : decode cX0_laysFits 4 = .ok (.ldc2_w 386, 3) := dk_20 1 130 (dk_at dksX0_laysFits_0 4 rfl rfl)
theorem dX0_laysFits_7 : decode cX0_laysFits 7 = .ok (.invokestatic 175, 3) := dk_184 0 175 (dk_at dksX0_laysFits_0 7 rfl rfl)
theorem dX0_laysFits_10 : decode cX0_laysFits 10 = .ok (.ifCond .eq 19, 3) := dk_153 0 19 (dk_at dksX0_laysFits_0 10 rfl rfl)
theorem dX0_laysFits_13 : decode cX0_laysFits 13 = .ok (.iload_n 1, 1) := dk_27 (dk_at dksX0_laysFits_0 13 rfl rfl)
theorem dX0_laysFits_14 : decode cX0_laysFits 14 = .ok (.i2l, 1) := dk_133 (dk_at dksX0_laysFits_0 14 rfl rfl)
theorem dX0_laysFits_15 : decode cX0_laysFits 15 = .ok (.lconst 0, 1) := dk_9 (dk_at dksX0_laysFits_0 15 rfl rfl)
theorem dX0_laysFits_16 : decode cX0_laysFits 16 = .ok (.ldc2_w 388, 3) := dk_20 1 132 (dk_at dksX0_laysFits_0 16 rfl rfl)
theorem dX0_laysFits_19 : decode cX0_laysFits 19 = .ok (.invokestatic 175, 3) := dk_184 0 175 (dk_at dksX0_laysFits_0 19 rfl rfl)
theorem dX0_laysFits_22 : decode cX0_laysFits 22 = .ok (.ifCond .eq 7, 3) := dk_153 0 7 (dk_at dksX0_laysFits_1 0 rfl rfl)
theorem dX0_laysFits_25 : decode cX0_laysFits 25 = .ok (.iconst 1, 1) := dk_4 (dk_at dksX0_laysFits_1 3 rfl rfl)
theorem dX0_laysFits_26 : decode cX0_laysFits 26 = .ok (.goto 4, 3) := dk_167 0 4 (dk_at dksX0_laysFits_1 4 rfl rfl)
theorem dX0_laysFits_29 : decode cX0_laysFits 29 = .ok (.iconst 0, 1) := dk_3 (dk_at dksX0_laysFits_1 7 rfl rfl)
theorem dX0_laysFits_30 : decode cX0_laysFits 30 = .ok (.iconst 1, 1) := dk_4 (dk_at dksX0_laysFits_1 8 rfl rfl)
theorem dX0_laysFits_31 : decode cX0_laysFits 31 = .ok (.invokevirtual 116, 3) := dk_182 0 116 (dk_at dksX0_laysFits_1 9 rfl rfl)
theorem dX0_laysFits_34 : decode cX0_laysFits 34 = .ok (.aload_n 0, 1) := dk_42 (dk_at dksX0_laysFits_1 12 rfl rfl)
theorem dX0_laysFits_35 : decode cX0_laysFits 35 = .ok (.iload_n 1, 1) := dk_27 (dk_at dksX0_laysFits_1 13 rfl rfl)
theorem dX0_laysFits_36 : decode cX0_laysFits 36 = .ok (.invokevirtual 133, 3) := dk_182 0 133 (dk_at dksX0_laysFits_1 14 rfl rfl)
theorem dX0_laysFits_39 : decode cX0_laysFits 39 = .ok (.astore_n 3, 1) := dk_78 (dk_at dksX0_laysFits_1 17 rfl rfl)
theorem dX0_laysFits_40 : decode cX0_laysFits 40 = .ok (.aload_n 0, 1) := dk_42 (dk_at dksX0_laysFits_1 18 rfl rfl)
theorem dX0_laysFits_41 : decode cX0_laysFits 41 = .ok (.aload_n 3, 1) := dk_45 (dk_at dksX0_laysFits_1 19 rfl rfl)
theorem dX0_laysFits_42 : decode cX0_laysFits 42 = .ok (.invokestatic 390, 3) := dk_184 1 134 (dk_at dksX0_laysFits_1 20 rfl rfl)
theorem dX0_laysFits_45 : decode cX0_laysFits 45 = .ok (.iconst 3, 1) := dk_6 (dk_at dksX0_laysFits_1 23 rfl rfl)
theorem dX0_laysFits_46 : decode cX0_laysFits 46 = .ok (.iload_n 2, 1) := dk_28 (dk_at dksX0_laysFits_2 0 rfl rfl)
theorem dX0_laysFits_47 : decode cX0_laysFits 47 = .ok (.imul, 1) := dk_104 (dk_at dksX0_laysFits_2 1 rfl rfl)
theorem dX0_laysFits_48 : decode cX0_laysFits 48 = .ok (.if_icmp .lt 7, 3) := dk_161 0 7 (dk_at dksX0_laysFits_2 2 rfl rfl)
theorem dX0_laysFits_51 : decode cX0_laysFits 51 = .ok (.iconst 1, 1) := dk_4 (dk_at dksX0_laysFits_2 5 rfl rfl)
theorem dX0_laysFits_52 : decode cX0_laysFits 52 = .ok (.goto 4, 3) := dk_167 0 4 (dk_at dksX0_laysFits_2 6 rfl rfl)
theorem dX0_laysFits_55 : decode cX0_laysFits 55 = .ok (.iconst 0, 1) := dk_3 (dk_at dksX0_laysFits_2 9 rfl rfl)
theorem dX0_laysFits_56 : decode cX0_laysFits 56 = .ok (.iconst 3, 1) := dk_6 (dk_at dksX0_laysFits_2 10 rfl rfl)
theorem dX0_laysFits_57 : decode cX0_laysFits 57 = .ok (.invokevirtual 116, 3) := dk_182 0 116 (dk_at dksX0_laysFits_2 11 rfl rfl)
theorem dX0_laysFits_60 : decode cX0_laysFits 60 = .ok (.iconst 0, 1) := dk_3 (dk_at dksX0_laysFits_2 14 rfl rfl)
theorem dX0_laysFits_61 : decode cX0_laysFits 61 = .ok (.istore 4, 2) := dk_54 4 (dk_at dksX0_laysFits_2 15 rfl rfl)
theorem dX0_laysFits_63 : decode cX0_laysFits 63 = .ok (.iload 4, 2) := dk_21 4 (dk_at dksX0_laysFits_2 17 rfl rfl)
theorem dX0_laysFits_65 : decode cX0_laysFits 65 = .ok (.iload_n 2, 1) := dk_28 (dk_at dksX0_laysFits_2 19 rfl rfl)
theorem dX0_laysFits_66 : decode cX0_laysFits 66 = .ok (.if_icmp .ge 79, 3) := dk_162 0 79 (dk_at dksX0_laysFits_2 20 rfl rfl)
theorem dX0_laysFits_69 : decode cX0_laysFits 69 = .ok (.aload_n 0, 1) := dk_42 (dk_at dksX0_laysFits_2 23 rfl rfl)
theorem dX0_laysFits_70 : decode cX0_laysFits 70 = .ok (.aload_n 0, 1) := dk_42 (dk_at dksX0_laysFits_3 0 rfl rfl)
theorem dX0_laysFits_71 : decode cX0_laysFits 71 = .ok (.aload_n 3, 1) := dk_45 (dk_at dksX0_laysFits_3 1 rfl rfl)
theorem dX0_laysFits_72 : decode cX0_laysFits 72 = .ok (.iconst 3, 1) := dk_6 (dk_at dksX0_laysFits_3 2 rfl rfl)
theorem dX0_laysFits_73 : decode cX0_laysFits 73 = .ok (.iload 4, 2) := dk_21 4 (dk_at dksX0_laysFits_3 3 rfl rfl)
theorem dX0_laysFits_75 : decode cX0_laysFits 75 = .ok (.imul, 1) := dk_104 (dk_at dksX0_laysFits_3 5 rfl rfl)
theorem dX0_laysFits_76 : decode cX0_laysFits 76 = .ok (.invokestatic 143, 3) := dk_184 0 143 (dk_at dksX0_laysFits_3 6 rfl rfl)
theorem dX0_laysFits_79 : decode cX0_laysFits 79 = .ok (.invokevirtual 304, 3) := dk_182 1 48 (dk_at dksX0_laysFits_3 9 rfl rfl)
theorem dX0_laysFits_82 : decode cX0_laysFits 82 = .ok (.ifCond .eq 52, 3) := dk_153 0 52 (dk_at dksX0_laysFits_3 12 rfl rfl)
theorem dX0_laysFits_85 : decode cX0_laysFits 85 = .ok (.aload_n 3, 1) := dk_45 (dk_at dksX0_laysFits_3 15 rfl rfl)
theorem dX0_laysFits_86 : decode cX0_laysFits 86 = .ok (.iconst 3, 1) := dk_6 (dk_at dksX0_laysFits_3 16 rfl rfl)
theorem dX0_laysFits_87 : decode cX0_laysFits 87 = .ok (.iload 4, 2) := dk_21 4 (dk_at dksX0_laysFits_3 17 rfl rfl)
theorem dX0_laysFits_89 : decode cX0_laysFits 89 = .ok (.imul, 1) := dk_104 (dk_at dksX0_laysFits_3 19 rfl rfl)
theorem dX0_laysFits_90 : decode cX0_laysFits 90 = .ok (.iconst 1, 1) := dk_4 (dk_at dksX0_laysFits_3 20 rfl rfl)
theorem dX0_laysFits_91 : decode cX0_laysFits 91 = .ok (.iadd, 1) := dk_96 (dk_at dksX0_laysFits_3 21 rfl rfl)
theorem dX0_laysFits_92 : decode cX0_laysFits 92 = .ok (.invokestatic 143, 3) := dk_184 0 143 (dk_at dksX0_laysFits_4 0 rfl rfl)
theorem dX0_laysFits_95 : decode cX0_laysFits 95 = .ok (.lconst 0, 1) := dk_9 (dk_at dksX0_laysFits_4 3 rfl rfl)
theorem dX0_laysFits_96 : decode cX0_laysFits 96 = .ok (.ldc2_w 370, 3) := dk_20 1 114 (dk_at dksX0_laysFits_4 4 rfl rfl)
theorem dX0_laysFits_99 : decode cX0_laysFits 99 = .ok (.invokestatic 175, 3) := dk_184 0 175 (dk_at dksX0_laysFits_4 7 rfl rfl)
theorem dX0_laysFits_102 : decode cX0_laysFits 102 = .ok (.ifCond .eq 32, 3) := dk_153 0 32 (dk_at dksX0_laysFits_4 10 rfl rfl)
theorem dX0_laysFits_105 : decode cX0_laysFits 105 = .ok (.aload_n 3, 1) := dk_45 (dk_at dksX0_laysFits_4 13 rfl rfl)
theorem dX0_laysFits_106 : decode cX0_laysFits 106 = .ok (.iconst 3, 1) := dk_6 (dk_at dksX0_laysFits_4 14 rfl rfl)
theorem dX0_laysFits_107 : decode cX0_laysFits 107 = .ok (.iload 4, 2) := dk_21 4 (dk_at dksX0_laysFits_4 15 rfl rfl)
theorem dX0_laysFits_109 : decode cX0_laysFits 109 = .ok (.imul, 1) := dk_104 (dk_at dksX0_laysFits_4 17 rfl rfl)
theorem dX0_laysFits_110 : decode cX0_laysFits 110 = .ok (.iconst 2, 1) := dk_5 (dk_at dksX0_laysFits_4 18 rfl rfl)
theorem dX0_laysFits_111 : decode cX0_laysFits 111 = .ok (.iadd, 1) := dk_96 (dk_at dksX0_laysFits_4 19 rfl rfl)
theorem dX0_laysFits_112 : decode cX0_laysFits 112 = .ok (.invokestatic 143, 3) := dk_184 0 143 (dk_at dksX0_laysFits_4 20 rfl rfl)
theorem dX0_laysFits_115 : decode cX0_laysFits 115 = .ok (.lconst 0, 1) := dk_9 (dk_at dksX0_laysFits_4 23 rfl rfl)
theorem dX0_laysFits_116 : decode cX0_laysFits 116 = .ok (.aload_n 0, 1) := dk_42 (dk_at dksX0_laysFits_5 0 rfl rfl)
theorem dX0_laysFits_117 : decode cX0_laysFits 117 = .ok (.invokevirtual 168, 3) := dk_182 0 168 (dk_at dksX0_laysFits_5 1 rfl rfl)
theorem dX0_laysFits_120 : decode cX0_laysFits 120 = .ok (.getfield 179, 3) := dk_180 0 179 (dk_at dksX0_laysFits_5 4 rfl rfl)
theorem dX0_laysFits_123 : decode cX0_laysFits 123 = .ok (.i2l, 1) := dk_133 (dk_at dksX0_laysFits_5 7 rfl rfl)
theorem dX0_laysFits_124 : decode cX0_laysFits 124 = .ok (.invokestatic 175, 3) := dk_184 0 175 (dk_at dksX0_laysFits_5 8 rfl rfl)
theorem dX0_laysFits_127 : decode cX0_laysFits 127 = .ok (.ifCond .eq 7, 3) := dk_153 0 7 (dk_at dksX0_laysFits_5 11 rfl rfl)
theorem dX0_laysFits_130 : decode cX0_laysFits 130 = .ok (.iconst 1, 1) := dk_4 (dk_at dksX0_laysFits_5 14 rfl rfl)
theorem dX0_laysFits_131 : decode cX0_laysFits 131 = .ok (.goto 4, 3) := dk_167 0 4 (dk_at dksX0_laysFits_5 15 rfl rfl)
theorem dX0_laysFits_134 : decode cX0_laysFits 134 = .ok (.iconst 0, 1) := dk_3 (dk_at dksX0_laysFits_5 18 rfl rfl)
theorem dX0_laysFits_135 : decode cX0_laysFits 135 = .ok (.iconst 5, 1) := dk_8 (dk_at dksX0_laysFits_5 19 rfl rfl)
theorem dX0_laysFits_136 : decode cX0_laysFits 136 = .ok (.invokevirtual 116, 3) := dk_182 0 116 (dk_at dksX0_laysFits_5 20 rfl rfl)
theorem dX0_laysFits_139 : decode cX0_laysFits 139 = .ok (.iinc 4 1, 3) := dk_132 4 1 (dk_at dksX0_laysFits_6 0 rfl rfl)
theorem dX0_laysFits_142 : decode cX0_laysFits 142 = .ok (.goto (-79), 3) := dk_167 255 177 (dk_at dksX0_laysFits_6 3 rfl rfl)
theorem dX0_laysFits_145 : decode cX0_laysFits 145 = .ok (.iconst 0, 1) := dk_3 (dk_at dksX0_laysFits_6 6 rfl rfl)
theorem dX0_laysFits_146 : decode cX0_laysFits 146 = .ok (.istore 4, 2) := dk_54 4 (dk_at dksX0_laysFits_6 7 rfl rfl)
theorem dX0_laysFits_148 : decode cX0_laysFits 148 = .ok (.iload 4, 2) := dk_21 4 (dk_at dksX0_laysFits_6 9 rfl rfl)
theorem dX0_laysFits_150 : decode cX0_laysFits 150 = .ok (.bipush 6, 2) := dk_16 6 (dk_at dksX0_laysFits_6 11 rfl rfl)
theorem dX0_laysFits_152 : decode cX0_laysFits 152 = .ok (.if_icmp .ge 17, 3) := dk_162 0 17 (dk_at dksX0_laysFits_6 13 rfl rfl)
theorem dX0_laysFits_155 : decode cX0_laysFits 155 = .ok (.aload_n 0, 1) := dk_42 (dk_at dksX0_laysFits_6 16 rfl rfl)
theorem dX0_laysFits_156 : decode cX0_laysFits 156 = .ok (.getfield 70, 3) := dk_180 0 70 (dk_at dksX0_laysFits_6 17 rfl rfl)
theorem dX0_laysFits_159 : decode cX0_laysFits 159 = .ok (.iload 4, 2) := dk_21 4 (dk_at dksX0_laysFits_6 20 rfl rfl)
theorem dX0_laysFits_161 : decode cX0_laysFits 161 = .ok (.iconst 3, 1) := dk_6 (dk_at dksX0_laysFits_6 22 rfl rfl)
theorem dX0_laysFits_162 : decode cX0_laysFits 162 = .ok (.iastore, 1) := dk_79 (dk_at dksX0_laysFits_6 23 rfl rfl)
theorem dX0_laysFits_163 : decode cX0_laysFits 163 = .ok (.iinc 4 1, 3) := dk_132 4 1 (dk_at dksX0_laysFits_7 0 rfl rfl)
theorem dX0_laysFits_166 : decode cX0_laysFits 166 = .ok (.goto (-18), 3) := dk_167 255 238 (dk_at dksX0_laysFits_7 3 rfl rfl)
theorem dX0_laysFits_169 : decode cX0_laysFits 169 = .ok (.iconst 0, 1) := dk_3 (dk_at dksX0_laysFits_7 6 rfl rfl)
theorem dX0_laysFits_170 : decode cX0_laysFits 170 = .ok (.istore 4, 2) := dk_54 4 (dk_at dksX0_laysFits_7 7 rfl rfl)
theorem dX0_laysFits_172 : decode cX0_laysFits 172 = .ok (.iload 4, 2) := dk_21 4 (dk_at dksX0_laysFits_7 9 rfl rfl)
theorem dX0_laysFits_174 : decode cX0_laysFits 174 = .ok (.iload_n 2, 1) := dk_28 (dk_at dksX0_laysFits_7 11 rfl rfl)
theorem dX0_laysFits_175 : decode cX0_laysFits 175 = .ok (.if_icmp .ge 85, 3) := dk_162 0 85 (dk_at dksX0_laysFits_7 12 rfl rfl)
theorem dX0_laysFits_178 : decode cX0_laysFits 178 = .ok (.aload_n 3, 1) := dk_45 (dk_at dksX0_laysFits_7 15 rfl rfl)
theorem dX0_laysFits_179 : decode cX0_laysFits 179 = .ok (.iconst 3, 1) := dk_6 (dk_at dksX0_laysFits_7 16 rfl rfl)
theorem dX0_laysFits_180 : decode cX0_laysFits 180 = .ok (.iload 4, 2) := dk_21 4 (dk_at dksX0_laysFits_7 17 rfl rfl)
theorem dX0_laysFits_182 : decode cX0_laysFits 182 = .ok (.imul, 1) := dk_104 (dk_at dksX0_laysFits_7 19 rfl rfl)
theorem dX0_laysFits_183 : decode cX0_laysFits 183 = .ok (.invokestatic 143, 3) := dk_184 0 143 (dk_at dksX0_laysFits_7 20 rfl rfl)
theorem dX0_laysFits_186 : decode cX0_laysFits 186 = .ok (.l2i, 1) := dk_136 (dk_at dksX0_laysFits_7 23 rfl rfl)
theorem dX0_laysFits_187 : decode cX0_laysFits 187 = .ok (.istore 5, 2) := dk_54 5 (dk_at dksX0_laysFits_8 0 rfl rfl)
theorem dX0_laysFits_189 : decode cX0_laysFits 189 = .ok (.iconst 0, 1) := dk_3 (dk_at dksX0_laysFits_8 2 rfl rfl)
theorem dX0_laysFits_190 : decode cX0_laysFits 190 = .ok (.istore 6, 2) := dk_54 6 (dk_at dksX0_laysFits_8 3 rfl rfl)
theorem dX0_laysFits_192 : decode cX0_laysFits 192 = .ok (.iload 6, 2) := dk_21 6 (dk_at dksX0_laysFits_8 5 rfl rfl)
theorem dX0_laysFits_194 : decode cX0_laysFits 194 = .ok (.iconst 2, 1) := dk_5 (dk_at dksX0_laysFits_8 7 rfl rfl)
theorem dX0_laysFits_195 : decode cX0_laysFits 195 = .ok (.if_icmp .ge 59, 3) := dk_162 0 59 (dk_at dksX0_laysFits_8 8 rfl rfl)
theorem dX0_laysFits_198 : decode cX0_laysFits 198 = .ok (.aload_n 0, 1) := dk_42 (dk_at dksX0_laysFits_8 11 rfl rfl)
theorem dX0_laysFits_199 : decode cX0_laysFits 199 = .ok (.iload 5, 2) := dk_21 5 (dk_at dksX0_laysFits_8 12 rfl rfl)
theorem dX0_laysFits_201 : decode cX0_laysFits 201 = .ok (.iload 6, 2) := dk_21 6 (dk_at dksX0_laysFits_8 14 rfl rfl)
theorem dX0_laysFits_203 : decode cX0_laysFits 203 = .ok (.aload_n 3, 1) := dk_45 (dk_at dksX0_laysFits_8 16 rfl rfl)
theorem dX0_laysFits_204 : decode cX0_laysFits 204 = .ok (.iconst 3, 1) := dk_6 (dk_at dksX0_laysFits_8 17 rfl rfl)
theorem dX0_laysFits_205 : decode cX0_laysFits 205 = .ok (.iload 4, 2) := dk_21 4 (dk_at dksX0_laysFits_8 18 rfl rfl)
theorem dX0_laysFits_207 : decode cX0_laysFits 207 = .ok (.imul, 1) := dk_104 (dk_at dksX0_laysFits_8 20 rfl rfl)
theorem dX0_laysFits_208 : decode cX0_laysFits 208 = .ok (.iconst 1, 1) := dk_4 (dk_at dksX0_laysFits_8 21 rfl rfl)
theorem dX0_laysFits_209 : decode cX0_laysFits 209 = .ok (.iadd, 1) := dk_96 (dk_at dksX0_laysFits_8 22 rfl rfl)
theorem dX0_laysFits_210 : decode cX0_laysFits 210 = .ok (.invokestatic 143, 3) := dk_184 0 143 (dk_at dksX0_laysFits_9 0 rfl rfl)
theorem dX0_laysFits_213 : decode cX0_laysFits 213 = .ok (.l2i, 1) := dk_136 (dk_at dksX0_laysFits_9 3 rfl rfl)
theorem dX0_laysFits_214 : decode cX0_laysFits 214 = .ok (.invokevirtual 393, 3) := dk_182 1 137 (dk_at dksX0_laysFits_9 4 rfl rfl)
theorem dX0_laysFits_217 : decode cX0_laysFits 217 = .ok (.i2l, 1) := dk_133 (dk_at dksX0_laysFits_9 7 rfl rfl)
theorem dX0_laysFits_218 : decode cX0_laysFits 218 = .ok (.aload_n 3, 1) := dk_45 (dk_at dksX0_laysFits_9 8 rfl rfl)
theorem dX0_laysFits_219 : decode cX0_laysFits 219 = .ok (.iconst 3, 1) := dk_6 (dk_at dksX0_laysFits_9 9 rfl rfl)
theorem dX0_laysFits_220 : decode cX0_laysFits 220 = .ok (.iload 4, 2) := dk_21 4 (dk_at dksX0_laysFits_9 10 rfl rfl)
theorem dX0_laysFits_222 : decode cX0_laysFits 222 = .ok (.imul, 1) := dk_104 (dk_at dksX0_laysFits_9 12 rfl rfl)
theorem dX0_laysFits_223 : decode cX0_laysFits 223 = .ok (.iconst 2, 1) := dk_5 (dk_at dksX0_laysFits_9 13 rfl rfl)
theorem dX0_laysFits_224 : decode cX0_laysFits 224 = .ok (.iadd, 1) := dk_96 (dk_at dksX0_laysFits_9 14 rfl rfl)
theorem dX0_laysFits_225 : decode cX0_laysFits 225 = .ok (.invokestatic 143, 3) := dk_184 0 143 (dk_at dksX0_laysFits_9 15 rfl rfl)
theorem dX0_laysFits_228 : decode cX0_laysFits 228 = .ok (.lcmp, 1) := dk_148 (dk_at dksX0_laysFits_9 18 rfl rfl)
theorem dX0_laysFits_229 : decode cX0_laysFits 229 = .ok (.ifCond .eq 19, 3) := dk_153 0 19 (dk_at dksX0_laysFits_9 19 rfl rfl)
theorem dX0_laysFits_232 : decode cX0_laysFits 232 = .ok (.aload_n 0, 1) := dk_42 (dk_at dksX0_laysFits_9 22 rfl rfl)
theorem dX0_laysFits_233 : decode cX0_laysFits 233 = .ok (.getfield 70, 3) := dk_180 0 70 (dk_at dksX0_laysFits_10 0 rfl rfl)
theorem dX0_laysFits_236 : decode cX0_laysFits 236 = .ok (.iload 5, 2) := dk_21 5 (dk_at dksX0_laysFits_10 3 rfl rfl)
theorem dX0_laysFits_238 : decode cX0_laysFits 238 = .ok (.dup2, 1) := dk_92 (dk_at dksX0_laysFits_10 5 rfl rfl)
theorem dX0_laysFits_239 : decode cX0_laysFits 239 = .ok (.iaload, 1) := dk_46 (dk_at dksX0_laysFits_10 6 rfl rfl)
theorem dX0_laysFits_240 : decode cX0_laysFits 240 = .ok (.iconst 1, 1) := dk_4 (dk_at dksX0_laysFits_10 7 rfl rfl)
theorem dX0_laysFits_241 : decode cX0_laysFits 241 = .ok (.iload 6, 2) := dk_21 6 (dk_at dksX0_laysFits_10 8 rfl rfl)
theorem dX0_laysFits_243 : decode cX0_laysFits 243 = .ok (.ishl, 1) := dk_120 (dk_at dksX0_laysFits_10 10 rfl rfl)
theorem dX0_laysFits_244 : decode cX0_laysFits 244 = .ok (.iconst (-1), 1) := dk_2 (dk_at dksX0_laysFits_10 11 rfl rfl)
theorem dX0_laysFits_245 : decode cX0_laysFits 245 = .ok (.ixor, 1) := dk_130 (dk_at dksX0_laysFits_10 12 rfl rfl)
theorem dX0_laysFits_246 : decode cX0_laysFits 246 = .ok (.iand, 1) := dk_126 (dk_at dksX0_laysFits_10 13 rfl rfl)
theorem dX0_laysFits_247 : decode cX0_laysFits 247 = .ok (.iastore, 1) := dk_79 (dk_at dksX0_laysFits_10 14 rfl rfl)
theorem dX0_laysFits_248 : decode cX0_laysFits 248 = .ok (.iinc 6 1, 3) := dk_132 6 1 (dk_at dksX0_laysFits_10 15 rfl rfl)
theorem dX0_laysFits_251 : decode cX0_laysFits 251 = .ok (.goto (-59), 3) := dk_167 255 197 (dk_at dksX0_laysFits_10 18 rfl rfl)
theorem dX0_laysFits_254 : decode cX0_laysFits 254 = .ok (.iinc 4 1, 3) := dk_132 4 1 (dk_at dksX0_laysFits_10 21 rfl rfl)
theorem dX0_laysFits_257 : decode cX0_laysFits 257 = .ok (.goto (-85), 3) := dk_167 255 171 (dk_at dksX0_laysFits_11 0 rfl rfl)
theorem dX0_laysFits_260 : decode cX0_laysFits 260 = .ok (.return_, 1) := dk_177 (dk_at dksX0_laysFits_11 3 rfl rfl)
abbrev cX0_sizeOf : ByteArray := prog_1_method_3_code
def yX0_sizeOf : MethodName := ⟨RX0, "sizeOf", "(Ljava/lang/Object;)I"⟩
def dkwX0_sizeOf_2 : List UInt8 := [42, 192, 0, 7, 190, 172]
abbrev dktX0_sizeOf_2 : List UInt8 := dkwX0_sizeOf_2 ++ []
def dkwX0_sizeOf_1 : List UInt8 := [192, 0, 3, 76, 43, 190, 172, 42, 193, 0, 5, 153, 0, 13, 42, 192, 0, 5, 76, 43, 190, 167, 0, 8]
abbrev dktX0_sizeOf_1 : List UInt8 := dkwX0_sizeOf_1 ++ dktX0_sizeOf_2
def dkwX0_sizeOf_0 : List UInt8 := [42, 193, 0, 1, 153, 0, 11, 42, 192, 0, 1, 76, 43, 190, 172, 42, 193, 0, 3, 153, 0, 11, 42]
abbrev dktX0_sizeOf_0 : List UInt8 := dkwX0_sizeOf_0 ++ dktX0_sizeOf_1
theorem dksX0_sizeOf_0 : cX0_sizeOf.data.toList.drop 0 = dktX0_sizeOf_0 := by decide +kernel
theorem dksX0_sizeOf_1 : cX0_sizeOf.data.toList.drop 23 = dktX0_sizeOf_1 := dk_seg dksX0_sizeOf_0 23 rfl rfl
theorem dksX0_sizeOf_2 : cX0_sizeOf.data.toList.drop 47 = dktX0_sizeOf_2 := dk_seg dksX0_sizeOf_1 24 rfl rfl
theorem dX0_sizeOf_0 : decode cX0_sizeOf 0 = .ok (.aload_n 0, 1) := dk_42 (dk_at dksX0_sizeOf_0 0 rfl rfl)
theorem dX0_sizeOf_1 : decode cX0_sizeOf 1 = .ok (.instanceof 1, 3) := dk_193 0 1 (dk_at dksX0_sizeOf_0 1 rfl rfl)
theorem dX0_sizeOf_4 : decode cX0_sizeOf 4 = .ok (.ifCond .eq 11, 3) := dk_153 0 11 (dk_at dksX0_sizeOf_0 4 rfl rfl)
theorem dX0_sizeOf_7 : decode cX0_sizeOf 7 = .ok (.aload_n 0, 1) := dk_42 (dk_at dksX0_sizeOf_0 7 rfl rfl)
theorem dX0_sizeOf_8 : decode cX0_sizeOf 8 = .ok (.checkcast 1, 3) := dk_192 0 1 (dk_at dksX0_sizeOf_0 8 rfl rfl)
theorem dX0_sizeOf_11 : decode cX0_sizeOf 11 = .ok (.astore_n 1, 1) := dk_76 (dk_at dksX0_sizeOf_0 11 rfl rfl)
theorem dX0_sizeOf_12 : decode cX0_sizeOf 12 = .ok (.aload_n 1, 1) := dk_43 (dk_at dksX0_sizeOf_0 12 rfl rfl)
theorem dX0_sizeOf_13 : decode cX0_sizeOf 13 = .ok (.arraylength, 1) := dk_190 (dk_at dksX0_sizeOf_0 13 rfl rfl)
theorem dX0_sizeOf_14 : decode cX0_sizeOf 14 = .ok (.ireturn, 1) := dk_172 (dk_at dksX0_sizeOf_0 14 rfl rfl)
theorem dX0_sizeOf_15 : decode cX0_sizeOf 15 = .ok (.aload_n 0, 1) := dk_42 (dk_at dksX0_sizeOf_0 15 rfl rfl)
theorem dX0_sizeOf_16 : decode cX0_sizeOf 16 = .ok (.instanceof 3, 3) := dk_193 0 3 (dk_at dksX0_sizeOf_0 16 rfl rfl)
theorem dX0_sizeOf_19 : decode cX0_sizeOf 19 = .ok (.ifCond .eq 11, 3) := dk_153 0 11 (dk_at dksX0_sizeOf_0 19 rfl rfl)
theorem dX0_sizeOf_22 : decode cX0_sizeOf 22 = .ok (.aload_n 0, 1) := dk_42 (dk_at dksX0_sizeOf_0 22 rfl rfl)
theorem dX0_sizeOf_23 : decode cX0_sizeOf 23 = .ok (.checkcast 3, 3) := dk_192 0 3 (dk_at dksX0_sizeOf_1 0 rfl rfl)
theorem dX0_sizeOf_26 : decode cX0_sizeOf 26 = .ok (.astore_n 1, 1) := dk_76 (dk_at dksX0_sizeOf_1 3 rfl rfl)
theorem dX0_sizeOf_27 : decode cX0_sizeOf 27 = .ok (.aload_n 1, 1) := dk_43 (dk_at dksX0_sizeOf_1 4 rfl rfl)
theorem dX0_sizeOf_28 : decode cX0_sizeOf 28 = .ok (.arraylength, 1) := dk_190 (dk_at dksX0_sizeOf_1 5 rfl rfl)
theorem dX0_sizeOf_29 : decode cX0_sizeOf 29 = .ok (.ireturn, 1) := dk_172 (dk_at dksX0_sizeOf_1 6 rfl rfl)
theorem dX0_sizeOf_30 : decode cX0_sizeOf 30 = .ok (.aload_n 0, 1) := dk_42 (dk_at dksX0_sizeOf_1 7 rfl rfl)
theorem dX0_sizeOf_31 : decode cX0_sizeOf 31 = .ok (.instanceof 5, 3) := dk_193 0 5 (dk_at dksX0_sizeOf_1 8 rfl rfl)
theorem dX0_sizeOf_34 : decode cX0_sizeOf 34 = .ok (.ifCond .eq 13, 3) := dk_153 0 13 (dk_at dksX0_sizeOf_1 11 rfl rfl)
theorem dX0_sizeOf_37 : decode cX0_sizeOf 37 = .ok (.aload_n 0, 1) := dk_42 (dk_at dksX0_sizeOf_1 14 rfl rfl)
theorem dX0_sizeOf_38 : decode cX0_sizeOf 38 = .ok (.checkcast 5, 3) := dk_192 0 5 (dk_at dksX0_sizeOf_1 15 rfl rfl)
theorem dX0_sizeOf_41 : decode cX0_sizeOf 41 = .ok (.astore_n 1, 1) := dk_76 (dk_at dksX0_sizeOf_1 18 rfl rfl)
theorem dX0_sizeOf_42 : decode cX0_sizeOf 42 = .ok (.aload_n 1, 1) := dk_43 (dk_at dksX0_sizeOf_1 19 rfl rfl)
theorem dX0_sizeOf_43 : decode cX0_sizeOf 43 = .ok (.arraylength, 1) := dk_190 (dk_at dksX0_sizeOf_1 20 rfl rfl)
theorem dX0_sizeOf_44 : decode cX0_sizeOf 44 = .ok (.goto 8, 3) := dk_167 0 8 (dk_at dksX0_sizeOf_1 21 rfl rfl)
theorem dX0_sizeOf_47 : decode cX0_sizeOf 47 = .ok (.aload_n 0, 1) := dk_42 (dk_at dksX0_sizeOf_2 0 rfl rfl)
theorem dX0_sizeOf_48 : decode cX0_sizeOf 48 = .ok (.checkcast 7, 3) := dk_192 0 7 (dk_at dksX0_sizeOf_2 1 rfl rfl)
theorem dX0_sizeOf_51 : decode cX0_sizeOf 51 = .ok (.arraylength, 1) := dk_190 (dk_at dksX0_sizeOf_2 4 rfl rfl)
theorem dX0_sizeOf_52 : decode cX0_sizeOf 52 = .ok (.ireturn, 1) := dk_172 (dk_at dksX0_sizeOf_2 5 rfl rfl)
abbrev cX0_shownIf : ByteArray := prog_1_method_63_code
def yX0_shownIf : MethodName := ⟨RX0, "shownIf", "(III)I"⟩
def dkwX0_shownIf_1 : List UInt8 := [42, 182, 0, 168, 180, 1, 55, 27, 46, 182, 1, 141, 172]
abbrev dktX0_shownIf_1 : List UInt8 := dkwX0_shownIf_1 ++ []
def dkwX0_shownIf_0 : List UInt8 := [42, 182, 0, 168, 28, 4, 160, 0, 7, 4, 167, 0, 4, 3, 42, 182, 0, 168, 180, 1, 52, 27, 46, 29]
abbrev dktX0_shownIf_0 : List UInt8 := dkwX0_shownIf_0 ++ dktX0_shownIf_1
theorem dksX0_shownIf_0 : cX0_shownIf.data.toList.drop 0 = dktX0_shownIf_0 := by decide +kernel
theorem dksX0_shownIf_1 : cX0_shownIf.data.toList.drop 24 = dktX0_shownIf_1 := dk_seg dksX0_shownIf_0 24 rfl rfl
theorem dX0_shownIf_0 : decode cX0_shownIf 0 = .ok (.aload_n 0, 1) := dk_42 (dk_at dksX0_shownIf_0 0 rfl rfl)
theorem dX0_shownIf_1 : decode cX0_shownIf 1 = .ok (.invokevirtual 168, 3) := dk_182 0 168 (dk_at dksX0_shownIf_0 1 rfl rfl)
theorem dX0_shownIf_4 : decode cX0_shownIf 4 = .ok (.iload_n 2, 1) := dk_28 (dk_at dksX0_shownIf_0 4 rfl rfl)
theorem dX0_shownIf_5 : decode cX0_shownIf 5 = .ok (.iconst 1, 1) := dk_4 (dk_at dksX0_shownIf_0 5 rfl rfl)
theorem dX0_shownIf_6 : decode cX0_shownIf 6 = .ok (.if_icmp .ne 7, 3) := dk_160 0 7 (dk_at dksX0_shownIf_0 6 rfl rfl)
theorem dX0_shownIf_9 : decode cX0_shownIf 9 = .ok (.iconst 1, 1) := dk_4 (dk_at dksX0_shownIf_0 9 rfl rfl)
theorem dX0_shownIf_10 : decode cX0_shownIf 10 = .ok (.goto 4, 3) := dk_167 0 4 (dk_at dksX0_shownIf_0 10 rfl rfl)
theorem dX0_shownIf_13 : decode cX0_shownIf 13 = .ok (.iconst 0, 1) := dk_3 (dk_at dksX0_shownIf_0 13 rfl rfl)
theorem dX0_shownIf_14 : decode cX0_shownIf 14 = .ok (.aload_n 0, 1) := dk_42 (dk_at dksX0_shownIf_0 14 rfl rfl)
theorem dX0_shownIf_15 : decode cX0_shownIf 15 = .ok (.invokevirtual 168, 3) := dk_182 0 168 (dk_at dksX0_shownIf_0 15 rfl rfl)
theorem dX0_shownIf_18 : decode cX0_shownIf 18 = .ok (.getfield 308, 3) := dk_180 1 52 (dk_at dksX0_shownIf_0 18 rfl rfl)
theorem dX0_shownIf_21 : decode cX0_shownIf 21 = .ok (.iload_n 1, 1) := dk_27 (dk_at dksX0_shownIf_0 21 rfl rfl)
theorem dX0_shownIf_22 : decode cX0_shownIf 22 = .ok (.iaload, 1) := dk_46 (dk_at dksX0_shownIf_0 22 rfl rfl)
theorem dX0_shownIf_23 : decode cX0_shownIf 23 = .ok (.iload_n 3, 1) := dk_29 (dk_at dksX0_shownIf_0 23 rfl rfl)
theorem dX0_shownIf_24 : decode cX0_shownIf 24 = .ok (.aload_n 0, 1) := dk_42 (dk_at dksX0_shownIf_1 0 rfl rfl)
theorem dX0_shownIf_25 : decode cX0_shownIf 25 = .ok (.invokevirtual 168, 3) := dk_182 0 168 (dk_at dksX0_shownIf_1 1 rfl rfl)
theorem dX0_shownIf_28 : decode cX0_shownIf 28 = .ok (.getfield 311, 3) := dk_180 1 55 (dk_at dksX0_shownIf_1 4 rfl rfl)
theorem dX0_shownIf_31 : decode cX0_shownIf 31 = .ok (.iload_n 1, 1) := dk_27 (dk_at dksX0_shownIf_1 7 rfl rfl)
theorem dX0_shownIf_32 : decode cX0_shownIf 32 = .ok (.iaload, 1) := dk_46 (dk_at dksX0_shownIf_1 8 rfl rfl)
theorem dX0_shownIf_33 : decode cX0_shownIf 33 = .ok (.invokevirtual 397, 3) := dk_182 1 141 (dk_at dksX0_shownIf_1 9 rfl rfl)
theorem dX0_shownIf_36 : decode cX0_shownIf 36 = .ok (.ireturn, 1) := dk_172 (dk_at dksX0_shownIf_1 12 rfl rfl)
abbrev cX0_ways : ByteArray := prog_1_method_64_code
def yX0_ways : MethodName := ⟨RX0, "ways", "()I"⟩
def dkwX0_ways_1 : List UInt8 := [184, 1, 82, 104, 60, 132, 2, 1, 167, 255, 230, 27, 172]
abbrev dktX0_ways_1 : List UInt8 := dkwX0_ways_1 ++ []
def dkwX0_ways_0 : List UInt8 := [4, 60, 3, 61, 28, 42, 182, 0, 168, 180, 0, 185, 162, 0, 21, 27, 42, 180, 0, 70, 28, 46]
abbrev dktX0_ways_0 : List UInt8 := dkwX0_ways_0 ++ dktX0_ways_1
theorem dksX0_ways_0 : cX0_ways.data.toList.drop 0 = dktX0_ways_0 := by decide +kernel
theorem dksX0_ways_1 : cX0_ways.data.toList.drop 22 = dktX0_ways_1 := dk_seg dksX0_ways_0 22 rfl rfl
theorem dX0_ways_0 : decode cX0_ways 0 = .ok (.iconst 1, 1) := dk_4 (dk_at dksX0_ways_0 0 rfl rfl)
theorem dX0_ways_1 : decode cX0_ways 1 = .ok (.istore_n 1, 1) := dk_60 (dk_at dksX0_ways_0 1 rfl rfl)
theorem dX0_ways_2 : decode cX0_ways 2 = .ok (.iconst 0, 1) := dk_3 (dk_at dksX0_ways_0 2 rfl rfl)
theorem dX0_ways_3 : decode cX0_ways 3 = .ok (.istore_n 2, 1) := dk_61 (dk_at dksX0_ways_0 3 rfl rfl)
theorem dX0_ways_4 : decode cX0_ways 4 = .ok (.iload_n 2, 1) := dk_28 (dk_at dksX0_ways_0 4 rfl rfl)
theorem dX0_ways_5 : decode cX0_ways 5 = .ok (.aload_n 0, 1) := dk_42 (dk_at dksX0_ways_0 5 rfl rfl)
theorem dX0_ways_6 : decode cX0_ways 6 = .ok (.invokevirtual 168, 3) := dk_182 0 168 (dk_at dksX0_ways_0 6 rfl rfl)
theorem dX0_ways_9 : decode cX0_ways 9 = .ok (.getfield 185, 3) := dk_180 0 185 (dk_at dksX0_ways_0 9 rfl rfl)
theorem dX0_ways_12 : decode cX0_ways 12 = .ok (.if_icmp .ge 21, 3) := dk_162 0 21 (dk_at dksX0_ways_0 12 rfl rfl)
theorem dX0_ways_15 : decode cX0_ways 15 = .ok (.iload_n 1, 1) := dk_27 (dk_at dksX0_ways_0 15 rfl rfl)
theorem dX0_ways_16 : decode cX0_ways 16 = .ok (.aload_n 0, 1) := dk_42 (dk_at dksX0_ways_0 16 rfl rfl)
theorem dX0_ways_17 : decode cX0_ways 17 = .ok (.getfield 70, 3) := dk_180 0 70 (dk_at dksX0_ways_0 17 rfl rfl)
theorem dX0_ways_20 : decode cX0_ways 20 = .ok (.iload_n 2, 1) := dk_28 (dk_at dksX0_ways_0 20 rfl rfl)
theorem dX0_ways_21 : decode cX0_ways 21 = .ok (.iaload, 1) := dk_46 (dk_at dksX0_ways_0 21 rfl rfl)
theorem dX0_ways_22 : decode cX0_ways 22 = .ok (.invokestatic 338, 3) := dk_184 1 82 (dk_at dksX0_ways_1 0 rfl rfl)
theorem dX0_ways_25 : decode cX0_ways 25 = .ok (.imul, 1) := dk_104 (dk_at dksX0_ways_1 3 rfl rfl)
theorem dX0_ways_26 : decode cX0_ways 26 = .ok (.istore_n 1, 1) := dk_60 (dk_at dksX0_ways_1 4 rfl rfl)
theorem dX0_ways_27 : decode cX0_ways 27 = .ok (.iinc 2 1, 3) := dk_132 2 1 (dk_at dksX0_ways_1 5 rfl rfl)
theorem dX0_ways_30 : decode cX0_ways 30 = .ok (.goto (-26), 3) := dk_167 255 230 (dk_at dksX0_ways_1 8 rfl rfl)
theorem dX0_ways_33 : decode cX0_ways 33 = .ok (.iload_n 1, 1) := dk_27 (dk_at dksX0_ways_1 11 rfl rfl)
theorem dX0_ways_34 : decode cX0_ways 34 = .ok (.ireturn, 1) := dk_172 (dk_at dksX0_ways_1 12 rfl rfl)
abbrev cX0_sure : ByteArray := prog_1_method_66_code
def yX0_sure : MethodName := ⟨RX0, "sure", "(III)I"⟩
def dkwX0_sure_2 : List UInt8 := [27, 46, 4, 100, 182, 1, 36, 172, 58, 4, 42, 25, 4, 182, 0, 149, 172]
abbrev dktX0_sure_2 : List UInt8 := dkwX0_sure_2 ++ []
def dkwX0_sure_1 : List UInt8 := [182, 1, 147, 153, 0, 13, 42, 180, 0, 70, 27, 46, 6, 160, 0, 7, 2, 167, 0, 11, 42, 180, 0, 70]
abbrev dktX0_sure_1 : List UInt8 := dkwX0_sure_1 ++ dktX0_sure_2
def dkwX0_sure_0 : List UInt8 := [42, 3, 181, 0, 91, 42, 42, 27, 133, 182, 1, 48, 4, 182, 0, 116, 42, 28, 29, 182, 1, 143, 42, 42]
abbrev dktX0_sure_0 : List UInt8 := dkwX0_sure_0 ++ dktX0_sure_1
theorem dksX0_sure_0 : cX0_sure.data.toList.drop 0 = dktX0_sure_0 := by decide +kernel
theorem dksX0_sure_1 : cX0_sure.data.toList.drop 24 = dktX0_sure_1 := dk_seg dksX0_sure_0 24 rfl rfl
theorem dksX0_sure_2 : cX0_sure.data.toList.drop 48 = dktX0_sure_2 := dk_seg dksX0_sure_1 24 rfl rfl
theorem dX0_sure_0 : decode cX0_sure 0 = .ok (.aload_n 0, 1) := dk_42 (dk_at dksX0_sure_0 0 rfl rfl)
theorem dX0_sure_1 : decode cX0_sure 1 = .ok (.iconst 0, 1) := dk_3 (dk_at dksX0_sure_0 1 rfl rfl)
theorem dX0_sure_2 : decode cX0_sure 2 = .ok (.putfield 91, 3) := dk_181 0 91 (dk_at dksX0_sure_0 2 rfl rfl)
theorem dX0_sure_5 : decode cX0_sure 5 = .ok (.aload_n 0, 1) := dk_42 (dk_at dksX0_sure_0 5 rfl rfl)
theorem dX0_sure_6 : decode cX0_sure 6 = .ok (.aload_n 0, 1) := dk_42 (dk_at dksX0_sure_0 6 rfl rfl)
theorem dX0_sure_7 : decode cX0_sure 7 = .ok (.iload_n 1, 1) := dk_27 (dk_at dksX0_sure_0 7 rfl rfl)
theorem dX0_sure_8 : decode cX0_sure 8 = .ok (.i2l, 1) := dk_133 (dk_at dksX0_sure_0 8 rfl rfl)
theorem dX0_sure_9 : decode cX0_sure 9 = .ok (.invokevirtual 304, 3) := dk_182 1 48 (dk_at dksX0_sure_0 9 rfl rfl)
theorem dX0_sure_12 : decode cX0_sure 12 = .ok (.iconst 1, 1) := dk_4 (dk_at dksX0_sure_0 12 rfl rfl)
theorem dX0_sure_13 : decode cX0_sure 13 = .ok (.invokevirtual 116, 3) := dk_182 0 116 (dk_at dksX0_sure_0 13 rfl rfl)
theorem dX0_sure_16 : decode cX0_sure 16 = .ok (.aload_n 0, 1) := dk_42 (dk_at dksX0_sure_0 16 rfl rfl)
theorem dX0_sure_17 : decode cX0_sure 17 = .ok (.iload_n 2, 1) := dk_28 (dk_at dksX0_sure_0 17 rfl rfl)
theorem dX0_sure_18 : decode cX0_sure 18 = .ok (.iload_n 3, 1) := dk_29 (dk_at dksX0_sure_0 18 rfl rfl)
theorem dX0_sure_19 : decode cX0_sure 19 = .ok (.invokevirtual 399, 3) := dk_182 1 143 (dk_at dksX0_sure_0 19 rfl rfl)
theorem dX0_sure_22 : decode cX0_sure 22 = .ok (.aload_n 0, 1) := dk_42 (dk_at dksX0_sure_0 22 rfl rfl)
theorem dX0_sure_23 : decode cX0_sure 23 = .ok (.aload_n 0, 1) := dk_42 (dk_at dksX0_sure_0 23 rfl rfl)
theorem dX0_sure_24 : decode cX0_sure 24 = .ok (.invokevirtual 403, 3) := dk_182 1 147 (dk_at dksX0_sure_1 0 rfl rfl)
theorem dX0_sure_27 : decode cX0_sure 27 = .ok (.ifCond .eq 13, 3) := dk_153 0 13 (dk_at dksX0_sure_1 3 rfl rfl)
theorem dX0_sure_30 : decode cX0_sure 30 = .ok (.aload_n 0, 1) := dk_42 (dk_at dksX0_sure_1 6 rfl rfl)
theorem dX0_sure_31 : decode cX0_sure 31 = .ok (.getfield 70, 3) := dk_180 0 70 (dk_at dksX0_sure_1 7 rfl rfl)
theorem dX0_sure_34 : decode cX0_sure 34 = .ok (.iload_n 1, 1) := dk_27 (dk_at dksX0_sure_1 10 rfl rfl)
theorem dX0_sure_35 : decode cX0_sure 35 = .ok (.iaload, 1) := dk_46 (dk_at dksX0_sure_1 11 rfl rfl)
theorem dX0_sure_36 : decode cX0_sure 36 = .ok (.iconst 3, 1) := dk_6 (dk_at dksX0_sure_1 12 rfl rfl)
theorem dX0_sure_37 : decode cX0_sure 37 = .ok (.if_icmp .ne 7, 3) := dk_160 0 7 (dk_at dksX0_sure_1 13 rfl rfl)
theorem dX0_sure_40 : decode cX0_sure 40 = .ok (.iconst (-1), 1) := dk_2 (dk_at dksX0_sure_1 16 rfl rfl)
theorem dX0_sure_41 : decode cX0_sure 41 = .ok (.goto 11, 3) := dk_167 0 11 (dk_at dksX0_sure_1 17 rfl rfl)
theorem dX0_sure_44 : decode cX0_sure 44 = .ok (.aload_n 0, 1) := dk_42 (dk_at dksX0_sure_1 20 rfl rfl)
theorem dX0_sure_45 : decode cX0_sure 45 = .ok (.getfield 70, 3) := dk_180 0 70 (dk_at dksX0_sure_1 21 rfl rfl)
theorem dX0_sure_48 : decode cX0_sure 48 = .ok (.iload_n 1, 1) := dk_27 (dk_at dksX0_sure_2 0 rfl rfl)
theorem dX0_sure_49 : decode cX0_sure 49 = .ok (.iaload, 1) := dk_46 (dk_at dksX0_sure_2 1 rfl rfl)
theorem dX0_sure_50 : decode cX0_sure 50 = .ok (.iconst 1, 1) := dk_4 (dk_at dksX0_sure_2 2 rfl rfl)
theorem dX0_sure_51 : decode cX0_sure 51 = .ok (.isub, 1) := dk_100 (dk_at dksX0_sure_2 3 rfl rfl)
theorem dX0_sure_52 : decode cX0_sure 52 = .ok (.invokevirtual 292, 3) := dk_182 1 36 (dk_at dksX0_sure_2 4 rfl rfl)
theorem dX0_sure_55 : decode cX0_sure 55 = .ok (.ireturn, 1) := dk_172 (dk_at dksX0_sure_2 7 rfl rfl)
theorem dX0_sure_56 : decode cX0_sure 56 = .ok (.astore 4, 2) := dk_58 4 (dk_at dksX0_sure_2 8 rfl rfl)
theorem dX0_sure_58 : decode cX0_sure 58 = .ok (.aload_n 0, 1) := dk_42 (dk_at dksX0_sure_2 10 rfl rfl)
theorem dX0_sure_59 : decode cX0_sure 59 = .ok (.aload 4, 2) := dk_25 4 (dk_at dksX0_sure_2 11 rfl rfl)
theorem dX0_sure_61 : decode cX0_sure 61 = .ok (.invokevirtual 149, 3) := dk_182 0 149 (dk_at dksX0_sure_2 13 rfl rfl)
theorem dX0_sure_64 : decode cX0_sure 64 = .ok (.ireturn, 1) := dk_172 (dk_at dksX0_sure_2 16 rfl rfl)
abbrev cX0_odds : ByteArray := prog_1_method_67_code
def yX0_odds : MethodName := ⟨RX0, "odds", "(III)Z"⟩
def dkwX0_odds_3 : List UInt8 := [182, 0, 129, 172]
abbrev dktX0_odds_3 : List UInt8 := dkwX0_odds_3 ++ []
def dkwX0_odds_2 : List UInt8 := [122, 133, 42, 180, 0, 70, 27, 46, 184, 1, 82, 133, 182, 1, 150, 87, 4, 172, 58, 4, 42, 25, 4]
abbrev dktX0_odds_2 : List UInt8 := dkwX0_odds_2 ++ dktX0_odds_3
def dkwX0_odds_1 : List UInt8 := [182, 1, 147, 158, 0, 7, 4, 167, 0, 4, 3, 16, 6, 182, 0, 116, 42, 42, 180, 0, 70, 27, 46, 4]
abbrev dktX0_odds_1 : List UInt8 := dkwX0_odds_1 ++ dktX0_odds_2
def dkwX0_odds_0 : List UInt8 := [42, 3, 181, 0, 91, 42, 42, 27, 133, 182, 1, 48, 4, 182, 0, 116, 42, 28, 29, 182, 1, 143, 42, 42]
abbrev dktX0_odds_0 : List UInt8 := dkwX0_odds_0 ++ dktX0_odds_1
theorem dksX0_odds_0 : cX0_odds.data.toList.drop 0 = dktX0_odds_0 := by decide +kernel
theorem dksX0_odds_1 : cX0_odds.data.toList.drop 24 = dktX0_odds_1 := dk_seg dksX0_odds_0 24 rfl rfl
theorem dksX0_odds_2 : cX0_odds.data.toList.drop 48 = dktX0_odds_2 := dk_seg dksX0_odds_1 24 rfl rfl
theorem dksX0_odds_3 : cX0_odds.data.toList.drop 71 = dktX0_odds_3 := dk_seg dksX0_odds_2 23 rfl rfl
theorem dX0_odds_0 : decode cX0_odds 0 = .ok (.aload_n 0, 1) := dk_42 (dk_at dksX0_odds_0 0 rfl rfl)
theorem dX0_odds_1 : decode cX0_odds 1 = .ok (.iconst 0, 1) := dk_3 (dk_at dksX0_odds_0 1 rfl rfl)
theorem dX0_odds_2 : decode cX0_odds 2 = .ok (.putfield 91, 3) := dk_181 0 91 (dk_at dksX0_odds_0 2 rfl rfl)
theorem dX0_odds_5 : decode cX0_odds 5 = .ok (.aload_n 0, 1) := dk_42 (dk_at dksX0_odds_0 5 rfl rfl)
theorem dX0_odds_6 : decode cX0_odds 6 = .ok (.aload_n 0, 1) := dk_42 (dk_at dksX0_odds_0 6 rfl rfl)
theorem dX0_odds_7 : decode cX0_odds 7 = .ok (.iload_n 1, 1) := dk_27 (dk_at dksX0_odds_0 7 rfl rfl)
theorem dX0_odds_8 : decode cX0_odds 8 = .ok (.i2l, 1) := dk_133 (dk_at dksX0_odds_0 8 rfl rfl)
theorem dX0_odds_9 : decode cX0_odds 9 = .ok (.invokevirtual 304, 3) := dk_182 1 48 (dk_at dksX0_odds_0 9 rfl rfl)
theorem dX0_odds_12 : decode cX0_odds 12 = .ok (.iconst 1, 1) := dk_4 (dk_at dksX0_odds_0 12 rfl rfl)
theorem dX0_odds_13 : decode cX0_odds 13 = .ok (.invokevirtual 116, 3) := dk_182 0 116 (dk_at dksX0_odds_0 13 rfl rfl)
theorem dX0_odds_16 : decode cX0_odds 16 = .ok (.aload_n 0, 1) := dk_42 (dk_at dksX0_odds_0 16 rfl rfl)
theorem dX0_odds_17 : decode cX0_odds 17 = .ok (.iload_n 2, 1) := dk_28 (dk_at dksX0_odds_0 17 rfl rfl)
theorem dX0_odds_18 : decode cX0_odds 18 = .ok (.iload_n 3, 1) := dk_29 (dk_at dksX0_odds_0 18 rfl rfl)
theorem dX0_odds_19 : decode cX0_odds 19 = .ok (.invokevirtual 399, 3) := dk_182 1 143 (dk_at dksX0_odds_0 19 rfl rfl)
theorem dX0_odds_22 : decode cX0_odds 22 = .ok (.aload_n 0, 1) := dk_42 (dk_at dksX0_odds_0 22 rfl rfl)
theorem dX0_odds_23 : decode cX0_odds 23 = .ok (.aload_n 0, 1) := dk_42 (dk_at dksX0_odds_0 23 rfl rfl)
theorem dX0_odds_24 : decode cX0_odds 24 = .ok (.invokevirtual 403, 3) := dk_182 1 147 (dk_at dksX0_odds_1 0 rfl rfl)
theorem dX0_odds_27 : decode cX0_odds 27 = .ok (.ifCond .le 7, 3) := dk_158 0 7 (dk_at dksX0_odds_1 3 rfl rfl)
theorem dX0_odds_30 : decode cX0_odds 30 = .ok (.iconst 1, 1) := dk_4 (dk_at dksX0_odds_1 6 rfl rfl)
theorem dX0_odds_31 : decode cX0_odds 31 = .ok (.goto 4, 3) := dk_167 0 4 (dk_at dksX0_odds_1 7 rfl rfl)
theorem dX0_odds_34 : decode cX0_odds 34 = .ok (.iconst 0, 1) := dk_3 (dk_at dksX0_odds_1 10 rfl rfl)
theorem dX0_odds_35 : decode cX0_odds 35 = .ok (.bipush 6, 2) := dk_16 6 (dk_at dksX0_odds_1 11 rfl rfl)
theorem dX0_odds_37 : decode cX0_odds 37 = .ok (.invokevirtual 116, 3) := dk_182 0 116 (dk_at dksX0_odds_1 13 rfl rfl)
theorem dX0_odds_40 : decode cX0_odds 40 = .ok (.aload_n 0, 1) := dk_42 (dk_at dksX0_odds_1 16 rfl rfl)
theorem dX0_odds_41 : decode cX0_odds 41 = .ok (.aload_n 0, 1) := dk_42 (dk_at dksX0_odds_1 17 rfl rfl)
theorem dX0_odds_42 : decode cX0_odds 42 = .ok (.getfield 70, 3) := dk_180 0 70 (dk_at dksX0_odds_1 18 rfl rfl)
theorem dX0_odds_45 : decode cX0_odds 45 = .ok (.iload_n 1, 1) := dk_27 (dk_at dksX0_odds_1 21 rfl rfl)
theorem dX0_odds_46 : decode cX0_odds 46 = .ok (.iaload, 1) := dk_46 (dk_at dksX0_odds_1 22 rfl rfl)
theorem dX0_odds_47 : decode cX0_odds 47 = .ok (.iconst 1, 1) := dk_4 (dk_at dksX0_odds_1 23 rfl rfl)
theorem dX0_odds_48 : decode cX0_odds 48 = .ok (.ishr, 1) := dk_122 (dk_at dksX0_odds_2 0 rfl rfl)
theorem dX0_odds_49 : decode cX0_odds 49 = .ok (.i2l, 1) := dk_133 (dk_at dksX0_odds_2 1 rfl rfl)
theorem dX0_odds_50 : decode cX0_odds 50 = .ok (.aload_n 0, 1) := dk_42 (dk_at dksX0_odds_2 2 rfl rfl)
theorem dX0_odds_51 : decode cX0_odds 51 = .ok (.getfield 70, 3) := dk_180 0 70 (dk_at dksX0_odds_2 3 rfl rfl)
theorem dX0_odds_54 : decode cX0_odds 54 = .ok (.iload_n 1, 1) := dk_27 (dk_at dksX0_odds_2 6 rfl rfl)
theorem dX0_odds_55 : decode cX0_odds 55 = .ok (.iaload, 1) := dk_46 (dk_at dksX0_odds_2 7 rfl rfl)
theorem dX0_odds_56 : decode cX0_odds 56 = .ok (.invokestatic 338, 3) := dk_184 1 82 (dk_at dksX0_odds_2 8 rfl rfl)
theorem dX0_odds_59 : decode cX0_odds 59 = .ok (.i2l, 1) := dk_133 (dk_at dksX0_odds_2 11 rfl rfl)
theorem dX0_odds_60 : decode cX0_odds 60 = .ok (.invokevirtual 406, 3) := dk_182 1 150 (dk_at dksX0_odds_2 12 rfl rfl)
theorem dX0_odds_63 : decode cX0_odds 63 = .ok (.pop, 1) := dk_87 (dk_at dksX0_odds_2 15 rfl rfl)
theorem dX0_odds_64 : decode cX0_odds 64 = .ok (.iconst 1, 1) := dk_4 (dk_at dksX0_odds_2 16 rfl rfl)
theorem dX0_odds_65 : decode cX0_odds 65 = .ok (.ireturn, 1) := dk_172 (dk_at dksX0_odds_2 17 rfl rfl)
theorem dX0_odds_66 : decode cX0_odds 66 = .ok (.astore 4, 2) := dk_58 4 (dk_at dksX0_odds_2 18 rfl rfl)
theorem dX0_odds_68 : decode cX0_odds 68 = .ok (.aload_n 0, 1) := dk_42 (dk_at dksX0_odds_2 20 rfl rfl)
theorem dX0_odds_69 : decode cX0_odds 69 = .ok (.aload 4, 2) := dk_25 4 (dk_at dksX0_odds_2 21 rfl rfl)
theorem dX0_odds_71 : decode cX0_odds 71 = .ok (.invokevirtual 129, 3) := dk_182 0 129 (dk_at dksX0_odds_3 0 rfl rfl)
theorem dX0_odds_74 : decode cX0_odds 74 = .ok (.ireturn, 1) := dk_172 (dk_at dksX0_odds_3 3 rfl rfl)
abbrev cX0_fraction : ByteArray := prog_1_method_15_code
def yX0_fraction : MethodName := ⟨RX0, "fraction", "(JJ)I"⟩
def dkwX0_fraction_2 : List UInt8 := [181, 0, 48, 31, 184, 0, 110, 172]
abbrev dktX0_fraction_2 : List UInt8 := dkwX0_fraction_2 ++ []
def dkwX0_fraction_1 : List UInt8 := [22, 7, 55, 5, 22, 9, 55, 7, 167, 255, 234, 42, 31, 22, 5, 109, 181, 0, 94, 42, 33, 22, 5, 109]
abbrev dktX0_fraction_1 : List UInt8 := dkwX0_fraction_1 ++ dktX0_fraction_2
def dkwX0_fraction_0 : List UInt8 := [31, 184, 0, 104, 55, 5, 33, 55, 7, 22, 7, 9, 148, 153, 0, 21, 22, 5, 22, 7, 113, 55, 9]
abbrev dktX0_fraction_0 : List UInt8 := dkwX0_fraction_0 ++ dktX0_fraction_1
theorem dksX0_fraction_0 : cX0_fraction.data.toList.drop 0 = dktX0_fraction_0 := by decide +kernel
theorem dksX0_fraction_1 : cX0_fraction.data.toList.drop 23 = dktX0_fraction_1 := dk_seg dksX0_fraction_0 23 rfl rfl
theorem dksX0_fraction_2 : cX0_fraction.data.toList.drop 47 = dktX0_fraction_2 := dk_seg dksX0_fraction_1 24 rfl rfl
theorem dX0_fraction_0 : decode cX0_fraction 0 = .ok (.lload_n 1, 1) := dk_31 (dk_at dksX0_fraction_0 0 rfl rfl)
theorem dX0_fraction_1 : decode cX0_fraction 1 = .ok (.invokestatic 104, 3) := dk_184 0 104 (dk_at dksX0_fraction_0 1 rfl rfl)
theorem dX0_fraction_4 : decode cX0_fraction 4 = .ok (.lstore 5, 2) := dk_55 5 (dk_at dksX0_fraction_0 4 rfl rfl)
theorem dX0_fraction_6 : decode cX0_fraction 6 = .ok (.lload_n 3, 1) := dk_33 (dk_at dksX0_fraction_0 6 rfl rfl)
theorem dX0_fraction_7 : decode cX0_fraction 7 = .ok (.lstore 7, 2) := dk_55 7 (dk_at dksX0_fraction_0 7 rfl rfl)
theorem dX0_fraction_9 : decode cX0_fraction 9 = .ok (.lload 7, 2) := dk_22 7 (dk_at dksX0_fraction_0 9 rfl rfl)
theorem dX0_fraction_11 : decode cX0_fraction 11 = .ok (.lconst 0, 1) := dk_9 (dk_at dksX0_fraction_0 11 rfl rfl)
theorem dX0_fraction_12 : decode cX0_fraction 12 = .ok (.lcmp, 1) := dk_148 (dk_at dksX0_fraction_0 12 rfl rfl)
theorem dX0_fraction_13 : decode cX0_fraction 13 = .ok (.ifCond .eq 21, 3) := dk_153 0 21 (dk_at dksX0_fraction_0 13 rfl rfl)
theorem dX0_fraction_16 : decode cX0_fraction 16 = .ok (.lload 5, 2) := dk_22 5 (dk_at dksX0_fraction_0 16 rfl rfl)
theorem dX0_fraction_18 : decode cX0_fraction 18 = .ok (.lload 7, 2) := dk_22 7 (dk_at dksX0_fraction_0 18 rfl rfl)
theorem dX0_fraction_20 : decode cX0_fraction 20 = .ok (.lrem, 1) := dk_113 (dk_at dksX0_fraction_0 20 rfl rfl)
theorem dX0_fraction_21 : decode cX0_fraction 21 = .ok (.lstore 9, 2) := dk_55 9 (dk_at dksX0_fraction_0 21 rfl rfl)
theorem dX0_fraction_23 : decode cX0_fraction 23 = .ok (.lload 7, 2) := dk_22 7 (dk_at dksX0_fraction_1 0 rfl rfl)
theorem dX0_fraction_25 : decode cX0_fraction 25 = .ok (.lstore 5, 2) := dk_55 5 (dk_at dksX0_fraction_1 2 rfl rfl)
theorem dX0_fraction_27 : decode cX0_fraction 27 = .ok (.lload 9, 2) := dk_22 9 (dk_at dksX0_fraction_1 4 rfl rfl)
theorem dX0_fraction_29 : decode cX0_fraction 29 = .ok (.lstore 7, 2) := dk_55 7 (dk_at dksX0_fraction_1 6 rfl rfl)
theorem dX0_fraction_31 : decode cX0_fraction 31 = .ok (.goto (-22), 3) := dk_167 255 234 (dk_at dksX0_fraction_1 8 rfl rfl)
theorem dX0_fraction_34 : decode cX0_fraction 34 = .ok (.aload_n 0, 1) := dk_42 (dk_at dksX0_fraction_1 11 rfl rfl)
theorem dX0_fraction_35 : decode cX0_fraction 35 = .ok (.lload_n 1, 1) := dk_31 (dk_at dksX0_fraction_1 12 rfl rfl)
theorem dX0_fraction_36 : decode cX0_fraction 36 = .ok (.lload 5, 2) := dk_22 5 (dk_at dksX0_fraction_1 13 rfl rfl)
theorem dX0_fraction_38 : decode cX0_fraction 38 = .ok (.ldiv, 1) := dk_109 (dk_at dksX0_fraction_1 15 rfl rfl)
theorem dX0_fraction_39 : decode cX0_fraction 39 = .ok (.putfield 94, 3) := dk_181 0 94 (dk_at dksX0_fraction_1 16 rfl rfl)
theorem dX0_fraction_42 : decode cX0_fraction 42 = .ok (.aload_n 0, 1) := dk_42 (dk_at dksX0_fraction_1 19 rfl rfl)
theorem dX0_fraction_43 : decode cX0_fraction 43 = .ok (.lload_n 3, 1) := dk_33 (dk_at dksX0_fraction_1 20 rfl rfl)
theorem dX0_fraction_44 : decode cX0_fraction 44 = .ok (.lload 5, 2) := dk_22 5 (dk_at dksX0_fraction_1 21 rfl rfl)
theorem dX0_fraction_46 : decode cX0_fraction 46 = .ok (.ldiv, 1) := dk_109 (dk_at dksX0_fraction_1 23 rfl rfl)
theorem dX0_fraction_47 : decode cX0_fraction 47 = .ok (.putfield 48, 3) := dk_181 0 48 (dk_at dksX0_fraction_2 0 rfl rfl)
theorem dX0_fraction_50 : decode cX0_fraction 50 = .ok (.lload_n 1, 1) := dk_31 (dk_at dksX0_fraction_2 3 rfl rfl)
theorem dX0_fraction_51 : decode cX0_fraction 51 = .ok (.invokestatic 110, 3) := dk_184 0 110 (dk_at dksX0_fraction_2 4 rfl rfl)
theorem dX0_fraction_54 : decode cX0_fraction 54 = .ok (.ireturn, 1) := dk_172 (dk_at dksX0_fraction_2 7 rfl rfl)
abbrev cX0_ask : ByteArray := prog_1_method_68_code
def yX0_ask : MethodName := ⟨RX0, "ask", "(III)I"⟩
def dkwX0_ask_5 : List UInt8 := [132, 4, 1, 167, 255, 181, 3, 172, 58, 4, 42, 25, 4, 182, 0, 149, 172]
abbrev dktX0_ask_5 : List UInt8 := dkwX0_ask_5 ++ []
def dkwX0_ask_4 : List UInt8 := [182, 1, 137, 159, 0, 15, 29, 154, 0, 8, 21, 4, 167, 0, 5, 21, 5, 172, 132, 5, 1, 167, 255, 202]
abbrev dktX0_ask_4 : List UInt8 := dkwX0_ask_4 ++ dktX0_ask_5
def dkwX0_ask_3 : List UInt8 := [21, 4, 46, 6, 160, 0, 36, 42, 21, 4, 3, 21, 5, 182, 1, 137, 42, 21, 4, 4, 21, 5]
abbrev dktX0_ask_3 : List UInt8 := dkwX0_ask_3 ++ dktX0_ask_4
def dkwX0_ask_2 : List UInt8 := [182, 0, 168, 180, 0, 185, 162, 0, 69, 3, 54, 5, 21, 5, 16, 9, 163, 0, 53, 42, 180, 0, 70]
abbrev dktX0_ask_2 : List UInt8 := dkwX0_ask_2 ++ dktX0_ask_3
def dkwX0_ask_1 : List UInt8 := [42, 182, 1, 147, 4, 164, 0, 7, 4, 167, 0, 4, 3, 16, 6, 182, 0, 116, 3, 54, 4, 21, 4, 42]
abbrev dktX0_ask_1 : List UInt8 := dkwX0_ask_1 ++ dktX0_ask_2
def dkwX0_ask_0 : List UInt8 := [42, 3, 181, 0, 91, 42, 29, 133, 9, 10, 184, 0, 175, 4, 182, 0, 116, 42, 27, 28, 182, 1, 143, 42]
abbrev dktX0_ask_0 : List UInt8 := dkwX0_ask_0 ++ dktX0_ask_1
theorem dksX0_ask_0 : cX0_ask.data.toList.drop 0 = dktX0_ask_0 := by decide +kernel
theorem dksX0_ask_1 : cX0_ask.data.toList.drop 24 = dktX0_ask_1 := dk_seg dksX0_ask_0 24 rfl rfl
theorem dksX0_ask_2 : cX0_ask.data.toList.drop 48 = dktX0_ask_2 := dk_seg dksX0_ask_1 24 rfl rfl
theorem dksX0_ask_3 : cX0_ask.data.toList.drop 71 = dktX0_ask_3 := dk_seg dksX0_ask_2 23 rfl rfl
theorem dksX0_ask_4 : cX0_ask.data.toList.drop 93 = dktX0_ask_4 := dk_seg dksX0_ask_3 22 rfl rfl
theorem dksX0_ask_5 : cX0_ask.data.toList.drop 117 = dktX0_ask_5 := dk_seg dksX0_ask_4 24 rfl rfl
theorem dX0_ask_0 : decode cX0_ask 0 = .ok (.aload_n 0, 1) := dk_42 (dk_at dksX0_ask_0 0 rfl rfl)
theorem dX0_ask_1 : decode cX0_ask 1 = .ok (.iconst 0, 1) := dk_3 (dk_at dksX0_ask_0 1 rfl rfl)
theorem dX0_ask_2 : decode cX0_ask 2 = .ok (.putfield 91, 3) := dk_181 0 91 (dk_at dksX0_ask_0 2 rfl rfl)
theorem dX0_ask_5 : decode cX0_ask 5 = .ok (.aload_n 0, 1) := dk_42 (dk_at dksX0_ask_0 5 rfl rfl)
theorem dX0_ask_6 : decode cX0_ask 6 = .ok (.iload_n 3, 1) := dk_29 (dk_at dksX0_ask_0 6 rfl rfl)
theorem dX0_ask_7 : decode cX0_ask 7 = .ok (.i2l, 1) := dk_133 (dk_at dksX0_ask_0 7 rfl rfl)
theorem dX0_ask_8 : decode cX0_ask 8 = .ok (.lconst 0, 1) := dk_9 (dk_at dksX0_ask_0 8 rfl rfl)
theorem dX0_ask_9 : decode cX0_ask 9 = .ok (.lconst 1, 1) := dk_10 (dk_at dksX0_ask_0 9 rfl rfl)
theorem dX0_ask_10 : decode cX0_ask 10 = .ok (.invokestatic 175, 3) := dk_184 0 175 (dk_at dksX0_ask_0 10 rfl rfl)
theorem dX0_ask_13 : decode cX0_ask 13 = .ok (.iconst 1, 1) := dk_4 (dk_at dksX0_ask_0 13 rfl rfl)
theorem dX0_ask_14 : decode cX0_ask 14 = .ok (.invokevirtual 116, 3) := dk_182 0 116 (dk_at dksX0_ask_0 14 rfl rfl)
theorem dX0_ask_17 : decode cX0_ask 17 = .ok (.aload_n 0, 1) := dk_42 (dk_at dksX0_ask_0 17 rfl rfl)
theorem dX0_ask_18 : decode cX0_ask 18 = .ok (.iload_n 1, 1) := dk_27 (dk_at dksX0_ask_0 18 rfl rfl)
theorem dX0_ask_19 : decode cX0_ask 19 = .ok (.iload_n 2, 1) := dk_28 (dk_at dksX0_ask_0 19 rfl rfl)
theorem dX0_ask_20 : decode cX0_ask 20 = .ok (.invokevirtual 399, 3) := dk_182 1 143 (dk_at dksX0_ask_0 20 rfl rfl)
theorem dX0_ask_23 : decode cX0_ask 23 = .ok (.aload_n 0, 1) := dk_42 (dk_at dksX0_ask_0 23 rfl rfl)
theorem dX0_ask_24 : decode cX0_ask 24 = .ok (.aload_n 0, 1) := dk_42 (dk_at dksX0_ask_1 0 rfl rfl)
theorem dX0_ask_25 : decode cX0_ask 25 = .ok (.invokevirtual 403, 3) := dk_182 1 147 (dk_at dksX0_ask_1 1 rfl rfl)
theorem dX0_ask_28 : decode cX0_ask 28 = .ok (.iconst 1, 1) := dk_4 (dk_at dksX0_ask_1 4 rfl rfl)
theorem dX0_ask_29 : decode cX0_ask 29 = .ok (.if_icmp .le 7, 3) := dk_164 0 7 (dk_at dksX0_ask_1 5 rfl rfl)
theorem dX0_ask_32 : decode cX0_ask 32 = .ok (.iconst 1, 1) := dk_4 (dk_at dksX0_ask_1 8 rfl rfl)
theorem dX0_ask_33 : decode cX0_ask 33 = .ok (.goto 4, 3) := dk_167 0 4 (dk_at dksX0_ask_1 9 rfl rfl)
theorem dX0_ask_36 : decode cX0_ask 36 = .ok (.iconst 0, 1) := dk_3 (dk_at dksX0_ask_1 12 rfl rfl)
theorem dX0_ask_37 : decode cX0_ask 37 = .ok (.bipush 6, 2) := dk_16 6 (dk_at dksX0_ask_1 13 rfl rfl)
theorem dX0_ask_39 : decode cX0_ask 39 = .ok (.invokevirtual 116, 3) := dk_182 0 116 (dk_at dksX0_ask_1 15 rfl rfl)
theorem dX0_ask_42 : decode cX0_ask 42 = .ok (.iconst 0, 1) := dk_3 (dk_at dksX0_ask_1 18 rfl rfl)
theorem dX0_ask_43 : decode cX0_ask 43 = .ok (.istore 4, 2) := dk_54 4 (dk_at dksX0_ask_1 19 rfl rfl)
theorem dX0_ask_45 : decode cX0_ask 45 = .ok (.iload 4, 2) := dk_21 4 (dk_at dksX0_ask_1 21 rfl rfl)
theorem dX0_ask_47 : decode cX0_ask 47 = .ok (.aload_n 0, 1) := dk_42 (dk_at dksX0_ask_1 23 rfl rfl)
theorem dX0_ask_48 : decode cX0_ask 48 = .ok (.invokevirtual 168, 3) := dk_182 0 168 (dk_at dksX0_ask_2 0 rfl rfl)
theorem dX0_ask_51 : decode cX0_ask 51 = .ok (.getfield 185, 3) := dk_180 0 185 (dk_at dksX0_ask_2 3 rfl rfl)
theorem dX0_ask_54 : decode cX0_ask 54 = .ok (.if_icmp .ge 69, 3) := dk_162 0 69 (dk_at dksX0_ask_2 6 rfl rfl)
theorem dX0_ask_57 : decode cX0_ask 57 = .ok (.iconst 0, 1) := dk_3 (dk_at dksX0_ask_2 9 rfl rfl)
theorem dX0_ask_58 : decode cX0_ask 58 = .ok (.istore 5, 2) := dk_54 5 (dk_at dksX0_ask_2 10 rfl rfl)
theorem dX0_ask_60 : decode cX0_ask 60 = .ok (.iload 5, 2) := dk_21 5 (dk_at dksX0_ask_2 12 rfl rfl)
theorem dX0_ask_62 : decode cX0_ask 62 = .ok (.bipush 9, 2) := dk_16 9 (dk_at dksX0_ask_2 14 rfl rfl)
theorem dX0_ask_64 : decode cX0_ask 64 = .ok (.if_icmp .gt 53, 3) := dk_163 0 53 (dk_at dksX0_ask_2 16 rfl rfl)
theorem dX0_ask_67 : decode cX0_ask 67 = .ok (.aload_n 0, 1) := dk_42 (dk_at dksX0_ask_2 19 rfl rfl)
theorem dX0_ask_68 : decode cX0_ask 68 = .ok (.getfield 70, 3) := dk_180 0 70 (dk_at dksX0_ask_2 20 rfl rfl)
theorem dX0_ask_71 : decode cX0_ask 71 = .ok (.iload 4, 2) := dk_21 4 (dk_at dksX0_ask_3 0 rfl rfl)
theorem dX0_ask_73 : decode cX0_ask 73 = .ok (.iaload, 1) := dk_46 (dk_at dksX0_ask_3 2 rfl rfl)
theorem dX0_ask_74 : decode cX0_ask 74 = .ok (.iconst 3, 1) := dk_6 (dk_at dksX0_ask_3 3 rfl rfl)
theorem dX0_ask_75 : decode cX0_ask 75 = .ok (.if_icmp .ne 36, 3) := dk_160 0 36 (dk_at dksX0_ask_3 4 rfl rfl)
theorem dX0_ask_78 : decode cX0_ask 78 = .ok (.aload_n 0, 1) := dk_42 (dk_at dksX0_ask_3 7 rfl rfl)
theorem dX0_ask_79 : decode cX0_ask 79 = .ok (.iload 4, 2) := dk_21 4 (dk_at dksX0_ask_3 8 rfl rfl)
theorem dX0_ask_81 : decode cX0_ask 81 = .ok (.iconst 0, 1) := dk_3 (dk_at dksX0_ask_3 10 rfl rfl)
theorem dX0_ask_82 : decode cX0_ask 82 = .ok (.iload 5, 2) := dk_21 5 (dk_at dksX0_ask_3 11 rfl rfl)
theorem dX0_ask_84 : decode cX0_ask 84 = .ok (.invokevirtual 393, 3) := dk_182 1 137 (dk_at dksX0_ask_3 13 rfl rfl)
theorem dX0_ask_87 : decode cX0_ask 87 = .ok (.aload_n 0, 1) := dk_42 (dk_at dksX0_ask_3 16 rfl rfl)
theorem dX0_ask_88 : decode cX0_ask 88 = .ok (.iload 4, 2) := dk_21 4 (dk_at dksX0_ask_3 17 rfl rfl)
theorem dX0_ask_90 : decode cX0_ask 90 = .ok (.iconst 1, 1) := dk_4 (dk_at dksX0_ask_3 19 rfl rfl)
theorem dX0_ask_91 : decode cX0_ask 91 = .ok (.iload 5, 2) := dk_21 5 (dk_at dksX0_ask_3 20 rfl rfl)
theorem dX0_ask_93 : decode cX0_ask 93 = .ok (.invokevirtual 393, 3) := dk_182 1 137 (dk_at dksX0_ask_4 0 rfl rfl)
theorem dX0_ask_96 : decode cX0_ask 96 = .ok (.if_icmp .eq 15, 3) := dk_159 0 15 (dk_at dksX0_ask_4 3 rfl rfl)
theorem dX0_ask_99 : decode cX0_ask 99 = .ok (.iload_n 3, 1) := dk_29 (dk_at dksX0_ask_4 6 rfl rfl)
theorem dX0_ask_100 : decode cX0_ask 100 = .ok (.ifCond .ne 8, 3) := dk_154 0 8 (dk_at dksX0_ask_4 7 rfl rfl)
theorem dX0_ask_103 : decode cX0_ask 103 = .ok (.iload 4, 2) := dk_21 4 (dk_at dksX0_ask_4 10 rfl rfl)
theorem dX0_ask_105 : decode cX0_ask 105 = .ok (.goto 5, 3) := dk_167 0 5 (dk_at dksX0_ask_4 12 rfl rfl)
theorem dX0_ask_108 : decode cX0_ask 108 = .ok (.iload 5, 2) := dk_21 5 (dk_at dksX0_ask_4 15 rfl rfl)
theorem dX0_ask_110 : decode cX0_ask 110 = .ok (.ireturn, 1) := dk_172 (dk_at dksX0_ask_4 17 rfl rfl)
theorem dX0_ask_111 : decode cX0_ask 111 = .ok (.iinc 5 1, 3) := dk_132 5 1 (dk_at dksX0_ask_4 18 rfl rfl)
theorem dX0_ask_114 : decode cX0_ask 114 = .ok (.goto (-54), 3) := dk_167 255 202 (dk_at dksX0_ask_4 21 rfl rfl)
theorem dX0_ask_117 : decode cX0_ask 117 = .ok (.iinc 4 1, 3) := dk_132 4 1 (dk_at dksX0_ask_5 0 rfl rfl)
theorem dX0_ask_120 : decode cX0_ask 120 = .ok (.goto (-75), 3) := dk_167 255 181 (dk_at dksX0_ask_5 3 rfl rfl)
theorem dX0_ask_123 : decode cX0_ask 123 = .ok (.iconst 0, 1) := dk_3 (dk_at dksX0_ask_5 6 rfl rfl)
theorem dX0_ask_124 : decode cX0_ask 124 = .ok (.ireturn, 1) := dk_172 (dk_at dksX0_ask_5 7 rfl rfl)
theorem dX0_ask_125 : decode cX0_ask 125 = .ok (.astore 4, 2) := dk_58 4 (dk_at dksX0_ask_5 8 rfl rfl)
theorem dX0_ask_127 : decode cX0_ask 127 = .ok (.aload_n 0, 1) := dk_42 (dk_at dksX0_ask_5 10 rfl rfl)
theorem dX0_ask_128 : decode cX0_ask 128 = .ok (.aload 4, 2) := dk_25 4 (dk_at dksX0_ask_5 11 rfl rfl)
theorem dX0_ask_130 : decode cX0_ask 130 = .ok (.invokevirtual 149, 3) := dk_182 0 149 (dk_at dksX0_ask_5 13 rfl rfl)
theorem dX0_ask_133 : decode cX0_ask 133 = .ok (.ireturn, 1) := dk_172 (dk_at dksX0_ask_5 16 rfl rfl)
abbrev cX0_least : ByteArray := prog_1_method_70_code
def yX0_least : MethodName := ⟨RX0, "least", "(II)I"⟩
def dkwX0_least_2 : List UInt8 := [172]
abbrev dktX0_least_2 : List UInt8 := dkwX0_least_2 ++ []
def dkwX0_least_1 : List UInt8 := [181, 0, 91, 42, 180, 0, 91, 158, 0, 7, 2, 167, 0, 13, 42, 42, 27, 28, 182, 1, 163, 182, 1, 36]
abbrev dktX0_least_1 : List UInt8 := dkwX0_least_1 ++ dktX0_least_2
def dkwX0_least_0 : List UInt8 := [42, 42, 27, 133, 182, 1, 48, 153, 0, 15, 42, 28, 182, 1, 6, 153, 0, 7, 3, 167, 0, 4, 4]
abbrev dktX0_least_0 : List UInt8 := dkwX0_least_0 ++ dktX0_least_1
theorem dksX0_least_0 : cX0_least.data.toList.drop 0 = dktX0_least_0 := by decide +kernel
theorem dksX0_least_1 : cX0_least.data.toList.drop 23 = dktX0_least_1 := dk_seg dksX0_least_0 23 rfl rfl
theorem dksX0_least_2 : cX0_least.data.toList.drop 47 = dktX0_least_2 := dk_seg dksX0_least_1 24 rfl rfl
theorem dX0_least_0 : decode cX0_least 0 = .ok (.aload_n 0, 1) := dk_42 (dk_at dksX0_least_0 0 rfl rfl)
theorem dX0_least_1 : decode cX0_least 1 = .ok (.aload_n 0, 1) := dk_42 (dk_at dksX0_least_0 1 rfl rfl)
theorem dX0_least_2 : decode cX0_least 2 = .ok (.iload_n 1, 1) := dk_27 (dk_at dksX0_least_0 2 rfl rfl)
theorem dX0_least_3 : decode cX0_least 3 = .ok (.i2l, 1) := dk_133 (dk_at dksX0_least_0 3 rfl rfl)
theorem dX0_least_4 : decode cX0_least 4 = .ok (.invokevirtual 304, 3) := dk_182 1 48 (dk_at dksX0_least_0 4 rfl rfl)
theorem dX0_least_7 : decode cX0_least 7 = .ok (.ifCond .eq 15, 3) := dk_153 0 15 (dk_at dksX0_least_0 7 rfl rfl)
theorem dX0_least_10 : decode cX0_least 10 = .ok (.aload_n 0, 1) := dk_42 (dk_at dksX0_least_0 10 rfl rfl)
theorem dX0_least_11 : decode cX0_least 11 = .ok (.iload_n 2, 1) := dk_28 (dk_at dksX0_least_0 11 rfl rfl)
theorem dX0_least_12 : decode cX0_least 12 = .ok (.invokevirtual 262, 3) := dk_182 1 6 (dk_at dksX0_least_0 12 rfl rfl)
theorem dX0_least_15 : decode cX0_least 15 = .ok (.ifCond .eq 7, 3) := dk_153 0 7 (dk_at dksX0_least_0 15 rfl rfl)
theorem dX0_least_18 : decode cX0_least 18 = .ok (.iconst 0, 1) := dk_3 (dk_at dksX0_least_0 18 rfl rfl)
theorem dX0_least_19 : decode cX0_least 19 = .ok (.goto 4, 3) := dk_167 0 4 (dk_at dksX0_least_0 19 rfl rfl)
theorem dX0_least_22 : decode cX0_least 22 = .ok (.iconst 1, 1) := dk_4 (dk_at dksX0_least_0 22 rfl rfl)
theorem dX0_least_23 : decode cX0_least 23 = .ok (.putfield 91, 3) := dk_181 0 91 (dk_at dksX0_least_1 0 rfl rfl)
theorem dX0_least_26 : decode cX0_least 26 = .ok (.aload_n 0, 1) := dk_42 (dk_at dksX0_least_1 3 rfl rfl)
theorem dX0_least_27 : decode cX0_least 27 = .ok (.getfield 91, 3) := dk_180 0 91 (dk_at dksX0_least_1 4 rfl rfl)
theorem dX0_least_30 : decode cX0_least 30 = .ok (.ifCond .le 7, 3) := dk_158 0 7 (dk_at dksX0_least_1 7 rfl rfl)
theorem dX0_least_33 : decode cX0_least 33 = .ok (.iconst (-1), 1) := dk_2 (dk_at dksX0_least_1 10 rfl rfl)
theorem dX0_least_34 : decode cX0_least 34 = .ok (.goto 13, 3) := dk_167 0 13 (dk_at dksX0_least_1 11 rfl rfl)
theorem dX0_least_37 : decode cX0_least 37 = .ok (.aload_n 0, 1) := dk_42 (dk_at dksX0_least_1 14 rfl rfl)
theorem dX0_least_38 : decode cX0_least 38 = .ok (.aload_n 0, 1) := dk_42 (dk_at dksX0_least_1 15 rfl rfl)
theorem dX0_least_39 : decode cX0_least 39 = .ok (.iload_n 1, 1) := dk_27 (dk_at dksX0_least_1 16 rfl rfl)
theorem dX0_least_40 : decode cX0_least 40 = .ok (.iload_n 2, 1) := dk_28 (dk_at dksX0_least_1 17 rfl rfl)
theorem dX0_least_41 : decode cX0_least 41 = .ok (.invokevirtual 419, 3) := dk_182 1 163 (dk_at dksX0_least_1 18 rfl rfl)
theorem dX0_least_44 : decode cX0_least 44 = .ok (.invokevirtual 292, 3) := dk_182 1 36 (dk_at dksX0_least_1 21 rfl rfl)
theorem dX0_least_47 : decode cX0_least 47 = .ok (.ireturn, 1) := dk_172 (dk_at dksX0_least_2 0 rfl rfl)
abbrev cX0_leastOf : ByteArray := prog_1_method_69_code
def yX0_leastOf : MethodName := ⟨RX0, "leastOf", "(II)I"⟩
def dkwX0_leastOf_6 : List UInt8 := [181, 1, 160, 132, 5, 1, 167, 255, 143, 132, 4, 1, 167, 255, 110, 29, 172]
abbrev dktX0_leastOf_6 : List UInt8 := dkwX0_leastOf_6 ++ []
def dkwX0_leastOf_5 : List UInt8 := [182, 1, 141, 28, 159, 0, 6, 167, 0, 18, 21, 6, 62, 42, 21, 4, 181, 1, 157, 42, 21, 5]
abbrev dktX0_leastOf_5 : List UInt8 := dkwX0_leastOf_5 ++ dktX0_leastOf_6
def dkwX0_leastOf_4 : List UInt8 := [3, 42, 182, 0, 168, 180, 1, 52, 27, 46, 21, 4, 96, 42, 182, 0, 168, 180, 0, 245, 21, 5]
abbrev dktX0_leastOf_4 : List UInt8 := dkwX0_leastOf_4 ++ dktX0_leastOf_5
def dkwX0_leastOf_3 : List UInt8 := [162, 0, 71, 42, 182, 0, 168, 42, 182, 0, 168, 180, 0, 237, 27, 46, 4, 160, 0, 7, 4, 167, 0, 4]
abbrev dktX0_leastOf_3 : List UInt8 := dkwX0_leastOf_3 ++ dktX0_leastOf_4
def dkwX0_leastOf_2 : List UInt8 := [42, 182, 0, 168, 180, 1, 55, 27, 46, 130, 184, 1, 82, 96, 54, 6, 29, 155, 0, 9, 21, 6, 29]
abbrev dktX0_leastOf_2 : List UInt8 := dkwX0_leastOf_2 ++ dktX0_leastOf_3
def dkwX0_leastOf_1 : List UInt8 := [16, 99, 163, 0, 128, 3, 54, 5, 21, 5, 42, 182, 0, 168, 182, 1, 154, 162, 0, 107, 21, 4, 21, 5]
abbrev dktX0_leastOf_1 : List UInt8 := dkwX0_leastOf_1 ++ dktX0_leastOf_2
def dkwX0_leastOf_0 : List UInt8 := [2, 62, 3, 54, 4, 21, 4, 16, 20, 163, 0, 145, 42, 182, 0, 168, 180, 1, 52, 27, 46, 21, 4, 96]
abbrev dktX0_leastOf_0 : List UInt8 := dkwX0_leastOf_0 ++ dktX0_leastOf_1
theorem dksX0_leastOf_0 : cX0_leastOf.data.toList.drop 0 = dktX0_leastOf_0 := by decide +kernel
theorem dksX0_leastOf_1 : cX0_leastOf.data.toList.drop 24 = dktX0_leastOf_1 := dk_seg dksX0_leastOf_0 24 rfl rfl
theorem dksX0_leastOf_2 : cX0_leastOf.data.toList.drop 48 = dktX0_leastOf_2 := dk_seg dksX0_leastOf_1 24 rfl rfl
theorem dksX0_leastOf_3 : cX0_leastOf.data.toList.drop 71 = dktX0_leastOf_3 := dk_seg dksX0_leastOf_2 23 rfl rfl
theorem dksX0_leastOf_4 : cX0_leastOf.data.toList.drop 95 = dktX0_leastOf_4 := dk_seg dksX0_leastOf_3 24 rfl rfl
theorem dksX0_leastOf_5 : cX0_leastOf.data.toList.drop 117 = dktX0_leastOf_5 := dk_seg dksX0_leastOf_4 22 rfl rfl
theorem dksX0_leastOf_6 : cX0_leastOf.data.toList.drop 139 = dktX0_leastOf_6 := dk_seg dksX0_leastOf_5 22 rfl rfl
theorem dX0_leastOf_0 : decode cX0_leastOf 0 = .ok (.iconst (-1), 1) := dk_2 (dk_at dksX0_leastOf_0 0 rfl rfl)
theorem dX0_leastOf_1 : decode cX0_leastOf 1 = .ok (.istore_n 3, 1) := dk_62 (dk_at dksX0_leastOf_0 1 rfl rfl)
theorem dX0_leastOf_2 : decode cX0_leastOf 2 = .ok (.iconst 0, 1) := dk_3 (dk_at dksX0_leastOf_0 2 rfl rfl)
theorem dX0_leastOf_3 : decode cX0_leastOf 3 = .ok (.istore 4, 2) := dk_54 4 (dk_at dksX0_leastOf_0 3 rfl rfl)
theorem dX0_leastOf_5 : decode cX0_leastOf 5 = .ok (.iload 4, 2) := dk_21 4 (dk_at dksX0_leastOf_0 5 rfl rfl)
theorem dX0_leastOf_7 : decode cX0_leastOf 7 = .ok (.bipush 20, 2) := dk_16 20 (dk_at dksX0_leastOf_0 7 rfl rfl)
theorem dX0_leastOf_9 : decode cX0_leastOf 9 = .ok (.if_icmp .gt 145, 3) := dk_163 0 145 (dk_at dksX0_leastOf_0 9 rfl rfl)
theorem dX0_leastOf_12 : decode cX0_leastOf 12 = .ok (.aload_n 0, 1) := dk_42 (dk_at dksX0_leastOf_0 12 rfl rfl)
theorem dX0_leastOf_13 : decode cX0_leastOf 13 = .ok (.invokevirtual 168, 3) := dk_182 0 168 (dk_at dksX0_leastOf_0 13 rfl rfl)
theorem dX0_leastOf_16 : decode cX0_leastOf 16 = .ok (.getfield 308, 3) := dk_180 1 52 (dk_at dksX0_leastOf_0 16 rfl rfl)
theorem dX0_leastOf_19 : decode cX0_leastOf 19 = .ok (.iload_n 1, 1) := dk_27 (dk_at dksX0_leastOf_0 19 rfl rfl)
theorem dX0_leastOf_20 : decode cX0_leastOf 20 = .ok (.iaload, 1) := dk_46 (dk_at dksX0_leastOf_0 20 rfl rfl)
theorem dX0_leastOf_21 : decode cX0_leastOf 21 = .ok (.iload 4, 2) := dk_21 4 (dk_at dksX0_leastOf_0 21 rfl rfl)
theorem dX0_leastOf_23 : decode cX0_leastOf 23 = .ok (.iadd, 1) := dk_96 (dk_at dksX0_leastOf_0 23 rfl rfl)
theorem dX0_leastOf_24 : decode cX0_leastOf 24 = .ok (.bipush 99, 2) := dk_16 99 (dk_at dksX0_leastOf_1 0 rfl rfl)
theorem dX0_leastOf_26 : decode cX0_leastOf 26 = .ok (.if_icmp .gt 128, 3) := dk_163 0 128 (dk_at dksX0_leastOf_1 2 rfl rfl)
theorem dX0_leastOf_29 : decode cX0_leastOf 29 = .ok (.iconst 0, 1) := dk_3 (dk_at dksX0_leastOf_1 5 rfl rfl)
theorem dX0_leastOf_30 : decode cX0_leastOf 30 = .ok (.istore 5, 2) := dk_54 5 (dk_at dksX0_leastOf_1 6 rfl rfl)
theorem dX0_leastOf_32 : decode cX0_leastOf 32 = .ok (.iload 5, 2) := dk_21 5 (dk_at dksX0_leastOf_1 8 rfl rfl)
theorem dX0_leastOf_34 : decode cX0_leastOf 34 = .ok (.aload_n 0, 1) := dk_42 (dk_at dksX0_leastOf_1 10 rfl rfl)
theorem dX0_leastOf_35 : decode cX0_leastOf 35 = .ok (.invokevirtual 168, 3) := dk_182 0 168 (dk_at dksX0_leastOf_1 11 rfl rfl)
theorem dX0_leastOf_38 : decode cX0_leastOf 38 = .ok (.invokevirtual 410, 3) := dk_182 1 154 (dk_at dksX0_leastOf_1 14 rfl rfl)
theorem dX0_leastOf_41 : decode cX0_leastOf 41 = .ok (.if_icmp .ge 107, 3) := dk_162 0 107 (dk_at dksX0_leastOf_1 17 rfl rfl)
theorem dX0_leastOf_44 : decode cX0_leastOf 44 = .ok (.iload 4, 2) := dk_21 4 (dk_at dksX0_leastOf_1 20 rfl rfl)
theorem dX0_leastOf_46 : decode cX0_leastOf 46 = .ok (.iload 5, 2) := dk_21 5 (dk_at dksX0_leastOf_1 22 rfl rfl)
theorem dX0_leastOf_48 : decode cX0_leastOf 48 = .ok (.aload_n 0, 1) := dk_42 (dk_at dksX0_leastOf_2 0 rfl rfl)
theorem dX0_leastOf_49 : decode cX0_leastOf 49 = .ok (.invokevirtual 168, 3) := dk_182 0 168 (dk_at dksX0_leastOf_2 1 rfl rfl)
theorem dX0_leastOf_52 : decode cX0_leastOf 52 = .ok (.getfield 311, 3) := dk_180 1 55 (dk_at dksX0_leastOf_2 4 rfl rfl)
theorem dX0_leastOf_55 : decode cX0_leastOf 55 = .ok (.iload_n 1, 1) := dk_27 (dk_at dksX0_leastOf_2 7 rfl rfl)
theorem dX0_leastOf_56 : decode cX0_leastOf 56 = .ok (.iaload, 1) := dk_46 (dk_at dksX0_leastOf_2 8 rfl rfl)
theorem dX0_leastOf_57 : decode cX0_leastOf 57 = .ok (.ixor, 1) := dk_130 (dk_at dksX0_leastOf_2 9 rfl rfl)
theorem dX0_leastOf_58 : decode cX0_leastOf 58 = .ok (.invokestatic 338, 3) := dk_184 1 82 (dk_at dksX0_leastOf_2 10 rfl rfl)
theorem dX0_leastOf_61 : decode cX0_leastOf 61 = .ok (.iadd, 1) := dk_96 (dk_at dksX0_leastOf_2 13 rfl rfl)
theorem dX0_leastOf_62 : decode cX0_leastOf 62 = .ok (.istore 6, 2) := dk_54 6 (dk_at dksX0_leastOf_2 14 rfl rfl)
theorem dX0_leastOf_64 : decode cX0_leastOf 64 = .ok (.iload_n 3, 1) := dk_29 (dk_at dksX0_leastOf_2 16 rfl rfl)
theorem dX0_leastOf_65 : decode cX0_leastOf 65 = .ok (.ifCond .lt 9, 3) := dk_155 0 9 (dk_at dksX0_leastOf_2 17 rfl rfl)
theorem dX0_leastOf_68 : decode cX0_leastOf 68 = .ok (.iload 6, 2) := dk_21 6 (dk_at dksX0_leastOf_2 20 rfl rfl)
theorem dX0_leastOf_70 : decode cX0_leastOf 70 = .ok (.iload_n 3, 1) := dk_29 (dk_at dksX0_leastOf_2 22 rfl rfl)
theorem dX0_leastOf_71 : decode cX0_leastOf 71 = .ok (.if_icmp .ge 71, 3) := dk_162 0 71 (dk_at dksX0_leastOf_3 0 rfl rfl)
theorem dX0_leastOf_74 : decode cX0_leastOf 74 = .ok (.aload_n 0, 1) := dk_42 (dk_at dksX0_leastOf_3 3 rfl rfl)
theorem dX0_leastOf_75 : decode cX0_leastOf 75 = .ok (.invokevirtual 168, 3) := dk_182 0 168 (dk_at dksX0_leastOf_3 4 rfl rfl)
theorem dX0_leastOf_78 : decode cX0_leastOf 78 = .ok (.aload_n 0, 1) := dk_42 (dk_at dksX0_leastOf_3 7 rfl rfl)
theorem dX0_leastOf_79 : decode cX0_leastOf 79 = .ok (.invokevirtual 168, 3) := dk_182 0 168 (dk_at dksX0_leastOf_3 8 rfl rfl)
theorem dX0_leastOf_82 : decode cX0_leastOf 82 = .ok (.getfield 237, 3) := dk_180 0 237 (dk_at dksX0_leastOf_3 11 rfl rfl)
theorem dX0_leastOf_85 : decode cX0_leastOf 85 = .ok (.iload_n 1, 1) := dk_27 (dk_at dksX0_leastOf_3 14 rfl rfl)
theorem dX0_leastOf_86 : decode cX0_leastOf 86 = .ok (.iaload, 1) := dk_46 (dk_at dksX0_leastOf_3 15 rfl rfl)
theorem dX0_leastOf_87 : decode cX0_leastOf 87 = .ok (.iconst 1, 1) := dk_4 (dk_at dksX0_leastOf_3 16 rfl rfl)
theorem dX0_leastOf_88 : decode cX0_leastOf 88 = .ok (.if_icmp .ne 7, 3) := dk_160 0 7 (dk_at dksX0_leastOf_3 17 rfl rfl)
theorem dX0_leastOf_91 : decode cX0_leastOf 91 = .ok (.iconst 1, 1) := dk_4 (dk_at dksX0_leastOf_3 20 rfl rfl)
theorem dX0_leastOf_92 : decode cX0_leastOf 92 = .ok (.goto 4, 3) := dk_167 0 4 (dk_at dksX0_leastOf_3 21 rfl rfl)
theorem dX0_leastOf_95 : decode cX0_leastOf 95 = .ok (.iconst 0, 1) := dk_3 (dk_at dksX0_leastOf_4 0 rfl rfl)
theorem dX0_leastOf_96 : decode cX0_leastOf 96 = .ok (.aload_n 0, 1) := dk_42 (dk_at dksX0_leastOf_4 1 rfl rfl)
theorem dX0_leastOf_97 : decode cX0_leastOf 97 = .ok (.invokevirtual 168, 3) := dk_182 0 168 (dk_at dksX0_leastOf_4 2 rfl rfl)
theorem dX0_leastOf_100 : decode cX0_leastOf 100 = .ok (.getfield 308, 3) := dk_180 1 52 (dk_at dksX0_leastOf_4 5 rfl rfl)
theorem dX0_leastOf_103 : decode cX0_leastOf 103 = .ok (.iload_n 1, 1) := dk_27 (dk_at dksX0_leastOf_4 8 rfl rfl)
theorem dX0_leastOf_104 : decode cX0_leastOf 104 = .ok (.iaload, 1) := dk_46 (dk_at dksX0_leastOf_4 9 rfl rfl)
theorem dX0_leastOf_105 : decode cX0_leastOf 105 = .ok (.iload 4, 2) := dk_21 4 (dk_at dksX0_leastOf_4 10 rfl rfl)
theorem dX0_leastOf_107 : decode cX0_leastOf 107 = .ok (.iadd, 1) := dk_96 (dk_at dksX0_leastOf_4 12 rfl rfl)
theorem dX0_leastOf_108 : decode cX0_leastOf 108 = .ok (.aload_n 0, 1) := dk_42 (dk_at dksX0_leastOf_4 13 rfl rfl)
theorem dX0_leastOf_109 : decode cX0_leastOf 109 = .ok (.invokevirtual 168, 3) := dk_182 0 168 (dk_at dksX0_leastOf_4 14 rfl rfl)
theorem dX0_leastOf_112 : decode cX0_leastOf 112 = .ok (.getfield 245, 3) := dk_180 0 245 (dk_at dksX0_leastOf_4 17 rfl rfl)
theorem dX0_leastOf_115 : decode cX0_leastOf 115 = .ok (.iload 5, 2) := dk_21 5 (dk_at dksX0_leastOf_4 20 rfl rfl)
theorem dX0_leastOf_117 : decode cX0_leastOf 117 = .ok (.invokevirtual 397, 3) := dk_182 1 141 (dk_at dksX0_leastOf_5 0 rfl rfl)
theorem dX0_leastOf_120 : decode cX0_leastOf 120 = .ok (.iload_n 2, 1) := dk_28 (dk_at dksX0_leastOf_5 3 rfl rfl)
theorem dX0_leastOf_121 : decode cX0_leastOf 121 = .ok (.if_icmp .eq 6, 3) := dk_159 0 6 (dk_at dksX0_leastOf_5 4 rfl rfl)
theorem dX0_leastOf_124 : decode cX0_leastOf 124 = .ok (.goto 18, 3) := dk_167 0 18 (dk_at dksX0_leastOf_5 7 rfl rfl)
theorem dX0_leastOf_127 : decode cX0_leastOf 127 = .ok (.iload 6, 2) := dk_21 6 (dk_at dksX0_leastOf_5 10 rfl rfl)
theorem dX0_leastOf_129 : decode cX0_leastOf 129 = .ok (.istore_n 3, 1) := dk_62 (dk_at dksX0_leastOf_5 12 rfl rfl)
theorem dX0_leastOf_130 : decode cX0_leastOf 130 = .ok (.aload_n 0, 1) := dk_42 (dk_at dksX0_leastOf_5 13 rfl rfl)
theorem dX0_leastOf_131 : decode cX0_leastOf 131 = .ok (.iload 4, 2) := dk_21 4 (dk_at dksX0_leastOf_5 14 rfl rfl)
theorem dX0_leastOf_133 : decode cX0_leastOf 133 = .ok (.putfield 413, 3) := dk_181 1 157 (dk_at dksX0_leastOf_5 16 rfl rfl)
theorem dX0_leastOf_136 : decode cX0_leastOf 136 = .ok (.aload_n 0, 1) := dk_42 (dk_at dksX0_leastOf_5 19 rfl rfl)
theorem dX0_leastOf_137 : decode cX0_leastOf 137 = .ok (.iload 5, 2) := dk_21 5 (dk_at dksX0_leastOf_5 20 rfl rfl)
theorem dX0_leastOf_139 : decode cX0_leastOf 139 = .ok (.putfield 416, 3) := dk_181 1 160 (dk_at dksX0_leastOf_6 0 rfl rfl)
theorem dX0_leastOf_142 : decode cX0_leastOf 142 = .ok (.iinc 5 1, 3) := dk_132 5 1 (dk_at dksX0_leastOf_6 3 rfl rfl)
theorem dX0_leastOf_145 : decode cX0_leastOf 145 = .ok (.goto (-113), 3) := dk_167 255 143 (dk_at dksX0_leastOf_6 6 rfl rfl)
theorem dX0_leastOf_148 : decode cX0_leastOf 148 = .ok (.iinc 4 1, 3) := dk_132 4 1 (dk_at dksX0_leastOf_6 9 rfl rfl)
theorem dX0_leastOf_151 : decode cX0_leastOf 151 = .ok (.goto (-146), 3) := dk_167 255 110 (dk_at dksX0_leastOf_6 12 rfl rfl)
theorem dX0_leastOf_154 : decode cX0_leastOf 154 = .ok (.iload_n 3, 1) := dk_29 (dk_at dksX0_leastOf_6 15 rfl rfl)
theorem dX0_leastOf_155 : decode cX0_leastOf 155 = .ok (.ireturn, 1) := dk_172 (dk_at dksX0_leastOf_6 16 rfl rfl)
abbrev cX0_leastBy : ByteArray := prog_1_method_71_code
def yX0_leastBy : MethodName := ⟨RX0, "leastBy", "(III)I"⟩
def dkwX0_leastBy_3 : List UInt8 := [42, 180, 1, 160, 182, 1, 36, 172]
abbrev dktX0_leastBy_3 : List UInt8 := dkwX0_leastBy_3 ++ []
def dkwX0_leastBy_2 : List UInt8 := [42, 27, 28, 182, 1, 163, 156, 0, 7, 2, 167, 0, 18, 29, 154, 0, 10, 42, 180, 1, 157, 167, 0, 7]
abbrev dktX0_leastBy_2 : List UInt8 := dkwX0_leastBy_2 ++ dktX0_leastBy_3
def dkwX0_leastBy_1 : List UInt8 := [184, 0, 175, 153, 0, 7, 3, 167, 0, 4, 4, 181, 0, 91, 42, 180, 0, 91, 158, 0, 5, 2, 172, 42]
abbrev dktX0_leastBy_1 : List UInt8 := dkwX0_leastBy_1 ++ dktX0_leastBy_2
def dkwX0_leastBy_0 : List UInt8 := [42, 42, 27, 133, 182, 1, 48, 153, 0, 25, 42, 28, 182, 1, 6, 153, 0, 17, 29, 133, 9, 10]
abbrev dktX0_leastBy_0 : List UInt8 := dkwX0_leastBy_0 ++ dktX0_leastBy_1
theorem dksX0_leastBy_0 : cX0_leastBy.data.toList.drop 0 = dktX0_leastBy_0 := by decide +kernel
theorem dksX0_leastBy_1 : cX0_leastBy.data.toList.drop 22 = dktX0_leastBy_1 := dk_seg dksX0_leastBy_0 22 rfl rfl
theorem dksX0_leastBy_2 : cX0_leastBy.data.toList.drop 46 = dktX0_leastBy_2 := dk_seg dksX0_leastBy_1 24 rfl rfl
theorem dksX0_leastBy_3 : cX0_leastBy.data.toList.drop 70 = dktX0_leastBy_3 := dk_seg dksX0_leastBy_2 24 rfl rfl
theorem dX0_leastBy_0 : decode cX0_leastBy 0 = .ok (.aload_n 0, 1) := dk_42 (dk_at dksX0_leastBy_0 0 rfl rfl)
theorem dX0_leastBy_1 : decode cX0_leastBy 1 = .ok (.aload_n 0, 1) := dk_42 (dk_at dksX0_leastBy_0 1 rfl rfl)
theorem dX0_leastBy_2 : decode cX0_leastBy 2 = .ok (.iload_n 1, 1) := dk_27 (dk_at dksX0_leastBy_0 2 rfl rfl)
theorem dX0_leastBy_3 : decode cX0_leastBy 3 = .ok (.i2l, 1) := dk_133 (dk_at dksX0_leastBy_0 3 rfl rfl)
theorem dX0_leastBy_4 : decode cX0_leastBy 4 = .ok (.invokevirtual 304, 3) := dk_182 1 48 (dk_at dksX0_leastBy_0 4 rfl rfl)
theorem dX0_leastBy_7 : decode cX0_leastBy 7 = .ok (.ifCond .eq 25, 3) := dk_153 0 25 (dk_at dksX0_leastBy_0 7 rfl rfl)
theorem dX0_leastBy_10 : decode cX0_leastBy 10 = .ok (.aload_n 0, 1) := dk_42 (dk_at dksX0_leastBy_0 10 rfl rfl)
theorem dX0_leastBy_11 : decode cX0_leastBy 11 = .ok (.iload_n 2, 1) := dk_28 (dk_at dksX0_leastBy_0 11 rfl rfl)
theorem dX0_leastBy_12 : decode cX0_leastBy 12 = .ok (.invokevirtual 262, 3) := dk_182 1 6 (dk_at dksX0_leastBy_0 12 rfl rfl)
theorem dX0_leastBy_15 : decode cX0_leastBy 15 = .ok (.ifCond .eq 17, 3) := dk_153 0 17 (dk_at dksX0_leastBy_0 15 rfl rfl)
theorem dX0_leastBy_18 : decode cX0_leastBy 18 = .ok (.iload_n 3, 1) := dk_29 (dk_at dksX0_leastBy_0 18 rfl rfl)
theorem dX0_leastBy_19 : decode cX0_leastBy 19 = .ok (.i2l, 1) := dk_133 (dk_at dksX0_leastBy_0 19 rfl rfl)
theorem dX0_leastBy_20 : decode cX0_leastBy 20 = .ok (.lconst 0, 1) := dk_9 (dk_at dksX0_leastBy_0 20 rfl rfl)
theorem dX0_leastBy_21 : decode cX0_leastBy 21 = .ok (.lconst 1, 1) := dk_10 (dk_at dksX0_leastBy_0 21 rfl rfl)
theorem dX0_leastBy_22 : decode cX0_leastBy 22 = .ok (.invokestatic 175, 3) := dk_184 0 175 (dk_at dksX0_leastBy_1 0 rfl rfl)
theorem dX0_leastBy_25 : decode cX0_leastBy 25 = .ok (.ifCond .eq 7, 3) := dk_153 0 7 (dk_at dksX0_leastBy_1 3 rfl rfl)
theorem dX0_leastBy_28 : decode cX0_leastBy 28 = .ok (.iconst 0, 1) := dk_3 (dk_at dksX0_leastBy_1 6 rfl rfl)
theorem dX0_leastBy_29 : decode cX0_leastBy 29 = .ok (.goto 4, 3) := dk_167 0 4 (dk_at dksX0_leastBy_1 7 rfl rfl)
theorem dX0_leastBy_32 : decode cX0_leastBy 32 = .ok (.iconst 1, 1) := dk_4 (dk_at dksX0_leastBy_1 10 rfl rfl)
theorem dX0_leastBy_33 : decode cX0_leastBy 33 = .ok (.putfield 91, 3) := dk_181 0 91 (dk_at dksX0_leastBy_1 11 rfl rfl)
theorem dX0_leastBy_36 : decode cX0_leastBy 36 = .ok (.aload_n 0, 1) := dk_42 (dk_at dksX0_leastBy_1 14 rfl rfl)
theorem dX0_leastBy_37 : decode cX0_leastBy 37 = .ok (.getfield 91, 3) := dk_180 0 91 (dk_at dksX0_leastBy_1 15 rfl rfl)
theorem dX0_leastBy_40 : decode cX0_leastBy 40 = .ok (.ifCond .le 5, 3) := dk_158 0 5 (dk_at dksX0_leastBy_1 18 rfl rfl)
theorem dX0_leastBy_43 : decode cX0_leastBy 43 = .ok (.iconst (-1), 1) := dk_2 (dk_at dksX0_leastBy_1 21 rfl rfl)
theorem dX0_leastBy_44 : decode cX0_leastBy 44 = .ok (.ireturn, 1) := dk_172 (dk_at dksX0_leastBy_1 22 rfl rfl)
theorem dX0_leastBy_45 : decode cX0_leastBy 45 = .ok (.aload_n 0, 1) := dk_42 (dk_at dksX0_leastBy_1 23 rfl rfl)
theorem dX0_leastBy_46 : decode cX0_leastBy 46 = .ok (.aload_n 0, 1) := dk_42 (dk_at dksX0_leastBy_2 0 rfl rfl)
theorem dX0_leastBy_47 : decode cX0_leastBy 47 = .ok (.iload_n 1, 1) := dk_27 (dk_at dksX0_leastBy_2 1 rfl rfl)
theorem dX0_leastBy_48 : decode cX0_leastBy 48 = .ok (.iload_n 2, 1) := dk_28 (dk_at dksX0_leastBy_2 2 rfl rfl)
theorem dX0_leastBy_49 : decode cX0_leastBy 49 = .ok (.invokevirtual 419, 3) := dk_182 1 163 (dk_at dksX0_leastBy_2 3 rfl rfl)
theorem dX0_leastBy_52 : decode cX0_leastBy 52 = .ok (.ifCond .ge 7, 3) := dk_156 0 7 (dk_at dksX0_leastBy_2 6 rfl rfl)
theorem dX0_leastBy_55 : decode cX0_leastBy 55 = .ok (.iconst (-1), 1) := dk_2 (dk_at dksX0_leastBy_2 9 rfl rfl)
theorem dX0_leastBy_56 : decode cX0_leastBy 56 = .ok (.goto 18, 3) := dk_167 0 18 (dk_at dksX0_leastBy_2 10 rfl rfl)
theorem dX0_leastBy_59 : decode cX0_leastBy 59 = .ok (.iload_n 3, 1) := dk_29 (dk_at dksX0_leastBy_2 13 rfl rfl)
theorem dX0_leastBy_60 : decode cX0_leastBy 60 = .ok (.ifCond .ne 10, 3) := dk_154 0 10 (dk_at dksX0_leastBy_2 14 rfl rfl)
theorem dX0_leastBy_63 : decode cX0_leastBy 63 = .ok (.aload_n 0, 1) := dk_42 (dk_at dksX0_leastBy_2 17 rfl rfl)
theorem dX0_leastBy_64 : decode cX0_leastBy 64 = .ok (.getfield 413, 3) := dk_180 1 157 (dk_at dksX0_leastBy_2 18 rfl rfl)
theorem dX0_leastBy_67 : decode cX0_leastBy 67 = .ok (.goto 7, 3) := dk_167 0 7 (dk_at dksX0_leastBy_2 21 rfl rfl)
theorem dX0_leastBy_70 : decode cX0_leastBy 70 = .ok (.aload_n 0, 1) := dk_42 (dk_at dksX0_leastBy_3 0 rfl rfl)
theorem dX0_leastBy_71 : decode cX0_leastBy 71 = .ok (.getfield 416, 3) := dk_180 1 160 (dk_at dksX0_leastBy_3 1 rfl rfl)
theorem dX0_leastBy_74 : decode cX0_leastBy 74 = .ok (.invokevirtual 292, 3) := dk_182 1 36 (dk_at dksX0_leastBy_3 4 rfl rfl)
theorem dX0_leastBy_77 : decode cX0_leastBy 77 = .ok (.ireturn, 1) := dk_172 (dk_at dksX0_leastBy_3 7 rfl rfl)
abbrev cX0_reach : ByteArray := prog_1_method_73_code
def yX0_reach : MethodName := ⟨RX0, "reach", "(I)I"⟩
def dkwX0_reach_1 : List UInt8 := [2, 172, 42, 182, 1, 172, 42, 180, 0, 73, 27, 46, 172]
abbrev dktX0_reach_1 : List UInt8 := dkwX0_reach_1 ++ []
def dkwX0_reach_0 : List UInt8 := [42, 42, 27, 182, 1, 13, 153, 0, 7, 3, 167, 0, 4, 4, 181, 0, 91, 42, 180, 0, 91, 158, 0, 5]
abbrev dktX0_reach_0 : List UInt8 := dkwX0_reach_0 ++ dktX0_reach_1
theorem dksX0_reach_0 : cX0_reach.data.toList.drop 0 = dktX0_reach_0 := by decide +kernel
theorem dksX0_reach_1 : cX0_reach.data.toList.drop 24 = dktX0_reach_1 := dk_seg dksX0_reach_0 24 rfl rfl
theorem dX0_reach_0 : decode cX0_reach 0 = .ok (.aload_n 0, 1) := dk_42 (dk_at dksX0_reach_0 0 rfl rfl)
theorem dX0_reach_1 : decode cX0_reach 1 = .ok (.aload_n 0, 1) := dk_42 (dk_at dksX0_reach_0 1 rfl rfl)
theorem dX0_reach_2 : decode cX0_reach 2 = .ok (.iload_n 1, 1) := dk_27 (dk_at dksX0_reach_0 2 rfl rfl)
theorem dX0_reach_3 : decode cX0_reach 3 = .ok (.invokevirtual 269, 3) := dk_182 1 13 (dk_at dksX0_reach_0 3 rfl rfl)
theorem dX0_reach_6 : decode cX0_reach 6 = .ok (.ifCond .eq 7, 3) := dk_153 0 7 (dk_at dksX0_reach_0 6 rfl rfl)
theorem dX0_reach_9 : decode cX0_reach 9 = .ok (.iconst 0, 1) := dk_3 (dk_at dksX0_reach_0 9 rfl rfl)
theorem dX0_reach_10 : decode cX0_reach 10 = .ok (.goto 4, 3) := dk_167 0 4 (dk_at dksX0_reach_0 10 rfl rfl)
theorem dX0_reach_13 : decode cX0_reach 13 = .ok (.iconst 1, 1) := dk_4 (dk_at dksX0_reach_0 13 rfl rfl)
theorem dX0_reach_14 : decode cX0_reach 14 = .ok (.putfield 91, 3) := dk_181 0 91 (dk_at dksX0_reach_0 14 rfl rfl)
theorem dX0_reach_17 : decode cX0_reach 17 = .ok (.aload_n 0, 1) := dk_42 (dk_at dksX0_reach_0 17 rfl rfl)
theorem dX0_reach_18 : decode cX0_reach 18 = .ok (.getfield 91, 3) := dk_180 0 91 (dk_at dksX0_reach_0 18 rfl rfl)
theorem dX0_reach_21 : decode cX0_reach 21 = .ok (.ifCond .le 5, 3) := dk_158 0 5 (dk_at dksX0_reach_0 21 rfl rfl)
theorem dX0_reach_24 : decode cX0_reach 24 = .ok (.iconst (-1), 1) := dk_2 (dk_at dksX0_reach_1 0 rfl rfl)
theorem dX0_reach_25 : decode cX0_reach 25 = .ok (.ireturn, 1) := dk_172 (dk_at dksX0_reach_1 1 rfl rfl)
theorem dX0_reach_26 : decode cX0_reach 26 = .ok (.aload_n 0, 1) := dk_42 (dk_at dksX0_reach_1 2 rfl rfl)
theorem dX0_reach_27 : decode cX0_reach 27 = .ok (.invokevirtual 428, 3) := dk_182 1 172 (dk_at dksX0_reach_1 3 rfl rfl)
theorem dX0_reach_30 : decode cX0_reach 30 = .ok (.aload_n 0, 1) := dk_42 (dk_at dksX0_reach_1 6 rfl rfl)
theorem dX0_reach_31 : decode cX0_reach 31 = .ok (.getfield 73, 3) := dk_180 0 73 (dk_at dksX0_reach_1 7 rfl rfl)
theorem dX0_reach_34 : decode cX0_reach 34 = .ok (.iload_n 1, 1) := dk_27 (dk_at dksX0_reach_1 10 rfl rfl)
theorem dX0_reach_35 : decode cX0_reach 35 = .ok (.iaload, 1) := dk_46 (dk_at dksX0_reach_1 11 rfl rfl)
theorem dX0_reach_36 : decode cX0_reach 36 = .ok (.ireturn, 1) := dk_172 (dk_at dksX0_reach_1 12 rfl rfl)
abbrev cX0_laysWorlds : ByteArray := prog_1_method_72_code
def yX0_laysWorlds : MethodName := ⟨RX0, "laysWorlds", "()V"⟩
def dkwX0_laysWorlds_7 : List UInt8 := [132, 2, 1, 167, 255, 121, 132, 1, 1, 167, 255, 108, 177]
abbrev dktX0_laysWorlds_7 : List UInt8 := dkwX0_laysWorlds_7 ++ []
def dkwX0_laysWorlds_6 : List UInt8 := [79, 42, 180, 0, 79, 21, 6, 92, 46, 27, 96, 79, 132, 4, 1, 167, 255, 150, 132, 3, 1, 167, 255, 135]
abbrev dktX0_laysWorlds_6 : List UInt8 := dkwX0_laysWorlds_6 ++ dktX0_laysWorlds_7
def dkwX0_laysWorlds_5 : List UInt8 := [155, 0, 14, 42, 180, 0, 73, 21, 5, 92, 46, 4, 96, 79, 42, 180, 0, 76, 21, 6, 92, 46, 4, 96]
abbrev dktX0_laysWorlds_5 : List UInt8 := dkwX0_laysWorlds_5 ++ dktX0_laysWorlds_6
def dkwX0_laysWorlds_4 : List UInt8 := [180, 0, 179, 167, 0, 16, 42, 182, 0, 168, 180, 1, 18, 21, 5, 50, 180, 1, 22, 54, 6, 21, 5]
abbrev dktX0_laysWorlds_4 : List UInt8 := dkwX0_laysWorlds_4 ++ dktX0_laysWorlds_5
def dkwX0_laysWorlds_3 : List UInt8 := [167, 0, 4, 3, 28, 29, 21, 4, 182, 1, 120, 54, 5, 21, 5, 156, 0, 13, 42, 182, 0, 168]
abbrev dktX0_laysWorlds_3 : List UInt8 := dkwX0_laysWorlds_3 ++ dktX0_laysWorlds_4
def dkwX0_laysWorlds_2 : List UInt8 := [54, 4, 21, 4, 42, 182, 0, 168, 182, 1, 154, 162, 0, 100, 42, 182, 0, 168, 27, 4, 160, 0, 7, 4]
abbrev dktX0_laysWorlds_2 : List UInt8 := dkwX0_laysWorlds_2 ++ dktX0_laysWorlds_3
def dkwX0_laysWorlds_1 : List UInt8 := [3, 60, 27, 5, 162, 0, 149, 3, 61, 28, 16, 20, 163, 0, 135, 3, 62, 29, 16, 9, 163, 0, 121, 3]
abbrev dktX0_laysWorlds_1 : List UInt8 := dkwX0_laysWorlds_1 ++ dktX0_laysWorlds_2
def dkwX0_laysWorlds_0 : List UInt8 := [42, 180, 0, 73, 3, 184, 1, 166, 42, 180, 0, 76, 3, 184, 1, 166, 42, 180, 0, 79, 3, 184, 1, 166]
abbrev dktX0_laysWorlds_0 : List UInt8 := dkwX0_laysWorlds_0 ++ dktX0_laysWorlds_1
theorem dksX0_laysWorlds_0 : cX0_laysWorlds.data.toList.drop 0 = dktX0_laysWorlds_0 := by decide +kernel
theorem dksX0_laysWorlds_1 : cX0_laysWorlds.data.toList.drop 24 = dktX0_laysWorlds_1 := dk_seg dksX0_laysWorlds_0 24 rfl rfl
theorem dksX0_laysWorlds_2 : cX0_laysWorlds.data.toList.drop 48 = dktX0_laysWorlds_2 := dk_seg dksX0_laysWorlds_1 24 rfl rfl
theorem dksX0_laysWorlds_3 : cX0_laysWorlds.data.toList.drop 72 = dktX0_laysWorlds_3 := dk_seg dksX0_laysWorlds_2 24 rfl rfl
theorem dksX0_laysWorlds_4 : cX0_laysWorlds.data.toList.drop 94 = dktX0_laysWorlds_4 := dk_seg dksX0_laysWorlds_3 22 rfl rfl
theorem dksX0_laysWorlds_5 : cX0_laysWorlds.data.toList.drop 117 = dktX0_laysWorlds_5 := dk_seg dksX0_laysWorlds_4 23 rfl rfl
theorem dksX0_laysWorlds_6 : cX0_laysWorlds.data.toList.drop 141 = dktX0_laysWorlds_6 := dk_seg dksX0_laysWorlds_5 24 rfl rfl
theorem dksX0_laysWorlds_7 : cX0_laysWorlds.data.toList.drop 165 = dktX0_laysWorlds_7 := dk_seg dksX0_laysWorlds_6 24 rfl rfl
theorem dX0_laysWorlds_0 : decode cX0_laysWorlds 0 = .ok (.aload_n 0, 1) := dk_42 (dk_at dksX0_laysWorlds_0 0 rfl rfl)
theorem dX0_laysWorlds_1 : decode cX0_laysWorlds 1 = .ok (.getfield 73, 3) := dk_180 0 73 (dk_at dksX0_laysWorlds_0 1 rfl rfl)
theorem dX0_laysWorlds_4 : decode cX0_laysWorlds 4 = .ok (.iconst 0, 1) := dk_3 (dk_at dksX0_laysWorlds_0 4 rfl rfl)
theorem dX0_laysWorlds_5 : decode cX0_laysWorlds 5 = .ok (.invokestatic 422, 3) := dk_184 1 166 (dk_at dksX0_laysWorlds_0 5 rfl rfl)
theorem dX0_laysWorlds_8 : decode cX0_laysWorlds 8 = .ok (.aload_n 0, 1) := dk_42 (dk_at dksX0_laysWorlds_0 8 rfl rfl)
theorem dX0_laysWorlds_9 : decode cX0_laysWorlds 9 = .ok (.getfield 76, 3) := dk_180 0 76 (dk_at dksX0_laysWorlds_0 9 rfl rfl)
theorem dX0_laysWorlds_12 : decode cX0_laysWorlds 12 = .ok (.iconst 0, 1) := dk_3 (dk_at dksX0_laysWorlds_0 12 rfl rfl)
theorem dX0_laysWorlds_13 : decode cX0_laysWorlds 13 = .ok (.invokestatic 422, 3) := dk_184 1 166 (dk_at dksX0_laysWorlds_0 13 rfl rfl)
theorem dX0_laysWorlds_16 : decode cX0_laysWorlds 16 = .ok (.aload_n 0, 1) := dk_42 (dk_at dksX0_laysWorlds_0 16 rfl rfl)
theorem dX0_laysWorlds_17 : decode cX0_laysWorlds 17 = .ok (.getfield 79, 3) := dk_180 0 79 (dk_at dksX0_laysWorlds_0 17 rfl rfl)
theorem dX0_laysWorlds_20 : decode cX0_laysWorlds 20 = .ok (.iconst 0, 1) := dk_3 (dk_at dksX0_laysWorlds_0 20 rfl rfl)
theorem dX0_laysWorlds_21 : decode cX0_laysWorlds 21 = .ok (.invokestatic 422, 3) := dk_184 1 166 (dk_at dksX0_laysWorlds_0 21 rfl rfl)
theorem dX0_laysWorlds_24 : decode cX0_laysWorlds 24 = .ok (.iconst 0, 1) := dk_3 (dk_at dksX0_laysWorlds_1 0 rfl rfl)
theorem dX0_laysWorlds_25 : decode cX0_laysWorlds 25 = .ok (.istore_n 1, 1) := dk_60 (dk_at dksX0_laysWorlds_1 1 rfl rfl)
theorem dX0_laysWorlds_26 : decode cX0_laysWorlds 26 = .ok (.iload_n 1, 1) := dk_27 (dk_at dksX0_laysWorlds_1 2 rfl rfl)
theorem dX0_laysWorlds_27 : decode cX0_laysWorlds 27 = .ok (.iconst 2, 1) := dk_5 (dk_at dksX0_laysWorlds_1 3 rfl rfl)
theorem dX0_laysWorlds_28 : decode cX0_laysWorlds 28 = .ok (.if_icmp .ge 149, 3) := dk_162 0 149 (dk_at dksX0_laysWorlds_1 4 rfl rfl)
theorem dX0_laysWorlds_31 : decode cX0_laysWorlds 31 = .ok (.iconst 0, 1) := dk_3 (dk_at dksX0_laysWorlds_1 7 rfl rfl)
theorem dX0_laysWorlds_32 : decode cX0_laysWorlds 32 = .ok (.istore_n 2, 1) := dk_61 (dk_at dksX0_laysWorlds_1 8 rfl rfl)
theorem dX0_laysWorlds_33 : decode cX0_laysWorlds 33 = .ok (.iload_n 2, 1) := dk_28 (dk_at dksX0_laysWorlds_1 9 rfl rfl)
theorem dX0_laysWorlds_34 : decode cX0_laysWorlds 34 = .ok (.bipush 20, 2) := dk_16 20 (dk_at dksX0_laysWorlds_1 10 rfl rfl)
theorem dX0_laysWorlds_36 : decode cX0_laysWorlds 36 = .ok (.if_icmp .gt 135, 3) := dk_163 0 135 (dk_at dksX0_laysWorlds_1 12 rfl rfl)
theorem dX0_laysWorlds_39 : decode cX0_laysWorlds 39 = .ok (.iconst 0, 1) := dk_3 (dk_at dksX0_laysWorlds_1 15 rfl rfl)
theorem dX0_laysWorlds_40 : decode cX0_laysWorlds 40 = .ok (.istore_n 3, 1) := dk_62 (dk_at dksX0_laysWorlds_1 16 rfl rfl)
theorem dX0_laysWorlds_41 : decode cX0_laysWorlds 41 = .ok (.iload_n 3, 1) := dk_29 (dk_at dksX0_laysWorlds_1 17 rfl rfl)
theorem dX0_laysWorlds_42 : decode cX0_laysWorlds 42 = .ok (.bipush 9, 2) := dk_16 9 (dk_at dksX0_laysWorlds_1 18 rfl rfl)
theorem dX0_laysWorlds_44 : decode cX0_laysWorlds 44 = .ok (.if_icmp .gt 121, 3) := dk_163 0 121 (dk_at dksX0_laysWorlds_1 20 rfl rfl)
theorem dX0_laysWorlds_47 : decode cX0_laysWorlds 47 = .ok (.iconst 0, 1) := dk_3 (dk_at dksX0_laysWorlds_1 23 rfl rfl)
theorem dX0_laysWorlds_48 : decode cX0_laysWorlds 48 = .ok (.istore 4, 2) := dk_54 4 (dk_at dksX0_laysWorlds_2 0 rfl rfl)
theorem dX0_laysWorlds_50 : decode cX0_laysWorlds 50 = .ok (.iload 4, 2) := dk_21 4 (dk_at dksX0_laysWorlds_2 2 rfl rfl)
theorem dX0_laysWorlds_52 : decode cX0_laysWorlds 52 = .ok (.aload_n 0, 1) := dk_42 (dk_at dksX0_laysWorlds_2 4 rfl rfl)
theorem dX0_laysWorlds_53 : decode cX0_laysWorlds 53 = .ok (.invokevirtual 168, 3) := dk_182 0 168 (dk_at dksX0_laysWorlds_2 5 rfl rfl)
theorem dX0_laysWorlds_56 : decode cX0_laysWorlds 56 = .ok (.invokevirtual 410, 3) := dk_182 1 154 (dk_at dksX0_laysWorlds_2 8 rfl rfl)
theorem dX0_laysWorlds_59 : decode cX0_laysWorlds 59 = .ok (.if_icmp .ge 100, 3) := dk_162 0 100 (dk_at dksX0_laysWorlds_2 11 rfl rfl)
theorem dX0_laysWorlds_62 : decode cX0_laysWorlds 62 = .ok (.aload_n 0, 1) := dk_42 (dk_at dksX0_laysWorlds_2 14 rfl rfl)
theorem dX0_laysWorlds_63 : decode cX0_laysWorlds 63 = .ok (.invokevirtual 168, 3) := dk_182 0 168 (dk_at dksX0_laysWorlds_2 15 rfl rfl)
theorem dX0_laysWorlds_66 : decode cX0_laysWorlds 66 = .ok (.iload_n 1, 1) := dk_27 (dk_at dksX0_laysWorlds_2 18 rfl rfl)
theorem dX0_laysWorlds_67 : decode cX0_laysWorlds 67 = .ok (.iconst 1, 1) := dk_4 (dk_at dksX0_laysWorlds_2 19 rfl rfl)
theorem dX0_laysWorlds_68 : decode cX0_laysWorlds 68 = .ok (.if_icmp .ne 7, 3) := dk_160 0 7 (dk_at dksX0_laysWorlds_2 20 rfl rfl)
theorem dX0_laysWorlds_71 : decode cX0_laysWorlds 71 = .ok (.iconst 1, 1) := dk_4 (dk_at dksX0_laysWorlds_2 23 rfl rfl)
theorem dX0_laysWorlds_72 : decode cX0_laysWorlds 72 = .ok (.goto 4, 3) := dk_167 0 4 (dk_at dksX0_laysWorlds_3 0 rfl rfl)
theorem dX0_laysWorlds_75 : decode cX0_laysWorlds 75 = .ok (.iconst 0, 1) := dk_3 (dk_at dksX0_laysWorlds_3 3 rfl rfl)
theorem dX0_laysWorlds_76 : decode cX0_laysWorlds 76 = .ok (.iload_n 2, 1) := dk_28 (dk_at dksX0_laysWorlds_3 4 rfl rfl)
theorem dX0_laysWorlds_77 : decode cX0_laysWorlds 77 = .ok (.iload_n 3, 1) := dk_29 (dk_at dksX0_laysWorlds_3 5 rfl rfl)
theorem dX0_laysWorlds_78 : decode cX0_laysWorlds 78 = .ok (.iload 4, 2) := dk_21 4 (dk_at dksX0_laysWorlds_3 6 rfl rfl)
theorem dX0_laysWorlds_80 : decode cX0_laysWorlds 80 = .ok (.invokevirtual 376, 3) := dk_182 1 120 (dk_at dksX0_laysWorlds_3 8 rfl rfl)
theorem dX0_laysWorlds_83 : decode cX0_laysWorlds 83 = .ok (.istore 5, 2) := dk_54 5 (dk_at dksX0_laysWorlds_3 11 rfl rfl)
theorem dX0_laysWorlds_85 : decode cX0_laysWorlds 85 = .ok (.iload 5, 2) := dk_21 5 (dk_at dksX0_laysWorlds_3 13 rfl rfl)
theorem dX0_laysWorlds_87 : decode cX0_laysWorlds 87 = .ok (.ifCond .ge 13, 3) := dk_156 0 13 (dk_at dksX0_laysWorlds_3 15 rfl rfl)
theorem dX0_laysWorlds_90 : decode cX0_laysWorlds 90 = .ok (.aload_n 0, 1) := dk_42 (dk_at dksX0_laysWorlds_3 18 rfl rfl)
theorem dX0_laysWorlds_91 : decode cX0_laysWorlds 91 = .ok (.invokevirtual 168, 3) := dk_182 0 168 (dk_at dksX0_laysWorlds_3 19 rfl rfl)
theorem dX0_laysWorlds_94 : decode cX0_laysWorlds 94 = .ok (.getfield 179, 3) := dk_180 0 179 (dk_at dksX0_laysWorlds_4 0 rfl rfl)
theorem dX0_laysWorlds_97 : decode cX0_laysWorlds 97 = .ok (.goto 16, 3) := dk_167 0 16 (dk_at dksX0_laysWorlds_4 3 rfl rfl)
theorem dX0_laysWorlds_100 : decode cX0_laysWorlds 100 = .ok (.aload_n 0, 1) := dk_42 (dk_at dksX0_laysWorlds_4 6 rfl rfl)
theorem dX0_laysWorlds_101 : decode cX0_laysWorlds 101 = .ok (.invokevirtual 168, 3) := dk_182 0 168 (dk_at dksX0_laysWorlds_4 7 rfl rfl)
theorem dX0_laysWorlds_104 : decode cX0_laysWorlds 104 = .ok (.getfield 274, 3) := dk_180 1 18 (dk_at dksX0_laysWorlds_4 10 rfl rfl)
theorem dX0_laysWorlds_107 : decode cX0_laysWorlds 107 = .ok (.iload 5, 2) := dk_21 5 (dk_at dksX0_laysWorlds_4 13 rfl rfl)
theorem dX0_laysWorlds_109 : decode cX0_laysWorlds 109 = .ok (.aaload, 1) := dk_50 (dk_at dksX0_laysWorlds_4 15 rfl rfl)
theorem dX0_laysWorlds_110 : decode cX0_laysWorlds 110 = .ok (.getfield 278, 3) := dk_180 1 22 (dk_at dksX0_laysWorlds_4 16 rfl rfl)
theorem dX0_laysWorlds_113 : decode cX0_laysWorlds 113 = .ok (.istore 6, 2) := dk_54 6 (dk_at dksX0_laysWorlds_4 19 rfl rfl)
theorem dX0_laysWorlds_115 : decode cX0_laysWorlds 115 = .ok (.iload 5, 2) := dk_21 5 (dk_at dksX0_laysWorlds_4 21 rfl rfl)
theorem dX0_laysWorlds_117 : decode cX0_laysWorlds 117 = .ok (.ifCond .lt 14, 3) := dk_155 0 14 (dk_at dksX0_laysWorlds_5 0 rfl rfl)
theorem dX0_laysWorlds_120 : decode cX0_laysWorlds 120 = .ok (.aload_n 0, 1) := dk_42 (dk_at dksX0_laysWorlds_5 3 rfl rfl)
theorem dX0_laysWorlds_121 : decode cX0_laysWorlds 121 = .ok (.getfield 73, 3) := dk_180 0 73 (dk_at dksX0_laysWorlds_5 4 rfl rfl)
theorem dX0_laysWorlds_124 : decode cX0_laysWorlds 124 = .ok (.iload 5, 2) := dk_21 5 (dk_at dksX0_laysWorlds_5 7 rfl rfl)
theorem dX0_laysWorlds_126 : decode cX0_laysWorlds 126 = .ok (.dup2, 1) := dk_92 (dk_at dksX0_laysWorlds_5 9 rfl rfl)
theorem dX0_laysWorlds_127 : decode cX0_laysWorlds 127 = .ok (.iaload, 1) := dk_46 (dk_at dksX0_laysWorlds_5 10 rfl rfl)
theorem dX0_laysWorlds_128 : decode cX0_laysWorlds 128 = .ok (.iconst 1, 1) := dk_4 (dk_at dksX0_laysWorlds_5 11 rfl rfl)
theorem dX0_laysWorlds_129 : decode cX0_laysWorlds 129 = .ok (.iadd, 1) := dk_96 (dk_at dksX0_laysWorlds_5 12 rfl rfl)
theorem dX0_laysWorlds_130 : decode cX0_laysWorlds 130 = .ok (.iastore, 1) := dk_79 (dk_at dksX0_laysWorlds_5 13 rfl rfl)
theorem dX0_laysWorlds_131 : decode cX0_laysWorlds 131 = .ok (.aload_n 0, 1) := dk_42 (dk_at dksX0_laysWorlds_5 14 rfl rfl)
theorem dX0_laysWorlds_132 : decode cX0_laysWorlds 132 = .ok (.getfield 76, 3) := dk_180 0 76 (dk_at dksX0_laysWorlds_5 15 rfl rfl)
theorem dX0_laysWorlds_135 : decode cX0_laysWorlds 135 = .ok (.iload 6, 2) := dk_21 6 (dk_at dksX0_laysWorlds_5 18 rfl rfl)
theorem dX0_laysWorlds_137 : decode cX0_laysWorlds 137 = .ok (.dup2, 1) := dk_92 (dk_at dksX0_laysWorlds_5 20 rfl rfl)
theorem dX0_laysWorlds_138 : decode cX0_laysWorlds 138 = .ok (.iaload, 1) := dk_46 (dk_at dksX0_laysWorlds_5 21 rfl rfl)
theorem dX0_laysWorlds_139 : decode cX0_laysWorlds 139 = .ok (.iconst 1, 1) := dk_4 (dk_at dksX0_laysWorlds_5 22 rfl rfl)
theorem dX0_laysWorlds_140 : decode cX0_laysWorlds 140 = .ok (.iadd, 1) := dk_96 (dk_at dksX0_laysWorlds_5 23 rfl rfl)
theorem dX0_laysWorlds_141 : decode cX0_laysWorlds 141 = .ok (.iastore, 1) := dk_79 (dk_at dksX0_laysWorlds_6 0 rfl rfl)
theorem dX0_laysWorlds_142 : decode cX0_laysWorlds 142 = .ok (.aload_n 0, 1) := dk_42 (dk_at dksX0_laysWorlds_6 1 rfl rfl)
theorem dX0_laysWorlds_143 : decode cX0_laysWorlds 143 = .ok (.getfield 79, 3) := dk_180 0 79 (dk_at dksX0_laysWorlds_6 2 rfl rfl)
theorem dX0_laysWorlds_146 : decode cX0_laysWorlds 146 = .ok (.iload 6, 2) := dk_21 6 (dk_at dksX0_laysWorlds_6 5 rfl rfl)
theorem dX0_laysWorlds_148 : decode cX0_laysWorlds 148 = .ok (.dup2, 1) := dk_92 (dk_at dksX0_laysWorlds_6 7 rfl rfl)
theorem dX0_laysWorlds_149 : decode cX0_laysWorlds 149 = .ok (.iaload, 1) := dk_46 (dk_at dksX0_laysWorlds_6 8 rfl rfl)
theorem dX0_laysWorlds_150 : decode cX0_laysWorlds 150 = .ok (.iload_n 1, 1) := dk_27 (dk_at dksX0_laysWorlds_6 9 rfl rfl)
theorem dX0_laysWorlds_151 : decode cX0_laysWorlds 151 = .ok (.iadd, 1) := dk_96 (dk_at dksX0_laysWorlds_6 10 rfl rfl)
theorem dX0_laysWorlds_152 : decode cX0_laysWorlds 152 = .ok (.iastore, 1) := dk_79 (dk_at dksX0_laysWorlds_6 11 rfl rfl)
theorem dX0_laysWorlds_153 : decode cX0_laysWorlds 153 = .ok (.iinc 4 1, 3) := dk_132 4 1 (dk_at dksX0_laysWorlds_6 12 rfl rfl)
theorem dX0_laysWorlds_156 : decode cX0_laysWorlds 156 = .ok (.goto (-106), 3) := dk_167 255 150 (dk_at dksX0_laysWorlds_6 15 rfl rfl)
theorem dX0_laysWorlds_159 : decode cX0_laysWorlds 159 = .ok (.iinc 3 1, 3) := dk_132 3 1 (dk_at dksX0_laysWorlds_6 18 rfl rfl)
theorem dX0_laysWorlds_162 : decode cX0_laysWorlds 162 = .ok (.goto (-121), 3) := dk_167 255 135 (dk_at dksX0_laysWorlds_6 21 rfl rfl)
theorem dX0_laysWorlds_165 : decode cX0_laysWorlds 165 = .ok (.iinc 2 1, 3) := dk_132 2 1 (dk_at dksX0_laysWorlds_7 0 rfl rfl)
theorem dX0_laysWorlds_168 : decode cX0_laysWorlds 168 = .ok (.goto (-135), 3) := dk_167 255 121 (dk_at dksX0_laysWorlds_7 3 rfl rfl)
theorem dX0_laysWorlds_171 : decode cX0_laysWorlds 171 = .ok (.iinc 1 1, 3) := dk_132 1 1 (dk_at dksX0_laysWorlds_7 6 rfl rfl)
theorem dX0_laysWorlds_174 : decode cX0_laysWorlds 174 = .ok (.goto (-148), 3) := dk_167 255 108 (dk_at dksX0_laysWorlds_7 9 rfl rfl)
theorem dX0_laysWorlds_177 : decode cX0_laysWorlds 177 = .ok (.return_, 1) := dk_177 (dk_at dksX0_laysWorlds_7 12 rfl rfl)
abbrev cX0_idle : ByteArray := prog_1_method_74_code
def yX0_idle : MethodName := ⟨RX0, "idle", "()I"⟩
def dkwX0_idle_2 : List UInt8 := [167, 255, 223, 27, 172]
abbrev dktX0_idle_2 : List UInt8 := dkwX0_idle_2 ++ []
def dkwX0_idle_1 : List UInt8 := [27, 42, 180, 0, 73, 28, 46, 154, 0, 9, 4, 28, 120, 167, 0, 4, 3, 128, 60, 132, 2, 1]
abbrev dktX0_idle_1 : List UInt8 := dkwX0_idle_1 ++ dktX0_idle_2
def dkwX0_idle_0 : List UInt8 := [42, 3, 181, 0, 91, 42, 182, 1, 172, 3, 60, 3, 61, 28, 42, 182, 0, 168, 180, 0, 182, 162, 0, 28]
abbrev dktX0_idle_0 : List UInt8 := dkwX0_idle_0 ++ dktX0_idle_1
theorem dksX0_idle_0 : cX0_idle.data.toList.drop 0 = dktX0_idle_0 := by decide +kernel
theorem dksX0_idle_1 : cX0_idle.data.toList.drop 24 = dktX0_idle_1 := dk_seg dksX0_idle_0 24 rfl rfl
theorem dksX0_idle_2 : cX0_idle.data.toList.drop 46 = dktX0_idle_2 := dk_seg dksX0_idle_1 22 rfl rfl
theorem dX0_idle_0 : decode cX0_idle 0 = .ok (.aload_n 0, 1) := dk_42 (dk_at dksX0_idle_0 0 rfl rfl)
theorem dX0_idle_1 : decode cX0_idle 1 = .ok (.iconst 0, 1) := dk_3 (dk_at dksX0_idle_0 1 rfl rfl)
theorem dX0_idle_2 : decode cX0_idle 2 = .ok (.putfield 91, 3) := dk_181 0 91 (dk_at dksX0_idle_0 2 rfl rfl)
theorem dX0_idle_5 : decode cX0_idle 5 = .ok (.aload_n 0, 1) := dk_42 (dk_at dksX0_idle_0 5 rfl rfl)
theorem dX0_idle_6 : decode cX0_idle 6 = .ok (.invokevirtual 428, 3) := dk_182 1 172 (dk_at dksX0_idle_0 6 rfl rfl)
theorem dX0_idle_9 : decode cX0_idle 9 = .ok (.iconst 0, 1) := dk_3 (dk_at dksX0_idle_0 9 rfl rfl)
theorem dX0_idle_10 : decode cX0_idle 10 = .ok (.istore_n 1, 1) := dk_60 (dk_at dksX0_idle_0 10 rfl rfl)
theorem dX0_idle_11 : decode cX0_idle 11 = .ok (.iconst 0, 1) := dk_3 (dk_at dksX0_idle_0 11 rfl rfl)
theorem dX0_idle_12 : decode cX0_idle 12 = .ok (.istore_n 2, 1) := dk_61 (dk_at dksX0_idle_0 12 rfl rfl)
theorem dX0_idle_13 : decode cX0_idle 13 = .ok (.iload_n 2, 1) := dk_28 (dk_at dksX0_idle_0 13 rfl rfl)
theorem dX0_idle_14 : decode cX0_idle 14 = .ok (.aload_n 0, 1) := dk_42 (dk_at dksX0_idle_0 14 rfl rfl)
theorem dX0_idle_15 : decode cX0_idle 15 = .ok (.invokevirtual 168, 3) := dk_182 0 168 (dk_at dksX0_idle_0 15 rfl rfl)
theorem dX0_idle_18 : decode cX0_idle 18 = .ok (.getfield 182, 3) := dk_180 0 182 (dk_at dksX0_idle_0 18 rfl rfl)
theorem dX0_idle_21 : decode cX0_idle 21 = .ok (.if_icmp .ge 28, 3) := dk_162 0 28 (dk_at dksX0_idle_0 21 rfl rfl)
theorem dX0_idle_24 : decode cX0_idle 24 = .ok (.iload_n 1, 1) := dk_27 (dk_at dksX0_idle_1 0 rfl rfl)
theorem dX0_idle_25 : decode cX0_idle 25 = .ok (.aload_n 0, 1) := dk_42 (dk_at dksX0_idle_1 1 rfl rfl)
theorem dX0_idle_26 : decode cX0_idle 26 = .ok (.getfield 73, 3) := dk_180 0 73 (dk_at dksX0_idle_1 2 rfl rfl)
theorem dX0_idle_29 : decode cX0_idle 29 = .ok (.iload_n 2, 1) := dk_28 (dk_at dksX0_idle_1 5 rfl rfl)
theorem dX0_idle_30 : decode cX0_idle 30 = .ok (.iaload, 1) := dk_46 (dk_at dksX0_idle_1 6 rfl rfl)
theorem dX0_idle_31 : decode cX0_idle 31 = .ok (.ifCond .ne 9, 3) := dk_154 0 9 (dk_at dksX0_idle_1 7 rfl rfl)
theorem dX0_idle_34 : decode cX0_idle 34 = .ok (.iconst 1, 1) := dk_4 (dk_at dksX0_idle_1 10 rfl rfl)
theorem dX0_idle_35 : decode cX0_idle 35 = .ok (.iload_n 2, 1) := dk_28 (dk_at dksX0_idle_1 11 rfl rfl)
theorem dX0_idle_36 : decode cX0_idle 36 = .ok (.ishl, 1) := dk_120 (dk_at dksX0_idle_1 12 rfl rfl)
theorem dX0_idle_37 : decode cX0_idle 37 = .ok (.goto 4, 3) := dk_167 0 4 (dk_at dksX0_idle_1 13 rfl rfl)
theorem dX0_idle_40 : decode cX0_idle 40 = .ok (.iconst 0, 1) := dk_3 (dk_at dksX0_idle_1 16 rfl rfl)
theorem dX0_idle_41 : decode cX0_idle 41 = .ok (.ior, 1) := dk_128 (dk_at dksX0_idle_1 17 rfl rfl)
theorem dX0_idle_42 : decode cX0_idle 42 = .ok (.istore_n 1, 1) := dk_60 (dk_at dksX0_idle_1 18 rfl rfl)
theorem dX0_idle_43 : decode cX0_idle 43 = .ok (.iinc 2 1, 3) := dk_132 2 1 (dk_at dksX0_idle_1 19 rfl rfl)
theorem dX0_idle_46 : decode cX0_idle 46 = .ok (.goto (-33), 3) := dk_167 255 223 (dk_at dksX0_idle_2 0 rfl rfl)
theorem dX0_idle_49 : decode cX0_idle 49 = .ok (.iload_n 1, 1) := dk_27 (dk_at dksX0_idle_2 3 rfl rfl)
theorem dX0_idle_50 : decode cX0_idle 50 = .ok (.ireturn, 1) := dk_172 (dk_at dksX0_idle_2 4 rfl rfl)
abbrev cX0_tells : ByteArray := prog_1_method_75_code
def yX0_tells : MethodName := ⟨RX0, "tells", "(I)Z"⟩
def dkwX0_tells_3 : List UInt8 := [133, 182, 1, 150, 87, 42, 180, 0, 91, 154, 0, 7, 4, 167, 0, 4, 3, 172]
abbrev dktX0_tells_3 : List UInt8 := dkwX0_tells_3 ++ []
def dkwX0_tells_2 : List UInt8 := [181, 0, 91, 42, 180, 0, 91, 154, 0, 22, 42, 42, 180, 0, 79, 27, 46, 133, 42, 180, 0, 76, 27, 46]
abbrev dktX0_tells_2 : List UInt8 := dkwX0_tells_2 ++ dktX0_tells_3
def dkwX0_tells_1 : List UInt8 := [3, 172, 42, 182, 1, 172, 42, 42, 180, 0, 76, 27, 46, 154, 0, 8, 16, 6, 167, 0, 4, 3]
abbrev dktX0_tells_1 : List UInt8 := dkwX0_tells_1 ++ dktX0_tells_2
def dkwX0_tells_0 : List UInt8 := [42, 42, 27, 182, 1, 6, 153, 0, 7, 3, 167, 0, 4, 4, 181, 0, 91, 42, 180, 0, 91, 158, 0, 5]
abbrev dktX0_tells_0 : List UInt8 := dkwX0_tells_0 ++ dktX0_tells_1
theorem dksX0_tells_0 : cX0_tells.data.toList.drop 0 = dktX0_tells_0 := by decide +kernel
theorem dksX0_tells_1 : cX0_tells.data.toList.drop 24 = dktX0_tells_1 := dk_seg dksX0_tells_0 24 rfl rfl
theorem dksX0_tells_2 : cX0_tells.data.toList.drop 46 = dktX0_tells_2 := dk_seg dksX0_tells_1 22 rfl rfl
theorem dksX0_tells_3 : cX0_tells.data.toList.drop 70 = dktX0_tells_3 := dk_seg dksX0_tells_2 24 rfl rfl
theorem dX0_tells_0 : decode cX0_tells 0 = .ok (.aload_n 0, 1) := dk_42 (dk_at dksX0_tells_0 0 rfl rfl)
theorem dX0_tells_1 : decode cX0_tells 1 = .ok (.aload_n 0, 1) := dk_42 (dk_at dksX0_tells_0 1 rfl rfl)
theorem dX0_tells_2 : decode cX0_tells 2 = .ok (.iload_n 1, 1) := dk_27 (dk_at dksX0_tells_0 2 rfl rfl)
theorem dX0_tells_3 : decode cX0_tells 3 = .ok (.invokevirtual 262, 3) := dk_182 1 6 (dk_at dksX0_tells_0 3 rfl rfl)
theorem dX0_tells_6 : decode cX0_tells 6 = .ok (.ifCond .eq 7, 3) := dk_153 0 7 (dk_at dksX0_tells_0 6 rfl rfl)
theorem dX0_tells_9 : decode cX0_tells 9 = .ok (.iconst 0, 1) := dk_3 (dk_at dksX0_tells_0 9 rfl rfl)
theorem dX0_tells_10 : decode cX0_tells 10 = .ok (.goto 4, 3) := dk_167 0 4 (dk_at dksX0_tells_0 10 rfl rfl)
theorem dX0_tells_13 : decode cX0_tells 13 = .ok (.iconst 1, 1) := dk_4 (dk_at dksX0_tells_0 13 rfl rfl)
theorem dX0_tells_14 : decode cX0_tells 14 = .ok (.putfield 91, 3) := dk_181 0 91 (dk_at dksX0_tells_0 14 rfl rfl)
theorem dX0_tells_17 : decode cX0_tells 17 = .ok (.aload_n 0, 1) := dk_42 (dk_at dksX0_tells_0 17 rfl rfl)
theorem dX0_tells_18 : decode cX0_tells 18 = .ok (.getfield 91, 3) := dk_180 0 91 (dk_at dksX0_tells_0 18 rfl rfl)
theorem dX0_tells_21 : decode cX0_tells 21 = .ok (.ifCond .le 5, 3) := dk_158 0 5 (dk_at dksX0_tells_0 21 rfl rfl)
theorem dX0_tells_24 : decode cX0_tells 24 = .ok (.iconst 0, 1) := dk_3 (dk_at dksX0_tells_1 0 rfl rfl)
theorem dX0_tells_25 : decode cX0_tells 25 = .ok (.ireturn, 1) := dk_172 (dk_at dksX0_tells_1 1 rfl rfl)
theorem dX0_tells_26 : decode cX0_tells 26 = .ok (.aload_n 0, 1) := dk_42 (dk_at dksX0_tells_1 2 rfl rfl)
theorem dX0_tells_27 : decode cX0_tells 27 = .ok (.invokevirtual 428, 3) := dk_182 1 172 (dk_at dksX0_tells_1 3 rfl rfl)
theorem dX0_tells_30 : decode cX0_tells 30 = .ok (.aload_n 0, 1) := dk_42 (dk_at dksX0_tells_1 6 rfl rfl)
theorem dX0_tells_31 : decode cX0_tells 31 = .ok (.aload_n 0, 1) := dk_42 (dk_at dksX0_tells_1 7 rfl rfl)
theorem dX0_tells_32 : decode cX0_tells 32 = .ok (.getfield 76, 3) := dk_180 0 76 (dk_at dksX0_tells_1 8 rfl rfl)
theorem dX0_tells_35 : decode cX0_tells 35 = .ok (.iload_n 1, 1) := dk_27 (dk_at dksX0_tells_1 11 rfl rfl)
theorem dX0_tells_36 : decode cX0_tells 36 = .ok (.iaload, 1) := dk_46 (dk_at dksX0_tells_1 12 rfl rfl)
theorem dX0_tells_37 : decode cX0_tells 37 = .ok (.ifCond .ne 8, 3) := dk_154 0 8 (dk_at dksX0_tells_1 13 rfl rfl)
theorem dX0_tells_40 : decode cX0_tells 40 = .ok (.bipush 6, 2) := dk_16 6 (dk_at dksX0_tells_1 16 rfl rfl)
theorem dX0_tells_42 : decode cX0_tells 42 = .ok (.goto 4, 3) := dk_167 0 4 (dk_at dksX0_tells_1 18 rfl rfl)
theorem dX0_tells_45 : decode cX0_tells 45 = .ok (.iconst 0, 1) := dk_3 (dk_at dksX0_tells_1 21 rfl rfl)
theorem dX0_tells_46 : decode cX0_tells 46 = .ok (.putfield 91, 3) := dk_181 0 91 (dk_at dksX0_tells_2 0 rfl rfl)
theorem dX0_tells_49 : decode cX0_tells 49 = .ok (.aload_n 0, 1) := dk_42 (dk_at dksX0_tells_2 3 rfl rfl)
theorem dX0_tells_50 : decode cX0_tells 50 = .ok (.getfield 91, 3) := dk_180 0 91 (dk_at dksX0_tells_2 4 rfl rfl)
theorem dX0_tells_53 : decode cX0_tells 53 = .ok (.ifCond .ne 22, 3) := dk_154 0 22 (dk_at dksX0_tells_2 7 rfl rfl)
theorem dX0_tells_56 : decode cX0_tells 56 = .ok (.aload_n 0, 1) := dk_42 (dk_at dksX0_tells_2 10 rfl rfl)
theorem dX0_tells_57 : decode cX0_tells 57 = .ok (.aload_n 0, 1) := dk_42 (dk_at dksX0_tells_2 11 rfl rfl)
theorem dX0_tells_58 : decode cX0_tells 58 = .ok (.getfield 79, 3) := dk_180 0 79 (dk_at dksX0_tells_2 12 rfl rfl)
theorem dX0_tells_61 : decode cX0_tells 61 = .ok (.iload_n 1, 1) := dk_27 (dk_at dksX0_tells_2 15 rfl rfl)
theorem dX0_tells_62 : decode cX0_tells 62 = .ok (.iaload, 1) := dk_46 (dk_at dksX0_tells_2 16 rfl rfl)
theorem dX0_tells_63 : decode cX0_tells 63 = .ok (.i2l, 1) := dk_133 (dk_at dksX0_tells_2 17 rfl rfl)
theorem dX0_tells_64 : decode cX0_tells 64 = .ok (.aload_n 0, 1) := dk_42 (dk_at dksX0_tells_2 18 rfl rfl)
theorem dX0_tells_65 : decode cX0_tells 65 = .ok (.getfield 76, 3) := dk_180 0 76 (dk_at dksX0_tells_2 19 rfl rfl)
theorem dX0_tells_68 : decode cX0_tells 68 = .ok (.iload_n 1, 1) := dk_27 (dk_at dksX0_tells_2 22 rfl rfl)
theorem dX0_tells_69 : decode cX0_tells 69 = .ok (.iaload, 1) := dk_46 (dk_at dksX0_tells_2 23 rfl rfl)
theorem dX0_tells_70 : decode cX0_tells 70 = .ok (.i2l, 1) := dk_133 (dk_at dksX0_tells_3 0 rfl rfl)
theorem dX0_tells_71 : decode cX0_tells 71 = .ok (.invokevirtual 406, 3) := dk_182 1 150 (dk_at dksX0_tells_3 1 rfl rfl)
theorem dX0_tells_74 : decode cX0_tells 74 = .ok (.pop, 1) := dk_87 (dk_at dksX0_tells_3 4 rfl rfl)
theorem dX0_tells_75 : decode cX0_tells 75 = .ok (.aload_n 0, 1) := dk_42 (dk_at dksX0_tells_3 5 rfl rfl)
theorem dX0_tells_76 : decode cX0_tells 76 = .ok (.getfield 91, 3) := dk_180 0 91 (dk_at dksX0_tells_3 6 rfl rfl)
theorem dX0_tells_79 : decode cX0_tells 79 = .ok (.ifCond .ne 7, 3) := dk_154 0 7 (dk_at dksX0_tells_3 9 rfl rfl)
theorem dX0_tells_82 : decode cX0_tells 82 = .ok (.iconst 1, 1) := dk_4 (dk_at dksX0_tells_3 12 rfl rfl)
theorem dX0_tells_83 : decode cX0_tells 83 = .ok (.goto 4, 3) := dk_167 0 4 (dk_at dksX0_tells_3 13 rfl rfl)
theorem dX0_tells_86 : decode cX0_tells 86 = .ok (.iconst 0, 1) := dk_3 (dk_at dksX0_tells_3 16 rfl rfl)
theorem dX0_tells_87 : decode cX0_tells 87 = .ok (.ireturn, 1) := dk_172 (dk_at dksX0_tells_3 17 rfl rfl)
abbrev cX0_mute : ByteArray := prog_1_method_76_code
def yX0_mute : MethodName := ⟨RX0, "mute", "()I"⟩
def dkwX0_mute_0 : List UInt8 := [42, 3, 181, 0, 91, 42, 182, 1, 172, 42, 180, 0, 76, 42, 182, 0, 168, 180, 0, 179, 46, 172]
abbrev dktX0_mute_0 : List UInt8 := dkwX0_mute_0 ++ []
theorem dksX0_mute_0 : cX0_mute.data.toList.drop 0 = dktX0_mute_0 := by decide +kernel
theorem dX0_mute_0 : decode cX0_mute 0 = .ok (.aload_n 0, 1) := dk_42 (dk_at dksX0_mute_0 0 rfl rfl)
theorem dX0_mute_1 : decode cX0_mute 1 = .ok (.iconst 0, 1) := dk_3 (dk_at dksX0_mute_0 1 rfl rfl)
theorem dX0_mute_2 : decode cX0_mute 2 = .ok (.putfield 91, 3) := dk_181 0 91 (dk_at dksX0_mute_0 2 rfl rfl)
theorem dX0_mute_5 : decode cX0_mute 5 = .ok (.aload_n 0, 1) := dk_42 (dk_at dksX0_mute_0 5 rfl rfl)
theorem dX0_mute_6 : decode cX0_mute 6 = .ok (.invokevirtual 428, 3) := dk_182 1 172 (dk_at dksX0_mute_0 6 rfl rfl)
theorem dX0_mute_9 : decode cX0_mute 9 = .ok (.aload_n 0, 1) := dk_42 (dk_at dksX0_mute_0 9 rfl rfl)
theorem dX0_mute_10 : decode cX0_mute 10 = .ok (.getfield 76, 3) := dk_180 0 76 (dk_at dksX0_mute_0 10 rfl rfl)
theorem dX0_mute_13 : decode cX0_mute 13 = .ok (.aload_n 0, 1) := dk_42 (dk_at dksX0_mute_0 13 rfl rfl)
theorem dX0_mute_14 : decode cX0_mute 14 = .ok (.invokevirtual 168, 3) := dk_182 0 168 (dk_at dksX0_mute_0 14 rfl rfl)
theorem dX0_mute_17 : decode cX0_mute 17 = .ok (.getfield 179, 3) := dk_180 0 179 (dk_at dksX0_mute_0 17 rfl rfl)
theorem dX0_mute_20 : decode cX0_mute 20 = .ok (.iaload, 1) := dk_46 (dk_at dksX0_mute_0 20 rfl rfl)
theorem dX0_mute_21 : decode cX0_mute 21 = .ok (.ireturn, 1) := dk_172 (dk_at dksX0_mute_0 21 rfl rfl)
abbrev cX0_verdict : ByteArray := prog_1_method_79_code
def yX0_verdict : MethodName := ⟨RX0, "verdict", "(I)Z"⟩
def dkwX0_verdict_2 : List UInt8 := [184, 1, 82, 184, 1, 182, 182, 1, 150, 87, 4, 172]
abbrev dktX0_verdict_2 : List UInt8 := dkwX0_verdict_2 ++ []
def dkwX0_verdict_1 : List UInt8 := [167, 0, 4, 4, 181, 0, 91, 42, 180, 0, 91, 158, 0, 5, 3, 172, 42, 42, 27, 182, 1, 178, 27]
abbrev dktX0_verdict_1 : List UInt8 := dkwX0_verdict_1 ++ dktX0_verdict_2
def dkwX0_verdict_0 : List UInt8 := [42, 27, 133, 10, 4, 42, 182, 0, 168, 180, 0, 188, 120, 4, 100, 133, 184, 0, 175, 153, 0, 7, 3]
abbrev dktX0_verdict_0 : List UInt8 := dkwX0_verdict_0 ++ dktX0_verdict_1
theorem dksX0_verdict_0 : cX0_verdict.data.toList.drop 0 = dktX0_verdict_0 := by decide +kernel
theorem dksX0_verdict_1 : cX0_verdict.data.toList.drop 23 = dktX0_verdict_1 := dk_seg dksX0_verdict_0 23 rfl rfl
theorem dksX0_verdict_2 : cX0_verdict.data.toList.drop 46 = dktX0_verdict_2 := dk_seg dksX0_verdict_1 23 rfl rfl
theorem dX0_verdict_0 : decode cX0_verdict 0 = .ok (.aload_n 0, 1) := dk_42 (dk_at dksX0_verdict_0 0 rfl rfl)
theorem dX0_verdict_1 : decode cX0_verdict 1 = .ok (.iload_n 1, 1) := dk_27 (dk_at dksX0_verdict_0 1 rfl rfl)
theorem dX0_verdict_2 : decode cX0_verdict 2 = .ok (.i2l, 1) := dk_133 (dk_at dksX0_verdict_0 2 rfl rfl)
theorem dX0_verdict_3 : decode cX0_verdict 3 = .ok (.lconst 1, 1) := dk_10 (dk_at dksX0_verdict_0 3 rfl rfl)
theorem dX0_verdict_4 : decode cX0_verdict 4 = .ok (.iconst 1, 1) := dk_4 (dk_at dksX0_verdict_0 4 rfl rfl)
theorem dX0_verdict_5 : decode cX0_verdict 5 = .ok (.aload_n 0, 1) := dk_42 (dk_at dksX0_verdict_0 5 rfl rfl)
theorem dX0_verdict_6 : decode cX0_verdict 6 = .ok (.invokevirtual 168, 3) := dk_182 0 168 (dk_at dksX0_verdict_0 6 rfl rfl)
theorem dX0_verdict_9 : decode cX0_verdict 9 = .ok (.getfield 188, 3) := dk_180 0 188 (dk_at dksX0_verdict_0 9 rfl rfl)
theorem dX0_verdict_12 : decode cX0_verdict 12 = .ok (.ishl, 1) := dk_120 (dk_at dksX0_verdict_0 12 rfl rfl)
theorem dX0_verdict_13 : decode cX0_verdict 13 = .ok (.iconst 1, 1) := dk_4 (dk_at dksX0_verdict_0 13 rfl rfl)
theorem dX0_verdict_14 : decode cX0_verdict 14 = .ok (.isub, 1) := dk_100 (dk_at dksX0_verdict_0 14 rfl rfl)
theorem dX0_verdict_15 : decode cX0_verdict 15 = .ok (.i2l, 1) := dk_133 (dk_at dksX0_verdict_0 15 rfl rfl)
theorem dX0_verdict_16 : decode cX0_verdict 16 = .ok (.invokestatic 175, 3) := dk_184 0 175 (dk_at dksX0_verdict_0 16 rfl rfl)
theorem dX0_verdict_19 : decode cX0_verdict 19 = .ok (.ifCond .eq 7, 3) := dk_153 0 7 (dk_at dksX0_verdict_0 19 rfl rfl)
theorem dX0_verdict_22 : decode cX0_verdict 22 = .ok (.iconst 0, 1) := dk_3 (dk_at dksX0_verdict_0 22 rfl rfl)
theorem dX0_verdict_23 : decode cX0_verdict 23 = .ok (.goto 4, 3) := dk_167 0 4 (dk_at dksX0_verdict_1 0 rfl rfl)
theorem dX0_verdict_26 : decode cX0_verdict 26 = .ok (.iconst 1, 1) := dk_4 (dk_at dksX0_verdict_1 3 rfl rfl)
theorem dX0_verdict_27 : decode cX0_verdict 27 = .ok (.putfield 91, 3) := dk_181 0 91 (dk_at dksX0_verdict_1 4 rfl rfl)
theorem dX0_verdict_30 : decode cX0_verdict 30 = .ok (.aload_n 0, 1) := dk_42 (dk_at dksX0_verdict_1 7 rfl rfl)
theorem dX0_verdict_31 : decode cX0_verdict 31 = .ok (.getfield 91, 3) := dk_180 0 91 (dk_at dksX0_verdict_1 8 rfl rfl)
theorem dX0_verdict_34 : decode cX0_verdict 34 = .ok (.ifCond .le 5, 3) := dk_158 0 5 (dk_at dksX0_verdict_1 11 rfl rfl)
theorem dX0_verdict_37 : decode cX0_verdict 37 = .ok (.iconst 0, 1) := dk_3 (dk_at dksX0_verdict_1 14 rfl rfl)
theorem dX0_verdict_38 : decode cX0_verdict 38 = .ok (.ireturn, 1) := dk_172 (dk_at dksX0_verdict_1 15 rfl rfl)
theorem dX0_verdict_39 : decode cX0_verdict 39 = .ok (.aload_n 0, 1) := dk_42 (dk_at dksX0_verdict_1 16 rfl rfl)
theorem dX0_verdict_40 : decode cX0_verdict 40 = .ok (.aload_n 0, 1) := dk_42 (dk_at dksX0_verdict_1 17 rfl rfl)
theorem dX0_verdict_41 : decode cX0_verdict 41 = .ok (.iload_n 1, 1) := dk_27 (dk_at dksX0_verdict_1 18 rfl rfl)
theorem dX0_verdict_42 : decode cX0_verdict 42 = .ok (.invokevirtual 434, 3) := dk_182 1 178 (dk_at dksX0_verdict_1 19 rfl rfl)
theorem dX0_verdict_45 : decode cX0_verdict 45 = .ok (.iload_n 1, 1) := dk_27 (dk_at dksX0_verdict_1 22 rfl rfl)
theorem dX0_verdict_46 : decode cX0_verdict 46 = .ok (.invokestatic 338, 3) := dk_184 1 82 (dk_at dksX0_verdict_2 0 rfl rfl)
theorem dX0_verdict_49 : decode cX0_verdict 49 = .ok (.invokestatic 438, 3) := dk_184 1 182 (dk_at dksX0_verdict_2 3 rfl rfl)
theorem dX0_verdict_52 : decode cX0_verdict 52 = .ok (.invokevirtual 406, 3) := dk_182 1 150 (dk_at dksX0_verdict_2 6 rfl rfl)
theorem dX0_verdict_55 : decode cX0_verdict 55 = .ok (.pop, 1) := dk_87 (dk_at dksX0_verdict_2 9 rfl rfl)
theorem dX0_verdict_56 : decode cX0_verdict 56 = .ok (.iconst 1, 1) := dk_4 (dk_at dksX0_verdict_2 10 rfl rfl)
theorem dX0_verdict_57 : decode cX0_verdict 57 = .ok (.ireturn, 1) := dk_172 (dk_at dksX0_verdict_2 11 rfl rfl)
abbrev cX0_verdicts : ByteArray := prog_1_method_77_code
def yX0_verdicts : MethodName := ⟨RX0, "verdicts", "(I)J"⟩
def dkwX0_verdicts_8 : List UInt8 := [28, 164, 0, 8, 22, 6, 167, 0, 4, 9, 97, 66, 132, 5, 1, 167, 255, 107, 33, 173]
abbrev dktX0_verdicts_8 : List UInt8 := dkwX0_verdicts_8 ++ []
def dkwX0_verdicts_7 : List UInt8 := [180, 1, 70, 21, 9, 46, 167, 0, 4, 3, 96, 54, 8, 132, 9, 1, 167, 255, 157, 33, 5, 21, 8, 104]
abbrev dktX0_verdicts_7 : List UInt8 := dkwX0_verdicts_7 ++ dktX0_verdicts_8
def dkwX0_verdicts_6 : List UInt8 := [21, 9, 46, 133, 105, 55, 6, 21, 8, 21, 5, 21, 9, 184, 1, 175, 153, 0, 16, 42, 182, 0, 168]
abbrev dktX0_verdicts_6 : List UInt8 := dkwX0_verdicts_6 ++ dktX0_verdicts_7
def dkwX0_verdicts_5 : List UInt8 := [16, 16, 42, 182, 0, 168, 180, 1, 67, 21, 9, 46, 100, 133, 167, 0, 14, 42, 182, 0, 168, 180, 1, 67]
abbrev dktX0_verdicts_5 : List UInt8 := dkwX0_verdicts_5 ++ dktX0_verdicts_6
def dkwX0_verdicts_4 : List UInt8 := [27, 21, 9, 184, 1, 175, 154, 0, 6, 167, 0, 75, 22, 6, 21, 5, 21, 9, 184, 1, 175, 153, 0, 20]
abbrev dktX0_verdicts_4 : List UInt8 := dkwX0_verdicts_4 ++ dktX0_verdicts_5
def dkwX0_verdicts_3 : List UInt8 := [167, 0, 131, 10, 55, 6, 3, 54, 8, 3, 54, 9, 21, 9, 42, 182, 0, 168, 180, 0, 188, 162, 0, 93]
abbrev dktX0_verdicts_3 : List UInt8 := dkwX0_verdicts_3 ++ dktX0_verdicts_4
def dkwX0_verdicts_2 : List UInt8 := [132, 5, 1, 167, 255, 215, 3, 54, 5, 21, 5, 27, 163, 0, 149, 21, 5, 27, 2, 130, 126, 153, 0, 6]
abbrev dktX0_verdicts_2 : List UInt8 := dkwX0_verdicts_2 ++ dktX0_verdicts_3
def dkwX0_verdicts_1 : List UInt8 := [184, 1, 175, 153, 0, 16, 42, 182, 0, 168, 180, 1, 70, 21, 5, 46, 167, 0, 4, 3, 96, 61]
abbrev dktX0_verdicts_1 : List UInt8 := dkwX0_verdicts_1 ++ dktX0_verdicts_2
def dkwX0_verdicts_0 : List UInt8 := [3, 61, 9, 66, 3, 54, 5, 21, 5, 42, 182, 0, 168, 180, 0, 188, 162, 0, 35, 28, 27, 21, 5]
abbrev dktX0_verdicts_0 : List UInt8 := dkwX0_verdicts_0 ++ dktX0_verdicts_1
theorem dksX0_verdicts_0 : cX0_verdicts.data.toList.drop 0 = dktX0_verdicts_0 := by decide +kernel
theorem dksX0_verdicts_1 : cX0_verdicts.data.toList.drop 23 = dktX0_verdicts_1 := dk_seg dksX0_verdicts_0 23 rfl rfl
theorem dksX0_verdicts_2 : cX0_verdicts.data.toList.drop 45 = dktX0_verdicts_2 := dk_seg dksX0_verdicts_1 22 rfl rfl
theorem dksX0_verdicts_3 : cX0_verdicts.data.toList.drop 69 = dktX0_verdicts_3 := dk_seg dksX0_verdicts_2 24 rfl rfl
theorem dksX0_verdicts_4 : cX0_verdicts.data.toList.drop 93 = dktX0_verdicts_4 := dk_seg dksX0_verdicts_3 24 rfl rfl
theorem dksX0_verdicts_5 : cX0_verdicts.data.toList.drop 117 = dktX0_verdicts_5 := dk_seg dksX0_verdicts_4 24 rfl rfl
theorem dksX0_verdicts_6 : cX0_verdicts.data.toList.drop 141 = dktX0_verdicts_6 := dk_seg dksX0_verdicts_5 24 rfl rfl
theorem dksX0_verdicts_7 : cX0_verdicts.data.toList.drop 164 = dktX0_verdicts_7 := dk_seg dksX0_verdicts_6 23 rfl rfl
theorem dksX0_verdicts_8 : cX0_verdicts.data.toList.drop 188 = dktX0_verdicts_8 := dk_seg dksX0_verdicts_7 24 rfl rfl
theorem dX0_verdicts_0 : decode cX0_verdicts 0 = .ok (.iconst 0, 1) := dk_3 (dk_at dksX0_verdicts_0 0 rfl rfl)
theorem dX0_verdicts_1 : decode cX0_verdicts 1 = .ok (.istore_n 2, 1) := dk_61 (dk_at dksX0_verdicts_0 1 rfl rfl)
theorem dX0_verdicts_2 : decode cX0_verdicts 2 = .ok (.lconst 0, 1) := dk_9 (dk_at dksX0_verdicts_0 2 rfl rfl)
theorem dX0_verdicts_3 : decode cX0_verdicts 3 = .ok (.lstore_n 3, 1) := dk_66 (dk_at dksX0_verdicts_0 3 rfl rfl)
theorem dX0_verdicts_4 : decode cX0_verdicts 4 = .ok (.iconst 0, 1) := dk_3 (dk_at dksX0_verdicts_0 4 rfl rfl)
theorem dX0_verdicts_5 : decode cX0_verdicts 5 = .ok (.istore 5, 2) := dk_54 5 (dk_at dksX0_verdicts_0 5 rfl rfl)
theorem dX0_verdicts_7 : decode cX0_verdicts 7 = .ok (.iload 5, 2) := dk_21 5 (dk_at dksX0_verdicts_0 7 rfl rfl)
theorem dX0_verdicts_9 : decode cX0_verdicts 9 = .ok (.aload_n 0, 1) := dk_42 (dk_at dksX0_verdicts_0 9 rfl rfl)
theorem dX0_verdicts_10 : decode cX0_verdicts 10 = .ok (.invokevirtual 168, 3) := dk_182 0 168 (dk_at dksX0_verdicts_0 10 rfl rfl)
theorem dX0_verdicts_13 : decode cX0_verdicts 13 = .ok (.getfield 188, 3) := dk_180 0 188 (dk_at dksX0_verdicts_0 13 rfl rfl)
theorem dX0_verdicts_16 : decode cX0_verdicts 16 = .ok (.if_icmp .ge 35, 3) := dk_162 0 35 (dk_at dksX0_verdicts_0 16 rfl rfl)
theorem dX0_verdicts_19 : decode cX0_verdicts 19 = .ok (.iload_n 2, 1) := dk_28 (dk_at dksX0_verdicts_0 19 rfl rfl)
theorem dX0_verdicts_20 : decode cX0_verdicts 20 = .ok (.iload_n 1, 1) := dk_27 (dk_at dksX0_verdicts_0 20 rfl rfl)
theorem dX0_verdicts_21 : decode cX0_verdicts 21 = .ok (.iload 5, 2) := dk_21 5 (dk_at dksX0_verdicts_0 21 rfl rfl)
theorem dX0_verdicts_23 : decode cX0_verdicts 23 = .ok (.invokestatic 431, 3) := dk_184 1 175 (dk_at dksX0_verdicts_1 0 rfl rfl)
theorem dX0_verdicts_26 : decode cX0_verdicts 26 = .ok (.ifCond .eq 16, 3) := dk_153 0 16 (dk_at dksX0_verdicts_1 3 rfl rfl)
theorem dX0_verdicts_29 : decode cX0_verdicts 29 = .ok (.aload_n 0, 1) := dk_42 (dk_at dksX0_verdicts_1 6 rfl rfl)
theorem dX0_verdicts_30 : decode cX0_verdicts 30 = .ok (.invokevirtual 168, 3) := dk_182 0 168 (dk_at dksX0_verdicts_1 7 rfl rfl)
theorem dX0_verdicts_33 : decode cX0_verdicts 33 = .ok (.getfield 326, 3) := dk_180 1 70 (dk_at dksX0_verdicts_1 10 rfl rfl)
theorem dX0_verdicts_36 : decode cX0_verdicts 36 = .ok (.iload 5, 2) := dk_21 5 (dk_at dksX0_verdicts_1 13 rfl rfl)
theorem dX0_verdicts_38 : decode cX0_verdicts 38 = .ok (.iaload, 1) := dk_46 (dk_at dksX0_verdicts_1 15 rfl rfl)
theorem dX0_verdicts_39 : decode cX0_verdicts 39 = .ok (.goto 4, 3) := dk_167 0 4 (dk_at dksX0_verdicts_1 16 rfl rfl)
theorem dX0_verdicts_42 : decode cX0_verdicts 42 = .ok (.iconst 0, 1) := dk_3 (dk_at dksX0_verdicts_1 19 rfl rfl)
theorem dX0_verdicts_43 : decode cX0_verdicts 43 = .ok (.iadd, 1) := dk_96 (dk_at dksX0_verdicts_1 20 rfl rfl)
theorem dX0_verdicts_44 : decode cX0_verdicts 44 = .ok (.istore_n 2, 1) := dk_61 (dk_at dksX0_verdicts_1 21 rfl rfl)
theorem dX0_verdicts_45 : decode cX0_verdicts 45 = .ok (.iinc 5 1, 3) := dk_132 5 1 (dk_at dksX0_verdicts_2 0 rfl rfl)
theorem dX0_verdicts_48 : decode cX0_verdicts 48 = .ok (.goto (-41), 3) := dk_167 255 215 (dk_at dksX0_verdicts_2 3 rfl rfl)
theorem dX0_verdicts_51 : decode cX0_verdicts 51 = .ok (.iconst 0, 1) := dk_3 (dk_at dksX0_verdicts_2 6 rfl rfl)
theorem dX0_verdicts_52 : decode cX0_verdicts 52 = .ok (.istore 5, 2) := dk_54 5 (dk_at dksX0_verdicts_2 7 rfl rfl)
theorem dX0_verdicts_54 : decode cX0_verdicts 54 = .ok (.iload 5, 2) := dk_21 5 (dk_at dksX0_verdicts_2 9 rfl rfl)
theorem dX0_verdicts_56 : decode cX0_verdicts 56 = .ok (.iload_n 1, 1) := dk_27 (dk_at dksX0_verdicts_2 11 rfl rfl)
theorem dX0_verdicts_57 : decode cX0_verdicts 57 = .ok (.if_icmp .gt 149, 3) := dk_163 0 149 (dk_at dksX0_verdicts_2 12 rfl rfl)
theorem dX0_verdicts_60 : decode cX0_verdicts 60 = .ok (.iload 5, 2) := dk_21 5 (dk_at dksX0_verdicts_2 15 rfl rfl)
theorem dX0_verdicts_62 : decode cX0_verdicts 62 = .ok (.iload_n 1, 1) := dk_27 (dk_at dksX0_verdicts_2 17 rfl rfl)
theorem dX0_verdicts_63 : decode cX0_verdicts 63 = .ok (.iconst (-1), 1) := dk_2 (dk_at dksX0_verdicts_2 18 rfl rfl)
theorem dX0_verdicts_64 : decode cX0_verdicts 64 = .ok (.ixor, 1) := dk_130 (dk_at dksX0_verdicts_2 19 rfl rfl)
theorem dX0_verdicts_65 : decode cX0_verdicts 65 = .ok (.iand, 1) := dk_126 (dk_at dksX0_verdicts_2 20 rfl rfl)
theorem dX0_verdicts_66 : decode cX0_verdicts 66 = .ok (.ifCond .eq 6, 3) := dk_153 0 6 (dk_at dksX0_verdicts_2 21 rfl rfl)
theorem dX0_verdicts_69 : decode cX0_verdicts 69 = .ok (.goto 131, 3) := dk_167 0 131 (dk_at dksX0_verdicts_3 0 rfl rfl)
theorem dX0_verdicts_72 : decode cX0_verdicts 72 = .ok (.lconst 1, 1) := dk_10 (dk_at dksX0_verdicts_3 3 rfl rfl)
theorem dX0_verdicts_73 : decode cX0_verdicts 73 = .ok (.lstore 6, 2) := dk_55 6 (dk_at dksX0_verdicts_3 4 rfl rfl)
theorem dX0_verdicts_75 : decode cX0_verdicts 75 = .ok (.iconst 0, 1) := dk_3 (dk_at dksX0_verdicts_3 6 rfl rfl)
theorem dX0_verdicts_76 : decode cX0_verdicts 76 = .ok (.istore 8, 2) := dk_54 8 (dk_at dksX0_verdicts_3 7 rfl rfl)
theorem dX0_verdicts_78 : decode cX0_verdicts 78 = .ok (.iconst 0, 1) := dk_3 (dk_at dksX0_verdicts_3 9 rfl rfl)
theorem dX0_verdicts_79 : decode cX0_verdicts 79 = .ok (.istore 9, 2) := dk_54 9 (dk_at dksX0_verdicts_3 10 rfl rfl)
theorem dX0_verdicts_81 : decode cX0_verdicts 81 = .ok (.iload 9, 2) := dk_21 9 (dk_at dksX0_verdicts_3 12 rfl rfl)
theorem dX0_verdicts_83 : decode cX0_verdicts 83 = .ok (.aload_n 0, 1) := dk_42 (dk_at dksX0_verdicts_3 14 rfl rfl)
theorem dX0_verdicts_84 : decode cX0_verdicts 84 = .ok (.invokevirtual 168, 3) := dk_182 0 168 (dk_at dksX0_verdicts_3 15 rfl rfl)
theorem dX0_verdicts_87 : decode cX0_verdicts 87 = .ok (.getfield 188, 3) := dk_180 0 188 (dk_at dksX0_verdicts_3 18 rfl rfl)
theorem dX0_verdicts_90 : decode cX0_verdicts 90 = .ok (.if_icmp .ge 93, 3) := dk_162 0 93 (dk_at dksX0_verdicts_3 21 rfl rfl)
theorem dX0_verdicts_93 : decode cX0_verdicts 93 = .ok (.iload_n 1, 1) := dk_27 (dk_at dksX0_verdicts_4 0 rfl rfl)
theorem dX0_verdicts_94 : decode cX0_verdicts 94 = .ok (.iload 9, 2) := dk_21 9 (dk_at dksX0_verdicts_4 1 rfl rfl)
theorem dX0_verdicts_96 : decode cX0_verdicts 96 = .ok (.invokestatic 431, 3) := dk_184 1 175 (dk_at dksX0_verdicts_4 3 rfl rfl)
theorem dX0_verdicts_99 : decode cX0_verdicts 99 = .ok (.ifCond .ne 6, 3) := dk_154 0 6 (dk_at dksX0_verdicts_4 6 rfl rfl)
theorem dX0_verdicts_102 : decode cX0_verdicts 102 = .ok (.goto 75, 3) := dk_167 0 75 (dk_at dksX0_verdicts_4 9 rfl rfl)
theorem dX0_verdicts_105 : decode cX0_verdicts 105 = .ok (.lload 6, 2) := dk_22 6 (dk_at dksX0_verdicts_4 12 rfl rfl)
theorem dX0_verdicts_107 : decode cX0_verdicts 107 = .ok (.iload 5, 2) := dk_21 5 (dk_at dksX0_verdicts_4 14 rfl rfl)
theorem dX0_verdicts_109 : decode cX0_verdicts 109 = .ok (.iload 9, 2) := dk_21 9 (dk_at dksX0_verdicts_4 16 rfl rfl)
theorem dX0_verdicts_111 : decode cX0_verdicts 111 = .ok (.invokestatic 431, 3) := dk_184 1 175 (dk_at dksX0_verdicts_4 18 rfl rfl)
theorem dX0_verdicts_114 : decode cX0_verdicts 114 = .ok (.ifCond .eq 20, 3) := dk_153 0 20 (dk_at dksX0_verdicts_4 21 rfl rfl)
theorem dX0_verdicts_117 : decode cX0_verdicts 117 = .ok (.bipush 16, 2) := dk_16 16 (dk_at dksX0_verdicts_5 0 rfl rfl)
theorem dX0_verdicts_119 : decode cX0_verdicts 119 = .ok (.aload_n 0, 1) := dk_42 (dk_at dksX0_verdicts_5 2 rfl rfl)
theorem dX0_verdicts_120 : decode cX0_verdicts 120 = .ok (.invokevirtual 168, 3) := dk_182 0 168 (dk_at dksX0_verdicts_5 3 rfl rfl)
theorem dX0_verdicts_123 : decode cX0_verdicts 123 = .ok (.getfield 323, 3) := dk_180 1 67 (dk_at dksX0_verdicts_5 6 rfl rfl)
theorem dX0_verdicts_126 : decode cX0_verdicts 126 = .ok (.iload 9, 2) := dk_21 9 (dk_at dksX0_verdicts_5 9 rfl rfl)
theorem dX0_verdicts_128 : decode cX0_verdicts 128 = .ok (.iaload, 1) := dk_46 (dk_at dksX0_verdicts_5 11 rfl rfl)
theorem dX0_verdicts_129 : decode cX0_verdicts 129 = .ok (.isub, 1) := dk_100 (dk_at dksX0_verdicts_5 12 rfl rfl)
theorem dX0_verdicts_130 : decode cX0_verdicts 130 = .ok (.i2l, 1) := dk_133 (dk_at dksX0_verdicts_5 13 rfl rfl)
theorem dX0_verdicts_131 : decode cX0_verdicts 131 = .ok (.goto 14, 3) := dk_167 0 14 (dk_at dksX0_verdicts_5 14 rfl rfl)
theorem dX0_verdicts_134 : decode cX0_verdicts 134 = .ok (.aload_n 0, 1) := dk_42 (dk_at dksX0_verdicts_5 17 rfl rfl)
theorem dX0_verdicts_135 : decode cX0_verdicts 135 = .ok (.invokevirtual 168, 3) := dk_182 0 168 (dk_at dksX0_verdicts_5 18 rfl rfl)
theorem dX0_verdicts_138 : decode cX0_verdicts 138 = .ok (.getfield 323, 3) := dk_180 1 67 (dk_at dksX0_verdicts_5 21 rfl rfl)
theorem dX0_verdicts_141 : decode cX0_verdicts 141 = .ok (.iload 9, 2) := dk_21 9 (dk_at dksX0_verdicts_6 0 rfl rfl)
theorem dX0_verdicts_143 : decode cX0_verdicts 143 = .ok (.iaload, 1) := dk_46 (dk_at dksX0_verdicts_6 2 rfl rfl)
theorem dX0_verdicts_144 : decode cX0_verdicts 144 = .ok (.i2l, 1) := dk_133 (dk_at dksX0_verdicts_6 3 rfl rfl)
theorem dX0_verdicts_145 : decode cX0_verdicts 145 = .ok (.lmul, 1) := dk_105 (dk_at dksX0_verdicts_6 4 rfl rfl)
theorem dX0_verdicts_146 : decode cX0_verdicts 146 = .ok (.lstore 6, 2) := dk_55 6 (dk_at dksX0_verdicts_6 5 rfl rfl)
theorem dX0_verdicts_148 : decode cX0_verdicts 148 = .ok (.iload 8, 2) := dk_21 8 (dk_at dksX0_verdicts_6 7 rfl rfl)
theorem dX0_verdicts_150 : decode cX0_verdicts 150 = .ok (.iload 5, 2) := dk_21 5 (dk_at dksX0_verdicts_6 9 rfl rfl)
theorem dX0_verdicts_152 : decode cX0_verdicts 152 = .ok (.iload 9, 2) := dk_21 9 (dk_at dksX0_verdicts_6 11 rfl rfl)
theorem dX0_verdicts_154 : decode cX0_verdicts 154 = .ok (.invokestatic 431, 3) := dk_184 1 175 (dk_at dksX0_verdicts_6 13 rfl rfl)
theorem dX0_verdicts_157 : decode cX0_verdicts 157 = .ok (.ifCond .eq 16, 3) := dk_153 0 16 (dk_at dksX0_verdicts_6 16 rfl rfl)
theorem dX0_verdicts_160 : decode cX0_verdicts 160 = .ok (.aload_n 0, 1) := dk_42 (dk_at dksX0_verdicts_6 19 rfl rfl)
theorem dX0_verdicts_161 : decode cX0_verdicts 161 = .ok (.invokevirtual 168, 3) := dk_182 0 168 (dk_at dksX0_verdicts_6 20 rfl rfl)
theorem dX0_verdicts_164 : decode cX0_verdicts 164 = .ok (.getfield 326, 3) := dk_180 1 70 (dk_at dksX0_verdicts_7 0 rfl rfl)
theorem dX0_verdicts_167 : decode cX0_verdicts 167 = .ok (.iload 9, 2) := dk_21 9 (dk_at dksX0_verdicts_7 3 rfl rfl)
theorem dX0_verdicts_169 : decode cX0_verdicts 169 = .ok (.iaload, 1) := dk_46 (dk_at dksX0_verdicts_7 5 rfl rfl)
theorem dX0_verdicts_170 : decode cX0_verdicts 170 = .ok (.goto 4, 3) := dk_167 0 4 (dk_at dksX0_verdicts_7 6 rfl rfl)
theorem dX0_verdicts_173 : decode cX0_verdicts 173 = .ok (.iconst 0, 1) := dk_3 (dk_at dksX0_verdicts_7 9 rfl rfl)
theorem dX0_verdicts_174 : decode cX0_verdicts 174 = .ok (.iadd, 1) := dk_96 (dk_at dksX0_verdicts_7 10 rfl rfl)
theorem dX0_verdicts_175 : decode cX0_verdicts 175 = .ok (.istore 8, 2) := dk_54 8 (dk_at dksX0_verdicts_7 11 rfl rfl)
theorem dX0_verdicts_177 : decode cX0_verdicts 177 = .ok (.iinc 9 1, 3) := dk_132 9 1 (dk_at dksX0_verdicts_7 13 rfl rfl)
theorem dX0_verdicts_180 : decode cX0_verdicts 180 = .ok (.goto (-99), 3) := dk_167 255 157 (dk_at dksX0_verdicts_7 16 rfl rfl)
theorem dX0_verdicts_183 : decode cX0_verdicts 183 = .ok (.lload_n 3, 1) := dk_33 (dk_at dksX0_verdicts_7 19 rfl rfl)
theorem dX0_verdicts_184 : decode cX0_verdicts 184 = .ok (.iconst 2, 1) := dk_5 (dk_at dksX0_verdicts_7 20 rfl rfl)
theorem dX0_verdicts_185 : decode cX0_verdicts 185 = .ok (.iload 8, 2) := dk_21 8 (dk_at dksX0_verdicts_7 21 rfl rfl)
theorem dX0_verdicts_187 : decode cX0_verdicts 187 = .ok (.imul, 1) := dk_104 (dk_at dksX0_verdicts_7 23 rfl rfl)
theorem dX0_verdicts_188 : decode cX0_verdicts 188 = .ok (.iload_n 2, 1) := dk_28 (dk_at dksX0_verdicts_8 0 rfl rfl)
theorem dX0_verdicts_189 : decode cX0_verdicts 189 = .ok (.if_icmp .le 8, 3) := dk_164 0 8 (dk_at dksX0_verdicts_8 1 rfl rfl)
theorem dX0_verdicts_192 : decode cX0_verdicts 192 = .ok (.lload 6, 2) := dk_22 6 (dk_at dksX0_verdicts_8 4 rfl rfl)
theorem dX0_verdicts_194 : decode cX0_verdicts 194 = .ok (.goto 4, 3) := dk_167 0 4 (dk_at dksX0_verdicts_8 6 rfl rfl)
theorem dX0_verdicts_197 : decode cX0_verdicts 197 = .ok (.lconst 0, 1) := dk_9 (dk_at dksX0_verdicts_8 9 rfl rfl)
theorem dX0_verdicts_198 : decode cX0_verdicts 198 = .ok (.ladd, 1) := dk_97 (dk_at dksX0_verdicts_8 10 rfl rfl)
theorem dX0_verdicts_199 : decode cX0_verdicts 199 = .ok (.lstore_n 3, 1) := dk_66 (dk_at dksX0_verdicts_8 11 rfl rfl)
theorem dX0_verdicts_200 : decode cX0_verdicts 200 = .ok (.iinc 5 1, 3) := dk_132 5 1 (dk_at dksX0_verdicts_8 12 rfl rfl)
theorem dX0_verdicts_203 : decode cX0_verdicts 203 = .ok (.goto (-149), 3) := dk_167 255 107 (dk_at dksX0_verdicts_8 15 rfl rfl)
theorem dX0_verdicts_206 : decode cX0_verdicts 206 = .ok (.lload_n 3, 1) := dk_33 (dk_at dksX0_verdicts_8 18 rfl rfl)
theorem dX0_verdicts_207 : decode cX0_verdicts 207 = .ok (.lreturn, 1) := dk_173 (dk_at dksX0_verdicts_8 19 rfl rfl)
abbrev cX0_sixteenths : ByteArray := prog_1_method_78_code
def yX0_sixteenths : MethodName := ⟨RX0, "sixteenths", "(I)J"⟩
def dkwX0_sixteenths_0 : List UInt8 := [10, 64, 3, 62, 29, 26, 162, 0, 15, 31, 20, 1, 106, 105, 64, 132, 3, 1, 167, 255, 242, 31, 173]
abbrev dktX0_sixteenths_0 : List UInt8 := dkwX0_sixteenths_0 ++ []
theorem dksX0_sixteenths_0 : cX0_sixteenths.data.toList.drop 0 = dktX0_sixteenths_0 := by decide +kernel
theorem dX0_sixteenths_0 : decode cX0_sixteenths 0 = .ok (.lconst 1, 1) := dk_10 (dk_at dksX0_sixteenths_0 0 rfl rfl)
theorem dX0_sixteenths_1 : decode cX0_sixteenths 1 = .ok (.lstore_n 1, 1) := dk_64 (dk_at dksX0_sixteenths_0 1 rfl rfl)
theorem dX0_sixteenths_2 : decode cX0_sixteenths 2 = .ok (.iconst 0, 1) := dk_3 (dk_at dksX0_sixteenths_0 2 rfl rfl)
theorem dX0_sixteenths_3 : decode cX0_sixteenths 3 = .ok (.istore_n 3, 1) := dk_62 (dk_at dksX0_sixteenths_0 3 rfl rfl)
theorem dX0_sixteenths_4 : decode cX0_sixteenths 4 = .ok (.iload_n 3, 1) := dk_29 (dk_at dksX0_sixteenths_0 4 rfl rfl)
theorem dX0_sixteenths_5 : decode cX0_sixteenths 5 = .ok (.iload_n 0, 1) := dk_26 (dk_at dksX0_sixteenths_0 5 rfl rfl)
theorem dX0_sixteenths_6 : decode cX0_sixteenths 6 = .ok (.if_icmp .ge 15, 3) := dk_162 0 15 (dk_at dksX0_sixteenths_0 6 rfl rfl)
theorem dX0_sixteenths_9 : decode cX0_sixteenths 9 = .ok (.lload_n 1, 1) := dk_31 (dk_at dksX0_sixteenths_0 9 rfl rfl)
theorem dX0_sixteenths_10 : decode cX0_sixteenths 10 = .ok (.ldc2_w 362, 3) := dk_20 1 106 (dk_at dksX0_sixteenths_0 10 rfl rfl)
theorem dX0_sixteenths_13 : decode cX0_sixteenths 13 = .ok (.lmul, 1) := dk_105 (dk_at dksX0_sixteenths_0 13 rfl rfl)
theorem dX0_sixteenths_14 : decode cX0_sixteenths 14 = .ok (.lstore_n 1, 1) := dk_64 (dk_at dksX0_sixteenths_0 14 rfl rfl)
theorem dX0_sixteenths_15 : decode cX0_sixteenths 15 = .ok (.iinc 3 1, 3) := dk_132 3 1 (dk_at dksX0_sixteenths_0 15 rfl rfl)
theorem dX0_sixteenths_18 : decode cX0_sixteenths 18 = .ok (.goto (-14), 3) := dk_167 255 242 (dk_at dksX0_sixteenths_0 18 rfl rfl)
theorem dX0_sixteenths_21 : decode cX0_sixteenths 21 = .ok (.lload_n 1, 1) := dk_31 (dk_at dksX0_sixteenths_0 21 rfl rfl)
theorem dX0_sixteenths_22 : decode cX0_sixteenths 22 = .ok (.lreturn, 1) := dk_173 (dk_at dksX0_sixteenths_0 22 rfl rfl)
abbrev cX0_sworn : ByteArray := prog_1_method_80_code
def yX0_sworn : MethodName := ⟨RX0, "sworn", "(I)I"⟩
def dkwX0_sworn_4 : List UInt8 := [167, 255, 205, 42, 28, 182, 1, 36, 172]
abbrev dktX0_sworn_4 : List UInt8 := dkwX0_sworn_4 ++ []
def dkwX0_sworn_3 : List UInt8 := [180, 1, 187, 148, 157, 0, 6, 167, 0, 14, 42, 42, 29, 182, 1, 178, 181, 1, 187, 29, 61, 132, 3, 1]
abbrev dktX0_sworn_3 : List UInt8 := dkwX0_sworn_3 ++ dktX0_sworn_4
def dkwX0_sworn_2 : List UInt8 := [182, 0, 168, 180, 0, 188, 120, 162, 0, 44, 29, 184, 1, 82, 27, 160, 0, 30, 42, 29, 182, 1, 178, 42]
abbrev dktX0_sworn_2 : List UInt8 := dkwX0_sworn_2 ++ dktX0_sworn_3
def dkwX0_sworn_1 : List UInt8 := [180, 0, 91, 158, 0, 5, 2, 172, 2, 61, 42, 20, 0, 147, 181, 1, 187, 3, 62, 29, 4, 42]
abbrev dktX0_sworn_1 : List UInt8 := dkwX0_sworn_1 ++ dktX0_sworn_2
def dkwX0_sworn_0 : List UInt8 := [42, 27, 133, 10, 20, 1, 185, 184, 0, 175, 153, 0, 7, 3, 167, 0, 4, 4, 181, 0, 91, 42]
abbrev dktX0_sworn_0 : List UInt8 := dkwX0_sworn_0 ++ dktX0_sworn_1
theorem dksX0_sworn_0 : cX0_sworn.data.toList.drop 0 = dktX0_sworn_0 := by decide +kernel
theorem dksX0_sworn_1 : cX0_sworn.data.toList.drop 22 = dktX0_sworn_1 := dk_seg dksX0_sworn_0 22 rfl rfl
theorem dksX0_sworn_2 : cX0_sworn.data.toList.drop 44 = dktX0_sworn_2 := dk_seg dksX0_sworn_1 22 rfl rfl
theorem dksX0_sworn_3 : cX0_sworn.data.toList.drop 68 = dktX0_sworn_3 := dk_seg dksX0_sworn_2 24 rfl rfl
theorem dksX0_sworn_4 : cX0_sworn.data.toList.drop 92 = dktX0_sworn_4 := dk_seg dksX0_sworn_3 24 rfl rfl
theorem dX0_sworn_0 : decode cX0_sworn 0 = .ok (.aload_n 0, 1) := dk_42 (dk_at dksX0_sworn_0 0 rfl rfl)
theorem dX0_sworn_1 : decode cX0_sworn 1 = .ok (.iload_n 1, 1) := dk_27 (dk_at dksX0_sworn_0 1 rfl rfl)
theorem dX0_sworn_2 : decode cX0_sworn 2 = .ok (.i2l, 1) := dk_133 (dk_at dksX0_sworn_0 2 rfl rfl)
theorem dX0_sworn_3 : decode cX0_sworn 3 = .ok (.lconst 1, 1) := dk_10 (dk_at dksX0_sworn_0 3 rfl rfl)
theorem dX0_sworn_4 : decode cX0_sworn 4 = .ok (.ldc2_w 441, 3) := dk_20 1 185 (dk_at dksX0_sworn_0 4 rfl rfl)
theorem dX0_sworn_7 : decode cX0_sworn 7 = .ok (.invokestatic 175, 3) := dk_184 0 175 (dk_at dksX0_sworn_0 7 rfl rfl)
theorem dX0_sworn_10 : decode cX0_sworn 10 = .ok (.ifCond .eq 7, 3) := dk_153 0 7 (dk_at dksX0_sworn_0 10 rfl rfl)
theorem dX0_sworn_13 : decode cX0_sworn 13 = .ok (.iconst 0, 1) := dk_3 (dk_at dksX0_sworn_0 13 rfl rfl)
theorem dX0_sworn_14 : decode cX0_sworn 14 = .ok (.goto 4, 3) := dk_167 0 4 (dk_at dksX0_sworn_0 14 rfl rfl)
theorem dX0_sworn_17 : decode cX0_sworn 17 = .ok (.iconst 1, 1) := dk_4 (dk_at dksX0_sworn_0 17 rfl rfl)
theorem dX0_sworn_18 : decode cX0_sworn 18 = .ok (.putfield 91, 3) := dk_181 0 91 (dk_at dksX0_sworn_0 18 rfl rfl)
theorem dX0_sworn_21 : decode cX0_sworn 21 = .ok (.aload_n 0, 1) := dk_42 (dk_at dksX0_sworn_0 21 rfl rfl)
theorem dX0_sworn_22 : decode cX0_sworn 22 = .ok (.getfield 91, 3) := dk_180 0 91 (dk_at dksX0_sworn_1 0 rfl rfl)
theorem dX0_sworn_25 : decode cX0_sworn 25 = .ok (.ifCond .le 5, 3) := dk_158 0 5 (dk_at dksX0_sworn_1 3 rfl rfl)
theorem dX0_sworn_28 : decode cX0_sworn 28 = .ok (.iconst (-1), 1) := dk_2 (dk_at dksX0_sworn_1 6 rfl rfl)
theorem dX0_sworn_29 : decode cX0_sworn 29 = .ok (.ireturn, 1) := dk_172 (dk_at dksX0_sworn_1 7 rfl rfl)
theorem dX0_sworn_30 : decode cX0_sworn 30 = .ok (.iconst (-1), 1) := dk_2 (dk_at dksX0_sworn_1 8 rfl rfl)
theorem dX0_sworn_31 : decode cX0_sworn 31 = .ok (.istore_n 2, 1) := dk_61 (dk_at dksX0_sworn_1 9 rfl rfl)
theorem dX0_sworn_32 : decode cX0_sworn 32 = .ok (.aload_n 0, 1) := dk_42 (dk_at dksX0_sworn_1 10 rfl rfl)
theorem dX0_sworn_33 : decode cX0_sworn 33 = .ok (.ldc2_w 147, 3) := dk_20 0 147 (dk_at dksX0_sworn_1 11 rfl rfl)
theorem dX0_sworn_36 : decode cX0_sworn 36 = .ok (.putfield 443, 3) := dk_181 1 187 (dk_at dksX0_sworn_1 14 rfl rfl)
theorem dX0_sworn_39 : decode cX0_sworn 39 = .ok (.iconst 0, 1) := dk_3 (dk_at dksX0_sworn_1 17 rfl rfl)
theorem dX0_sworn_40 : decode cX0_sworn 40 = .ok (.istore_n 3, 1) := dk_62 (dk_at dksX0_sworn_1 18 rfl rfl)
theorem dX0_sworn_41 : decode cX0_sworn 41 = .ok (.iload_n 3, 1) := dk_29 (dk_at dksX0_sworn_1 19 rfl rfl)
theorem dX0_sworn_42 : decode cX0_sworn 42 = .ok (.iconst 1, 1) := dk_4 (dk_at dksX0_sworn_1 20 rfl rfl)
theorem dX0_sworn_43 : decode cX0_sworn 43 = .ok (.aload_n 0, 1) := dk_42 (dk_at dksX0_sworn_1 21 rfl rfl)
theorem dX0_sworn_44 : decode cX0_sworn 44 = .ok (.invokevirtual 168, 3) := dk_182 0 168 (dk_at dksX0_sworn_2 0 rfl rfl)
theorem dX0_sworn_47 : decode cX0_sworn 47 = .ok (.getfield 188, 3) := dk_180 0 188 (dk_at dksX0_sworn_2 3 rfl rfl)
theorem dX0_sworn_50 : decode cX0_sworn 50 = .ok (.ishl, 1) := dk_120 (dk_at dksX0_sworn_2 6 rfl rfl)
theorem dX0_sworn_51 : decode cX0_sworn 51 = .ok (.if_icmp .ge 44, 3) := dk_162 0 44 (dk_at dksX0_sworn_2 7 rfl rfl)
theorem dX0_sworn_54 : decode cX0_sworn 54 = .ok (.iload_n 3, 1) := dk_29 (dk_at dksX0_sworn_2 10 rfl rfl)
theorem dX0_sworn_55 : decode cX0_sworn 55 = .ok (.invokestatic 338, 3) := dk_184 1 82 (dk_at dksX0_sworn_2 11 rfl rfl)
theorem dX0_sworn_58 : decode cX0_sworn 58 = .ok (.iload_n 1, 1) := dk_27 (dk_at dksX0_sworn_2 14 rfl rfl)
theorem dX0_sworn_59 : decode cX0_sworn 59 = .ok (.if_icmp .ne 30, 3) := dk_160 0 30 (dk_at dksX0_sworn_2 15 rfl rfl)
theorem dX0_sworn_62 : decode cX0_sworn 62 = .ok (.aload_n 0, 1) := dk_42 (dk_at dksX0_sworn_2 18 rfl rfl)
theorem dX0_sworn_63 : decode cX0_sworn 63 = .ok (.iload_n 3, 1) := dk_29 (dk_at dksX0_sworn_2 19 rfl rfl)
theorem dX0_sworn_64 : decode cX0_sworn 64 = .ok (.invokevirtual 434, 3) := dk_182 1 178 (dk_at dksX0_sworn_2 20 rfl rfl)
theorem dX0_sworn_67 : decode cX0_sworn 67 = .ok (.aload_n 0, 1) := dk_42 (dk_at dksX0_sworn_2 23 rfl rfl)
theorem dX0_sworn_68 : decode cX0_sworn 68 = .ok (.getfield 443, 3) := dk_180 1 187 (dk_at dksX0_sworn_3 0 rfl rfl)
theorem dX0_sworn_71 : decode cX0_sworn 71 = .ok (.lcmp, 1) := dk_148 (dk_at dksX0_sworn_3 3 rfl rfl)
theorem dX0_sworn_72 : decode cX0_sworn 72 = .ok (.ifCond .gt 6, 3) := dk_157 0 6 (dk_at dksX0_sworn_3 4 rfl rfl)
theorem dX0_sworn_75 : decode cX0_sworn 75 = .ok (.goto 14, 3) := dk_167 0 14 (dk_at dksX0_sworn_3 7 rfl rfl)
theorem dX0_sworn_78 : decode cX0_sworn 78 = .ok (.aload_n 0, 1) := dk_42 (dk_at dksX0_sworn_3 10 rfl rfl)
theorem dX0_sworn_79 : decode cX0_sworn 79 = .ok (.aload_n 0, 1) := dk_42 (dk_at dksX0_sworn_3 11 rfl rfl)
theorem dX0_sworn_80 : decode cX0_sworn 80 = .ok (.iload_n 3, 1) := dk_29 (dk_at dksX0_sworn_3 12 rfl rfl)
theorem dX0_sworn_81 : decode cX0_sworn 81 = .ok (.invokevirtual 434, 3) := dk_182 1 178 (dk_at dksX0_sworn_3 13 rfl rfl)
theorem dX0_sworn_84 : decode cX0_sworn 84 = .ok (.putfield 443, 3) := dk_181 1 187 (dk_at dksX0_sworn_3 16 rfl rfl)
theorem dX0_sworn_87 : decode cX0_sworn 87 = .ok (.iload_n 3, 1) := dk_29 (dk_at dksX0_sworn_3 19 rfl rfl)
theorem dX0_sworn_88 : decode cX0_sworn 88 = .ok (.istore_n 2, 1) := dk_61 (dk_at dksX0_sworn_3 20 rfl rfl)
theorem dX0_sworn_89 : decode cX0_sworn 89 = .ok (.iinc 3 1, 3) := dk_132 3 1 (dk_at dksX0_sworn_3 21 rfl rfl)
theorem dX0_sworn_92 : decode cX0_sworn 92 = .ok (.goto (-51), 3) := dk_167 255 205 (dk_at dksX0_sworn_4 0 rfl rfl)
theorem dX0_sworn_95 : decode cX0_sworn 95 = .ok (.aload_n 0, 1) := dk_42 (dk_at dksX0_sworn_4 3 rfl rfl)
theorem dX0_sworn_96 : decode cX0_sworn 96 = .ok (.iload_n 2, 1) := dk_28 (dk_at dksX0_sworn_4 4 rfl rfl)
theorem dX0_sworn_97 : decode cX0_sworn 97 = .ok (.invokevirtual 292, 3) := dk_182 1 36 (dk_at dksX0_sworn_4 5 rfl rfl)
theorem dX0_sworn_100 : decode cX0_sworn 100 = .ok (.ireturn, 1) := dk_172 (dk_at dksX0_sworn_4 8 rfl rfl)
abbrev cX0_power : ByteArray := prog_1_method_83_code
def yX0_power : MethodName := ⟨RX0, "power", "(I)Z"⟩
def dkwX0_power_2 : List UInt8 := [182, 1, 150, 87, 4, 172]
abbrev dktX0_power_2 : List UInt8 := dkwX0_power_2 ++ []
def dkwX0_power_1 : List UInt8 := [3, 172, 42, 42, 27, 3, 3, 182, 1, 193, 133, 42, 182, 0, 168, 180, 0, 188, 184, 1, 190, 133]
abbrev dktX0_power_1 : List UInt8 := dkwX0_power_1 ++ dktX0_power_2
def dkwX0_power_0 : List UInt8 := [42, 42, 27, 182, 1, 64, 153, 0, 7, 3, 167, 0, 4, 4, 181, 0, 91, 42, 180, 0, 91, 158, 0, 5]
abbrev dktX0_power_0 : List UInt8 := dkwX0_power_0 ++ dktX0_power_1
theorem dksX0_power_0 : cX0_power.data.toList.drop 0 = dktX0_power_0 := by decide +kernel
theorem dksX0_power_1 : cX0_power.data.toList.drop 24 = dktX0_power_1 := dk_seg dksX0_power_0 24 rfl rfl
theorem dksX0_power_2 : cX0_power.data.toList.drop 46 = dktX0_power_2 := dk_seg dksX0_power_1 22 rfl rfl
theorem dX0_power_0 : decode cX0_power 0 = .ok (.aload_n 0, 1) := dk_42 (dk_at dksX0_power_0 0 rfl rfl)
theorem dX0_power_1 : decode cX0_power 1 = .ok (.aload_n 0, 1) := dk_42 (dk_at dksX0_power_0 1 rfl rfl)
theorem dX0_power_2 : decode cX0_power 2 = .ok (.iload_n 1, 1) := dk_27 (dk_at dksX0_power_0 2 rfl rfl)
theorem dX0_power_3 : decode cX0_power 3 = .ok (.invokevirtual 320, 3) := dk_182 1 64 (dk_at dksX0_power_0 3 rfl rfl)
theorem dX0_power_6 : decode cX0_power 6 = .ok (.ifCond .eq 7, 3) := dk_153 0 7 (dk_at dksX0_power_0 6 rfl rfl)
theorem dX0_power_9 : decode cX0_power 9 = .ok (.iconst 0, 1) := dk_3 (dk_at dksX0_power_0 9 rfl rfl)
theorem dX0_power_10 : decode cX0_power 10 = .ok (.goto 4, 3) := dk_167 0 4 (dk_at dksX0_power_0 10 rfl rfl)
theorem dX0_power_13 : decode cX0_power 13 = .ok (.iconst 1, 1) := dk_4 (dk_at dksX0_power_0 13 rfl rfl)
theorem dX0_power_14 : decode cX0_power 14 = .ok (.putfield 91, 3) := dk_181 0 91 (dk_at dksX0_power_0 14 rfl rfl)
theorem dX0_power_17 : decode cX0_power 17 = .ok (.aload_n 0, 1) := dk_42 (dk_at dksX0_power_0 17 rfl rfl)
theorem dX0_power_18 : decode cX0_power 18 = .ok (.getfield 91, 3) := dk_180 0 91 (dk_at dksX0_power_0 18 rfl rfl)
theorem dX0_power_21 : decode cX0_power 21 = .ok (.ifCond .le 5, 3) := dk_158 0 5 (dk_at dksX0_power_0 21 rfl rfl)
theorem dX0_power_24 : decode cX0_power 24 = .ok (.iconst 0, 1) := dk_3 (dk_at dksX0_power_1 0 rfl rfl)
theorem dX0_power_25 : decode cX0_power 25 = .ok (.ireturn, 1) := dk_172 (dk_at dksX0_power_1 1 rfl rfl)
theorem dX0_power_26 : decode cX0_power 26 = .ok (.aload_n 0, 1) := dk_42 (dk_at dksX0_power_1 2 rfl rfl)
theorem dX0_power_27 : decode cX0_power 27 = .ok (.aload_n 0, 1) := dk_42 (dk_at dksX0_power_1 3 rfl rfl)
theorem dX0_power_28 : decode cX0_power 28 = .ok (.iload_n 1, 1) := dk_27 (dk_at dksX0_power_1 4 rfl rfl)
theorem dX0_power_29 : decode cX0_power 29 = .ok (.iconst 0, 1) := dk_3 (dk_at dksX0_power_1 5 rfl rfl)
theorem dX0_power_30 : decode cX0_power 30 = .ok (.iconst 0, 1) := dk_3 (dk_at dksX0_power_1 6 rfl rfl)
theorem dX0_power_31 : decode cX0_power 31 = .ok (.invokevirtual 449, 3) := dk_182 1 193 (dk_at dksX0_power_1 7 rfl rfl)
theorem dX0_power_34 : decode cX0_power 34 = .ok (.i2l, 1) := dk_133 (dk_at dksX0_power_1 10 rfl rfl)
theorem dX0_power_35 : decode cX0_power 35 = .ok (.aload_n 0, 1) := dk_42 (dk_at dksX0_power_1 11 rfl rfl)
theorem dX0_power_36 : decode cX0_power 36 = .ok (.invokevirtual 168, 3) := dk_182 0 168 (dk_at dksX0_power_1 12 rfl rfl)
theorem dX0_power_39 : decode cX0_power 39 = .ok (.getfield 188, 3) := dk_180 0 188 (dk_at dksX0_power_1 15 rfl rfl)
theorem dX0_power_42 : decode cX0_power 42 = .ok (.invokestatic 446, 3) := dk_184 1 190 (dk_at dksX0_power_1 18 rfl rfl)
theorem dX0_power_45 : decode cX0_power 45 = .ok (.i2l, 1) := dk_133 (dk_at dksX0_power_1 21 rfl rfl)
theorem dX0_power_46 : decode cX0_power 46 = .ok (.invokevirtual 406, 3) := dk_182 1 150 (dk_at dksX0_power_2 0 rfl rfl)
theorem dX0_power_49 : decode cX0_power 49 = .ok (.pop, 1) := dk_87 (dk_at dksX0_power_2 3 rfl rfl)
theorem dX0_power_50 : decode cX0_power 50 = .ok (.iconst 1, 1) := dk_4 (dk_at dksX0_power_2 4 rfl rfl)
theorem dX0_power_51 : decode cX0_power 51 = .ok (.ireturn, 1) := dk_172 (dk_at dksX0_power_2 5 rfl rfl)
abbrev cX0_pivots : ByteArray := prog_1_method_81_code
def yX0_pivots : MethodName := ⟨RX0, "pivots", "(III)I"⟩
def dkwX0_pivots_5 : List UInt8 := [21, 5, 46, 96, 182, 1, 193, 96, 54, 4, 132, 5, 1, 167, 255, 130, 21, 4, 172]
abbrev dktX0_pivots_5 : List UInt8 := dkwX0_pivots_5 ++ []
def dkwX0_pivots_4 : List UInt8 := [96, 54, 4, 167, 0, 31, 21, 4, 42, 27, 28, 4, 21, 5, 120, 128, 29, 42, 182, 0, 168, 180, 1, 70]
abbrev dktX0_pivots_4 : List UInt8 := dkwX0_pivots_4 ++ dktX0_pivots_5
def dkwX0_pivots_3 : List UInt8 := [160, 0, 23, 42, 182, 0, 168, 180, 0, 188, 28, 184, 1, 82, 100, 4, 100, 184, 1, 190, 167, 0, 4, 3]
abbrev dktX0_pivots_3 : List UInt8 := dkwX0_pivots_3 ++ dktX0_pivots_4
def dkwX0_pivots_2 : List UInt8 := [182, 0, 255, 164, 0, 7, 4, 167, 0, 4, 3, 54, 6, 21, 6, 153, 0, 38, 21, 4, 21, 5, 27]
abbrev dktX0_pivots_2 : List UInt8 := dkwX0_pivots_2 ++ dktX0_pivots_3
def dkwX0_pivots_1 : List UInt8 := [153, 0, 6, 167, 0, 102, 5, 29, 42, 182, 0, 168, 180, 1, 70, 21, 5, 46, 96, 104, 42, 182, 0, 168]
abbrev dktX0_pivots_1 : List UInt8 := dkwX0_pivots_1 ++ dktX0_pivots_2
def dkwX0_pivots_0 : List UInt8 := [3, 54, 4, 3, 54, 5, 21, 5, 42, 182, 0, 168, 180, 0, 188, 162, 0, 120, 28, 21, 5, 184, 1, 175]
abbrev dktX0_pivots_0 : List UInt8 := dkwX0_pivots_0 ++ dktX0_pivots_1
theorem dksX0_pivots_0 : cX0_pivots.data.toList.drop 0 = dktX0_pivots_0 := by decide +kernel
theorem dksX0_pivots_1 : cX0_pivots.data.toList.drop 24 = dktX0_pivots_1 := dk_seg dksX0_pivots_0 24 rfl rfl
theorem dksX0_pivots_2 : cX0_pivots.data.toList.drop 48 = dktX0_pivots_2 := dk_seg dksX0_pivots_1 24 rfl rfl
theorem dksX0_pivots_3 : cX0_pivots.data.toList.drop 71 = dktX0_pivots_3 := dk_seg dksX0_pivots_2 23 rfl rfl
theorem dksX0_pivots_4 : cX0_pivots.data.toList.drop 95 = dktX0_pivots_4 := dk_seg dksX0_pivots_3 24 rfl rfl
theorem dksX0_pivots_5 : cX0_pivots.data.toList.drop 119 = dktX0_pivots_5 := dk_seg dksX0_pivots_4 24 rfl rfl
theorem dX0_pivots_0 : decode cX0_pivots 0 = .ok (.iconst 0, 1) := dk_3 (dk_at dksX0_pivots_0 0 rfl rfl)
theorem dX0_pivots_1 : decode cX0_pivots 1 = .ok (.istore 4, 2) := dk_54 4 (dk_at dksX0_pivots_0 1 rfl rfl)
theorem dX0_pivots_3 : decode cX0_pivots 3 = .ok (.iconst 0, 1) := dk_3 (dk_at dksX0_pivots_0 3 rfl rfl)
theorem dX0_pivots_4 : decode cX0_pivots 4 = .ok (.istore 5, 2) := dk_54 5 (dk_at dksX0_pivots_0 4 rfl rfl)
theorem dX0_pivots_6 : decode cX0_pivots 6 = .ok (.iload 5, 2) := dk_21 5 (dk_at dksX0_pivots_0 6 rfl rfl)
theorem dX0_pivots_8 : decode cX0_pivots 8 = .ok (.aload_n 0, 1) := dk_42 (dk_at dksX0_pivots_0 8 rfl rfl)
theorem dX0_pivots_9 : decode cX0_pivots 9 = .ok (.invokevirtual 168, 3) := dk_182 0 168 (dk_at dksX0_pivots_0 9 rfl rfl)
theorem dX0_pivots_12 : decode cX0_pivots 12 = .ok (.getfield 188, 3) := dk_180 0 188 (dk_at dksX0_pivots_0 12 rfl rfl)
theorem dX0_pivots_15 : decode cX0_pivots 15 = .ok (.if_icmp .ge 120, 3) := dk_162 0 120 (dk_at dksX0_pivots_0 15 rfl rfl)
theorem dX0_pivots_18 : decode cX0_pivots 18 = .ok (.iload_n 2, 1) := dk_28 (dk_at dksX0_pivots_0 18 rfl rfl)
theorem dX0_pivots_19 : decode cX0_pivots 19 = .ok (.iload 5, 2) := dk_21 5 (dk_at dksX0_pivots_0 19 rfl rfl)
theorem dX0_pivots_21 : decode cX0_pivots 21 = .ok (.invokestatic 431, 3) := dk_184 1 175 (dk_at dksX0_pivots_0 21 rfl rfl)
theorem dX0_pivots_24 : decode cX0_pivots 24 = .ok (.ifCond .eq 6, 3) := dk_153 0 6 (dk_at dksX0_pivots_1 0 rfl rfl)
theorem dX0_pivots_27 : decode cX0_pivots 27 = .ok (.goto 102, 3) := dk_167 0 102 (dk_at dksX0_pivots_1 3 rfl rfl)
theorem dX0_pivots_30 : decode cX0_pivots 30 = .ok (.iconst 2, 1) := dk_5 (dk_at dksX0_pivots_1 6 rfl rfl)
theorem dX0_pivots_31 : decode cX0_pivots 31 = .ok (.iload_n 3, 1) := dk_29 (dk_at dksX0_pivots_1 7 rfl rfl)
theorem dX0_pivots_32 : decode cX0_pivots 32 = .ok (.aload_n 0, 1) := dk_42 (dk_at dksX0_pivots_1 8 rfl rfl)
theorem dX0_pivots_33 : decode cX0_pivots 33 = .ok (.invokevirtual 168, 3) := dk_182 0 168 (dk_at dksX0_pivots_1 9 rfl rfl)
theorem dX0_pivots_36 : decode cX0_pivots 36 = .ok (.getfield 326, 3) := dk_180 1 70 (dk_at dksX0_pivots_1 12 rfl rfl)
theorem dX0_pivots_39 : decode cX0_pivots 39 = .ok (.iload 5, 2) := dk_21 5 (dk_at dksX0_pivots_1 15 rfl rfl)
theorem dX0_pivots_41 : decode cX0_pivots 41 = .ok (.iaload, 1) := dk_46 (dk_at dksX0_pivots_1 17 rfl rfl)
theorem dX0_pivots_42 : decode cX0_pivots 42 = .ok (.iadd, 1) := dk_96 (dk_at dksX0_pivots_1 18 rfl rfl)
theorem dX0_pivots_43 : decode cX0_pivots 43 = .ok (.imul, 1) := dk_104 (dk_at dksX0_pivots_1 19 rfl rfl)
theorem dX0_pivots_44 : decode cX0_pivots 44 = .ok (.aload_n 0, 1) := dk_42 (dk_at dksX0_pivots_1 20 rfl rfl)
theorem dX0_pivots_45 : decode cX0_pivots 45 = .ok (.invokevirtual 168, 3) := dk_182 0 168 (dk_at dksX0_pivots_1 21 rfl rfl)
theorem dX0_pivots_48 : decode cX0_pivots 48 = .ok (.invokevirtual 255, 3) := dk_182 0 255 (dk_at dksX0_pivots_2 0 rfl rfl)
theorem dX0_pivots_51 : decode cX0_pivots 51 = .ok (.if_icmp .le 7, 3) := dk_164 0 7 (dk_at dksX0_pivots_2 3 rfl rfl)
theorem dX0_pivots_54 : decode cX0_pivots 54 = .ok (.iconst 1, 1) := dk_4 (dk_at dksX0_pivots_2 6 rfl rfl)
theorem dX0_pivots_55 : decode cX0_pivots 55 = .ok (.goto 4, 3) := dk_167 0 4 (dk_at dksX0_pivots_2 7 rfl rfl)
theorem dX0_pivots_58 : decode cX0_pivots 58 = .ok (.iconst 0, 1) := dk_3 (dk_at dksX0_pivots_2 10 rfl rfl)
theorem dX0_pivots_59 : decode cX0_pivots 59 = .ok (.istore 6, 2) := dk_54 6 (dk_at dksX0_pivots_2 11 rfl rfl)
theorem dX0_pivots_61 : decode cX0_pivots 61 = .ok (.iload 6, 2) := dk_21 6 (dk_at dksX0_pivots_2 13 rfl rfl)
theorem dX0_pivots_63 : decode cX0_pivots 63 = .ok (.ifCond .eq 38, 3) := dk_153 0 38 (dk_at dksX0_pivots_2 15 rfl rfl)
theorem dX0_pivots_66 : decode cX0_pivots 66 = .ok (.iload 4, 2) := dk_21 4 (dk_at dksX0_pivots_2 18 rfl rfl)
theorem dX0_pivots_68 : decode cX0_pivots 68 = .ok (.iload 5, 2) := dk_21 5 (dk_at dksX0_pivots_2 20 rfl rfl)
theorem dX0_pivots_70 : decode cX0_pivots 70 = .ok (.iload_n 1, 1) := dk_27 (dk_at dksX0_pivots_2 22 rfl rfl)
theorem dX0_pivots_71 : decode cX0_pivots 71 = .ok (.if_icmp .ne 23, 3) := dk_160 0 23 (dk_at dksX0_pivots_3 0 rfl rfl)
theorem dX0_pivots_74 : decode cX0_pivots 74 = .ok (.aload_n 0, 1) := dk_42 (dk_at dksX0_pivots_3 3 rfl rfl)
theorem dX0_pivots_75 : decode cX0_pivots 75 = .ok (.invokevirtual 168, 3) := dk_182 0 168 (dk_at dksX0_pivots_3 4 rfl rfl)
theorem dX0_pivots_78 : decode cX0_pivots 78 = .ok (.getfield 188, 3) := dk_180 0 188 (dk_at dksX0_pivots_3 7 rfl rfl)
theorem dX0_pivots_81 : decode cX0_pivots 81 = .ok (.iload_n 2, 1) := dk_28 (dk_at dksX0_pivots_3 10 rfl rfl)
theorem dX0_pivots_82 : decode cX0_pivots 82 = .ok (.invokestatic 338, 3) := dk_184 1 82 (dk_at dksX0_pivots_3 11 rfl rfl)
theorem dX0_pivots_85 : decode cX0_pivots 85 = .ok (.isub, 1) := dk_100 (dk_at dksX0_pivots_3 14 rfl rfl)
theorem dX0_pivots_86 : decode cX0_pivots 86 = .ok (.iconst 1, 1) := dk_4 (dk_at dksX0_pivots_3 15 rfl rfl)
theorem dX0_pivots_87 : decode cX0_pivots 87 = .ok (.isub, 1) := dk_100 (dk_at dksX0_pivots_3 16 rfl rfl)
theorem dX0_pivots_88 : decode cX0_pivots 88 = .ok (.invokestatic 446, 3) := dk_184 1 190 (dk_at dksX0_pivots_3 17 rfl rfl)
theorem dX0_pivots_91 : decode cX0_pivots 91 = .ok (.goto 4, 3) := dk_167 0 4 (dk_at dksX0_pivots_3 20 rfl rfl)
theorem dX0_pivots_94 : decode cX0_pivots 94 = .ok (.iconst 0, 1) := dk_3 (dk_at dksX0_pivots_3 23 rfl rfl)
theorem dX0_pivots_95 : decode cX0_pivots 95 = .ok (.iadd, 1) := dk_96 (dk_at dksX0_pivots_4 0 rfl rfl)
theorem dX0_pivots_96 : decode cX0_pivots 96 = .ok (.istore 4, 2) := dk_54 4 (dk_at dksX0_pivots_4 1 rfl rfl)
theorem dX0_pivots_98 : decode cX0_pivots 98 = .ok (.goto 31, 3) := dk_167 0 31 (dk_at dksX0_pivots_4 3 rfl rfl)
theorem dX0_pivots_101 : decode cX0_pivots 101 = .ok (.iload 4, 2) := dk_21 4 (dk_at dksX0_pivots_4 6 rfl rfl)
theorem dX0_pivots_103 : decode cX0_pivots 103 = .ok (.aload_n 0, 1) := dk_42 (dk_at dksX0_pivots_4 8 rfl rfl)
theorem dX0_pivots_104 : decode cX0_pivots 104 = .ok (.iload_n 1, 1) := dk_27 (dk_at dksX0_pivots_4 9 rfl rfl)
theorem dX0_pivots_105 : decode cX0_pivots 105 = .ok (.iload_n 2, 1) := dk_28 (dk_at dksX0_pivots_4 10 rfl rfl)
theorem dX0_pivots_106 : decode cX0_pivots 106 = .ok (.iconst 1, 1) := dk_4 (dk_at dksX0_pivots_4 11 rfl rfl)
theorem dX0_pivots_107 : decode cX0_pivots 107 = .ok (.iload 5, 2) := dk_21 5 (dk_at dksX0_pivots_4 12 rfl rfl)
theorem dX0_pivots_109 : decode cX0_pivots 109 = .ok (.ishl, 1) := dk_120 (dk_at dksX0_pivots_4 14 rfl rfl)
theorem dX0_pivots_110 : decode cX0_pivots 110 = .ok (.ior, 1) := dk_128 (dk_at dksX0_pivots_4 15 rfl rfl)
theorem dX0_pivots_111 : decode cX0_pivots 111 = .ok (.iload_n 3, 1) := dk_29 (dk_at dksX0_pivots_4 16 rfl rfl)
theorem dX0_pivots_112 : decode cX0_pivots 112 = .ok (.aload_n 0, 1) := dk_42 (dk_at dksX0_pivots_4 17 rfl rfl)
theorem dX0_pivots_113 : decode cX0_pivots 113 = .ok (.invokevirtual 168, 3) := dk_182 0 168 (dk_at dksX0_pivots_4 18 rfl rfl)
theorem dX0_pivots_116 : decode cX0_pivots 116 = .ok (.getfield 326, 3) := dk_180 1 70 (dk_at dksX0_pivots_4 21 rfl rfl)
theorem dX0_pivots_119 : decode cX0_pivots 119 = .ok (.iload 5, 2) := dk_21 5 (dk_at dksX0_pivots_5 0 rfl rfl)
theorem dX0_pivots_121 : decode cX0_pivots 121 = .ok (.iaload, 1) := dk_46 (dk_at dksX0_pivots_5 2 rfl rfl)
theorem dX0_pivots_122 : decode cX0_pivots 122 = .ok (.iadd, 1) := dk_96 (dk_at dksX0_pivots_5 3 rfl rfl)
theorem dX0_pivots_123 : decode cX0_pivots 123 = .ok (.invokevirtual 449, 3) := dk_182 1 193 (dk_at dksX0_pivots_5 4 rfl rfl)
theorem dX0_pivots_126 : decode cX0_pivots 126 = .ok (.iadd, 1) := dk_96 (dk_at dksX0_pivots_5 7 rfl rfl)
theorem dX0_pivots_127 : decode cX0_pivots 127 = .ok (.istore 4, 2) := dk_54 4 (dk_at dksX0_pivots_5 8 rfl rfl)
theorem dX0_pivots_129 : decode cX0_pivots 129 = .ok (.iinc 5 1, 3) := dk_132 5 1 (dk_at dksX0_pivots_5 10 rfl rfl)
theorem dX0_pivots_132 : decode cX0_pivots 132 = .ok (.goto (-126), 3) := dk_167 255 130 (dk_at dksX0_pivots_5 13 rfl rfl)
theorem dX0_pivots_135 : decode cX0_pivots 135 = .ok (.iload 4, 2) := dk_21 4 (dk_at dksX0_pivots_5 16 rfl rfl)
theorem dX0_pivots_137 : decode cX0_pivots 137 = .ok (.ireturn, 1) := dk_172 (dk_at dksX0_pivots_5 18 rfl rfl)
abbrev cX0_orders : ByteArray := prog_1_method_82_code
def yX0_orders : MethodName := ⟨RX0, "orders", "(I)I"⟩
def dkwX0_orders_0 : List UInt8 := [26, 5, 162, 0, 7, 4, 167, 0, 11, 26, 26, 4, 100, 184, 1, 190, 104, 172]
abbrev dktX0_orders_0 : List UInt8 := dkwX0_orders_0 ++ []
theorem dksX0_orders_0 : cX0_orders.data.toList.drop 0 = dktX0_orders_0 := by decide +kernel
theorem dX0_orders_0 : decode cX0_orders 0 = .ok (.iload_n 0, 1) := dk_26 (dk_at dksX0_orders_0 0 rfl rfl)
theorem dX0_orders_1 : decode cX0_orders 1 = .ok (.iconst 2, 1) := dk_5 (dk_at dksX0_orders_0 1 rfl rfl)
theorem dX0_orders_2 : decode cX0_orders 2 = .ok (.if_icmp .ge 7, 3) := dk_162 0 7 (dk_at dksX0_orders_0 2 rfl rfl)
theorem dX0_orders_5 : decode cX0_orders 5 = .ok (.iconst 1, 1) := dk_4 (dk_at dksX0_orders_0 5 rfl rfl)
theorem dX0_orders_6 : decode cX0_orders 6 = .ok (.goto 11, 3) := dk_167 0 11 (dk_at dksX0_orders_0 6 rfl rfl)
theorem dX0_orders_9 : decode cX0_orders 9 = .ok (.iload_n 0, 1) := dk_26 (dk_at dksX0_orders_0 9 rfl rfl)
theorem dX0_orders_10 : decode cX0_orders 10 = .ok (.iload_n 0, 1) := dk_26 (dk_at dksX0_orders_0 10 rfl rfl)
theorem dX0_orders_11 : decode cX0_orders 11 = .ok (.iconst 1, 1) := dk_4 (dk_at dksX0_orders_0 11 rfl rfl)
theorem dX0_orders_12 : decode cX0_orders 12 = .ok (.isub, 1) := dk_100 (dk_at dksX0_orders_0 12 rfl rfl)
theorem dX0_orders_13 : decode cX0_orders 13 = .ok (.invokestatic 446, 3) := dk_184 1 190 (dk_at dksX0_orders_0 13 rfl rfl)
theorem dX0_orders_16 : decode cX0_orders 16 = .ok (.imul, 1) := dk_104 (dk_at dksX0_orders_0 16 rfl rfl)
theorem dX0_orders_17 : decode cX0_orders 17 = .ok (.ireturn, 1) := dk_172 (dk_at dksX0_orders_0 17 rfl rfl)
abbrev cX0_clash : ByteArray := prog_1_method_86_code
def yX0_clash : MethodName := ⟨RX0, "clash", "()I"⟩
def dkwX0_clash_0 : List UInt8 := [42, 3, 181, 0, 91, 42, 182, 1, 202, 172]
abbrev dktX0_clash_0 : List UInt8 := dkwX0_clash_0 ++ []
theorem dksX0_clash_0 : cX0_clash.data.toList.drop 0 = dktX0_clash_0 := by decide +kernel
theorem dX0_clash_0 : decode cX0_clash 0 = .ok (.aload_n 0, 1) := dk_42 (dk_at dksX0_clash_0 0 rfl rfl)
theorem dX0_clash_1 : decode cX0_clash 1 = .ok (.iconst 0, 1) := dk_3 (dk_at dksX0_clash_0 1 rfl rfl)
theorem dX0_clash_2 : decode cX0_clash 2 = .ok (.putfield 91, 3) := dk_181 0 91 (dk_at dksX0_clash_0 2 rfl rfl)
theorem dX0_clash_5 : decode cX0_clash 5 = .ok (.aload_n 0, 1) := dk_42 (dk_at dksX0_clash_0 5 rfl rfl)
theorem dX0_clash_6 : decode cX0_clash 6 = .ok (.invokevirtual 458, 3) := dk_182 1 202 (dk_at dksX0_clash_0 6 rfl rfl)
theorem dX0_clash_9 : decode cX0_clash 9 = .ok (.ireturn, 1) := dk_172 (dk_at dksX0_clash_0 9 rfl rfl)
abbrev cX0_clashing : ByteArray := prog_1_method_85_code
def yX0_clashing : MethodName := ⟨RX0, "clashing", "()I"⟩
def dkwX0_clashing_3 : List UInt8 := [167, 255, 189, 27, 172]
abbrev dktX0_clashing_3 : List UInt8 := dkwX0_clashing_3 ++ []
def dkwX0_clashing_2 : List UInt8 := [180, 1, 73, 28, 46, 182, 1, 199, 153, 0, 9, 4, 28, 120, 167, 0, 4, 3, 128, 60, 132, 2, 1]
abbrev dktX0_clashing_2 : List UInt8 := dkwX0_clashing_2 ++ dktX0_clashing_3
def dkwX0_clashing_1 : List UInt8 := [28, 46, 182, 1, 199, 42, 182, 0, 168, 180, 1, 76, 28, 46, 96, 6, 160, 0, 25, 42, 42, 182, 0, 168]
abbrev dktX0_clashing_1 : List UInt8 := dkwX0_clashing_1 ++ dktX0_clashing_2
def dkwX0_clashing_0 : List UInt8 := [3, 60, 3, 61, 28, 42, 182, 0, 168, 180, 0, 242, 162, 0, 62, 27, 42, 42, 182, 0, 168, 180, 1, 73]
abbrev dktX0_clashing_0 : List UInt8 := dkwX0_clashing_0 ++ dktX0_clashing_1
theorem dksX0_clashing_0 : cX0_clashing.data.toList.drop 0 = dktX0_clashing_0 := by decide +kernel
theorem dksX0_clashing_1 : cX0_clashing.data.toList.drop 24 = dktX0_clashing_1 := dk_seg dksX0_clashing_0 24 rfl rfl
theorem dksX0_clashing_2 : cX0_clashing.data.toList.drop 48 = dktX0_clashing_2 := dk_seg dksX0_clashing_1 24 rfl rfl
theorem dksX0_clashing_3 : cX0_clashing.data.toList.drop 71 = dktX0_clashing_3 := dk_seg dksX0_clashing_2 23 rfl rfl
theorem dX0_clashing_0 : decode cX0_clashing 0 = .ok (.iconst 0, 1) := dk_3 (dk_at dksX0_clashing_0 0 rfl rfl)
theorem dX0_clashing_1 : decode cX0_clashing 1 = .ok (.istore_n 1, 1) := dk_60 (dk_at dksX0_clashing_0 1 rfl rfl)
theorem dX0_clashing_2 : decode cX0_clashing 2 = .ok (.iconst 0, 1) := dk_3 (dk_at dksX0_clashing_0 2 rfl rfl)
theorem dX0_clashing_3 : decode cX0_clashing 3 = .ok (.istore_n 2, 1) := dk_61 (dk_at dksX0_clashing_0 3 rfl rfl)
theorem dX0_clashing_4 : decode cX0_clashing 4 = .ok (.iload_n 2, 1) := dk_28 (dk_at dksX0_clashing_0 4 rfl rfl)
theorem dX0_clashing_5 : decode cX0_clashing 5 = .ok (.aload_n 0, 1) := dk_42 (dk_at dksX0_clashing_0 5 rfl rfl)
theorem dX0_clashing_6 : decode cX0_clashing 6 = .ok (.invokevirtual 168, 3) := dk_182 0 168 (dk_at dksX0_clashing_0 6 rfl rfl)
theorem dX0_clashing_9 : decode cX0_clashing 9 = .ok (.getfield 242, 3) := dk_180 0 242 (dk_at dksX0_clashing_0 9 rfl rfl)
theorem dX0_clashing_12 : decode cX0_clashing 12 = .ok (.if_icmp .ge 62, 3) := dk_162 0 62 (dk_at dksX0_clashing_0 12 rfl rfl)
theorem dX0_clashing_15 : decode cX0_clashing 15 = .ok (.iload_n 1, 1) := dk_27 (dk_at dksX0_clashing_0 15 rfl rfl)
theorem dX0_clashing_16 : decode cX0_clashing 16 = .ok (.aload_n 0, 1) := dk_42 (dk_at dksX0_clashing_0 16 rfl rfl)
theorem dX0_clashing_17 : decode cX0_clashing 17 = .ok (.aload_n 0, 1) := dk_42 (dk_at dksX0_clashing_0 17 rfl rfl)
theorem dX0_clashing_18 : decode cX0_clashing 18 = .ok (.invokevirtual 168, 3) := dk_182 0 168 (dk_at dksX0_clashing_0 18 rfl rfl)
theorem dX0_clashing_21 : decode cX0_clashing 21 = .ok (.getfield 329, 3) := dk_180 1 73 (dk_at dksX0_clashing_0 21 rfl rfl)
theorem dX0_clashing_24 : decode cX0_clashing 24 = .ok (.iload_n 2, 1) := dk_28 (dk_at dksX0_clashing_1 0 rfl rfl)
theorem dX0_clashing_25 : decode cX0_clashing 25 = .ok (.iaload, 1) := dk_46 (dk_at dksX0_clashing_1 1 rfl rfl)
theorem dX0_clashing_26 : decode cX0_clashing 26 = .ok (.invokevirtual 455, 3) := dk_182 1 199 (dk_at dksX0_clashing_1 2 rfl rfl)
theorem dX0_clashing_29 : decode cX0_clashing 29 = .ok (.aload_n 0, 1) := dk_42 (dk_at dksX0_clashing_1 5 rfl rfl)
theorem dX0_clashing_30 : decode cX0_clashing 30 = .ok (.invokevirtual 168, 3) := dk_182 0 168 (dk_at dksX0_clashing_1 6 rfl rfl)
theorem dX0_clashing_33 : decode cX0_clashing 33 = .ok (.getfield 332, 3) := dk_180 1 76 (dk_at dksX0_clashing_1 9 rfl rfl)
theorem dX0_clashing_36 : decode cX0_clashing 36 = .ok (.iload_n 2, 1) := dk_28 (dk_at dksX0_clashing_1 12 rfl rfl)
theorem dX0_clashing_37 : decode cX0_clashing 37 = .ok (.iaload, 1) := dk_46 (dk_at dksX0_clashing_1 13 rfl rfl)
theorem dX0_clashing_38 : decode cX0_clashing 38 = .ok (.iadd, 1) := dk_96 (dk_at dksX0_clashing_1 14 rfl rfl)
theorem dX0_clashing_39 : decode cX0_clashing 39 = .ok (.iconst 3, 1) := dk_6 (dk_at dksX0_clashing_1 15 rfl rfl)
theorem dX0_clashing_40 : decode cX0_clashing 40 = .ok (.if_icmp .ne 25, 3) := dk_160 0 25 (dk_at dksX0_clashing_1 16 rfl rfl)
theorem dX0_clashing_43 : decode cX0_clashing 43 = .ok (.aload_n 0, 1) := dk_42 (dk_at dksX0_clashing_1 19 rfl rfl)
theorem dX0_clashing_44 : decode cX0_clashing 44 = .ok (.aload_n 0, 1) := dk_42 (dk_at dksX0_clashing_1 20 rfl rfl)
theorem dX0_clashing_45 : decode cX0_clashing 45 = .ok (.invokevirtual 168, 3) := dk_182 0 168 (dk_at dksX0_clashing_1 21 rfl rfl)
theorem dX0_clashing_48 : decode cX0_clashing 48 = .ok (.getfield 329, 3) := dk_180 1 73 (dk_at dksX0_clashing_2 0 rfl rfl)
theorem dX0_clashing_51 : decode cX0_clashing 51 = .ok (.iload_n 2, 1) := dk_28 (dk_at dksX0_clashing_2 3 rfl rfl)
theorem dX0_clashing_52 : decode cX0_clashing 52 = .ok (.iaload, 1) := dk_46 (dk_at dksX0_clashing_2 4 rfl rfl)
theorem dX0_clashing_53 : decode cX0_clashing 53 = .ok (.invokevirtual 455, 3) := dk_182 1 199 (dk_at dksX0_clashing_2 5 rfl rfl)
theorem dX0_clashing_56 : decode cX0_clashing 56 = .ok (.ifCond .eq 9, 3) := dk_153 0 9 (dk_at dksX0_clashing_2 8 rfl rfl)
theorem dX0_clashing_59 : decode cX0_clashing 59 = .ok (.iconst 1, 1) := dk_4 (dk_at dksX0_clashing_2 11 rfl rfl)
theorem dX0_clashing_60 : decode cX0_clashing 60 = .ok (.iload_n 2, 1) := dk_28 (dk_at dksX0_clashing_2 12 rfl rfl)
theorem dX0_clashing_61 : decode cX0_clashing 61 = .ok (.ishl, 1) := dk_120 (dk_at dksX0_clashing_2 13 rfl rfl)
theorem dX0_clashing_62 : decode cX0_clashing 62 = .ok (.goto 4, 3) := dk_167 0 4 (dk_at dksX0_clashing_2 14 rfl rfl)
theorem dX0_clashing_65 : decode cX0_clashing 65 = .ok (.iconst 0, 1) := dk_3 (dk_at dksX0_clashing_2 17 rfl rfl)
theorem dX0_clashing_66 : decode cX0_clashing 66 = .ok (.ior, 1) := dk_128 (dk_at dksX0_clashing_2 18 rfl rfl)
theorem dX0_clashing_67 : decode cX0_clashing 67 = .ok (.istore_n 1, 1) := dk_60 (dk_at dksX0_clashing_2 19 rfl rfl)
theorem dX0_clashing_68 : decode cX0_clashing 68 = .ok (.iinc 2 1, 3) := dk_132 2 1 (dk_at dksX0_clashing_2 20 rfl rfl)
theorem dX0_clashing_71 : decode cX0_clashing 71 = .ok (.goto (-67), 3) := dk_167 255 189 (dk_at dksX0_clashing_3 0 rfl rfl)
theorem dX0_clashing_74 : decode cX0_clashing 74 = .ok (.iload_n 1, 1) := dk_27 (dk_at dksX0_clashing_3 3 rfl rfl)
theorem dX0_clashing_75 : decode cX0_clashing 75 = .ok (.ireturn, 1) := dk_172 (dk_at dksX0_clashing_3 4 rfl rfl)
abbrev cX0_meant : ByteArray := prog_1_method_84_code
def yX0_meant : MethodName := ⟨RX0, "meant", "(I)I"⟩
def dkwX0_meant_0 : List UInt8 := [42, 182, 0, 168, 42, 182, 0, 168, 27, 182, 1, 108, 182, 1, 196, 172]
abbrev dktX0_meant_0 : List UInt8 := dkwX0_meant_0 ++ []
theorem dksX0_meant_0 : cX0_meant.data.toList.drop 0 = dktX0_meant_0 := by decide +kernel
theorem dX0_meant_0 : decode cX0_meant 0 = .ok (.aload_n 0, 1) := dk_42 (dk_at dksX0_meant_0 0 rfl rfl)
theorem dX0_meant_1 : decode cX0_meant 1 = .ok (.invokevirtual 168, 3) := dk_182 0 168 (dk_at dksX0_meant_0 1 rfl rfl)
theorem dX0_meant_4 : decode cX0_meant 4 = .ok (.aload_n 0, 1) := dk_42 (dk_at dksX0_meant_0 4 rfl rfl)
theorem dX0_meant_5 : decode cX0_meant 5 = .ok (.invokevirtual 168, 3) := dk_182 0 168 (dk_at dksX0_meant_0 5 rfl rfl)
theorem dX0_meant_8 : decode cX0_meant 8 = .ok (.iload_n 1, 1) := dk_27 (dk_at dksX0_meant_0 8 rfl rfl)
theorem dX0_meant_9 : decode cX0_meant 9 = .ok (.invokevirtual 364, 3) := dk_182 1 108 (dk_at dksX0_meant_0 9 rfl rfl)
theorem dX0_meant_12 : decode cX0_meant 12 = .ok (.invokevirtual 452, 3) := dk_182 1 196 (dk_at dksX0_meant_0 12 rfl rfl)
theorem dX0_meant_15 : decode cX0_meant 15 = .ok (.ireturn, 1) := dk_172 (dk_at dksX0_meant_0 15 rfl rfl)
abbrev cX0_struck : ByteArray := prog_1_method_89_code
def yX0_struck : MethodName := ⟨RX0, "struck", "()I"⟩
def dkwX0_struck_0 : List UInt8 := [42, 3, 181, 0, 91, 42, 182, 1, 208, 184, 1, 82, 172]
abbrev dktX0_struck_0 : List UInt8 := dkwX0_struck_0 ++ []
theorem dksX0_struck_0 : cX0_struck.data.toList.drop 0 = dktX0_struck_0 := by decide +kernel
theorem dX0_struck_0 : decode cX0_struck 0 = .ok (.aload_n 0, 1) := dk_42 (dk_at dksX0_struck_0 0 rfl rfl)
theorem dX0_struck_1 : decode cX0_struck 1 = .ok (.iconst 0, 1) := dk_3 (dk_at dksX0_struck_0 1 rfl rfl)
theorem dX0_struck_2 : decode cX0_struck 2 = .ok (.putfield 91, 3) := dk_181 0 91 (dk_at dksX0_struck_0 2 rfl rfl)
theorem dX0_struck_5 : decode cX0_struck 5 = .ok (.aload_n 0, 1) := dk_42 (dk_at dksX0_struck_0 5 rfl rfl)
theorem dX0_struck_6 : decode cX0_struck 6 = .ok (.invokevirtual 464, 3) := dk_182 1 208 (dk_at dksX0_struck_0 6 rfl rfl)
theorem dX0_struck_9 : decode cX0_struck 9 = .ok (.invokestatic 338, 3) := dk_184 1 82 (dk_at dksX0_struck_0 9 rfl rfl)
theorem dX0_struck_12 : decode cX0_struck 12 = .ok (.ireturn, 1) := dk_172 (dk_at dksX0_struck_0 12 rfl rfl)
abbrev cX0_striking : ByteArray := prog_1_method_88_code
def yX0_striking : MethodName := ⟨RX0, "striking", "()I"⟩
def dkwX0_striking_4 : List UInt8 := [153, 0, 7, 29, 167, 0, 5, 21, 4, 128, 60, 132, 2, 1, 167, 255, 152, 27, 172]
abbrev dktX0_striking_4 : List UInt8 := dkwX0_striking_4 ++ []
def dkwX0_striking_3 : List UInt8 := [54, 6, 27, 21, 6, 4, 160, 0, 8, 21, 4, 167, 0, 20, 21, 6, 5, 159, 0, 8, 21, 5]
abbrev dktX0_striking_3 : List UInt8 := dkwX0_striking_3 ++ dktX0_striking_4
def dkwX0_striking_2 : List UInt8 := [184, 1, 82, 160, 0, 13, 29, 21, 4, 162, 0, 7, 4, 167, 0, 4, 3, 54, 5, 42, 28, 182, 1, 199]
abbrev dktX0_striking_2 : List UInt8 := dkwX0_striking_2 ++ dktX0_striking_3
def dkwX0_striking_1 : List UInt8 := [5, 182, 1, 205, 54, 4, 29, 184, 1, 82, 21, 4, 184, 1, 82, 161, 0, 21, 29, 184, 1, 82, 21, 4]
abbrev dktX0_striking_1 : List UInt8 := dkwX0_striking_1 ++ dktX0_striking_2
def dkwX0_striking_0 : List UInt8 := [3, 60, 3, 61, 28, 42, 182, 0, 168, 180, 0, 185, 162, 0, 99, 42, 28, 4, 182, 1, 205, 62, 42, 28]
abbrev dktX0_striking_0 : List UInt8 := dkwX0_striking_0 ++ dktX0_striking_1
theorem dksX0_striking_0 : cX0_striking.data.toList.drop 0 = dktX0_striking_0 := by decide +kernel
theorem dksX0_striking_1 : cX0_striking.data.toList.drop 24 = dktX0_striking_1 := dk_seg dksX0_striking_0 24 rfl rfl
theorem dksX0_striking_2 : cX0_striking.data.toList.drop 48 = dktX0_striking_2 := dk_seg dksX0_striking_1 24 rfl rfl
theorem dksX0_striking_3 : cX0_striking.data.toList.drop 72 = dktX0_striking_3 := dk_seg dksX0_striking_2 24 rfl rfl
theorem dksX0_striking_4 : cX0_striking.data.toList.drop 94 = dktX0_striking_4 := dk_seg dksX0_striking_3 22 rfl rfl
theorem dX0_striking_0 : decode cX0_striking 0 = .ok (.iconst 0, 1) := dk_3 (dk_at dksX0_striking_0 0 rfl rfl)
theorem dX0_striking_1 : decode cX0_striking 1 = .ok (.istore_n 1, 1) := dk_60 (dk_at dksX0_striking_0 1 rfl rfl)
theorem dX0_striking_2 : decode cX0_striking 2 = .ok (.iconst 0, 1) := dk_3 (dk_at dksX0_striking_0 2 rfl rfl)
theorem dX0_striking_3 : decode cX0_striking 3 = .ok (.istore_n 2, 1) := dk_61 (dk_at dksX0_striking_0 3 rfl rfl)
theorem dX0_striking_4 : decode cX0_striking 4 = .ok (.iload_n 2, 1) := dk_28 (dk_at dksX0_striking_0 4 rfl rfl)
theorem dX0_striking_5 : decode cX0_striking 5 = .ok (.aload_n 0, 1) := dk_42 (dk_at dksX0_striking_0 5 rfl rfl)
theorem dX0_striking_6 : decode cX0_striking 6 = .ok (.invokevirtual 168, 3) := dk_182 0 168 (dk_at dksX0_striking_0 6 rfl rfl)
theorem dX0_striking_9 : decode cX0_striking 9 = .ok (.getfield 185, 3) := dk_180 0 185 (dk_at dksX0_striking_0 9 rfl rfl)
theorem dX0_striking_12 : decode cX0_striking 12 = .ok (.if_icmp .ge 99, 3) := dk_162 0 99 (dk_at dksX0_striking_0 12 rfl rfl)
theorem dX0_striking_15 : decode cX0_striking 15 = .ok (.aload_n 0, 1) := dk_42 (dk_at dksX0_striking_0 15 rfl rfl)
theorem dX0_striking_16 : decode cX0_striking 16 = .ok (.iload_n 2, 1) := dk_28 (dk_at dksX0_striking_0 16 rfl rfl)
theorem dX0_striking_17 : decode cX0_striking 17 = .ok (.iconst 1, 1) := dk_4 (dk_at dksX0_striking_0 17 rfl rfl)
theorem dX0_striking_18 : decode cX0_striking 18 = .ok (.invokevirtual 461, 3) := dk_182 1 205 (dk_at dksX0_striking_0 18 rfl rfl)
theorem dX0_striking_21 : decode cX0_striking 21 = .ok (.istore_n 3, 1) := dk_62 (dk_at dksX0_striking_0 21 rfl rfl)
theorem dX0_striking_22 : decode cX0_striking 22 = .ok (.aload_n 0, 1) := dk_42 (dk_at dksX0_striking_0 22 rfl rfl)
theorem dX0_striking_23 : decode cX0_striking 23 = .ok (.iload_n 2, 1) := dk_28 (dk_at dksX0_striking_0 23 rfl rfl)
theorem dX0_striking_24 : decode cX0_striking 24 = .ok (.iconst 2, 1) := dk_5 (dk_at dksX0_striking_1 0 rfl rfl)
theorem dX0_striking_25 : decode cX0_striking 25 = .ok (.invokevirtual 461, 3) := dk_182 1 205 (dk_at dksX0_striking_1 1 rfl rfl)
theorem dX0_striking_28 : decode cX0_striking 28 = .ok (.istore 4, 2) := dk_54 4 (dk_at dksX0_striking_1 4 rfl rfl)
theorem dX0_striking_30 : decode cX0_striking 30 = .ok (.iload_n 3, 1) := dk_29 (dk_at dksX0_striking_1 6 rfl rfl)
theorem dX0_striking_31 : decode cX0_striking 31 = .ok (.invokestatic 338, 3) := dk_184 1 82 (dk_at dksX0_striking_1 7 rfl rfl)
theorem dX0_striking_34 : decode cX0_striking 34 = .ok (.iload 4, 2) := dk_21 4 (dk_at dksX0_striking_1 10 rfl rfl)
theorem dX0_striking_36 : decode cX0_striking 36 = .ok (.invokestatic 338, 3) := dk_184 1 82 (dk_at dksX0_striking_1 12 rfl rfl)
theorem dX0_striking_39 : decode cX0_striking 39 = .ok (.if_icmp .lt 21, 3) := dk_161 0 21 (dk_at dksX0_striking_1 15 rfl rfl)
theorem dX0_striking_42 : decode cX0_striking 42 = .ok (.iload_n 3, 1) := dk_29 (dk_at dksX0_striking_1 18 rfl rfl)
theorem dX0_striking_43 : decode cX0_striking 43 = .ok (.invokestatic 338, 3) := dk_184 1 82 (dk_at dksX0_striking_1 19 rfl rfl)
theorem dX0_striking_46 : decode cX0_striking 46 = .ok (.iload 4, 2) := dk_21 4 (dk_at dksX0_striking_1 22 rfl rfl)
theorem dX0_striking_48 : decode cX0_striking 48 = .ok (.invokestatic 338, 3) := dk_184 1 82 (dk_at dksX0_striking_2 0 rfl rfl)
theorem dX0_striking_51 : decode cX0_striking 51 = .ok (.if_icmp .ne 13, 3) := dk_160 0 13 (dk_at dksX0_striking_2 3 rfl rfl)
theorem dX0_striking_54 : decode cX0_striking 54 = .ok (.iload_n 3, 1) := dk_29 (dk_at dksX0_striking_2 6 rfl rfl)
theorem dX0_striking_55 : decode cX0_striking 55 = .ok (.iload 4, 2) := dk_21 4 (dk_at dksX0_striking_2 7 rfl rfl)
theorem dX0_striking_57 : decode cX0_striking 57 = .ok (.if_icmp .ge 7, 3) := dk_162 0 7 (dk_at dksX0_striking_2 9 rfl rfl)
theorem dX0_striking_60 : decode cX0_striking 60 = .ok (.iconst 1, 1) := dk_4 (dk_at dksX0_striking_2 12 rfl rfl)
theorem dX0_striking_61 : decode cX0_striking 61 = .ok (.goto 4, 3) := dk_167 0 4 (dk_at dksX0_striking_2 13 rfl rfl)
theorem dX0_striking_64 : decode cX0_striking 64 = .ok (.iconst 0, 1) := dk_3 (dk_at dksX0_striking_2 16 rfl rfl)
theorem dX0_striking_65 : decode cX0_striking 65 = .ok (.istore 5, 2) := dk_54 5 (dk_at dksX0_striking_2 17 rfl rfl)
theorem dX0_striking_67 : decode cX0_striking 67 = .ok (.aload_n 0, 1) := dk_42 (dk_at dksX0_striking_2 19 rfl rfl)
theorem dX0_striking_68 : decode cX0_striking 68 = .ok (.iload_n 2, 1) := dk_28 (dk_at dksX0_striking_2 20 rfl rfl)
theorem dX0_striking_69 : decode cX0_striking 69 = .ok (.invokevirtual 455, 3) := dk_182 1 199 (dk_at dksX0_striking_2 21 rfl rfl)
theorem dX0_striking_72 : decode cX0_striking 72 = .ok (.istore 6, 2) := dk_54 6 (dk_at dksX0_striking_3 0 rfl rfl)
theorem dX0_striking_74 : decode cX0_striking 74 = .ok (.iload_n 1, 1) := dk_27 (dk_at dksX0_striking_3 2 rfl rfl)
theorem dX0_striking_75 : decode cX0_striking 75 = .ok (.iload 6, 2) := dk_21 6 (dk_at dksX0_striking_3 3 rfl rfl)
theorem dX0_striking_77 : decode cX0_striking 77 = .ok (.iconst 1, 1) := dk_4 (dk_at dksX0_striking_3 5 rfl rfl)
theorem dX0_striking_78 : decode cX0_striking 78 = .ok (.if_icmp .ne 8, 3) := dk_160 0 8 (dk_at dksX0_striking_3 6 rfl rfl)
theorem dX0_striking_81 : decode cX0_striking 81 = .ok (.iload 4, 2) := dk_21 4 (dk_at dksX0_striking_3 9 rfl rfl)
theorem dX0_striking_83 : decode cX0_striking 83 = .ok (.goto 20, 3) := dk_167 0 20 (dk_at dksX0_striking_3 11 rfl rfl)
theorem dX0_striking_86 : decode cX0_striking 86 = .ok (.iload 6, 2) := dk_21 6 (dk_at dksX0_striking_3 14 rfl rfl)
theorem dX0_striking_88 : decode cX0_striking 88 = .ok (.iconst 2, 1) := dk_5 (dk_at dksX0_striking_3 16 rfl rfl)
theorem dX0_striking_89 : decode cX0_striking 89 = .ok (.if_icmp .eq 8, 3) := dk_159 0 8 (dk_at dksX0_striking_3 17 rfl rfl)
theorem dX0_striking_92 : decode cX0_striking 92 = .ok (.iload 5, 2) := dk_21 5 (dk_at dksX0_striking_3 20 rfl rfl)
theorem dX0_striking_94 : decode cX0_striking 94 = .ok (.ifCond .eq 7, 3) := dk_153 0 7 (dk_at dksX0_striking_4 0 rfl rfl)
theorem dX0_striking_97 : decode cX0_striking 97 = .ok (.iload_n 3, 1) := dk_29 (dk_at dksX0_striking_4 3 rfl rfl)
theorem dX0_striking_98 : decode cX0_striking 98 = .ok (.goto 5, 3) := dk_167 0 5 (dk_at dksX0_striking_4 4 rfl rfl)
theorem dX0_striking_101 : decode cX0_striking 101 = .ok (.iload 4, 2) := dk_21 4 (dk_at dksX0_striking_4 7 rfl rfl)
theorem dX0_striking_103 : decode cX0_striking 103 = .ok (.ior, 1) := dk_128 (dk_at dksX0_striking_4 9 rfl rfl)
theorem dX0_striking_104 : decode cX0_striking 104 = .ok (.istore_n 1, 1) := dk_60 (dk_at dksX0_striking_4 10 rfl rfl)
theorem dX0_striking_105 : decode cX0_striking 105 = .ok (.iinc 2 1, 3) := dk_132 2 1 (dk_at dksX0_striking_4 11 rfl rfl)
theorem dX0_striking_108 : decode cX0_striking 108 = .ok (.goto (-104), 3) := dk_167 255 152 (dk_at dksX0_striking_4 14 rfl rfl)
theorem dX0_striking_111 : decode cX0_striking 111 = .ok (.iload_n 1, 1) := dk_27 (dk_at dksX0_striking_4 17 rfl rfl)
theorem dX0_striking_112 : decode cX0_striking 112 = .ok (.ireturn, 1) := dk_172 (dk_at dksX0_striking_4 18 rfl rfl)
abbrev cX0_saying : ByteArray := prog_1_method_87_code
def yX0_saying : MethodName := ⟨RX0, "saying", "(II)I"⟩
def dkwX0_saying_2 : List UInt8 := [4, 21, 4, 120, 167, 0, 4, 3, 128, 62, 132, 4, 1, 167, 255, 202, 29, 172]
abbrev dktX0_saying_2 : List UInt8 := dkwX0_saying_2 ++ []
def dkwX0_saying_1 : List UInt8 := [180, 1, 73, 21, 4, 46, 27, 160, 0, 24, 42, 182, 0, 168, 180, 1, 76, 21, 4, 46, 28, 160, 0, 10]
abbrev dktX0_saying_1 : List UInt8 := dkwX0_saying_1 ++ dktX0_saying_2
def dkwX0_saying_0 : List UInt8 := [3, 62, 3, 54, 4, 21, 4, 42, 182, 0, 168, 180, 0, 242, 162, 0, 48, 29, 42, 182, 0, 168]
abbrev dktX0_saying_0 : List UInt8 := dkwX0_saying_0 ++ dktX0_saying_1
theorem dksX0_saying_0 : cX0_saying.data.toList.drop 0 = dktX0_saying_0 := by decide +kernel
theorem dksX0_saying_1 : cX0_saying.data.toList.drop 22 = dktX0_saying_1 := dk_seg dksX0_saying_0 22 rfl rfl
theorem dksX0_saying_2 : cX0_saying.data.toList.drop 46 = dktX0_saying_2 := dk_seg dksX0_saying_1 24 rfl rfl
theorem dX0_saying_0 : decode cX0_saying 0 = .ok (.iconst 0, 1) := dk_3 (dk_at dksX0_saying_0 0 rfl rfl)
theorem dX0_saying_1 : decode cX0_saying 1 = .ok (.istore_n 3, 1) := dk_62 (dk_at dksX0_saying_0 1 rfl rfl)
theorem dX0_saying_2 : decode cX0_saying 2 = .ok (.iconst 0, 1) := dk_3 (dk_at dksX0_saying_0 2 rfl rfl)
theorem dX0_saying_3 : decode cX0_saying 3 = .ok (.istore 4, 2) := dk_54 4 (dk_at dksX0_saying_0 3 rfl rfl)
theorem dX0_saying_5 : decode cX0_saying 5 = .ok (.iload 4, 2) := dk_21 4 (dk_at dksX0_saying_0 5 rfl rfl)
theorem dX0_saying_7 : decode cX0_saying 7 = .ok (.aload_n 0, 1) := dk_42 (dk_at dksX0_saying_0 7 rfl rfl)
theorem dX0_saying_8 : decode cX0_saying 8 = .ok (.invokevirtual 168, 3) := dk_182 0 168 (dk_at dksX0_saying_0 8 rfl rfl)
theorem dX0_saying_11 : decode cX0_saying 11 = .ok (.getfield 242, 3) := dk_180 0 242 (dk_at dksX0_saying_0 11 rfl rfl)
theorem dX0_saying_14 : decode cX0_saying 14 = .ok (.if_icmp .ge 48, 3) := dk_162 0 48 (dk_at dksX0_saying_0 14 rfl rfl)
theorem dX0_saying_17 : decode cX0_saying 17 = .ok (.iload_n 3, 1) := dk_29 (dk_at dksX0_saying_0 17 rfl rfl)
theorem dX0_saying_18 : decode cX0_saying 18 = .ok (.aload_n 0, 1) := dk_42 (dk_at dksX0_saying_0 18 rfl rfl)
theorem dX0_saying_19 : decode cX0_saying 19 = .ok (.invokevirtual 168, 3) := dk_182 0 168 (dk_at dksX0_saying_0 19 rfl rfl)
theorem dX0_saying_22 : decode cX0_saying 22 = .ok (.getfield 329, 3) := dk_180 1 73 (dk_at dksX0_saying_1 0 rfl rfl)
theorem dX0_saying_25 : decode cX0_saying 25 = .ok (.iload 4, 2) := dk_21 4 (dk_at dksX0_saying_1 3 rfl rfl)
theorem dX0_saying_27 : decode cX0_saying 27 = .ok (.iaload, 1) := dk_46 (dk_at dksX0_saying_1 5 rfl rfl)
theorem dX0_saying_28 : decode cX0_saying 28 = .ok (.iload_n 1, 1) := dk_27 (dk_at dksX0_saying_1 6 rfl rfl)
theorem dX0_saying_29 : decode cX0_saying 29 = .ok (.if_icmp .ne 24, 3) := dk_160 0 24 (dk_at dksX0_saying_1 7 rfl rfl)
theorem dX0_saying_32 : decode cX0_saying 32 = .ok (.aload_n 0, 1) := dk_42 (dk_at dksX0_saying_1 10 rfl rfl)
theorem dX0_saying_33 : decode cX0_saying 33 = .ok (.invokevirtual 168, 3) := dk_182 0 168 (dk_at dksX0_saying_1 11 rfl rfl)
theorem dX0_saying_36 : decode cX0_saying 36 = .ok (.getfield 332, 3) := dk_180 1 76 (dk_at dksX0_saying_1 14 rfl rfl)
theorem dX0_saying_39 : decode cX0_saying 39 = .ok (.iload 4, 2) := dk_21 4 (dk_at dksX0_saying_1 17 rfl rfl)
theorem dX0_saying_41 : decode cX0_saying 41 = .ok (.iaload, 1) := dk_46 (dk_at dksX0_saying_1 19 rfl rfl)
theorem dX0_saying_42 : decode cX0_saying 42 = .ok (.iload_n 2, 1) := dk_28 (dk_at dksX0_saying_1 20 rfl rfl)
theorem dX0_saying_43 : decode cX0_saying 43 = .ok (.if_icmp .ne 10, 3) := dk_160 0 10 (dk_at dksX0_saying_1 21 rfl rfl)
theorem dX0_saying_46 : decode cX0_saying 46 = .ok (.iconst 1, 1) := dk_4 (dk_at dksX0_saying_2 0 rfl rfl)
theorem dX0_saying_47 : decode cX0_saying 47 = .ok (.iload 4, 2) := dk_21 4 (dk_at dksX0_saying_2 1 rfl rfl)
theorem dX0_saying_49 : decode cX0_saying 49 = .ok (.ishl, 1) := dk_120 (dk_at dksX0_saying_2 3 rfl rfl)
theorem dX0_saying_50 : decode cX0_saying 50 = .ok (.goto 4, 3) := dk_167 0 4 (dk_at dksX0_saying_2 4 rfl rfl)
theorem dX0_saying_53 : decode cX0_saying 53 = .ok (.iconst 0, 1) := dk_3 (dk_at dksX0_saying_2 7 rfl rfl)
theorem dX0_saying_54 : decode cX0_saying 54 = .ok (.ior, 1) := dk_128 (dk_at dksX0_saying_2 8 rfl rfl)
theorem dX0_saying_55 : decode cX0_saying 55 = .ok (.istore_n 3, 1) := dk_62 (dk_at dksX0_saying_2 9 rfl rfl)
theorem dX0_saying_56 : decode cX0_saying 56 = .ok (.iinc 4 1, 3) := dk_132 4 1 (dk_at dksX0_saying_2 10 rfl rfl)
theorem dX0_saying_59 : decode cX0_saying 59 = .ok (.goto (-54), 3) := dk_167 255 202 (dk_at dksX0_saying_2 13 rfl rfl)
theorem dX0_saying_62 : decode cX0_saying 62 = .ok (.iload_n 3, 1) := dk_29 (dk_at dksX0_saying_2 16 rfl rfl)
theorem dX0_saying_63 : decode cX0_saying 63 = .ok (.ireturn, 1) := dk_172 (dk_at dksX0_saying_2 17 rfl rfl)
abbrev cX0_struckSet : ByteArray := prog_1_method_90_code
def yX0_struckSet : MethodName := ⟨RX0, "struckSet", "()I"⟩
def dkwX0_struckSet_0 : List UInt8 := [42, 3, 181, 0, 91, 42, 182, 1, 208, 172]
abbrev dktX0_struckSet_0 : List UInt8 := dkwX0_struckSet_0 ++ []
theorem dksX0_struckSet_0 : cX0_struckSet.data.toList.drop 0 = dktX0_struckSet_0 := by decide +kernel
theorem dX0_struckSet_0 : decode cX0_struckSet 0 = .ok (.aload_n 0, 1) := dk_42 (dk_at dksX0_struckSet_0 0 rfl rfl)
theorem dX0_struckSet_1 : decode cX0_struckSet 1 = .ok (.iconst 0, 1) := dk_3 (dk_at dksX0_struckSet_0 1 rfl rfl)
theorem dX0_struckSet_2 : decode cX0_struckSet 2 = .ok (.putfield 91, 3) := dk_181 0 91 (dk_at dksX0_struckSet_0 2 rfl rfl)
theorem dX0_struckSet_5 : decode cX0_struckSet 5 = .ok (.aload_n 0, 1) := dk_42 (dk_at dksX0_struckSet_0 5 rfl rfl)
theorem dX0_struckSet_6 : decode cX0_struckSet 6 = .ok (.invokevirtual 464, 3) := dk_182 1 208 (dk_at dksX0_struckSet_0 6 rfl rfl)
theorem dX0_struckSet_9 : decode cX0_struckSet 9 = .ok (.ireturn, 1) := dk_172 (dk_at dksX0_struckSet_0 9 rfl rfl)
abbrev cX0_best : ByteArray := prog_1_method_93_code
def yX0_best : MethodName := ⟨RX0, "best", "()I"⟩
def dkwX0_best_0 : List UInt8 := [42, 3, 181, 0, 91, 42, 182, 1, 221, 42, 180, 1, 211, 172]
abbrev dktX0_best_0 : List UInt8 := dkwX0_best_0 ++ []
theorem dksX0_best_0 : cX0_best.data.toList.drop 0 = dktX0_best_0 := by decide +kernel
theorem dX0_best_0 : decode cX0_best 0 = .ok (.aload_n 0, 1) := dk_42 (dk_at dksX0_best_0 0 rfl rfl)
theorem dX0_best_1 : decode cX0_best 1 = .ok (.iconst 0, 1) := dk_3 (dk_at dksX0_best_0 1 rfl rfl)
theorem dX0_best_2 : decode cX0_best 2 = .ok (.putfield 91, 3) := dk_181 0 91 (dk_at dksX0_best_0 2 rfl rfl)
theorem dX0_best_5 : decode cX0_best 5 = .ok (.aload_n 0, 1) := dk_42 (dk_at dksX0_best_0 5 rfl rfl)
theorem dX0_best_6 : decode cX0_best 6 = .ok (.invokevirtual 477, 3) := dk_182 1 221 (dk_at dksX0_best_0 6 rfl rfl)
theorem dX0_best_9 : decode cX0_best 9 = .ok (.aload_n 0, 1) := dk_42 (dk_at dksX0_best_0 9 rfl rfl)
theorem dX0_best_10 : decode cX0_best 10 = .ok (.getfield 467, 3) := dk_180 1 211 (dk_at dksX0_best_0 10 rfl rfl)
theorem dX0_best_13 : decode cX0_best 13 = .ok (.ireturn, 1) := dk_172 (dk_at dksX0_best_0 13 rfl rfl)
abbrev cX0_laysOrder : ByteArray := prog_1_method_92_code
def yX0_laysOrder : MethodName := ⟨RX0, "laysOrder", "()V"⟩
def dkwX0_laysOrder_0 : List UInt8 := [42, 2, 181, 1, 211, 42, 3, 42, 182, 0, 168, 3, 182, 1, 2, 3, 182, 1, 217, 177]
abbrev dktX0_laysOrder_0 : List UInt8 := dkwX0_laysOrder_0 ++ []
theorem dksX0_laysOrder_0 : cX0_laysOrder.data.toList.drop 0 = dktX0_laysOrder_0 := by decide +kernel
theorem dX0_laysOrder_0 : decode cX0_laysOrder 0 = .ok (.aload_n 0, 1) := dk_42 (dk_at dksX0_laysOrder_0 0 rfl rfl)
theorem dX0_laysOrder_1 : decode cX0_laysOrder 1 = .ok (.iconst (-1), 1) := dk_2 (dk_at dksX0_laysOrder_0 1 rfl rfl)
theorem dX0_laysOrder_2 : decode cX0_laysOrder 2 = .ok (.putfield 467, 3) := dk_181 1 211 (dk_at dksX0_laysOrder_0 2 rfl rfl)
theorem dX0_laysOrder_5 : decode cX0_laysOrder 5 = .ok (.aload_n 0, 1) := dk_42 (dk_at dksX0_laysOrder_0 5 rfl rfl)
theorem dX0_laysOrder_6 : decode cX0_laysOrder 6 = .ok (.iconst 0, 1) := dk_3 (dk_at dksX0_laysOrder_0 6 rfl rfl)
theorem dX0_laysOrder_7 : decode cX0_laysOrder 7 = .ok (.aload_n 0, 1) := dk_42 (dk_at dksX0_laysOrder_0 7 rfl rfl)
theorem dX0_laysOrder_8 : decode cX0_laysOrder 8 = .ok (.invokevirtual 168, 3) := dk_182 0 168 (dk_at dksX0_laysOrder_0 8 rfl rfl)
theorem dX0_laysOrder_11 : decode cX0_laysOrder 11 = .ok (.iconst 0, 1) := dk_3 (dk_at dksX0_laysOrder_0 11 rfl rfl)
theorem dX0_laysOrder_12 : decode cX0_laysOrder 12 = .ok (.invokevirtual 258, 3) := dk_182 1 2 (dk_at dksX0_laysOrder_0 12 rfl rfl)
theorem dX0_laysOrder_15 : decode cX0_laysOrder 15 = .ok (.iconst 0, 1) := dk_3 (dk_at dksX0_laysOrder_0 15 rfl rfl)
theorem dX0_laysOrder_16 : decode cX0_laysOrder 16 = .ok (.invokevirtual 473, 3) := dk_182 1 217 (dk_at dksX0_laysOrder_0 16 rfl rfl)
theorem dX0_laysOrder_19 : decode cX0_laysOrder 19 = .ok (.return_, 1) := dk_177 (dk_at dksX0_laysOrder_0 19 rfl rfl)
abbrev cX0_sitsInOrder : ByteArray := prog_1_method_91_code
def yX0_sitsInOrder : MethodName := ⟨RX0, "sitsInOrder", "(III)V"⟩
def dkwX0_sitsInOrder_6 : List UInt8 := [167, 255, 153, 177]
abbrev dktX0_sitsInOrder_6 : List UInt8 := dkwX0_sitsInOrder_6 ++ []
def dkwX0_sitsInOrder_5 : List UInt8 := [21, 4, 120, 2, 130, 126, 29, 21, 5, 153, 0, 7, 4, 167, 0, 4, 3, 96, 182, 1, 217, 132, 4, 1]
abbrev dktX0_sitsInOrder_5 : List UInt8 := dkwX0_sitsInOrder_5 ++ dktX0_sitsInOrder_6
def dkwX0_sitsInOrder_4 : List UInt8 := [182, 1, 116, 182, 1, 196, 5, 160, 0, 7, 4, 167, 0, 4, 3, 54, 5, 42, 27, 4, 96, 28, 4]
abbrev dktX0_sitsInOrder_4 : List UInt8 := dkwX0_sitsInOrder_4 ++ dktX0_sitsInOrder_5
def dkwX0_sitsInOrder_3 : List UInt8 := [182, 0, 168, 42, 182, 0, 168, 21, 4, 16, 9, 42, 182, 0, 168, 180, 0, 245, 27, 96, 184, 1, 214]
abbrev dktX0_sitsInOrder_3 : List UInt8 := dkwX0_sitsInOrder_3 ++ dktX0_sitsInOrder_4
def dkwX0_sitsInOrder_2 : List UInt8 := [162, 0, 97, 28, 21, 4, 184, 1, 175, 154, 0, 6, 167, 0, 79, 42, 180, 0, 82, 27, 21, 4, 79, 42]
abbrev dktX0_sitsInOrder_2 : List UInt8 := dkwX0_sitsInOrder_2 ++ dktX0_sitsInOrder_3
def dkwX0_sitsInOrder_1 : List UInt8 := [180, 0, 85, 3, 16, 6, 184, 0, 157, 177, 3, 54, 4, 21, 4, 42, 182, 0, 168, 180, 0, 185]
abbrev dktX0_sitsInOrder_1 : List UInt8 := dkwX0_sitsInOrder_1 ++ dktX0_sitsInOrder_2
def dkwX0_sitsInOrder_0 : List UInt8 := [28, 154, 0, 33, 29, 42, 180, 1, 211, 163, 0, 4, 177, 42, 29, 181, 1, 211, 42, 180, 0, 82, 3, 42]
abbrev dktX0_sitsInOrder_0 : List UInt8 := dkwX0_sitsInOrder_0 ++ dktX0_sitsInOrder_1
theorem dksX0_sitsInOrder_0 : cX0_sitsInOrder.data.toList.drop 0 = dktX0_sitsInOrder_0 := by decide +kernel
theorem dksX0_sitsInOrder_1 : cX0_sitsInOrder.data.toList.drop 24 = dktX0_sitsInOrder_1 := dk_seg dksX0_sitsInOrder_0 24 rfl rfl
theorem dksX0_sitsInOrder_2 : cX0_sitsInOrder.data.toList.drop 46 = dktX0_sitsInOrder_2 := dk_seg dksX0_sitsInOrder_1 22 rfl rfl
theorem dksX0_sitsInOrder_3 : cX0_sitsInOrder.data.toList.drop 70 = dktX0_sitsInOrder_3 := dk_seg dksX0_sitsInOrder_2 24 rfl rfl
theorem dksX0_sitsInOrder_4 : cX0_sitsInOrder.data.toList.drop 93 = dktX0_sitsInOrder_4 := dk_seg dksX0_sitsInOrder_3 23 rfl rfl
theorem dksX0_sitsInOrder_5 : cX0_sitsInOrder.data.toList.drop 116 = dktX0_sitsInOrder_5 := dk_seg dksX0_sitsInOrder_4 23 rfl rfl
theorem dksX0_sitsInOrder_6 : cX0_sitsInOrder.data.toList.drop 140 = dktX0_sitsInOrder_6 := dk_seg dksX0_sitsInOrder_5 24 rfl rfl
theorem dX0_sitsInOrder_0 : decode cX0_sitsInOrder 0 = .ok (.iload_n 2, 1) := dk_28 (dk_at dksX0_sitsInOrder_0 0 rfl rfl)
theorem dX0_sitsInOrder_1 : decode cX0_sitsInOrder 1 = .ok (.ifCond .ne 33, 3) := dk_154 0 33 (dk_at dksX0_sitsInOrder_0 1 rfl rfl)
theorem dX0_sitsInOrder_4 : decode cX0_sitsInOrder 4 = .ok (.iload_n 3, 1) := dk_29 (dk_at dksX0_sitsInOrder_0 4 rfl rfl)
theorem dX0_sitsInOrder_5 : decode cX0_sitsInOrder 5 = .ok (.aload_n 0, 1) := dk_42 (dk_at dksX0_sitsInOrder_0 5 rfl rfl)
theorem dX0_sitsInOrder_6 : decode cX0_sitsInOrder 6 = .ok (.getfield 467, 3) := dk_180 1 211 (dk_at dksX0_sitsInOrder_0 6 rfl rfl)
theorem dX0_sitsInOrder_9 : decode cX0_sitsInOrder 9 = .ok (.if_icmp .gt 4, 3) := dk_163 0 4 (dk_at dksX0_sitsInOrder_0 9 rfl rfl)
theorem dX0_sitsInOrder_12 : decode cX0_sitsInOrder 12 = .ok (.return_, 1) := dk_177 (dk_at dksX0_sitsInOrder_0 12 rfl rfl)
theorem dX0_sitsInOrder_13 : decode cX0_sitsInOrder 13 = .ok (.aload_n 0, 1) := dk_42 (dk_at dksX0_sitsInOrder_0 13 rfl rfl)
theorem dX0_sitsInOrder_14 : decode cX0_sitsInOrder 14 = .ok (.iload_n 3, 1) := dk_29 (dk_at dksX0_sitsInOrder_0 14 rfl rfl)
theorem dX0_sitsInOrder_15 : decode cX0_sitsInOrder 15 = .ok (.putfield 467, 3) := dk_181 1 211 (dk_at dksX0_sitsInOrder_0 15 rfl rfl)
theorem dX0_sitsInOrder_18 : decode cX0_sitsInOrder 18 = .ok (.aload_n 0, 1) := dk_42 (dk_at dksX0_sitsInOrder_0 18 rfl rfl)
theorem dX0_sitsInOrder_19 : decode cX0_sitsInOrder 19 = .ok (.getfield 82, 3) := dk_180 0 82 (dk_at dksX0_sitsInOrder_0 19 rfl rfl)
theorem dX0_sitsInOrder_22 : decode cX0_sitsInOrder 22 = .ok (.iconst 0, 1) := dk_3 (dk_at dksX0_sitsInOrder_0 22 rfl rfl)
theorem dX0_sitsInOrder_23 : decode cX0_sitsInOrder 23 = .ok (.aload_n 0, 1) := dk_42 (dk_at dksX0_sitsInOrder_0 23 rfl rfl)
theorem dX0_sitsInOrder_24 : decode cX0_sitsInOrder 24 = .ok (.getfield 85, 3) := dk_180 0 85 (dk_at dksX0_sitsInOrder_1 0 rfl rfl)
theorem dX0_sitsInOrder_27 : decode cX0_sitsInOrder 27 = .ok (.iconst 0, 1) := dk_3 (dk_at dksX0_sitsInOrder_1 3 rfl rfl)
theorem dX0_sitsInOrder_28 : decode cX0_sitsInOrder 28 = .ok (.bipush 6, 2) := dk_16 6 (dk_at dksX0_sitsInOrder_1 4 rfl rfl)
theorem dX0_sitsInOrder_30 : decode cX0_sitsInOrder 30 = .ok (.invokestatic 157, 3) := dk_184 0 157 (dk_at dksX0_sitsInOrder_1 6 rfl rfl)
theorem dX0_sitsInOrder_33 : decode cX0_sitsInOrder 33 = .ok (.return_, 1) := dk_177 (dk_at dksX0_sitsInOrder_1 9 rfl rfl)
theorem dX0_sitsInOrder_34 : decode cX0_sitsInOrder 34 = .ok (.iconst 0, 1) := dk_3 (dk_at dksX0_sitsInOrder_1 10 rfl rfl)
theorem dX0_sitsInOrder_35 : decode cX0_sitsInOrder 35 = .ok (.istore 4, 2) := dk_54 4 (dk_at dksX0_sitsInOrder_1 11 rfl rfl)
theorem dX0_sitsInOrder_37 : decode cX0_sitsInOrder 37 = .ok (.iload 4, 2) := dk_21 4 (dk_at dksX0_sitsInOrder_1 13 rfl rfl)
theorem dX0_sitsInOrder_39 : decode cX0_sitsInOrder 39 = .ok (.aload_n 0, 1) := dk_42 (dk_at dksX0_sitsInOrder_1 15 rfl rfl)
theorem dX0_sitsInOrder_40 : decode cX0_sitsInOrder 40 = .ok (.invokevirtual 168, 3) := dk_182 0 168 (dk_at dksX0_sitsInOrder_1 16 rfl rfl)
theorem dX0_sitsInOrder_43 : decode cX0_sitsInOrder 43 = .ok (.getfield 185, 3) := dk_180 0 185 (dk_at dksX0_sitsInOrder_1 19 rfl rfl)
theorem dX0_sitsInOrder_46 : decode cX0_sitsInOrder 46 = .ok (.if_icmp .ge 97, 3) := dk_162 0 97 (dk_at dksX0_sitsInOrder_2 0 rfl rfl)
theorem dX0_sitsInOrder_49 : decode cX0_sitsInOrder 49 = .ok (.iload_n 2, 1) := dk_28 (dk_at dksX0_sitsInOrder_2 3 rfl rfl)
theorem dX0_sitsInOrder_50 : decode cX0_sitsInOrder 50 = .ok (.iload 4, 2) := dk_21 4 (dk_at dksX0_sitsInOrder_2 4 rfl rfl)
theorem dX0_sitsInOrder_52 : decode cX0_sitsInOrder 52 = .ok (.invokestatic 431, 3) := dk_184 1 175 (dk_at dksX0_sitsInOrder_2 6 rfl rfl)
theorem dX0_sitsInOrder_55 : decode cX0_sitsInOrder 55 = .ok (.ifCond .ne 6, 3) := dk_154 0 6 (dk_at dksX0_sitsInOrder_2 9 rfl rfl)
theorem dX0_sitsInOrder_58 : decode cX0_sitsInOrder 58 = .ok (.goto 79, 3) := dk_167 0 79 (dk_at dksX0_sitsInOrder_2 12 rfl rfl)
theorem dX0_sitsInOrder_61 : decode cX0_sitsInOrder 61 = .ok (.aload_n 0, 1) := dk_42 (dk_at dksX0_sitsInOrder_2 15 rfl rfl)
theorem dX0_sitsInOrder_62 : decode cX0_sitsInOrder 62 = .ok (.getfield 82, 3) := dk_180 0 82 (dk_at dksX0_sitsInOrder_2 16 rfl rfl)
theorem dX0_sitsInOrder_65 : decode cX0_sitsInOrder 65 = .ok (.iload_n 1, 1) := dk_27 (dk_at dksX0_sitsInOrder_2 19 rfl rfl)
theorem dX0_sitsInOrder_66 : decode cX0_sitsInOrder 66 = .ok (.iload 4, 2) := dk_21 4 (dk_at dksX0_sitsInOrder_2 20 rfl rfl)
theorem dX0_sitsInOrder_68 : decode cX0_sitsInOrder 68 = .ok (.iastore, 1) := dk_79 (dk_at dksX0_sitsInOrder_2 22 rfl rfl)
theorem dX0_sitsInOrder_69 : decode cX0_sitsInOrder 69 = .ok (.aload_n 0, 1) := dk_42 (dk_at dksX0_sitsInOrder_2 23 rfl rfl)
theorem dX0_sitsInOrder_70 : decode cX0_sitsInOrder 70 = .ok (.invokevirtual 168, 3) := dk_182 0 168 (dk_at dksX0_sitsInOrder_3 0 rfl rfl)
theorem dX0_sitsInOrder_73 : decode cX0_sitsInOrder 73 = .ok (.aload_n 0, 1) := dk_42 (dk_at dksX0_sitsInOrder_3 3 rfl rfl)
theorem dX0_sitsInOrder_74 : decode cX0_sitsInOrder 74 = .ok (.invokevirtual 168, 3) := dk_182 0 168 (dk_at dksX0_sitsInOrder_3 4 rfl rfl)
theorem dX0_sitsInOrder_77 : decode cX0_sitsInOrder 77 = .ok (.iload 4, 2) := dk_21 4 (dk_at dksX0_sitsInOrder_3 7 rfl rfl)
theorem dX0_sitsInOrder_79 : decode cX0_sitsInOrder 79 = .ok (.bipush 9, 2) := dk_16 9 (dk_at dksX0_sitsInOrder_3 9 rfl rfl)
theorem dX0_sitsInOrder_81 : decode cX0_sitsInOrder 81 = .ok (.aload_n 0, 1) := dk_42 (dk_at dksX0_sitsInOrder_3 11 rfl rfl)
theorem dX0_sitsInOrder_82 : decode cX0_sitsInOrder 82 = .ok (.invokevirtual 168, 3) := dk_182 0 168 (dk_at dksX0_sitsInOrder_3 12 rfl rfl)
theorem dX0_sitsInOrder_85 : decode cX0_sitsInOrder 85 = .ok (.getfield 245, 3) := dk_180 0 245 (dk_at dksX0_sitsInOrder_3 15 rfl rfl)
theorem dX0_sitsInOrder_88 : decode cX0_sitsInOrder 88 = .ok (.iload_n 1, 1) := dk_27 (dk_at dksX0_sitsInOrder_3 18 rfl rfl)
theorem dX0_sitsInOrder_89 : decode cX0_sitsInOrder 89 = .ok (.iadd, 1) := dk_96 (dk_at dksX0_sitsInOrder_3 19 rfl rfl)
theorem dX0_sitsInOrder_90 : decode cX0_sitsInOrder 90 = .ok (.invokestatic 470, 3) := dk_184 1 214 (dk_at dksX0_sitsInOrder_3 20 rfl rfl)
theorem dX0_sitsInOrder_93 : decode cX0_sitsInOrder 93 = .ok (.invokevirtual 372, 3) := dk_182 1 116 (dk_at dksX0_sitsInOrder_4 0 rfl rfl)
theorem dX0_sitsInOrder_96 : decode cX0_sitsInOrder 96 = .ok (.invokevirtual 452, 3) := dk_182 1 196 (dk_at dksX0_sitsInOrder_4 3 rfl rfl)
theorem dX0_sitsInOrder_99 : decode cX0_sitsInOrder 99 = .ok (.iconst 2, 1) := dk_5 (dk_at dksX0_sitsInOrder_4 6 rfl rfl)
theorem dX0_sitsInOrder_100 : decode cX0_sitsInOrder 100 = .ok (.if_icmp .ne 7, 3) := dk_160 0 7 (dk_at dksX0_sitsInOrder_4 7 rfl rfl)
theorem dX0_sitsInOrder_103 : decode cX0_sitsInOrder 103 = .ok (.iconst 1, 1) := dk_4 (dk_at dksX0_sitsInOrder_4 10 rfl rfl)
theorem dX0_sitsInOrder_104 : decode cX0_sitsInOrder 104 = .ok (.goto 4, 3) := dk_167 0 4 (dk_at dksX0_sitsInOrder_4 11 rfl rfl)
theorem dX0_sitsInOrder_107 : decode cX0_sitsInOrder 107 = .ok (.iconst 0, 1) := dk_3 (dk_at dksX0_sitsInOrder_4 14 rfl rfl)
theorem dX0_sitsInOrder_108 : decode cX0_sitsInOrder 108 = .ok (.istore 5, 2) := dk_54 5 (dk_at dksX0_sitsInOrder_4 15 rfl rfl)
theorem dX0_sitsInOrder_110 : decode cX0_sitsInOrder 110 = .ok (.aload_n 0, 1) := dk_42 (dk_at dksX0_sitsInOrder_4 17 rfl rfl)
theorem dX0_sitsInOrder_111 : decode cX0_sitsInOrder 111 = .ok (.iload_n 1, 1) := dk_27 (dk_at dksX0_sitsInOrder_4 18 rfl rfl)
theorem dX0_sitsInOrder_112 : decode cX0_sitsInOrder 112 = .ok (.iconst 1, 1) := dk_4 (dk_at dksX0_sitsInOrder_4 19 rfl rfl)
theorem dX0_sitsInOrder_113 : decode cX0_sitsInOrder 113 = .ok (.iadd, 1) := dk_96 (dk_at dksX0_sitsInOrder_4 20 rfl rfl)
theorem dX0_sitsInOrder_114 : decode cX0_sitsInOrder 114 = .ok (.iload_n 2, 1) := dk_28 (dk_at dksX0_sitsInOrder_4 21 rfl rfl)
theorem dX0_sitsInOrder_115 : decode cX0_sitsInOrder 115 = .ok (.iconst 1, 1) := dk_4 (dk_at dksX0_sitsInOrder_4 22 rfl rfl)
theorem dX0_sitsInOrder_116 : decode cX0_sitsInOrder 116 = .ok (.iload 4, 2) := dk_21 4 (dk_at dksX0_sitsInOrder_5 0 rfl rfl)
theorem dX0_sitsInOrder_118 : decode cX0_sitsInOrder 118 = .ok (.ishl, 1) := dk_120 (dk_at dksX0_sitsInOrder_5 2 rfl rfl)
theorem dX0_sitsInOrder_119 : decode cX0_sitsInOrder 119 = .ok (.iconst (-1), 1) := dk_2 (dk_at dksX0_sitsInOrder_5 3 rfl rfl)
theorem dX0_sitsInOrder_120 : decode cX0_sitsInOrder 120 = .ok (.ixor, 1) := dk_130 (dk_at dksX0_sitsInOrder_5 4 rfl rfl)
theorem dX0_sitsInOrder_121 : decode cX0_sitsInOrder 121 = .ok (.iand, 1) := dk_126 (dk_at dksX0_sitsInOrder_5 5 rfl rfl)
theorem dX0_sitsInOrder_122 : decode cX0_sitsInOrder 122 = .ok (.iload_n 3, 1) := dk_29 (dk_at dksX0_sitsInOrder_5 6 rfl rfl)
theorem dX0_sitsInOrder_123 : decode cX0_sitsInOrder 123 = .ok (.iload 5, 2) := dk_21 5 (dk_at dksX0_sitsInOrder_5 7 rfl rfl)
theorem dX0_sitsInOrder_125 : decode cX0_sitsInOrder 125 = .ok (.ifCond .eq 7, 3) := dk_153 0 7 (dk_at dksX0_sitsInOrder_5 9 rfl rfl)
theorem dX0_sitsInOrder_128 : decode cX0_sitsInOrder 128 = .ok (.iconst 1, 1) := dk_4 (dk_at dksX0_sitsInOrder_5 12 rfl rfl)
theorem dX0_sitsInOrder_129 : decode cX0_sitsInOrder 129 = .ok (.goto 4, 3) := dk_167 0 4 (dk_at dksX0_sitsInOrder_5 13 rfl rfl)
theorem dX0_sitsInOrder_132 : decode cX0_sitsInOrder 132 = .ok (.iconst 0, 1) := dk_3 (dk_at dksX0_sitsInOrder_5 16 rfl rfl)
theorem dX0_sitsInOrder_133 : decode cX0_sitsInOrder 133 = .ok (.iadd, 1) := dk_96 (dk_at dksX0_sitsInOrder_5 17 rfl rfl)
theorem dX0_sitsInOrder_134 : decode cX0_sitsInOrder 134 = .ok (.invokevirtual 473, 3) := dk_182 1 217 (dk_at dksX0_sitsInOrder_5 18 rfl rfl)
theorem dX0_sitsInOrder_137 : decode cX0_sitsInOrder 137 = .ok (.iinc 4 1, 3) := dk_132 4 1 (dk_at dksX0_sitsInOrder_5 21 rfl rfl)
theorem dX0_sitsInOrder_140 : decode cX0_sitsInOrder 140 = .ok (.goto (-103), 3) := dk_167 255 153 (dk_at dksX0_sitsInOrder_6 0 rfl rfl)
theorem dX0_sitsInOrder_143 : decode cX0_sitsInOrder 143 = .ok (.return_, 1) := dk_177 (dk_at dksX0_sitsInOrder_6 3 rfl rfl)
abbrev cX0_bestAt : ByteArray := prog_1_method_94_code
def yX0_bestAt : MethodName := ⟨RX0, "bestAt", "(I)I"⟩
def dkwX0_bestAt_2 : List UInt8 := [180, 0, 85, 27, 46, 172]
abbrev dktX0_bestAt_2 : List UInt8 := dkwX0_bestAt_2 ++ []
def dkwX0_bestAt_1 : List UInt8 := [3, 167, 0, 5, 16, 6, 181, 0, 91, 42, 180, 0, 91, 158, 0, 5, 2, 172, 42, 182, 1, 221, 42]
abbrev dktX0_bestAt_1 : List UInt8 := dkwX0_bestAt_1 ++ dktX0_bestAt_2
def dkwX0_bestAt_0 : List UInt8 := [42, 27, 156, 0, 7, 4, 167, 0, 24, 27, 42, 182, 0, 168, 3, 182, 1, 2, 184, 1, 82, 162, 0, 7]
abbrev dktX0_bestAt_0 : List UInt8 := dkwX0_bestAt_0 ++ dktX0_bestAt_1
theorem dksX0_bestAt_0 : cX0_bestAt.data.toList.drop 0 = dktX0_bestAt_0 := by decide +kernel
theorem dksX0_bestAt_1 : cX0_bestAt.data.toList.drop 24 = dktX0_bestAt_1 := dk_seg dksX0_bestAt_0 24 rfl rfl
theorem dksX0_bestAt_2 : cX0_bestAt.data.toList.drop 47 = dktX0_bestAt_2 := dk_seg dksX0_bestAt_1 23 rfl rfl
theorem dX0_bestAt_0 : decode cX0_bestAt 0 = .ok (.aload_n 0, 1) := dk_42 (dk_at dksX0_bestAt_0 0 rfl rfl)
theorem dX0_bestAt_1 : decode cX0_bestAt 1 = .ok (.iload_n 1, 1) := dk_27 (dk_at dksX0_bestAt_0 1 rfl rfl)
theorem dX0_bestAt_2 : decode cX0_bestAt 2 = .ok (.ifCond .ge 7, 3) := dk_156 0 7 (dk_at dksX0_bestAt_0 2 rfl rfl)
theorem dX0_bestAt_5 : decode cX0_bestAt 5 = .ok (.iconst 1, 1) := dk_4 (dk_at dksX0_bestAt_0 5 rfl rfl)
theorem dX0_bestAt_6 : decode cX0_bestAt 6 = .ok (.goto 24, 3) := dk_167 0 24 (dk_at dksX0_bestAt_0 6 rfl rfl)
theorem dX0_bestAt_9 : decode cX0_bestAt 9 = .ok (.iload_n 1, 1) := dk_27 (dk_at dksX0_bestAt_0 9 rfl rfl)
theorem dX0_bestAt_10 : decode cX0_bestAt 10 = .ok (.aload_n 0, 1) := dk_42 (dk_at dksX0_bestAt_0 10 rfl rfl)
theorem dX0_bestAt_11 : decode cX0_bestAt 11 = .ok (.invokevirtual 168, 3) := dk_182 0 168 (dk_at dksX0_bestAt_0 11 rfl rfl)
theorem dX0_bestAt_14 : decode cX0_bestAt 14 = .ok (.iconst 0, 1) := dk_3 (dk_at dksX0_bestAt_0 14 rfl rfl)
theorem dX0_bestAt_15 : decode cX0_bestAt 15 = .ok (.invokevirtual 258, 3) := dk_182 1 2 (dk_at dksX0_bestAt_0 15 rfl rfl)
theorem dX0_bestAt_18 : decode cX0_bestAt 18 = .ok (.invokestatic 338, 3) := dk_184 1 82 (dk_at dksX0_bestAt_0 18 rfl rfl)
theorem dX0_bestAt_21 : decode cX0_bestAt 21 = .ok (.if_icmp .ge 7, 3) := dk_162 0 7 (dk_at dksX0_bestAt_0 21 rfl rfl)
theorem dX0_bestAt_24 : decode cX0_bestAt 24 = .ok (.iconst 0, 1) := dk_3 (dk_at dksX0_bestAt_1 0 rfl rfl)
theorem dX0_bestAt_25 : decode cX0_bestAt 25 = .ok (.goto 5, 3) := dk_167 0 5 (dk_at dksX0_bestAt_1 1 rfl rfl)
theorem dX0_bestAt_28 : decode cX0_bestAt 28 = .ok (.bipush 6, 2) := dk_16 6 (dk_at dksX0_bestAt_1 4 rfl rfl)
theorem dX0_bestAt_30 : decode cX0_bestAt 30 = .ok (.putfield 91, 3) := dk_181 0 91 (dk_at dksX0_bestAt_1 6 rfl rfl)
theorem dX0_bestAt_33 : decode cX0_bestAt 33 = .ok (.aload_n 0, 1) := dk_42 (dk_at dksX0_bestAt_1 9 rfl rfl)
theorem dX0_bestAt_34 : decode cX0_bestAt 34 = .ok (.getfield 91, 3) := dk_180 0 91 (dk_at dksX0_bestAt_1 10 rfl rfl)
theorem dX0_bestAt_37 : decode cX0_bestAt 37 = .ok (.ifCond .le 5, 3) := dk_158 0 5 (dk_at dksX0_bestAt_1 13 rfl rfl)
theorem dX0_bestAt_40 : decode cX0_bestAt 40 = .ok (.iconst (-1), 1) := dk_2 (dk_at dksX0_bestAt_1 16 rfl rfl)
theorem dX0_bestAt_41 : decode cX0_bestAt 41 = .ok (.ireturn, 1) := dk_172 (dk_at dksX0_bestAt_1 17 rfl rfl)
theorem dX0_bestAt_42 : decode cX0_bestAt 42 = .ok (.aload_n 0, 1) := dk_42 (dk_at dksX0_bestAt_1 18 rfl rfl)
theorem dX0_bestAt_43 : decode cX0_bestAt 43 = .ok (.invokevirtual 477, 3) := dk_182 1 221 (dk_at dksX0_bestAt_1 19 rfl rfl)
theorem dX0_bestAt_46 : decode cX0_bestAt 46 = .ok (.aload_n 0, 1) := dk_42 (dk_at dksX0_bestAt_1 22 rfl rfl)
theorem dX0_bestAt_47 : decode cX0_bestAt 47 = .ok (.getfield 85, 3) := dk_180 0 85 (dk_at dksX0_bestAt_2 0 rfl rfl)
theorem dX0_bestAt_50 : decode cX0_bestAt 50 = .ok (.iload_n 1, 1) := dk_27 (dk_at dksX0_bestAt_2 3 rfl rfl)
theorem dX0_bestAt_51 : decode cX0_bestAt 51 = .ok (.iaload, 1) := dk_46 (dk_at dksX0_bestAt_2 4 rfl rfl)
theorem dX0_bestAt_52 : decode cX0_bestAt 52 = .ok (.ireturn, 1) := dk_172 (dk_at dksX0_bestAt_2 5 rfl rfl)
abbrev cX0_game : ByteArray := prog_1_method_99_code
def yX0_game : MethodName := ⟨RX0, "game", "(I)I"⟩
def dkwX0_game_1 : List UInt8 := [180, 0, 91, 158, 0, 7, 2, 167, 0, 8, 42, 27, 182, 1, 239, 172]
abbrev dktX0_game_1 : List UInt8 := dkwX0_game_1 ++ []
def dkwX0_game_0 : List UInt8 := [42, 27, 133, 9, 20, 1, 132, 184, 0, 175, 153, 0, 7, 3, 167, 0, 4, 4, 181, 0, 91, 42]
abbrev dktX0_game_0 : List UInt8 := dkwX0_game_0 ++ dktX0_game_1
theorem dksX0_game_0 : cX0_game.data.toList.drop 0 = dktX0_game_0 := by decide +kernel
theorem dksX0_game_1 : cX0_game.data.toList.drop 22 = dktX0_game_1 := dk_seg dksX0_game_0 22 rfl rfl
theorem dX0_game_0 : decode cX0_game 0 = .ok (.aload_n 0, 1) := dk_42 (dk_at dksX0_game_0 0 rfl rfl)
theorem dX0_game_1 : decode cX0_game 1 = .ok (.iload_n 1, 1) := dk_27 (dk_at dksX0_game_0 1 rfl rfl)
theorem dX0_game_2 : decode cX0_game 2 = .ok (.i2l, 1) := dk_133 (dk_at dksX0_game_0 2 rfl rfl)
theorem dX0_game_3 : decode cX0_game 3 = .ok (.lconst 0, 1) := dk_9 (dk_at dksX0_game_0 3 rfl rfl)
theorem dX0_game_4 : decode cX0_game 4 = .ok (.ldc2_w 388, 3) := dk_20 1 132 (dk_at dksX0_game_0 4 rfl rfl)
theorem dX0_game_7 : decode cX0_game 7 = .ok (.invokestatic 175, 3) := dk_184 0 175 (dk_at dksX0_game_0 7 rfl rfl)
theorem dX0_game_10 : decode cX0_game 10 = .ok (.ifCond .eq 7, 3) := dk_153 0 7 (dk_at dksX0_game_0 10 rfl rfl)
theorem dX0_game_13 : decode cX0_game 13 = .ok (.iconst 0, 1) := dk_3 (dk_at dksX0_game_0 13 rfl rfl)
theorem dX0_game_14 : decode cX0_game 14 = .ok (.goto 4, 3) := dk_167 0 4 (dk_at dksX0_game_0 14 rfl rfl)
theorem dX0_game_17 : decode cX0_game 17 = .ok (.iconst 1, 1) := dk_4 (dk_at dksX0_game_0 17 rfl rfl)
theorem dX0_game_18 : decode cX0_game 18 = .ok (.putfield 91, 3) := dk_181 0 91 (dk_at dksX0_game_0 18 rfl rfl)
theorem dX0_game_21 : decode cX0_game 21 = .ok (.aload_n 0, 1) := dk_42 (dk_at dksX0_game_0 21 rfl rfl)
theorem dX0_game_22 : decode cX0_game 22 = .ok (.getfield 91, 3) := dk_180 0 91 (dk_at dksX0_game_1 0 rfl rfl)
theorem dX0_game_25 : decode cX0_game 25 = .ok (.ifCond .le 7, 3) := dk_158 0 7 (dk_at dksX0_game_1 3 rfl rfl)
theorem dX0_game_28 : decode cX0_game 28 = .ok (.iconst (-1), 1) := dk_2 (dk_at dksX0_game_1 6 rfl rfl)
theorem dX0_game_29 : decode cX0_game 29 = .ok (.goto 8, 3) := dk_167 0 8 (dk_at dksX0_game_1 7 rfl rfl)
theorem dX0_game_32 : decode cX0_game 32 = .ok (.aload_n 0, 1) := dk_42 (dk_at dksX0_game_1 10 rfl rfl)
theorem dX0_game_33 : decode cX0_game 33 = .ok (.iload_n 1, 1) := dk_27 (dk_at dksX0_game_1 11 rfl rfl)
theorem dX0_game_34 : decode cX0_game 34 = .ok (.invokevirtual 495, 3) := dk_182 1 239 (dk_at dksX0_game_1 12 rfl rfl)
theorem dX0_game_37 : decode cX0_game 37 = .ok (.ireturn, 1) := dk_172 (dk_at dksX0_game_1 15 rfl rfl)
abbrev cX0_gameOf : ByteArray := prog_1_method_98_code
def yX0_gameOf : MethodName := ⟨RX0, "gameOf", "(I)I"⟩
def dkwX0_gameOf_0 : List UInt8 := [42, 180, 0, 66, 42, 182, 0, 168, 182, 0, 216, 42, 3, 27, 182, 1, 230, 172]
abbrev dktX0_gameOf_0 : List UInt8 := dkwX0_gameOf_0 ++ []
theorem dksX0_gameOf_0 : cX0_gameOf.data.toList.drop 0 = dktX0_gameOf_0 := by decide +kernel
theorem dX0_gameOf_0 : decode cX0_gameOf 0 = .ok (.aload_n 0, 1) := dk_42 (dk_at dksX0_gameOf_0 0 rfl rfl)
theorem dX0_gameOf_1 : decode cX0_gameOf 1 = .ok (.getfield 66, 3) := dk_180 0 66 (dk_at dksX0_gameOf_0 1 rfl rfl)
theorem dX0_gameOf_4 : decode cX0_gameOf 4 = .ok (.aload_n 0, 1) := dk_42 (dk_at dksX0_gameOf_0 4 rfl rfl)
theorem dX0_gameOf_5 : decode cX0_gameOf 5 = .ok (.invokevirtual 168, 3) := dk_182 0 168 (dk_at dksX0_gameOf_0 5 rfl rfl)
theorem dX0_gameOf_8 : decode cX0_gameOf 8 = .ok (.invokevirtual 216, 3) := dk_182 0 216 (dk_at dksX0_gameOf_0 8 rfl rfl)
theorem dX0_gameOf_11 : decode cX0_gameOf 11 = .ok (.aload_n 0, 1) := dk_42 (dk_at dksX0_gameOf_0 11 rfl rfl)
theorem dX0_gameOf_12 : decode cX0_gameOf 12 = .ok (.iconst 0, 1) := dk_3 (dk_at dksX0_gameOf_0 12 rfl rfl)
theorem dX0_gameOf_13 : decode cX0_gameOf 13 = .ok (.iload_n 1, 1) := dk_27 (dk_at dksX0_gameOf_0 13 rfl rfl)
theorem dX0_gameOf_14 : decode cX0_gameOf 14 = .ok (.invokevirtual 486, 3) := dk_182 1 230 (dk_at dksX0_gameOf_0 14 rfl rfl)
theorem dX0_gameOf_17 : decode cX0_gameOf 17 = .ok (.ireturn, 1) := dk_172 (dk_at dksX0_gameOf_0 17 rfl rfl)
abbrev cX0_plays : ByteArray := prog_1_method_96_code
def yX0_plays : MethodName := ⟨RX0, "plays", "(II)I"⟩
def dkwX0_plays_9 : List UInt8 := [42, 21, 8, 181, 1, 236, 132, 8, 1, 167, 255, 102, 132, 6, 1, 167, 255, 62, 21, 4, 172]
abbrev dktX0_plays_9 : List UInt8 := dkwX0_plays_9 ++ []
def dkwX0_plays_8 : List UInt8 := [54, 4, 27, 158, 0, 6, 167, 0, 24, 42, 21, 7, 153, 0, 7, 2, 167, 0, 5, 21, 6, 181, 1, 233]
abbrev dktX0_plays_8 : List UInt8 := dkwX0_plays_8 ++ dktX0_plays_9
def dkwX0_plays_7 : List UInt8 := [21, 4, 163, 0, 16, 167, 0, 48, 21, 9, 21, 4, 161, 0, 6, 167, 0, 38, 4, 54, 5, 21, 9]
abbrev dktX0_plays_7 : List UInt8 := dkwX0_plays_7 ++ dktX0_plays_8
def dkwX0_plays_6 : List UInt8 := [154, 0, 12, 42, 21, 6, 21, 8, 2, 182, 1, 227, 21, 5, 153, 0, 27, 29, 153, 0, 13, 21, 9]
abbrev dktX0_plays_6 : List UInt8 := dkwX0_plays_6 ++ dktX0_plays_7
def dkwX0_plays_5 : List UInt8 := [154, 0, 12, 42, 21, 6, 21, 8, 4, 182, 1, 227, 42, 27, 4, 96, 28, 182, 1, 230, 54, 9, 21, 7]
abbrev dktX0_plays_5 : List UInt8 := dkwX0_plays_5 ++ dktX0_plays_6
def dkwX0_plays_4 : List UInt8 := [154, 0, 21, 42, 180, 0, 66, 180, 1, 52, 21, 6, 46, 16, 99, 160, 0, 6, 167, 0, 105, 21, 7]
abbrev dktX0_plays_4 : List UInt8 := dkwX0_plays_4 ++ dktX0_plays_5
def dkwX0_plays_3 : List UInt8 := [153, 0, 7, 3, 167, 0, 10, 42, 180, 0, 66, 180, 0, 172, 163, 0, 139, 21, 7, 154, 0, 26, 21, 8]
abbrev dktX0_plays_3 : List UInt8 := dkwX0_plays_3 ++ dktX0_plays_4
def dkwX0_plays_2 : List UInt8 := [180, 0, 66, 180, 0, 185, 160, 0, 7, 4, 167, 0, 4, 3, 54, 7, 3, 54, 8, 21, 8, 21, 7]
abbrev dktX0_plays_2 : List UInt8 := dkwX0_plays_2 ++ dktX0_plays_3
def dkwX0_plays_1 : List UInt8 := [54, 4, 3, 54, 5, 3, 54, 6, 21, 6, 42, 180, 0, 66, 180, 0, 185, 163, 0, 188, 21, 6, 42]
abbrev dktX0_plays_1 : List UInt8 := dkwX0_plays_1 ++ dktX0_plays_2
def dkwX0_plays_0 : List UInt8 := [27, 28, 160, 0, 8, 42, 182, 1, 224, 172, 27, 5, 112, 154, 0, 7, 4, 167, 0, 4, 3, 62, 3]
abbrev dktX0_plays_0 : List UInt8 := dkwX0_plays_0 ++ dktX0_plays_1
theorem dksX0_plays_0 : cX0_plays.data.toList.drop 0 = dktX0_plays_0 := by decide +kernel
theorem dksX0_plays_1 : cX0_plays.data.toList.drop 23 = dktX0_plays_1 := dk_seg dksX0_plays_0 23 rfl rfl
theorem dksX0_plays_2 : cX0_plays.data.toList.drop 46 = dktX0_plays_2 := dk_seg dksX0_plays_1 23 rfl rfl
theorem dksX0_plays_3 : cX0_plays.data.toList.drop 69 = dktX0_plays_3 := dk_seg dksX0_plays_2 23 rfl rfl
theorem dksX0_plays_4 : cX0_plays.data.toList.drop 93 = dktX0_plays_4 := dk_seg dksX0_plays_3 24 rfl rfl
theorem dksX0_plays_5 : cX0_plays.data.toList.drop 116 = dktX0_plays_5 := dk_seg dksX0_plays_4 23 rfl rfl
theorem dksX0_plays_6 : cX0_plays.data.toList.drop 140 = dktX0_plays_6 := dk_seg dksX0_plays_5 24 rfl rfl
theorem dksX0_plays_7 : cX0_plays.data.toList.drop 163 = dktX0_plays_7 := dk_seg dksX0_plays_6 23 rfl rfl
theorem dksX0_plays_8 : cX0_plays.data.toList.drop 186 = dktX0_plays_8 := dk_seg dksX0_plays_7 23 rfl rfl
theorem dksX0_plays_9 : cX0_plays.data.toList.drop 210 = dktX0_plays_9 := dk_seg dksX0_plays_8 24 rfl rfl
theorem dX0_plays_0 : decode cX0_plays 0 = .ok (.iload_n 1, 1) := dk_27 (dk_at dksX0_plays_0 0 rfl rfl)
theorem dX0_plays_1 : decode cX0_plays 1 = .ok (.iload_n 2, 1) := dk_28 (dk_at dksX0_plays_0 1 rfl rfl)
theorem dX0_plays_2 : decode cX0_plays 2 = .ok (.if_icmp .ne 8, 3) := dk_160 0 8 (dk_at dksX0_plays_0 2 rfl rfl)
theorem dX0_plays_5 : decode cX0_plays 5 = .ok (.aload_n 0, 1) := dk_42 (dk_at dksX0_plays_0 5 rfl rfl)
theorem dX0_plays_6 : decode cX0_plays 6 = .ok (.invokevirtual 480, 3) := dk_182 1 224 (dk_at dksX0_plays_0 6 rfl rfl)
theorem dX0_plays_9 : decode cX0_plays 9 = .ok (.ireturn, 1) := dk_172 (dk_at dksX0_plays_0 9 rfl rfl)
theorem dX0_plays_10 : decode cX0_plays 10 = .ok (.iload_n 1, 1) := dk_27 (dk_at dksX0_plays_0 10 rfl rfl)
theorem dX0_plays_11 : decode cX0_plays 11 = .ok (.iconst 2, 1) := dk_5 (dk_at dksX0_plays_0 11 rfl rfl)
theorem dX0_plays_12 : decode cX0_plays 12 = .ok (.irem, 1) := dk_112 (dk_at dksX0_plays_0 12 rfl rfl)
theorem dX0_plays_13 : decode cX0_plays 13 = .ok (.ifCond .ne 7, 3) := dk_154 0 7 (dk_at dksX0_plays_0 13 rfl rfl)
theorem dX0_plays_16 : decode cX0_plays 16 = .ok (.iconst 1, 1) := dk_4 (dk_at dksX0_plays_0 16 rfl rfl)
theorem dX0_plays_17 : decode cX0_plays 17 = .ok (.goto 4, 3) := dk_167 0 4 (dk_at dksX0_plays_0 17 rfl rfl)
theorem dX0_plays_20 : decode cX0_plays 20 = .ok (.iconst 0, 1) := dk_3 (dk_at dksX0_plays_0 20 rfl rfl)
theorem dX0_plays_21 : decode cX0_plays 21 = .ok (.istore_n 3, 1) := dk_62 (dk_at dksX0_plays_0 21 rfl rfl)
theorem dX0_plays_22 : decode cX0_plays 22 = .ok (.iconst 0, 1) := dk_3 (dk_at dksX0_plays_0 22 rfl rfl)
theorem dX0_plays_23 : decode cX0_plays 23 = .ok (.istore 4, 2) := dk_54 4 (dk_at dksX0_plays_1 0 rfl rfl)
theorem dX0_plays_25 : decode cX0_plays 25 = .ok (.iconst 0, 1) := dk_3 (dk_at dksX0_plays_1 2 rfl rfl)
theorem dX0_plays_26 : decode cX0_plays 26 = .ok (.istore 5, 2) := dk_54 5 (dk_at dksX0_plays_1 3 rfl rfl)
theorem dX0_plays_28 : decode cX0_plays 28 = .ok (.iconst 0, 1) := dk_3 (dk_at dksX0_plays_1 5 rfl rfl)
theorem dX0_plays_29 : decode cX0_plays 29 = .ok (.istore 6, 2) := dk_54 6 (dk_at dksX0_plays_1 6 rfl rfl)
theorem dX0_plays_31 : decode cX0_plays 31 = .ok (.iload 6, 2) := dk_21 6 (dk_at dksX0_plays_1 8 rfl rfl)
theorem dX0_plays_33 : decode cX0_plays 33 = .ok (.aload_n 0, 1) := dk_42 (dk_at dksX0_plays_1 10 rfl rfl)
theorem dX0_plays_34 : decode cX0_plays 34 = .ok (.getfield 66, 3) := dk_180 0 66 (dk_at dksX0_plays_1 11 rfl rfl)
theorem dX0_plays_37 : decode cX0_plays 37 = .ok (.getfield 185, 3) := dk_180 0 185 (dk_at dksX0_plays_1 14 rfl rfl)
theorem dX0_plays_40 : decode cX0_plays 40 = .ok (.if_icmp .gt 188, 3) := dk_163 0 188 (dk_at dksX0_plays_1 17 rfl rfl)
theorem dX0_plays_43 : decode cX0_plays 43 = .ok (.iload 6, 2) := dk_21 6 (dk_at dksX0_plays_1 20 rfl rfl)
theorem dX0_plays_45 : decode cX0_plays 45 = .ok (.aload_n 0, 1) := dk_42 (dk_at dksX0_plays_1 22 rfl rfl)
theorem dX0_plays_46 : decode cX0_plays 46 = .ok (.getfield 66, 3) := dk_180 0 66 (dk_at dksX0_plays_2 0 rfl rfl)
theorem dX0_plays_49 : decode cX0_plays 49 = .ok (.getfield 185, 3) := dk_180 0 185 (dk_at dksX0_plays_2 3 rfl rfl)
theorem dX0_plays_52 : decode cX0_plays 52 = .ok (.if_icmp .ne 7, 3) := dk_160 0 7 (dk_at dksX0_plays_2 6 rfl rfl)
theorem dX0_plays_55 : decode cX0_plays 55 = .ok (.iconst 1, 1) := dk_4 (dk_at dksX0_plays_2 9 rfl rfl)
theorem dX0_plays_56 : decode cX0_plays 56 = .ok (.goto 4, 3) := dk_167 0 4 (dk_at dksX0_plays_2 10 rfl rfl)
theorem dX0_plays_59 : decode cX0_plays 59 = .ok (.iconst 0, 1) := dk_3 (dk_at dksX0_plays_2 13 rfl rfl)
theorem dX0_plays_60 : decode cX0_plays 60 = .ok (.istore 7, 2) := dk_54 7 (dk_at dksX0_plays_2 14 rfl rfl)
theorem dX0_plays_62 : decode cX0_plays 62 = .ok (.iconst 0, 1) := dk_3 (dk_at dksX0_plays_2 16 rfl rfl)
theorem dX0_plays_63 : decode cX0_plays 63 = .ok (.istore 8, 2) := dk_54 8 (dk_at dksX0_plays_2 17 rfl rfl)
theorem dX0_plays_65 : decode cX0_plays 65 = .ok (.iload 8, 2) := dk_21 8 (dk_at dksX0_plays_2 19 rfl rfl)
theorem dX0_plays_67 : decode cX0_plays 67 = .ok (.iload 7, 2) := dk_21 7 (dk_at dksX0_plays_2 21 rfl rfl)
theorem dX0_plays_69 : decode cX0_plays 69 = .ok (.ifCond .eq 7, 3) := dk_153 0 7 (dk_at dksX0_plays_3 0 rfl rfl)
theorem dX0_plays_72 : decode cX0_plays 72 = .ok (.iconst 0, 1) := dk_3 (dk_at dksX0_plays_3 3 rfl rfl)
theorem dX0_plays_73 : decode cX0_plays 73 = .ok (.goto 10, 3) := dk_167 0 10 (dk_at dksX0_plays_3 4 rfl rfl)
theorem dX0_plays_76 : decode cX0_plays 76 = .ok (.aload_n 0, 1) := dk_42 (dk_at dksX0_plays_3 7 rfl rfl)
theorem dX0_plays_77 : decode cX0_plays 77 = .ok (.getfield 66, 3) := dk_180 0 66 (dk_at dksX0_plays_3 8 rfl rfl)
theorem dX0_plays_80 : decode cX0_plays 80 = .ok (.getfield 172, 3) := dk_180 0 172 (dk_at dksX0_plays_3 11 rfl rfl)
theorem dX0_plays_83 : decode cX0_plays 83 = .ok (.if_icmp .gt 139, 3) := dk_163 0 139 (dk_at dksX0_plays_3 14 rfl rfl)
theorem dX0_plays_86 : decode cX0_plays 86 = .ok (.iload 7, 2) := dk_21 7 (dk_at dksX0_plays_3 17 rfl rfl)
theorem dX0_plays_88 : decode cX0_plays 88 = .ok (.ifCond .ne 26, 3) := dk_154 0 26 (dk_at dksX0_plays_3 19 rfl rfl)
theorem dX0_plays_91 : decode cX0_plays 91 = .ok (.iload 8, 2) := dk_21 8 (dk_at dksX0_plays_3 22 rfl rfl)
theorem dX0_plays_93 : decode cX0_plays 93 = .ok (.ifCond .ne 21, 3) := dk_154 0 21 (dk_at dksX0_plays_4 0 rfl rfl)
theorem dX0_plays_96 : decode cX0_plays 96 = .ok (.aload_n 0, 1) := dk_42 (dk_at dksX0_plays_4 3 rfl rfl)
theorem dX0_plays_97 : decode cX0_plays 97 = .ok (.getfield 66, 3) := dk_180 0 66 (dk_at dksX0_plays_4 4 rfl rfl)
theorem dX0_plays_100 : decode cX0_plays 100 = .ok (.getfield 308, 3) := dk_180 1 52 (dk_at dksX0_plays_4 7 rfl rfl)
theorem dX0_plays_103 : decode cX0_plays 103 = .ok (.iload 6, 2) := dk_21 6 (dk_at dksX0_plays_4 10 rfl rfl)
theorem dX0_plays_105 : decode cX0_plays 105 = .ok (.iaload, 1) := dk_46 (dk_at dksX0_plays_4 12 rfl rfl)
theorem dX0_plays_106 : decode cX0_plays 106 = .ok (.bipush 99, 2) := dk_16 99 (dk_at dksX0_plays_4 13 rfl rfl)
theorem dX0_plays_108 : decode cX0_plays 108 = .ok (.if_icmp .ne 6, 3) := dk_160 0 6 (dk_at dksX0_plays_4 15 rfl rfl)
theorem dX0_plays_111 : decode cX0_plays 111 = .ok (.goto 105, 3) := dk_167 0 105 (dk_at dksX0_plays_4 18 rfl rfl)
theorem dX0_plays_114 : decode cX0_plays 114 = .ok (.iload 7, 2) := dk_21 7 (dk_at dksX0_plays_4 21 rfl rfl)
theorem dX0_plays_116 : decode cX0_plays 116 = .ok (.ifCond .ne 12, 3) := dk_154 0 12 (dk_at dksX0_plays_5 0 rfl rfl)
theorem dX0_plays_119 : decode cX0_plays 119 = .ok (.aload_n 0, 1) := dk_42 (dk_at dksX0_plays_5 3 rfl rfl)
theorem dX0_plays_120 : decode cX0_plays 120 = .ok (.iload 6, 2) := dk_21 6 (dk_at dksX0_plays_5 4 rfl rfl)
theorem dX0_plays_122 : decode cX0_plays 122 = .ok (.iload 8, 2) := dk_21 8 (dk_at dksX0_plays_5 6 rfl rfl)
theorem dX0_plays_124 : decode cX0_plays 124 = .ok (.iconst 1, 1) := dk_4 (dk_at dksX0_plays_5 8 rfl rfl)
theorem dX0_plays_125 : decode cX0_plays 125 = .ok (.invokevirtual 483, 3) := dk_182 1 227 (dk_at dksX0_plays_5 9 rfl rfl)
theorem dX0_plays_128 : decode cX0_plays 128 = .ok (.aload_n 0, 1) := dk_42 (dk_at dksX0_plays_5 12 rfl rfl)
theorem dX0_plays_129 : decode cX0_plays 129 = .ok (.iload_n 1, 1) := dk_27 (dk_at dksX0_plays_5 13 rfl rfl)
theorem dX0_plays_130 : decode cX0_plays 130 = .ok (.iconst 1, 1) := dk_4 (dk_at dksX0_plays_5 14 rfl rfl)
theorem dX0_plays_131 : decode cX0_plays 131 = .ok (.iadd, 1) := dk_96 (dk_at dksX0_plays_5 15 rfl rfl)
theorem dX0_plays_132 : decode cX0_plays 132 = .ok (.iload_n 2, 1) := dk_28 (dk_at dksX0_plays_5 16 rfl rfl)
theorem dX0_plays_133 : decode cX0_plays 133 = .ok (.invokevirtual 486, 3) := dk_182 1 230 (dk_at dksX0_plays_5 17 rfl rfl)
theorem dX0_plays_136 : decode cX0_plays 136 = .ok (.istore 9, 2) := dk_54 9 (dk_at dksX0_plays_5 20 rfl rfl)
theorem dX0_plays_138 : decode cX0_plays 138 = .ok (.iload 7, 2) := dk_21 7 (dk_at dksX0_plays_5 22 rfl rfl)
theorem dX0_plays_140 : decode cX0_plays 140 = .ok (.ifCond .ne 12, 3) := dk_154 0 12 (dk_at dksX0_plays_6 0 rfl rfl)
theorem dX0_plays_143 : decode cX0_plays 143 = .ok (.aload_n 0, 1) := dk_42 (dk_at dksX0_plays_6 3 rfl rfl)
theorem dX0_plays_144 : decode cX0_plays 144 = .ok (.iload 6, 2) := dk_21 6 (dk_at dksX0_plays_6 4 rfl rfl)
theorem dX0_plays_146 : decode cX0_plays 146 = .ok (.iload 8, 2) := dk_21 8 (dk_at dksX0_plays_6 6 rfl rfl)
theorem dX0_plays_148 : decode cX0_plays 148 = .ok (.iconst (-1), 1) := dk_2 (dk_at dksX0_plays_6 8 rfl rfl)
theorem dX0_plays_149 : decode cX0_plays 149 = .ok (.invokevirtual 483, 3) := dk_182 1 227 (dk_at dksX0_plays_6 9 rfl rfl)
theorem dX0_plays_152 : decode cX0_plays 152 = .ok (.iload 5, 2) := dk_21 5 (dk_at dksX0_plays_6 12 rfl rfl)
theorem dX0_plays_154 : decode cX0_plays 154 = .ok (.ifCond .eq 27, 3) := dk_153 0 27 (dk_at dksX0_plays_6 14 rfl rfl)
theorem dX0_plays_157 : decode cX0_plays 157 = .ok (.iload_n 3, 1) := dk_29 (dk_at dksX0_plays_6 17 rfl rfl)
theorem dX0_plays_158 : decode cX0_plays 158 = .ok (.ifCond .eq 13, 3) := dk_153 0 13 (dk_at dksX0_plays_6 18 rfl rfl)
theorem dX0_plays_161 : decode cX0_plays 161 = .ok (.iload 9, 2) := dk_21 9 (dk_at dksX0_plays_6 21 rfl rfl)
theorem dX0_plays_163 : decode cX0_plays 163 = .ok (.iload 4, 2) := dk_21 4 (dk_at dksX0_plays_7 0 rfl rfl)
theorem dX0_plays_165 : decode cX0_plays 165 = .ok (.if_icmp .gt 16, 3) := dk_163 0 16 (dk_at dksX0_plays_7 2 rfl rfl)
theorem dX0_plays_168 : decode cX0_plays 168 = .ok (.goto 48, 3) := dk_167 0 48 (dk_at dksX0_plays_7 5 rfl rfl)
theorem dX0_plays_171 : decode cX0_plays 171 = .ok (.iload 9, 2) := dk_21 9 (dk_at dksX0_plays_7 8 rfl rfl)
theorem dX0_plays_173 : decode cX0_plays 173 = .ok (.iload 4, 2) := dk_21 4 (dk_at dksX0_plays_7 10 rfl rfl)
theorem dX0_plays_175 : decode cX0_plays 175 = .ok (.if_icmp .lt 6, 3) := dk_161 0 6 (dk_at dksX0_plays_7 12 rfl rfl)
theorem dX0_plays_178 : decode cX0_plays 178 = .ok (.goto 38, 3) := dk_167 0 38 (dk_at dksX0_plays_7 15 rfl rfl)
theorem dX0_plays_181 : decode cX0_plays 181 = .ok (.iconst 1, 1) := dk_4 (dk_at dksX0_plays_7 18 rfl rfl)
theorem dX0_plays_182 : decode cX0_plays 182 = .ok (.istore 5, 2) := dk_54 5 (dk_at dksX0_plays_7 19 rfl rfl)
theorem dX0_plays_184 : decode cX0_plays 184 = .ok (.iload 9, 2) := dk_21 9 (dk_at dksX0_plays_7 21 rfl rfl)
theorem dX0_plays_186 : decode cX0_plays 186 = .ok (.istore 4, 2) := dk_54 4 (dk_at dksX0_plays_8 0 rfl rfl)
theorem dX0_plays_188 : decode cX0_plays 188 = .ok (.iload_n 1, 1) := dk_27 (dk_at dksX0_plays_8 2 rfl rfl)
theorem dX0_plays_189 : decode cX0_plays 189 = .ok (.ifCond .le 6, 3) := dk_158 0 6 (dk_at dksX0_plays_8 3 rfl rfl)
theorem dX0_plays_192 : decode cX0_plays 192 = .ok (.goto 24, 3) := dk_167 0 24 (dk_at dksX0_plays_8 6 rfl rfl)
theorem dX0_plays_195 : decode cX0_plays 195 = .ok (.aload_n 0, 1) := dk_42 (dk_at dksX0_plays_8 9 rfl rfl)
theorem dX0_plays_196 : decode cX0_plays 196 = .ok (.iload 7, 2) := dk_21 7 (dk_at dksX0_plays_8 10 rfl rfl)
theorem dX0_plays_198 : decode cX0_plays 198 = .ok (.ifCond .eq 7, 3) := dk_153 0 7 (dk_at dksX0_plays_8 12 rfl rfl)
theorem dX0_plays_201 : decode cX0_plays 201 = .ok (.iconst (-1), 1) := dk_2 (dk_at dksX0_plays_8 15 rfl rfl)
theorem dX0_plays_202 : decode cX0_plays 202 = .ok (.goto 5, 3) := dk_167 0 5 (dk_at dksX0_plays_8 16 rfl rfl)
theorem dX0_plays_205 : decode cX0_plays 205 = .ok (.iload 6, 2) := dk_21 6 (dk_at dksX0_plays_8 19 rfl rfl)
theorem dX0_plays_207 : decode cX0_plays 207 = .ok (.putfield 489, 3) := dk_181 1 233 (dk_at dksX0_plays_8 21 rfl rfl)
theorem dX0_plays_210 : decode cX0_plays 210 = .ok (.aload_n 0, 1) := dk_42 (dk_at dksX0_plays_9 0 rfl rfl)
theorem dX0_plays_211 : decode cX0_plays 211 = .ok (.iload 8, 2) := dk_21 8 (dk_at dksX0_plays_9 1 rfl rfl)
theorem dX0_plays_213 : decode cX0_plays 213 = .ok (.putfield 492, 3) := dk_181 1 236 (dk_at dksX0_plays_9 3 rfl rfl)
theorem dX0_plays_216 : decode cX0_plays 216 = .ok (.iinc 8 1, 3) := dk_132 8 1 (dk_at dksX0_plays_9 6 rfl rfl)
theorem dX0_plays_219 : decode cX0_plays 219 = .ok (.goto (-154), 3) := dk_167 255 102 (dk_at dksX0_plays_9 9 rfl rfl)
theorem dX0_plays_222 : decode cX0_plays 222 = .ok (.iinc 6 1, 3) := dk_132 6 1 (dk_at dksX0_plays_9 12 rfl rfl)
theorem dX0_plays_225 : decode cX0_plays 225 = .ok (.goto (-194), 3) := dk_167 255 62 (dk_at dksX0_plays_9 15 rfl rfl)
theorem dX0_plays_228 : decode cX0_plays 228 = .ok (.iload 4, 2) := dk_21 4 (dk_at dksX0_plays_9 18 rfl rfl)
theorem dX0_plays_230 : decode cX0_plays 230 = .ok (.ireturn, 1) := dk_172 (dk_at dksX0_plays_9 20 rfl rfl)
abbrev cX0_score : ByteArray := prog_1_method_95_code
def yX0_score : MethodName := ⟨RX0, "score", "()I"⟩
def dkwX0_score_2 : List UInt8 := [167, 0, 4, 3, 96, 60, 132, 2, 1, 167, 255, 204, 27, 172]
abbrev dktX0_score_2 : List UInt8 := dkwX0_score_2 ++ []
def dkwX0_score_1 : List UInt8 := [182, 1, 108, 182, 1, 196, 62, 27, 29, 5, 160, 0, 7, 4, 167, 0, 13, 29, 4, 160, 0, 7, 2]
abbrev dktX0_score_1 : List UInt8 := dkwX0_score_1 ++ dktX0_score_2
def dkwX0_score_0 : List UInt8 := [3, 60, 3, 61, 28, 42, 180, 0, 66, 180, 0, 185, 162, 0, 47, 42, 180, 0, 66, 42, 180, 0, 66, 28]
abbrev dktX0_score_0 : List UInt8 := dkwX0_score_0 ++ dktX0_score_1
theorem dksX0_score_0 : cX0_score.data.toList.drop 0 = dktX0_score_0 := by decide +kernel
theorem dksX0_score_1 : cX0_score.data.toList.drop 24 = dktX0_score_1 := dk_seg dksX0_score_0 24 rfl rfl
theorem dksX0_score_2 : cX0_score.data.toList.drop 47 = dktX0_score_2 := dk_seg dksX0_score_1 23 rfl rfl
theorem dX0_score_0 : decode cX0_score 0 = .ok (.iconst 0, 1) := dk_3 (dk_at dksX0_score_0 0 rfl rfl)
theorem dX0_score_1 : decode cX0_score 1 = .ok (.istore_n 1, 1) := dk_60 (dk_at dksX0_score_0 1 rfl rfl)
theorem dX0_score_2 : decode cX0_score 2 = .ok (.iconst 0, 1) := dk_3 (dk_at dksX0_score_0 2 rfl rfl)
theorem dX0_score_3 : decode cX0_score 3 = .ok (.istore_n 2, 1) := dk_61 (dk_at dksX0_score_0 3 rfl rfl)
theorem dX0_score_4 : decode cX0_score 4 = .ok (.iload_n 2, 1) := dk_28 (dk_at dksX0_score_0 4 rfl rfl)
theorem dX0_score_5 : decode cX0_score 5 = .ok (.aload_n 0, 1) := dk_42 (dk_at dksX0_score_0 5 rfl rfl)
theorem dX0_score_6 : decode cX0_score 6 = .ok (.getfield 66, 3) := dk_180 0 66 (dk_at dksX0_score_0 6 rfl rfl)
theorem dX0_score_9 : decode cX0_score 9 = .ok (.getfield 185, 3) := dk_180 0 185 (dk_at dksX0_score_0 9 rfl rfl)
theorem dX0_score_12 : decode cX0_score 12 = .ok (.if_icmp .ge 47, 3) := dk_162 0 47 (dk_at dksX0_score_0 12 rfl rfl)
theorem dX0_score_15 : decode cX0_score 15 = .ok (.aload_n 0, 1) := dk_42 (dk_at dksX0_score_0 15 rfl rfl)
theorem dX0_score_16 : decode cX0_score 16 = .ok (.getfield 66, 3) := dk_180 0 66 (dk_at dksX0_score_0 16 rfl rfl)
theorem dX0_score_19 : decode cX0_score 19 = .ok (.aload_n 0, 1) := dk_42 (dk_at dksX0_score_0 19 rfl rfl)
theorem dX0_score_20 : decode cX0_score 20 = .ok (.getfield 66, 3) := dk_180 0 66 (dk_at dksX0_score_0 20 rfl rfl)
theorem dX0_score_23 : decode cX0_score 23 = .ok (.iload_n 2, 1) := dk_28 (dk_at dksX0_score_0 23 rfl rfl)
theorem dX0_score_24 : decode cX0_score 24 = .ok (.invokevirtual 364, 3) := dk_182 1 108 (dk_at dksX0_score_1 0 rfl rfl)
theorem dX0_score_27 : decode cX0_score 27 = .ok (.invokevirtual 452, 3) := dk_182 1 196 (dk_at dksX0_score_1 3 rfl rfl)
theorem dX0_score_30 : decode cX0_score 30 = .ok (.istore_n 3, 1) := dk_62 (dk_at dksX0_score_1 6 rfl rfl)
theorem dX0_score_31 : decode cX0_score 31 = .ok (.iload_n 1, 1) := dk_27 (dk_at dksX0_score_1 7 rfl rfl)
theorem dX0_score_32 : decode cX0_score 32 = .ok (.iload_n 3, 1) := dk_29 (dk_at dksX0_score_1 8 rfl rfl)
theorem dX0_score_33 : decode cX0_score 33 = .ok (.iconst 2, 1) := dk_5 (dk_at dksX0_score_1 9 rfl rfl)
theorem dX0_score_34 : decode cX0_score 34 = .ok (.if_icmp .ne 7, 3) := dk_160 0 7 (dk_at dksX0_score_1 10 rfl rfl)
theorem dX0_score_37 : decode cX0_score 37 = .ok (.iconst 1, 1) := dk_4 (dk_at dksX0_score_1 13 rfl rfl)
theorem dX0_score_38 : decode cX0_score 38 = .ok (.goto 13, 3) := dk_167 0 13 (dk_at dksX0_score_1 14 rfl rfl)
theorem dX0_score_41 : decode cX0_score 41 = .ok (.iload_n 3, 1) := dk_29 (dk_at dksX0_score_1 17 rfl rfl)
theorem dX0_score_42 : decode cX0_score 42 = .ok (.iconst 1, 1) := dk_4 (dk_at dksX0_score_1 18 rfl rfl)
theorem dX0_score_43 : decode cX0_score 43 = .ok (.if_icmp .ne 7, 3) := dk_160 0 7 (dk_at dksX0_score_1 19 rfl rfl)
theorem dX0_score_46 : decode cX0_score 46 = .ok (.iconst (-1), 1) := dk_2 (dk_at dksX0_score_1 22 rfl rfl)
theorem dX0_score_47 : decode cX0_score 47 = .ok (.goto 4, 3) := dk_167 0 4 (dk_at dksX0_score_2 0 rfl rfl)
theorem dX0_score_50 : decode cX0_score 50 = .ok (.iconst 0, 1) := dk_3 (dk_at dksX0_score_2 3 rfl rfl)
theorem dX0_score_51 : decode cX0_score 51 = .ok (.iadd, 1) := dk_96 (dk_at dksX0_score_2 4 rfl rfl)
theorem dX0_score_52 : decode cX0_score 52 = .ok (.istore_n 1, 1) := dk_60 (dk_at dksX0_score_2 5 rfl rfl)
theorem dX0_score_53 : decode cX0_score 53 = .ok (.iinc 2 1, 3) := dk_132 2 1 (dk_at dksX0_score_2 6 rfl rfl)
theorem dX0_score_56 : decode cX0_score 56 = .ok (.goto (-52), 3) := dk_167 255 204 (dk_at dksX0_score_2 9 rfl rfl)
theorem dX0_score_59 : decode cX0_score 59 = .ok (.iload_n 1, 1) := dk_27 (dk_at dksX0_score_2 12 rfl rfl)
theorem dX0_score_60 : decode cX0_score 60 = .ok (.ireturn, 1) := dk_172 (dk_at dksX0_score_2 13 rfl rfl)
abbrev cX0_deeds : ByteArray := prog_1_method_97_code
def yX0_deeds : MethodName := ⟨RX0, "deeds", "(III)V"⟩
def dkwX0_deeds_1 : List UInt8 := [180, 1, 55, 27, 92, 46, 4, 28, 4, 100, 120, 130, 79, 177]
abbrev dktX0_deeds_1 : List UInt8 := dkwX0_deeds_1 ++ []
def dkwX0_deeds_0 : List UInt8 := [28, 154, 0, 19, 42, 180, 0, 66, 180, 1, 52, 27, 92, 46, 29, 96, 79, 167, 0, 20, 42, 180, 0, 66]
abbrev dktX0_deeds_0 : List UInt8 := dkwX0_deeds_0 ++ dktX0_deeds_1
theorem dksX0_deeds_0 : cX0_deeds.data.toList.drop 0 = dktX0_deeds_0 := by decide +kernel
theorem dksX0_deeds_1 : cX0_deeds.data.toList.drop 24 = dktX0_deeds_1 := dk_seg dksX0_deeds_0 24 rfl rfl
theorem dX0_deeds_0 : decode cX0_deeds 0 = .ok (.iload_n 2, 1) := dk_28 (dk_at dksX0_deeds_0 0 rfl rfl)
theorem dX0_deeds_1 : decode cX0_deeds 1 = .ok (.ifCond .ne 19, 3) := dk_154 0 19 (dk_at dksX0_deeds_0 1 rfl rfl)
theorem dX0_deeds_4 : decode cX0_deeds 4 = .ok (.aload_n 0, 1) := dk_42 (dk_at dksX0_deeds_0 4 rfl rfl)
theorem dX0_deeds_5 : decode cX0_deeds 5 = .ok (.getfield 66, 3) := dk_180 0 66 (dk_at dksX0_deeds_0 5 rfl rfl)
theorem dX0_deeds_8 : decode cX0_deeds 8 = .ok (.getfield 308, 3) := dk_180 1 52 (dk_at dksX0_deeds_0 8 rfl rfl)
theorem dX0_deeds_11 : decode cX0_deeds 11 = .ok (.iload_n 1, 1) := dk_27 (dk_at dksX0_deeds_0 11 rfl rfl)
theorem dX0_deeds_12 : decode cX0_deeds 12 = .ok (.dup2, 1) := dk_92 (dk_at dksX0_deeds_0 12 rfl rfl)
theorem dX0_deeds_13 : decode cX0_deeds 13 = .ok (.iaload, 1) := dk_46 (dk_at dksX0_deeds_0 13 rfl rfl)
theorem dX0_deeds_14 : decode cX0_deeds 14 = .ok (.iload_n 3, 1) := dk_29 (dk_at dksX0_deeds_0 14 rfl rfl)
theorem dX0_deeds_15 : decode cX0_deeds 15 = .ok (.iadd, 1) := dk_96 (dk_at dksX0_deeds_0 15 rfl rfl)
theorem dX0_deeds_16 : decode cX0_deeds 16 = .ok (.iastore, 1) := dk_79 (dk_at dksX0_deeds_0 16 rfl rfl)
theorem dX0_deeds_17 : decode cX0_deeds 17 = .ok (.goto 20, 3) := dk_167 0 20 (dk_at dksX0_deeds_0 17 rfl rfl)
theorem dX0_deeds_20 : decode cX0_deeds 20 = .ok (.aload_n 0, 1) := dk_42 (dk_at dksX0_deeds_0 20 rfl rfl)
theorem dX0_deeds_21 : decode cX0_deeds 21 = .ok (.getfield 66, 3) := dk_180 0 66 (dk_at dksX0_deeds_0 21 rfl rfl)
theorem dX0_deeds_24 : decode cX0_deeds 24 = .ok (.getfield 311, 3) := dk_180 1 55 (dk_at dksX0_deeds_1 0 rfl rfl)
theorem dX0_deeds_27 : decode cX0_deeds 27 = .ok (.iload_n 1, 1) := dk_27 (dk_at dksX0_deeds_1 3 rfl rfl)
theorem dX0_deeds_28 : decode cX0_deeds 28 = .ok (.dup2, 1) := dk_92 (dk_at dksX0_deeds_1 4 rfl rfl)
theorem dX0_deeds_29 : decode cX0_deeds 29 = .ok (.iaload, 1) := dk_46 (dk_at dksX0_deeds_1 5 rfl rfl)
theorem dX0_deeds_30 : decode cX0_deeds 30 = .ok (.iconst 1, 1) := dk_4 (dk_at dksX0_deeds_1 6 rfl rfl)
theorem dX0_deeds_31 : decode cX0_deeds 31 = .ok (.iload_n 2, 1) := dk_28 (dk_at dksX0_deeds_1 7 rfl rfl)
theorem dX0_deeds_32 : decode cX0_deeds 32 = .ok (.iconst 1, 1) := dk_4 (dk_at dksX0_deeds_1 8 rfl rfl)
theorem dX0_deeds_33 : decode cX0_deeds 33 = .ok (.isub, 1) := dk_100 (dk_at dksX0_deeds_1 9 rfl rfl)
theorem dX0_deeds_34 : decode cX0_deeds 34 = .ok (.ishl, 1) := dk_120 (dk_at dksX0_deeds_1 10 rfl rfl)
theorem dX0_deeds_35 : decode cX0_deeds 35 = .ok (.ixor, 1) := dk_130 (dk_at dksX0_deeds_1 11 rfl rfl)
theorem dX0_deeds_36 : decode cX0_deeds 36 = .ok (.iastore, 1) := dk_79 (dk_at dksX0_deeds_1 12 rfl rfl)
theorem dX0_deeds_37 : decode cX0_deeds 37 = .ok (.return_, 1) := dk_177 (dk_at dksX0_deeds_1 13 rfl rfl)
abbrev cX0_moveOf : ByteArray := prog_1_method_100_code
def yX0_moveOf : MethodName := ⟨RX0, "moveOf", "(II)I"⟩
def dkwX0_moveOf_3 : List UInt8 := [180, 1, 236, 182, 1, 36, 172]
abbrev dktX0_moveOf_3 : List UInt8 := dkwX0_moveOf_3 ++ []
def dkwX0_moveOf_2 : List UInt8 := [180, 1, 233, 156, 0, 7, 2, 167, 0, 18, 28, 154, 0, 10, 42, 180, 1, 233, 167, 0, 7, 42]
abbrev dktX0_moveOf_2 : List UInt8 := dkwX0_moveOf_2 ++ dktX0_moveOf_3
def dkwX0_moveOf_1 : List UInt8 := [167, 0, 4, 4, 181, 0, 91, 42, 180, 0, 91, 158, 0, 5, 2, 172, 42, 27, 182, 1, 239, 87, 42, 42]
abbrev dktX0_moveOf_1 : List UInt8 := dkwX0_moveOf_1 ++ dktX0_moveOf_2
def dkwX0_moveOf_0 : List UInt8 := [42, 27, 133, 10, 20, 1, 132, 184, 0, 175, 153, 0, 17, 28, 133, 9, 10, 184, 0, 175, 153, 0, 7, 3]
abbrev dktX0_moveOf_0 : List UInt8 := dkwX0_moveOf_0 ++ dktX0_moveOf_1
theorem dksX0_moveOf_0 : cX0_moveOf.data.toList.drop 0 = dktX0_moveOf_0 := by decide +kernel
theorem dksX0_moveOf_1 : cX0_moveOf.data.toList.drop 24 = dktX0_moveOf_1 := dk_seg dksX0_moveOf_0 24 rfl rfl
theorem dksX0_moveOf_2 : cX0_moveOf.data.toList.drop 48 = dktX0_moveOf_2 := dk_seg dksX0_moveOf_1 24 rfl rfl
theorem dksX0_moveOf_3 : cX0_moveOf.data.toList.drop 70 = dktX0_moveOf_3 := dk_seg dksX0_moveOf_2 22 rfl rfl
theorem dX0_moveOf_0 : decode cX0_moveOf 0 = .ok (.aload_n 0, 1) := dk_42 (dk_at dksX0_moveOf_0 0 rfl rfl)
theorem dX0_moveOf_1 : decode cX0_moveOf 1 = .ok (.iload_n 1, 1) := dk_27 (dk_at dksX0_moveOf_0 1 rfl rfl)
theorem dX0_moveOf_2 : decode cX0_moveOf 2 = .ok (.i2l, 1) := dk_133 (dk_at dksX0_moveOf_0 2 rfl rfl)
theorem dX0_moveOf_3 : decode cX0_moveOf 3 = .ok (.lconst 1, 1) := dk_10 (dk_at dksX0_moveOf_0 3 rfl rfl)
theorem dX0_moveOf_4 : decode cX0_moveOf 4 = .ok (.ldc2_w 388, 3) := dk_20 1 132 (dk_at dksX0_moveOf_0 4 rfl rfl)
theorem dX0_moveOf_7 : decode cX0_moveOf 7 = .ok (.invokestatic 175, 3) := dk_184 0 175 (dk_at dksX0_moveOf_0 7 rfl rfl)
theorem dX0_moveOf_10 : decode cX0_moveOf 10 = .ok (.ifCond .eq 17, 3) := dk_153 0 17 (dk_at dksX0_moveOf_0 10 rfl rfl)
theorem dX0_moveOf_13 : decode cX0_moveOf 13 = .ok (.iload_n 2, 1) := dk_28 (dk_at dksX0_moveOf_0 13 rfl rfl)
theorem dX0_moveOf_14 : decode cX0_moveOf 14 = .ok (.i2l, 1) := dk_133 (dk_at dksX0_moveOf_0 14 rfl rfl)
theorem dX0_moveOf_15 : decode cX0_moveOf 15 = .ok (.lconst 0, 1) := dk_9 (dk_at dksX0_moveOf_0 15 rfl rfl)
theorem dX0_moveOf_16 : decode cX0_moveOf 16 = .ok (.lconst 1, 1) := dk_10 (dk_at dksX0_moveOf_0 16 rfl rfl)
theorem dX0_moveOf_17 : decode cX0_moveOf 17 = .ok (.invokestatic 175, 3) := dk_184 0 175 (dk_at dksX0_moveOf_0 17 rfl rfl)
theorem dX0_moveOf_20 : decode cX0_moveOf 20 = .ok (.ifCond .eq 7, 3) := dk_153 0 7 (dk_at dksX0_moveOf_0 20 rfl rfl)
theorem dX0_moveOf_23 : decode cX0_moveOf 23 = .ok (.iconst 0, 1) := dk_3 (dk_at dksX0_moveOf_0 23 rfl rfl)
theorem dX0_moveOf_24 : decode cX0_moveOf 24 = .ok (.goto 4, 3) := dk_167 0 4 (dk_at dksX0_moveOf_1 0 rfl rfl)
theorem dX0_moveOf_27 : decode cX0_moveOf 27 = .ok (.iconst 1, 1) := dk_4 (dk_at dksX0_moveOf_1 3 rfl rfl)
theorem dX0_moveOf_28 : decode cX0_moveOf 28 = .ok (.putfield 91, 3) := dk_181 0 91 (dk_at dksX0_moveOf_1 4 rfl rfl)
theorem dX0_moveOf_31 : decode cX0_moveOf 31 = .ok (.aload_n 0, 1) := dk_42 (dk_at dksX0_moveOf_1 7 rfl rfl)
theorem dX0_moveOf_32 : decode cX0_moveOf 32 = .ok (.getfield 91, 3) := dk_180 0 91 (dk_at dksX0_moveOf_1 8 rfl rfl)
theorem dX0_moveOf_35 : decode cX0_moveOf 35 = .ok (.ifCond .le 5, 3) := dk_158 0 5 (dk_at dksX0_moveOf_1 11 rfl rfl)
theorem dX0_moveOf_38 : decode cX0_moveOf 38 = .ok (.iconst (-1), 1) := dk_2 (dk_at dksX0_moveOf_1 14 rfl rfl)
theorem dX0_moveOf_39 : decode cX0_moveOf 39 = .ok (.ireturn, 1) := dk_172 (dk_at dksX0_moveOf_1 15 rfl rfl)
theorem dX0_moveOf_40 : decode cX0_moveOf 40 = .ok (.aload_n 0, 1) := dk_42 (dk_at dksX0_moveOf_1 16 rfl rfl)
theorem dX0_moveOf_41 : decode cX0_moveOf 41 = .ok (.iload_n 1, 1) := dk_27 (dk_at dksX0_moveOf_1 17 rfl rfl)
theorem dX0_moveOf_42 : decode cX0_moveOf 42 = .ok (.invokevirtual 495, 3) := dk_182 1 239 (dk_at dksX0_moveOf_1 18 rfl rfl)
theorem dX0_moveOf_45 : decode cX0_moveOf 45 = .ok (.pop, 1) := dk_87 (dk_at dksX0_moveOf_1 21 rfl rfl)
theorem dX0_moveOf_46 : decode cX0_moveOf 46 = .ok (.aload_n 0, 1) := dk_42 (dk_at dksX0_moveOf_1 22 rfl rfl)
theorem dX0_moveOf_47 : decode cX0_moveOf 47 = .ok (.aload_n 0, 1) := dk_42 (dk_at dksX0_moveOf_1 23 rfl rfl)
theorem dX0_moveOf_48 : decode cX0_moveOf 48 = .ok (.getfield 489, 3) := dk_180 1 233 (dk_at dksX0_moveOf_2 0 rfl rfl)
theorem dX0_moveOf_51 : decode cX0_moveOf 51 = .ok (.ifCond .ge 7, 3) := dk_156 0 7 (dk_at dksX0_moveOf_2 3 rfl rfl)
theorem dX0_moveOf_54 : decode cX0_moveOf 54 = .ok (.iconst (-1), 1) := dk_2 (dk_at dksX0_moveOf_2 6 rfl rfl)
theorem dX0_moveOf_55 : decode cX0_moveOf 55 = .ok (.goto 18, 3) := dk_167 0 18 (dk_at dksX0_moveOf_2 7 rfl rfl)
theorem dX0_moveOf_58 : decode cX0_moveOf 58 = .ok (.iload_n 2, 1) := dk_28 (dk_at dksX0_moveOf_2 10 rfl rfl)
theorem dX0_moveOf_59 : decode cX0_moveOf 59 = .ok (.ifCond .ne 10, 3) := dk_154 0 10 (dk_at dksX0_moveOf_2 11 rfl rfl)
theorem dX0_moveOf_62 : decode cX0_moveOf 62 = .ok (.aload_n 0, 1) := dk_42 (dk_at dksX0_moveOf_2 14 rfl rfl)
theorem dX0_moveOf_63 : decode cX0_moveOf 63 = .ok (.getfield 489, 3) := dk_180 1 233 (dk_at dksX0_moveOf_2 15 rfl rfl)
theorem dX0_moveOf_66 : decode cX0_moveOf 66 = .ok (.goto 7, 3) := dk_167 0 7 (dk_at dksX0_moveOf_2 18 rfl rfl)
theorem dX0_moveOf_69 : decode cX0_moveOf 69 = .ok (.aload_n 0, 1) := dk_42 (dk_at dksX0_moveOf_2 21 rfl rfl)
theorem dX0_moveOf_70 : decode cX0_moveOf 70 = .ok (.getfield 492, 3) := dk_180 1 236 (dk_at dksX0_moveOf_3 0 rfl rfl)
theorem dX0_moveOf_73 : decode cX0_moveOf 73 = .ok (.invokevirtual 292, 3) := dk_182 1 36 (dk_at dksX0_moveOf_3 3 rfl rfl)
theorem dX0_moveOf_76 : decode cX0_moveOf 76 = .ok (.ireturn, 1) := dk_172 (dk_at dksX0_moveOf_3 6 rfl rfl)
abbrev cX0_copyFed : ByteArray := prog_1_method_101_code
def yX0_copyFed : MethodName := ⟨RX0, "copyFed", "(I)I"⟩
def dkwX0_copyFed_4 : List UInt8 := [167, 255, 225, 42, 182, 0, 168, 180, 0, 185, 172]
abbrev dktX0_copyFed_4 : List UInt8 := dkwX0_copyFed_4 ++ []
def dkwX0_copyFed_3 : List UInt8 := [162, 0, 26, 42, 27, 28, 42, 182, 0, 168, 180, 1, 52, 28, 46, 133, 182, 1, 242, 87, 132, 2, 1]
abbrev dktX0_copyFed_3 : List UInt8 := dkwX0_copyFed_3 ++ dktX0_copyFed_4
def dkwX0_copyFed_2 : List UInt8 := [182, 0, 116, 167, 0, 10, 77, 42, 44, 182, 0, 149, 172, 3, 61, 28, 42, 182, 0, 168, 180, 0, 185]
abbrev dktX0_copyFed_2 : List UInt8 := dkwX0_copyFed_2 ++ dktX0_copyFed_3
def dkwX0_copyFed_1 : List UInt8 := [182, 0, 133, 184, 1, 134, 42, 182, 0, 168, 180, 0, 185, 161, 0, 7, 4, 167, 0, 4, 3, 6]
abbrev dktX0_copyFed_1 : List UInt8 := dkwX0_copyFed_1 ++ dktX0_copyFed_2
def dkwX0_copyFed_0 : List UInt8 := [42, 3, 181, 0, 91, 42, 27, 133, 9, 20, 1, 132, 184, 0, 175, 4, 182, 0, 116, 42, 42, 27]
abbrev dktX0_copyFed_0 : List UInt8 := dkwX0_copyFed_0 ++ dktX0_copyFed_1
theorem dksX0_copyFed_0 : cX0_copyFed.data.toList.drop 0 = dktX0_copyFed_0 := by decide +kernel
theorem dksX0_copyFed_1 : cX0_copyFed.data.toList.drop 22 = dktX0_copyFed_1 := dk_seg dksX0_copyFed_0 22 rfl rfl
theorem dksX0_copyFed_2 : cX0_copyFed.data.toList.drop 44 = dktX0_copyFed_2 := dk_seg dksX0_copyFed_1 22 rfl rfl
theorem dksX0_copyFed_3 : cX0_copyFed.data.toList.drop 67 = dktX0_copyFed_3 := dk_seg dksX0_copyFed_2 23 rfl rfl
theorem dksX0_copyFed_4 : cX0_copyFed.data.toList.drop 90 = dktX0_copyFed_4 := dk_seg dksX0_copyFed_3 23 rfl rfl
theorem dX0_copyFed_0 : decode cX0_copyFed 0 = .ok (.aload_n 0, 1) := dk_42 (dk_at dksX0_copyFed_0 0 rfl rfl)
theorem dX0_copyFed_1 : decode cX0_copyFed 1 = .ok (.iconst 0, 1) := dk_3 (dk_at dksX0_copyFed_0 1 rfl rfl)
theorem dX0_copyFed_2 : decode cX0_copyFed 2 = .ok (.putfield 91, 3) := dk_181 0 91 (dk_at dksX0_copyFed_0 2 rfl rfl)
theorem dX0_copyFed_5 : decode cX0_copyFed 5 = .ok (.aload_n 0, 1) := dk_42 (dk_at dksX0_copyFed_0 5 rfl rfl)
theorem dX0_copyFed_6 : decode cX0_copyFed 6 = .ok (.iload_n 1, 1) := dk_27 (dk_at dksX0_copyFed_0 6 rfl rfl)
theorem dX0_copyFed_7 : decode cX0_copyFed 7 = .ok (.i2l, 1) := dk_133 (dk_at dksX0_copyFed_0 7 rfl rfl)
theorem dX0_copyFed_8 : decode cX0_copyFed 8 = .ok (.lconst 0, 1) := dk_9 (dk_at dksX0_copyFed_0 8 rfl rfl)
theorem dX0_copyFed_9 : decode cX0_copyFed 9 = .ok (.ldc2_w 388, 3) := dk_20 1 132 (dk_at dksX0_copyFed_0 9 rfl rfl)
theorem dX0_copyFed_12 : decode cX0_copyFed 12 = .ok (.invokestatic 175, 3) := dk_184 0 175 (dk_at dksX0_copyFed_0 12 rfl rfl)
theorem dX0_copyFed_15 : decode cX0_copyFed 15 = .ok (.iconst 1, 1) := dk_4 (dk_at dksX0_copyFed_0 15 rfl rfl)
theorem dX0_copyFed_16 : decode cX0_copyFed 16 = .ok (.invokevirtual 116, 3) := dk_182 0 116 (dk_at dksX0_copyFed_0 16 rfl rfl)
theorem dX0_copyFed_19 : decode cX0_copyFed 19 = .ok (.aload_n 0, 1) := dk_42 (dk_at dksX0_copyFed_0 19 rfl rfl)
theorem dX0_copyFed_20 : decode cX0_copyFed 20 = .ok (.aload_n 0, 1) := dk_42 (dk_at dksX0_copyFed_0 20 rfl rfl)
theorem dX0_copyFed_21 : decode cX0_copyFed 21 = .ok (.iload_n 1, 1) := dk_27 (dk_at dksX0_copyFed_0 21 rfl rfl)
theorem dX0_copyFed_22 : decode cX0_copyFed 22 = .ok (.invokevirtual 133, 3) := dk_182 0 133 (dk_at dksX0_copyFed_1 0 rfl rfl)
theorem dX0_copyFed_25 : decode cX0_copyFed 25 = .ok (.invokestatic 390, 3) := dk_184 1 134 (dk_at dksX0_copyFed_1 3 rfl rfl)
theorem dX0_copyFed_28 : decode cX0_copyFed 28 = .ok (.aload_n 0, 1) := dk_42 (dk_at dksX0_copyFed_1 6 rfl rfl)
theorem dX0_copyFed_29 : decode cX0_copyFed 29 = .ok (.invokevirtual 168, 3) := dk_182 0 168 (dk_at dksX0_copyFed_1 7 rfl rfl)
theorem dX0_copyFed_32 : decode cX0_copyFed 32 = .ok (.getfield 185, 3) := dk_180 0 185 (dk_at dksX0_copyFed_1 10 rfl rfl)
theorem dX0_copyFed_35 : decode cX0_copyFed 35 = .ok (.if_icmp .lt 7, 3) := dk_161 0 7 (dk_at dksX0_copyFed_1 13 rfl rfl)
theorem dX0_copyFed_38 : decode cX0_copyFed 38 = .ok (.iconst 1, 1) := dk_4 (dk_at dksX0_copyFed_1 16 rfl rfl)
theorem dX0_copyFed_39 : decode cX0_copyFed 39 = .ok (.goto 4, 3) := dk_167 0 4 (dk_at dksX0_copyFed_1 17 rfl rfl)
theorem dX0_copyFed_42 : decode cX0_copyFed 42 = .ok (.iconst 0, 1) := dk_3 (dk_at dksX0_copyFed_1 20 rfl rfl)
theorem dX0_copyFed_43 : decode cX0_copyFed 43 = .ok (.iconst 3, 1) := dk_6 (dk_at dksX0_copyFed_1 21 rfl rfl)
theorem dX0_copyFed_44 : decode cX0_copyFed 44 = .ok (.invokevirtual 116, 3) := dk_182 0 116 (dk_at dksX0_copyFed_2 0 rfl rfl)
theorem dX0_copyFed_47 : decode cX0_copyFed 47 = .ok (.goto 10, 3) := dk_167 0 10 (dk_at dksX0_copyFed_2 3 rfl rfl)
theorem dX0_copyFed_50 : decode cX0_copyFed 50 = .ok (.astore_n 2, 1) := dk_77 (dk_at dksX0_copyFed_2 6 rfl rfl)
theorem dX0_copyFed_51 : decode cX0_copyFed 51 = .ok (.aload_n 0, 1) := dk_42 (dk_at dksX0_copyFed_2 7 rfl rfl)
theorem dX0_copyFed_52 : decode cX0_copyFed 52 = .ok (.aload_n 2, 1) := dk_44 (dk_at dksX0_copyFed_2 8 rfl rfl)
theorem dX0_copyFed_53 : decode cX0_copyFed 53 = .ok (.invokevirtual 149, 3) := dk_182 0 149 (dk_at dksX0_copyFed_2 9 rfl rfl)
theorem dX0_copyFed_56 : decode cX0_copyFed 56 = .ok (.ireturn, 1) := dk_172 (dk_at dksX0_copyFed_2 12 rfl rfl)
theorem dX0_copyFed_57 : decode cX0_copyFed 57 = .ok (.iconst 0, 1) := dk_3 (dk_at dksX0_copyFed_2 13 rfl rfl)
theorem dX0_copyFed_58 : decode cX0_copyFed 58 = .ok (.istore_n 2, 1) := dk_61 (dk_at dksX0_copyFed_2 14 rfl rfl)
theorem dX0_copyFed_59 : decode cX0_copyFed 59 = .ok (.iload_n 2, 1) := dk_28 (dk_at dksX0_copyFed_2 15 rfl rfl)
theorem dX0_copyFed_60 : decode cX0_copyFed 60 = .ok (.aload_n 0, 1) := dk_42 (dk_at dksX0_copyFed_2 16 rfl rfl)
theorem dX0_copyFed_61 : decode cX0_copyFed 61 = .ok (.invokevirtual 168, 3) := dk_182 0 168 (dk_at dksX0_copyFed_2 17 rfl rfl)
theorem dX0_copyFed_64 : decode cX0_copyFed 64 = .ok (.getfield 185, 3) := dk_180 0 185 (dk_at dksX0_copyFed_2 20 rfl rfl)
theorem dX0_copyFed_67 : decode cX0_copyFed 67 = .ok (.if_icmp .ge 26, 3) := dk_162 0 26 (dk_at dksX0_copyFed_3 0 rfl rfl)
theorem dX0_copyFed_70 : decode cX0_copyFed 70 = .ok (.aload_n 0, 1) := dk_42 (dk_at dksX0_copyFed_3 3 rfl rfl)
theorem dX0_copyFed_71 : decode cX0_copyFed 71 = .ok (.iload_n 1, 1) := dk_27 (dk_at dksX0_copyFed_3 4 rfl rfl)
theorem dX0_copyFed_72 : decode cX0_copyFed 72 = .ok (.iload_n 2, 1) := dk_28 (dk_at dksX0_copyFed_3 5 rfl rfl)
theorem dX0_copyFed_73 : decode cX0_copyFed 73 = .ok (.aload_n 0, 1) := dk_42 (dk_at dksX0_copyFed_3 6 rfl rfl)
theorem dX0_copyFed_74 : decode cX0_copyFed 74 = .ok (.invokevirtual 168, 3) := dk_182 0 168 (dk_at dksX0_copyFed_3 7 rfl rfl)
theorem dX0_copyFed_77 : decode cX0_copyFed 77 = .ok (.getfield 308, 3) := dk_180 1 52 (dk_at dksX0_copyFed_3 10 rfl rfl)
theorem dX0_copyFed_80 : decode cX0_copyFed 80 = .ok (.iload_n 2, 1) := dk_28 (dk_at dksX0_copyFed_3 13 rfl rfl)
theorem dX0_copyFed_81 : decode cX0_copyFed 81 = .ok (.iaload, 1) := dk_46 (dk_at dksX0_copyFed_3 14 rfl rfl)
theorem dX0_copyFed_82 : decode cX0_copyFed 82 = .ok (.i2l, 1) := dk_133 (dk_at dksX0_copyFed_3 15 rfl rfl)
theorem dX0_copyFed_83 : decode cX0_copyFed 83 = .ok (.invokevirtual 498, 3) := dk_182 1 242 (dk_at dksX0_copyFed_3 16 rfl rfl)
theorem dX0_copyFed_86 : decode cX0_copyFed 86 = .ok (.pop, 1) := dk_87 (dk_at dksX0_copyFed_3 19 rfl rfl)
theorem dX0_copyFed_87 : decode cX0_copyFed 87 = .ok (.iinc 2 1, 3) := dk_132 2 1 (dk_at dksX0_copyFed_3 20 rfl rfl)
theorem dX0_copyFed_90 : decode cX0_copyFed 90 = .ok (.goto (-31), 3) := dk_167 255 225 (dk_at dksX0_copyFed_4 0 rfl rfl)
theorem dX0_copyFed_93 : decode cX0_copyFed 93 = .ok (.aload_n 0, 1) := dk_42 (dk_at dksX0_copyFed_4 3 rfl rfl)
theorem dX0_copyFed_94 : decode cX0_copyFed 94 = .ok (.invokevirtual 168, 3) := dk_182 0 168 (dk_at dksX0_copyFed_4 4 rfl rfl)
theorem dX0_copyFed_97 : decode cX0_copyFed 97 = .ok (.getfield 185, 3) := dk_180 0 185 (dk_at dksX0_copyFed_4 7 rfl rfl)
theorem dX0_copyFed_100 : decode cX0_copyFed 100 = .ok (.ireturn, 1) := dk_172 (dk_at dksX0_copyFed_4 10 rfl rfl)
abbrev cX0_live : ByteArray := prog_1_method_102_code
def yX0_live : MethodName := ⟨RX0, "live", "(I)I"⟩
def dkwX0_live_5 : List UInt8 := [153, 0, 7, 4, 167, 0, 4, 3, 79, 42, 4, 181, 2, 15, 44, 180, 2, 18, 172]
abbrev dktX0_live_5 : List UInt8 := dkwX0_live_5 ++ []
def dkwX0_live_4 : List UInt8 := [44, 180, 2, 5, 79, 42, 180, 0, 88, 6, 44, 180, 2, 8, 79, 42, 180, 0, 88, 7, 44, 180, 2, 11]
abbrev dktX0_live_4 : List UInt8 := dkwX0_live_4 ++ dktX0_live_5
def dkwX0_live_3 : List UInt8 := [180, 0, 88, 3, 44, 180, 2, 1, 79, 42, 180, 0, 88, 4, 44, 180, 2, 4, 79, 42, 180, 0, 88, 5]
abbrev dktX0_live_3 : List UInt8 := dkwX0_live_3 ++ dktX0_live_4
def dkwX0_live_2 : List UInt8 := [89, 42, 182, 0, 168, 27, 183, 1, 250, 77, 42, 180, 0, 55, 180, 0, 219, 44, 182, 1, 253, 42]
abbrev dktX0_live_2 : List UInt8 := dkwX0_live_2 ++ dktX0_live_3
def dkwX0_live_1 : List UInt8 := [199, 0, 8, 16, 6, 167, 0, 4, 3, 181, 0, 91, 42, 180, 0, 91, 158, 0, 5, 2, 172, 187, 1, 248]
abbrev dktX0_live_1 : List UInt8 := dkwX0_live_1 ++ dktX0_live_2
def dkwX0_live_0 : List UInt8 := [42, 27, 133, 9, 20, 1, 246, 184, 0, 175, 154, 0, 7, 4, 167, 0, 19, 42, 180, 0, 55, 180, 0, 219]
abbrev dktX0_live_0 : List UInt8 := dkwX0_live_0 ++ dktX0_live_1
theorem dksX0_live_0 : cX0_live.data.toList.drop 0 = dktX0_live_0 := by decide +kernel
theorem dksX0_live_1 : cX0_live.data.toList.drop 24 = dktX0_live_1 := dk_seg dksX0_live_0 24 rfl rfl
theorem dksX0_live_2 : cX0_live.data.toList.drop 48 = dktX0_live_2 := dk_seg dksX0_live_1 24 rfl rfl
theorem dksX0_live_3 : cX0_live.data.toList.drop 70 = dktX0_live_3 := dk_seg dksX0_live_2 22 rfl rfl
theorem dksX0_live_4 : cX0_live.data.toList.drop 94 = dktX0_live_4 := dk_seg dksX0_live_3 24 rfl rfl
theorem dksX0_live_5 : cX0_live.data.toList.drop 118 = dktX0_live_5 := dk_seg dksX0_live_4 24 rfl rfl
theorem dX0_live_0 : decode cX0_live 0 = .ok (.aload_n 0, 1) := dk_42 (dk_at dksX0_live_0 0 rfl rfl)
theorem dX0_live_1 : decode cX0_live 1 = .ok (.iload_n 1, 1) := dk_27 (dk_at dksX0_live_0 1 rfl rfl)
theorem dX0_live_2 : decode cX0_live 2 = .ok (.i2l, 1) := dk_133 (dk_at dksX0_live_0 2 rfl rfl)
theorem dX0_live_3 : decode cX0_live 3 = .ok (.lconst 0, 1) := dk_9 (dk_at dksX0_live_0 3 rfl rfl)
theorem dX0_live_4 : decode cX0_live 4 = .ok (.ldc2_w 502, 3) := dk_20 1 246 (dk_at dksX0_live_0 4 rfl rfl)
theorem dX0_live_7 : decode cX0_live 7 = .ok (.invokestatic 175, 3) := dk_184 0 175 (dk_at dksX0_live_0 7 rfl rfl)
theorem dX0_live_10 : decode cX0_live 10 = .ok (.ifCond .ne 7, 3) := dk_154 0 7 (dk_at dksX0_live_0 10 rfl rfl)
theorem dX0_live_13 : decode cX0_live 13 = .ok (.iconst 1, 1) := dk_4 (dk_at dksX0_live_0 13 rfl rfl)
theorem dX0_live_14 : decode cX0_live 14 = .ok (.goto 19, 3) := dk_167 0 19 (dk_at dksX0_live_0 14 rfl rfl)
theorem dX0_live_17 : decode cX0_live 17 = .ok (.aload_n 0, 1) := dk_42 (dk_at dksX0_live_0 17 rfl rfl)
theorem dX0_live_18 : decode cX0_live 18 = .ok (.getfield 55, 3) := dk_180 0 55 (dk_at dksX0_live_0 18 rfl rfl)
theorem dX0_live_21 : decode cX0_live 21 = .ok (.getfield 219, 3) := dk_180 0 219 (dk_at dksX0_live_0 21 rfl rfl)
theorem dX0_live_24 : decode cX0_live 24 = .ok (.ifnonnull 8, 3) := dk_199 0 8 (dk_at dksX0_live_1 0 rfl rfl)
theorem dX0_live_27 : decode cX0_live 27 = .ok (.bipush 6, 2) := dk_16 6 (dk_at dksX0_live_1 3 rfl rfl)
theorem dX0_live_29 : decode cX0_live 29 = .ok (.goto 4, 3) := dk_167 0 4 (dk_at dksX0_live_1 5 rfl rfl)
theorem dX0_live_32 : decode cX0_live 32 = .ok (.iconst 0, 1) := dk_3 (dk_at dksX0_live_1 8 rfl rfl)
theorem dX0_live_33 : decode cX0_live 33 = .ok (.putfield 91, 3) := dk_181 0 91 (dk_at dksX0_live_1 9 rfl rfl)
theorem dX0_live_36 : decode cX0_live 36 = .ok (.aload_n 0, 1) := dk_42 (dk_at dksX0_live_1 12 rfl rfl)
theorem dX0_live_37 : decode cX0_live 37 = .ok (.getfield 91, 3) := dk_180 0 91 (dk_at dksX0_live_1 13 rfl rfl)
theorem dX0_live_40 : decode cX0_live 40 = .ok (.ifCond .le 5, 3) := dk_158 0 5 (dk_at dksX0_live_1 16 rfl rfl)
theorem dX0_live_43 : decode cX0_live 43 = .ok (.iconst (-1), 1) := dk_2 (dk_at dksX0_live_1 19 rfl rfl)
theorem dX0_live_44 : decode cX0_live 44 = .ok (.ireturn, 1) := dk_172 (dk_at dksX0_live_1 20 rfl rfl)
theorem dX0_live_45 : decode cX0_live 45 = .ok (.new 504, 3) := dk_187 1 248 (dk_at dksX0_live_1 21 rfl rfl)
theorem dX0_live_48 : decode cX0_live 48 = .ok (.dup, 1) := dk_89 (dk_at dksX0_live_2 0 rfl rfl)
theorem dX0_live_49 : decode cX0_live 49 = .ok (.aload_n 0, 1) := dk_42 (dk_at dksX0_live_2 1 rfl rfl)
theorem dX0_live_50 : decode cX0_live 50 = .ok (.invokevirtual 168, 3) := dk_182 0 168 (dk_at dksX0_live_2 2 rfl rfl)
theorem dX0_live_53 : decode cX0_live 53 = .ok (.iload_n 1, 1) := dk_27 (dk_at dksX0_live_2 5 rfl rfl)
theorem dX0_live_54 : decode cX0_live 54 = .ok (.invokespecial 506, 3) := dk_183 1 250 (dk_at dksX0_live_2 6 rfl rfl)
theorem dX0_live_57 : decode cX0_live 57 = .ok (.astore_n 2, 1) := dk_77 (dk_at dksX0_live_2 9 rfl rfl)
theorem dX0_live_58 : decode cX0_live 58 = .ok (.aload_n 0, 1) := dk_42 (dk_at dksX0_live_2 10 rfl rfl)
theorem dX0_live_59 : decode cX0_live 59 = .ok (.getfield 55, 3) := dk_180 0 55 (dk_at dksX0_live_2 11 rfl rfl)
theorem dX0_live_62 : decode cX0_live 62 = .ok (.getfield 219, 3) := dk_180 0 219 (dk_at dksX0_live_2 14 rfl rfl)
theorem dX0_live_65 : decode cX0_live 65 = .ok (.aload_n 2, 1) := dk_44 (dk_at dksX0_live_2 17 rfl rfl)
theorem dX0_live_66 : decode cX0_live 66 = .ok (.invokevirtual 509, 3) := dk_182 1 253 (dk_at dksX0_live_2 18 rfl rfl)
theorem dX0_live_69 : decode cX0_live 69 = .ok (.aload_n 0, 1) := dk_42 (dk_at dksX0_live_2 21 rfl rfl)
theorem dX0_live_70 : decode cX0_live 70 = .ok (.getfield 88, 3) := dk_180 0 88 (dk_at dksX0_live_3 0 rfl rfl)
theorem dX0_live_73 : decode cX0_live 73 = .ok (.iconst 0, 1) := dk_3 (dk_at dksX0_live_3 3 rfl rfl)
theorem dX0_live_74 : decode cX0_live 74 = .ok (.aload_n 2, 1) := dk_44 (dk_at dksX0_live_3 4 rfl rfl)
theorem dX0_live_75 : decode cX0_live 75 = .ok (.getfield 513, 3) := dk_180 2 1 (dk_at dksX0_live_3 5 rfl rfl)
theorem dX0_live_78 : decode cX0_live 78 = .ok (.iastore, 1) := dk_79 (dk_at dksX0_live_3 8 rfl rfl)
theorem dX0_live_79 : decode cX0_live 79 = .ok (.aload_n 0, 1) := dk_42 (dk_at dksX0_live_3 9 rfl rfl)
theorem dX0_live_80 : decode cX0_live 80 = .ok (.getfield 88, 3) := dk_180 0 88 (dk_at dksX0_live_3 10 rfl rfl)
theorem dX0_live_83 : decode cX0_live 83 = .ok (.iconst 1, 1) := dk_4 (dk_at dksX0_live_3 13 rfl rfl)
theorem dX0_live_84 : decode cX0_live 84 = .ok (.aload_n 2, 1) := dk_44 (dk_at dksX0_live_3 14 rfl rfl)
theorem dX0_live_85 : decode cX0_live 85 = .ok (.getfield 516, 3) := dk_180 2 4 (dk_at dksX0_live_3 15 rfl rfl)
theorem dX0_live_88 : decode cX0_live 88 = .ok (.iastore, 1) := dk_79 (dk_at dksX0_live_3 18 rfl rfl)
theorem dX0_live_89 : decode cX0_live 89 = .ok (.aload_n 0, 1) := dk_42 (dk_at dksX0_live_3 19 rfl rfl)
theorem dX0_live_90 : decode cX0_live 90 = .ok (.getfield 88, 3) := dk_180 0 88 (dk_at dksX0_live_3 20 rfl rfl)
theorem dX0_live_93 : decode cX0_live 93 = .ok (.iconst 2, 1) := dk_5 (dk_at dksX0_live_3 23 rfl rfl)
theorem dX0_live_94 : decode cX0_live 94 = .ok (.aload_n 2, 1) := dk_44 (dk_at dksX0_live_4 0 rfl rfl)
theorem dX0_live_95 : decode cX0_live 95 = .ok (.getfield 517, 3) := dk_180 2 5 (dk_at dksX0_live_4 1 rfl rfl)
theorem dX0_live_98 : decode cX0_live 98 = .ok (.iastore, 1) := dk_79 (dk_at dksX0_live_4 4 rfl rfl)
theorem dX0_live_99 : decode cX0_live 99 = .ok (.aload_n 0, 1) := dk_42 (dk_at dksX0_live_4 5 rfl rfl)
theorem dX0_live_100 : decode cX0_live 100 = .ok (.getfield 88, 3) := dk_180 0 88 (dk_at dksX0_live_4 6 rfl rfl)
theorem dX0_live_103 : decode cX0_live 103 = .ok (.iconst 3, 1) := dk_6 (dk_at dksX0_live_4 9 rfl rfl)
theorem dX0_live_104 : decode cX0_live 104 = .ok (.aload_n 2, 1) := dk_44 (dk_at dksX0_live_4 10 rfl rfl)
theorem dX0_live_105 : decode cX0_live 105 = .ok (.getfield 520, 3) := dk_180 2 8 (dk_at dksX0_live_4 11 rfl rfl)
theorem dX0_live_108 : decode cX0_live 108 = .ok (.iastore, 1) := dk_79 (dk_at dksX0_live_4 14 rfl rfl)
theorem dX0_live_109 : decode cX0_live 109 = .ok (.aload_n 0, 1) := dk_42 (dk_at dksX0_live_4 15 rfl rfl)
theorem dX0_live_110 : decode cX0_live 110 = .ok (.getfield 88, 3) := dk_180 0 88 (dk_at dksX0_live_4 16 rfl rfl)
theorem dX0_live_113 : decode cX0_live 113 = .ok (.iconst 4, 1) := dk_7 (dk_at dksX0_live_4 19 rfl rfl)
theorem dX0_live_114 : decode cX0_live 114 = .ok (.aload_n 2, 1) := dk_44 (dk_at dksX0_live_4 20 rfl rfl)
theorem dX0_live_115 : decode cX0_live 115 = .ok (.getfield 523, 3) := dk_180 2 11 (dk_at dksX0_live_4 21 rfl rfl)
theorem dX0_live_118 : decode cX0_live 118 = .ok (.ifCond .eq 7, 3) := dk_153 0 7 (dk_at dksX0_live_5 0 rfl rfl)
theorem dX0_live_121 : decode cX0_live 121 = .ok (.iconst 1, 1) := dk_4 (dk_at dksX0_live_5 3 rfl rfl)
theorem dX0_live_122 : decode cX0_live 122 = .ok (.goto 4, 3) := dk_167 0 4 (dk_at dksX0_live_5 4 rfl rfl)
theorem dX0_live_125 : decode cX0_live 125 = .ok (.iconst 0, 1) := dk_3 (dk_at dksX0_live_5 7 rfl rfl)
theorem dX0_live_126 : decode cX0_live 126 = .ok (.iastore, 1) := dk_79 (dk_at dksX0_live_5 8 rfl rfl)
theorem dX0_live_127 : decode cX0_live 127 = .ok (.aload_n 0, 1) := dk_42 (dk_at dksX0_live_5 9 rfl rfl)
theorem dX0_live_128 : decode cX0_live 128 = .ok (.iconst 1, 1) := dk_4 (dk_at dksX0_live_5 10 rfl rfl)
theorem dX0_live_129 : decode cX0_live 129 = .ok (.putfield 527, 3) := dk_181 2 15 (dk_at dksX0_live_5 11 rfl rfl)
theorem dX0_live_132 : decode cX0_live 132 = .ok (.aload_n 2, 1) := dk_44 (dk_at dksX0_live_5 14 rfl rfl)
theorem dX0_live_133 : decode cX0_live 133 = .ok (.getfield 530, 3) := dk_180 2 18 (dk_at dksX0_live_5 15 rfl rfl)
theorem dX0_live_136 : decode cX0_live 136 = .ok (.ireturn, 1) := dk_172 (dk_at dksX0_live_5 18 rfl rfl)
abbrev cX0_lived : ByteArray := prog_1_method_103_code
def yX0_lived : MethodName := ⟨RX0, "lived", "(I)I"⟩
def dkwX0_lived_2 : List UInt8 := [27, 46, 172]
abbrev dktX0_lived_2 : List UInt8 := dkwX0_lived_2 ++ []
def dkwX0_lived_1 : List UInt8 := [3, 167, 0, 5, 16, 6, 181, 0, 91, 42, 180, 0, 91, 158, 0, 7, 2, 167, 0, 9, 42, 180, 0, 88]
abbrev dktX0_lived_1 : List UInt8 := dkwX0_lived_1 ++ dktX0_lived_2
def dkwX0_lived_0 : List UInt8 := [42, 27, 133, 9, 20, 1, 16, 184, 0, 175, 154, 0, 7, 4, 167, 0, 16, 42, 180, 2, 15, 153, 0, 7]
abbrev dktX0_lived_0 : List UInt8 := dkwX0_lived_0 ++ dktX0_lived_1
theorem dksX0_lived_0 : cX0_lived.data.toList.drop 0 = dktX0_lived_0 := by decide +kernel
theorem dksX0_lived_1 : cX0_lived.data.toList.drop 24 = dktX0_lived_1 := dk_seg dksX0_lived_0 24 rfl rfl
theorem dksX0_lived_2 : cX0_lived.data.toList.drop 48 = dktX0_lived_2 := dk_seg dksX0_lived_1 24 rfl rfl
theorem dX0_lived_0 : decode cX0_lived 0 = .ok (.aload_n 0, 1) := dk_42 (dk_at dksX0_lived_0 0 rfl rfl)
theorem dX0_lived_1 : decode cX0_lived 1 = .ok (.iload_n 1, 1) := dk_27 (dk_at dksX0_lived_0 1 rfl rfl)
theorem dX0_lived_2 : decode cX0_lived 2 = .ok (.i2l, 1) := dk_133 (dk_at dksX0_lived_0 2 rfl rfl)
theorem dX0_lived_3 : decode cX0_lived 3 = .ok (.lconst 0, 1) := dk_9 (dk_at dksX0_lived_0 3 rfl rfl)
theorem dX0_lived_4 : decode cX0_lived 4 = .ok (.ldc2_w 272, 3) := dk_20 1 16 (dk_at dksX0_lived_0 4 rfl rfl)
theorem dX0_lived_7 : decode cX0_lived 7 = .ok (.invokestatic 175, 3) := dk_184 0 175 (dk_at dksX0_lived_0 7 rfl rfl)
theorem dX0_lived_10 : decode cX0_lived 10 = .ok (.ifCond .ne 7, 3) := dk_154 0 7 (dk_at dksX0_lived_0 10 rfl rfl)
theorem dX0_lived_13 : decode cX0_lived 13 = .ok (.iconst 1, 1) := dk_4 (dk_at dksX0_lived_0 13 rfl rfl)
theorem dX0_lived_14 : decode cX0_lived 14 = .ok (.goto 16, 3) := dk_167 0 16 (dk_at dksX0_lived_0 14 rfl rfl)
theorem dX0_lived_17 : decode cX0_lived 17 = .ok (.aload_n 0, 1) := dk_42 (dk_at dksX0_lived_0 17 rfl rfl)
theorem dX0_lived_18 : decode cX0_lived 18 = .ok (.getfield 527, 3) := dk_180 2 15 (dk_at dksX0_lived_0 18 rfl rfl)
theorem dX0_lived_21 : decode cX0_lived 21 = .ok (.ifCond .eq 7, 3) := dk_153 0 7 (dk_at dksX0_lived_0 21 rfl rfl)
theorem dX0_lived_24 : decode cX0_lived 24 = .ok (.iconst 0, 1) := dk_3 (dk_at dksX0_lived_1 0 rfl rfl)
theorem dX0_lived_25 : decode cX0_lived 25 = .ok (.goto 5, 3) := dk_167 0 5 (dk_at dksX0_lived_1 1 rfl rfl)
theorem dX0_lived_28 : decode cX0_lived 28 = .ok (.bipush 6, 2) := dk_16 6 (dk_at dksX0_lived_1 4 rfl rfl)
theorem dX0_lived_30 : decode cX0_lived 30 = .ok (.putfield 91, 3) := dk_181 0 91 (dk_at dksX0_lived_1 6 rfl rfl)
theorem dX0_lived_33 : decode cX0_lived 33 = .ok (.aload_n 0, 1) := dk_42 (dk_at dksX0_lived_1 9 rfl rfl)
theorem dX0_lived_34 : decode cX0_lived 34 = .ok (.getfield 91, 3) := dk_180 0 91 (dk_at dksX0_lived_1 10 rfl rfl)
theorem dX0_lived_37 : decode cX0_lived 37 = .ok (.ifCond .le 7, 3) := dk_158 0 7 (dk_at dksX0_lived_1 13 rfl rfl)
theorem dX0_lived_40 : decode cX0_lived 40 = .ok (.iconst (-1), 1) := dk_2 (dk_at dksX0_lived_1 16 rfl rfl)
theorem dX0_lived_41 : decode cX0_lived 41 = .ok (.goto 9, 3) := dk_167 0 9 (dk_at dksX0_lived_1 17 rfl rfl)
theorem dX0_lived_44 : decode cX0_lived 44 = .ok (.aload_n 0, 1) := dk_42 (dk_at dksX0_lived_1 20 rfl rfl)
theorem dX0_lived_45 : decode cX0_lived 45 = .ok (.getfield 88, 3) := dk_180 0 88 (dk_at dksX0_lived_1 21 rfl rfl)
theorem dX0_lived_48 : decode cX0_lived 48 = .ok (.iload_n 1, 1) := dk_27 (dk_at dksX0_lived_2 0 rfl rfl)
theorem dX0_lived_49 : decode cX0_lived 49 = .ok (.iaload, 1) := dk_46 (dk_at dksX0_lived_2 1 rfl rfl)
theorem dX0_lived_50 : decode cX0_lived 50 = .ok (.ireturn, 1) := dk_172 (dk_at dksX0_lived_2 2 rfl rfl)
abbrev cX0_mean : ByteArray := prog_1_method_104_code
def yX0_mean : MethodName := ⟨RX0, "mean", "(II)Z"⟩
def dkwX0_mean_5 : List UInt8 := [97, 66, 132, 5, 1, 167, 255, 200, 42, 33, 28, 133, 182, 1, 150, 87, 4, 172]
abbrev dktX0_mean_5 : List UInt8 := dkwX0_mean_5 ++ []
def dkwX0_mean_4 : List UInt8 := [89, 42, 180, 0, 66, 27, 21, 5, 96, 183, 1, 250, 182, 1, 253, 33, 42, 180, 0, 66, 182, 2, 21, 133]
abbrev dktX0_mean_4 : List UInt8 := dkwX0_mean_4 ++ dktX0_mean_5
def dkwX0_mean_3 : List UInt8 := [162, 0, 56, 42, 180, 0, 66, 42, 182, 0, 168, 182, 0, 216, 42, 180, 0, 55, 180, 0, 219, 187, 1, 248]
abbrev dktX0_mean_3 : List UInt8 := dkwX0_mean_3 ++ dktX0_mean_4
def dkwX0_mean_2 : List UInt8 := [167, 0, 4, 3, 181, 0, 91, 42, 180, 0, 91, 158, 0, 5, 3, 172, 9, 66, 3, 54, 5, 21, 5, 28]
abbrev dktX0_mean_2 : List UInt8 := dkwX0_mean_2 ++ dktX0_mean_3
def dkwX0_mean_1 : List UInt8 := [184, 0, 175, 154, 0, 7, 4, 167, 0, 19, 42, 180, 0, 55, 180, 0, 219, 199, 0, 8, 16, 6]
abbrev dktX0_mean_1 : List UInt8 := dkwX0_mean_1 ++ dktX0_mean_2
def dkwX0_mean_0 : List UInt8 := [42, 28, 133, 10, 20, 1, 130, 184, 0, 175, 153, 0, 20, 27, 133, 9, 17, 39, 15, 28, 100, 4, 96, 133]
abbrev dktX0_mean_0 : List UInt8 := dkwX0_mean_0 ++ dktX0_mean_1
theorem dksX0_mean_0 : cX0_mean.data.toList.drop 0 = dktX0_mean_0 := by decide +kernel
theorem dksX0_mean_1 : cX0_mean.data.toList.drop 24 = dktX0_mean_1 := dk_seg dksX0_mean_0 24 rfl rfl
theorem dksX0_mean_2 : cX0_mean.data.toList.drop 46 = dktX0_mean_2 := dk_seg dksX0_mean_1 22 rfl rfl
theorem dksX0_mean_3 : cX0_mean.data.toList.drop 70 = dktX0_mean_3 := dk_seg dksX0_mean_2 24 rfl rfl
theorem dksX0_mean_4 : cX0_mean.data.toList.drop 94 = dktX0_mean_4 := dk_seg dksX0_mean_3 24 rfl rfl
theorem dksX0_mean_5 : cX0_mean.data.toList.drop 118 = dktX0_mean_5 := dk_seg dksX0_mean_4 24 rfl rfl
theorem dX0_mean_0 : decode cX0_mean 0 = .ok (.aload_n 0, 1) := dk_42 (dk_at dksX0_mean_0 0 rfl rfl)
theorem dX0_mean_1 : decode cX0_mean 1 = .ok (.iload_n 2, 1) := dk_28 (dk_at dksX0_mean_0 1 rfl rfl)
theorem dX0_mean_2 : decode cX0_mean 2 = .ok (.i2l, 1) := dk_133 (dk_at dksX0_mean_0 2 rfl rfl)
theorem dX0_mean_3 : decode cX0_mean 3 = .ok (.lconst 1, 1) := dk_10 (dk_at dksX0_mean_0 3 rfl rfl)
theorem dX0_mean_4 : decode cX0_mean 4 = .ok (.ldc2_w 386, 3) := dk_20 1 130 (dk_at dksX0_mean_0 4 rfl rfl)
theorem dX0_mean_7 : decode cX0_mean 7 = .ok (.invokestatic 175, 3) := dk_184 0 175 (dk_at dksX0_mean_0 7 rfl rfl)
theorem dX0_mean_10 : decode cX0_mean 10 = .ok (.ifCond .eq 20, 3) := dk_153 0 20 (dk_at dksX0_mean_0 10 rfl rfl)
theorem dX0_mean_13 : decode cX0_mean 13 = .ok (.iload_n 1, 1) := dk_27 (dk_at dksX0_mean_0 13 rfl rfl)
theorem dX0_mean_14 : decode cX0_mean 14 = .ok (.i2l, 1) := dk_133 (dk_at dksX0_mean_0 14 rfl rfl)
theorem dX0_mean_15 : decode cX0_mean 15 = .ok (.lconst 0, 1) := dk_9 (dk_at dksX0_mean_0 15 rfl rfl)
theorem dX0_mean_16 : decode cX0_mean 16 = .ok (.sipush 9999, 3) := dk_17 39 15 (dk_at dksX0_mean_0 16 rfl rfl)
theorem dX0_mean_19 : decode cX0_mean 19 = .ok (.iload_n 2, 1) := dk_28 (dk_at dksX0_mean_0 19 rfl rfl)
theorem dX0_mean_20 : decode cX0_mean 20 = .ok (.isub, 1) := dk_100 (dk_at dksX0_mean_0 20 rfl rfl)
theorem dX0_mean_21 : decode cX0_mean 21 = .ok (.iconst 1, 1) := dk_4 (dk_at dksX0_mean_0 21 rfl rfl)
theorem dX0_mean_22 : decode cX0_mean 22 = .ok (.iadd, 1) := dk_96 (dk_at dksX0_mean_0 22 rfl rfl)
theorem dX0_mean_23 : decode cX0_mean 23 = .ok (.i2l, 1) := dk_133 (dk_at dksX0_mean_0 23 rfl rfl)
theorem dX0_mean_24 : decode cX0_mean 24 = .ok (.invokestatic 175, 3) := dk_184 0 175 (dk_at dksX0_mean_1 0 rfl rfl)
theorem dX0_mean_27 : decode cX0_mean 27 = .ok (.ifCond .ne 7, 3) := dk_154 0 7 (dk_at dksX0_mean_1 3 rfl rfl)
theorem dX0_mean_30 : decode cX0_mean 30 = .ok (.iconst 1, 1) := dk_4 (dk_at dksX0_mean_1 6 rfl rfl)
theorem dX0_mean_31 : decode cX0_mean 31 = .ok (.goto 19, 3) := dk_167 0 19 (dk_at dksX0_mean_1 7 rfl rfl)
theorem dX0_mean_34 : decode cX0_mean 34 = .ok (.aload_n 0, 1) := dk_42 (dk_at dksX0_mean_1 10 rfl rfl)
theorem dX0_mean_35 : decode cX0_mean 35 = .ok (.getfield 55, 3) := dk_180 0 55 (dk_at dksX0_mean_1 11 rfl rfl)
theorem dX0_mean_38 : decode cX0_mean 38 = .ok (.getfield 219, 3) := dk_180 0 219 (dk_at dksX0_mean_1 14 rfl rfl)
theorem dX0_mean_41 : decode cX0_mean 41 = .ok (.ifnonnull 8, 3) := dk_199 0 8 (dk_at dksX0_mean_1 17 rfl rfl)
theorem dX0_mean_44 : decode cX0_mean 44 = .ok (.bipush 6, 2) := dk_16 6 (dk_at dksX0_mean_1 20 rfl rfl)
theorem dX0_mean_46 : decode cX0_mean 46 = .ok (.goto 4, 3) := dk_167 0 4 (dk_at dksX0_mean_2 0 rfl rfl)
theorem dX0_mean_49 : decode cX0_mean 49 = .ok (.iconst 0, 1) := dk_3 (dk_at dksX0_mean_2 3 rfl rfl)
theorem dX0_mean_50 : decode cX0_mean 50 = .ok (.putfield 91, 3) := dk_181 0 91 (dk_at dksX0_mean_2 4 rfl rfl)
theorem dX0_mean_53 : decode cX0_mean 53 = .ok (.aload_n 0, 1) := dk_42 (dk_at dksX0_mean_2 7 rfl rfl)
theorem dX0_mean_54 : decode cX0_mean 54 = .ok (.getfield 91, 3) := dk_180 0 91 (dk_at dksX0_mean_2 8 rfl rfl)
theorem dX0_mean_57 : decode cX0_mean 57 = .ok (.ifCond .le 5, 3) := dk_158 0 5 (dk_at dksX0_mean_2 11 rfl rfl)
theorem dX0_mean_60 : decode cX0_mean 60 = .ok (.iconst 0, 1) := dk_3 (dk_at dksX0_mean_2 14 rfl rfl)
theorem dX0_mean_61 : decode cX0_mean 61 = .ok (.ireturn, 1) := dk_172 (dk_at dksX0_mean_2 15 rfl rfl)
theorem dX0_mean_62 : decode cX0_mean 62 = .ok (.lconst 0, 1) := dk_9 (dk_at dksX0_mean_2 16 rfl rfl)
theorem dX0_mean_63 : decode cX0_mean 63 = .ok (.lstore_n 3, 1) := dk_66 (dk_at dksX0_mean_2 17 rfl rfl)
theorem dX0_mean_64 : decode cX0_mean 64 = .ok (.iconst 0, 1) := dk_3 (dk_at dksX0_mean_2 18 rfl rfl)
theorem dX0_mean_65 : decode cX0_mean 65 = .ok (.istore 5, 2) := dk_54 5 (dk_at dksX0_mean_2 19 rfl rfl)
theorem dX0_mean_67 : decode cX0_mean 67 = .ok (.iload 5, 2) := dk_21 5 (dk_at dksX0_mean_2 21 rfl rfl)
theorem dX0_mean_69 : decode cX0_mean 69 = .ok (.iload_n 2, 1) := dk_28 (dk_at dksX0_mean_2 23 rfl rfl)
theorem dX0_mean_70 : decode cX0_mean 70 = .ok (.if_icmp .ge 56, 3) := dk_162 0 56 (dk_at dksX0_mean_3 0 rfl rfl)
theorem dX0_mean_73 : decode cX0_mean 73 = .ok (.aload_n 0, 1) := dk_42 (dk_at dksX0_mean_3 3 rfl rfl)
theorem dX0_mean_74 : decode cX0_mean 74 = .ok (.getfield 66, 3) := dk_180 0 66 (dk_at dksX0_mean_3 4 rfl rfl)
theorem dX0_mean_77 : decode cX0_mean 77 = .ok (.aload_n 0, 1) := dk_42 (dk_at dksX0_mean_3 7 rfl rfl)
theorem dX0_mean_78 : decode cX0_mean 78 = .ok (.invokevirtual 168, 3) := dk_182 0 168 (dk_at dksX0_mean_3 8 rfl rfl)
theorem dX0_mean_81 : decode cX0_mean 81 = .ok (.invokevirtual 216, 3) := dk_182 0 216 (dk_at dksX0_mean_3 11 rfl rfl)
theorem dX0_mean_84 : decode cX0_mean 84 = .ok (.aload_n 0, 1) := dk_42 (dk_at dksX0_mean_3 14 rfl rfl)
theorem dX0_mean_85 : decode cX0_mean 85 = .ok (.getfield 55, 3) := dk_180 0 55 (dk_at dksX0_mean_3 15 rfl rfl)
theorem dX0_mean_88 : decode cX0_mean 88 = .ok (.getfield 219, 3) := dk_180 0 219 (dk_at dksX0_mean_3 18 rfl rfl)
theorem dX0_mean_91 : decode cX0_mean 91 = .ok (.new 504, 3) := dk_187 1 248 (dk_at dksX0_mean_3 21 rfl rfl)
theorem dX0_mean_94 : decode cX0_mean 94 = .ok (.dup, 1) := dk_89 (dk_at dksX0_mean_4 0 rfl rfl)
theorem dX0_mean_95 : decode cX0_mean 95 = .ok (.aload_n 0, 1) := dk_42 (dk_at dksX0_mean_4 1 rfl rfl)
theorem dX0_mean_96 : decode cX0_mean 96 = .ok (.getfield 66, 3) := dk_180 0 66 (dk_at dksX0_mean_4 2 rfl rfl)
theorem dX0_mean_99 : decode cX0_mean 99 = .ok (.iload_n 1, 1) := dk_27 (dk_at dksX0_mean_4 5 rfl rfl)
theorem dX0_mean_100 : decode cX0_mean 100 = .ok (.iload 5, 2) := dk_21 5 (dk_at dksX0_mean_4 6 rfl rfl)
theorem dX0_mean_102 : decode cX0_mean 102 = .ok (.iadd, 1) := dk_96 (dk_at dksX0_mean_4 8 rfl rfl)
theorem dX0_mean_103 : decode cX0_mean 103 = .ok (.invokespecial 506, 3) := dk_183 1 250 (dk_at dksX0_mean_4 9 rfl rfl)
theorem dX0_mean_106 : decode cX0_mean 106 = .ok (.invokevirtual 509, 3) := dk_182 1 253 (dk_at dksX0_mean_4 12 rfl rfl)
theorem dX0_mean_109 : decode cX0_mean 109 = .ok (.lload_n 3, 1) := dk_33 (dk_at dksX0_mean_4 15 rfl rfl)
theorem dX0_mean_110 : decode cX0_mean 110 = .ok (.aload_n 0, 1) := dk_42 (dk_at dksX0_mean_4 16 rfl rfl)
theorem dX0_mean_111 : decode cX0_mean 111 = .ok (.getfield 66, 3) := dk_180 0 66 (dk_at dksX0_mean_4 17 rfl rfl)
theorem dX0_mean_114 : decode cX0_mean 114 = .ok (.invokevirtual 533, 3) := dk_182 2 21 (dk_at dksX0_mean_4 20 rfl rfl)
theorem dX0_mean_117 : decode cX0_mean 117 = .ok (.i2l, 1) := dk_133 (dk_at dksX0_mean_4 23 rfl rfl)
theorem dX0_mean_118 : decode cX0_mean 118 = .ok (.ladd, 1) := dk_97 (dk_at dksX0_mean_5 0 rfl rfl)
theorem dX0_mean_119 : decode cX0_mean 119 = .ok (.lstore_n 3, 1) := dk_66 (dk_at dksX0_mean_5 1 rfl rfl)
theorem dX0_mean_120 : decode cX0_mean 120 = .ok (.iinc 5 1, 3) := dk_132 5 1 (dk_at dksX0_mean_5 2 rfl rfl)
theorem dX0_mean_123 : decode cX0_mean 123 = .ok (.goto (-56), 3) := dk_167 255 200 (dk_at dksX0_mean_5 5 rfl rfl)
theorem dX0_mean_126 : decode cX0_mean 126 = .ok (.aload_n 0, 1) := dk_42 (dk_at dksX0_mean_5 8 rfl rfl)
theorem dX0_mean_127 : decode cX0_mean 127 = .ok (.lload_n 3, 1) := dk_33 (dk_at dksX0_mean_5 9 rfl rfl)
theorem dX0_mean_128 : decode cX0_mean 128 = .ok (.iload_n 2, 1) := dk_28 (dk_at dksX0_mean_5 10 rfl rfl)
theorem dX0_mean_129 : decode cX0_mean 129 = .ok (.i2l, 1) := dk_133 (dk_at dksX0_mean_5 11 rfl rfl)
theorem dX0_mean_130 : decode cX0_mean 130 = .ok (.invokevirtual 406, 3) := dk_182 1 150 (dk_at dksX0_mean_5 12 rfl rfl)
theorem dX0_mean_133 : decode cX0_mean 133 = .ok (.pop, 1) := dk_87 (dk_at dksX0_mean_5 15 rfl rfl)
theorem dX0_mean_134 : decode cX0_mean 134 = .ok (.iconst 1, 1) := dk_4 (dk_at dksX0_mean_5 16 rfl rfl)
theorem dX0_mean_135 : decode cX0_mean 135 = .ok (.ireturn, 1) := dk_172 (dk_at dksX0_mean_5 17 rfl rfl)
abbrev cX0_mark : ByteArray := prog_1_method_105_code
def yX0_mark : MethodName := ⟨RX0, "mark", "()I"⟩
def dkwX0_mark_3 : List UInt8 := [42, 89, 180, 2, 24, 4, 96, 181, 2, 24, 42, 180, 2, 24, 172]
abbrev dktX0_mark_3 : List UInt8 := dkwX0_mark_3 ++ []
def dkwX0_mark_2 : List UInt8 := [187, 0, 52, 89, 183, 0, 54, 83, 42, 180, 0, 59, 42, 180, 2, 24, 50, 42, 180, 0, 55, 182, 2, 27]
abbrev dktX0_mark_2 : List UInt8 := dkwX0_mark_2 ++ dktX0_mark_3
def dkwX0_mark_1 : List UInt8 := [2, 172, 42, 180, 0, 59, 42, 180, 2, 24, 50, 199, 0, 19, 42, 180, 0, 59, 42, 180, 2, 24]
abbrev dktX0_mark_1 : List UInt8 := dkwX0_mark_1 ++ dktX0_mark_2
def dkwX0_mark_0 : List UInt8 := [42, 42, 180, 2, 24, 6, 160, 0, 7, 7, 167, 0, 4, 3, 181, 0, 91, 42, 180, 0, 91, 158, 0, 5]
abbrev dktX0_mark_0 : List UInt8 := dkwX0_mark_0 ++ dktX0_mark_1
theorem dksX0_mark_0 : cX0_mark.data.toList.drop 0 = dktX0_mark_0 := by decide +kernel
theorem dksX0_mark_1 : cX0_mark.data.toList.drop 24 = dktX0_mark_1 := dk_seg dksX0_mark_0 24 rfl rfl
theorem dksX0_mark_2 : cX0_mark.data.toList.drop 46 = dktX0_mark_2 := dk_seg dksX0_mark_1 22 rfl rfl
theorem dksX0_mark_3 : cX0_mark.data.toList.drop 70 = dktX0_mark_3 := dk_seg dksX0_mark_2 24 rfl rfl
theorem dX0_mark_0 : decode cX0_mark 0 = .ok (.aload_n 0, 1) := dk_42 (dk_at dksX0_mark_0 0 rfl rfl)
theorem dX0_mark_1 : decode cX0_mark 1 = .ok (.aload_n 0, 1) := dk_42 (dk_at dksX0_mark_0 1 rfl rfl)
theorem dX0_mark_2 : decode cX0_mark 2 = .ok (.getfield 536, 3) := dk_180 2 24 (dk_at dksX0_mark_0 2 rfl rfl)
theorem dX0_mark_5 : decode cX0_mark 5 = .ok (.iconst 3, 1) := dk_6 (dk_at dksX0_mark_0 5 rfl rfl)
theorem dX0_mark_6 : decode cX0_mark 6 = .ok (.if_icmp .ne 7, 3) := dk_160 0 7 (dk_at dksX0_mark_0 6 rfl rfl)
theorem dX0_mark_9 : decode cX0_mark 9 = .ok (.iconst 4, 1) := dk_7 (dk_at dksX0_mark_0 9 rfl rfl)
theorem dX0_mark_10 : decode cX0_mark 10 = .ok (.goto 4, 3) := dk_167 0 4 (dk_at dksX0_mark_0 10 rfl rfl)
theorem dX0_mark_13 : decode cX0_mark 13 = .ok (.iconst 0, 1) := dk_3 (dk_at dksX0_mark_0 13 rfl rfl)
theorem dX0_mark_14 : decode cX0_mark 14 = .ok (.putfield 91, 3) := dk_181 0 91 (dk_at dksX0_mark_0 14 rfl rfl)
theorem dX0_mark_17 : decode cX0_mark 17 = .ok (.aload_n 0, 1) := dk_42 (dk_at dksX0_mark_0 17 rfl rfl)
theorem dX0_mark_18 : decode cX0_mark 18 = .ok (.getfield 91, 3) := dk_180 0 91 (dk_at dksX0_mark_0 18 rfl rfl)
theorem dX0_mark_21 : decode cX0_mark 21 = .ok (.ifCond .le 5, 3) := dk_158 0 5 (dk_at dksX0_mark_0 21 rfl rfl)
theorem dX0_mark_24 : decode cX0_mark 24 = .ok (.iconst (-1), 1) := dk_2 (dk_at dksX0_mark_1 0 rfl rfl)
theorem dX0_mark_25 : decode cX0_mark 25 = .ok (.ireturn, 1) := dk_172 (dk_at dksX0_mark_1 1 rfl rfl)
theorem dX0_mark_26 : decode cX0_mark 26 = .ok (.aload_n 0, 1) := dk_42 (dk_at dksX0_mark_1 2 rfl rfl)
theorem dX0_mark_27 : decode cX0_mark 27 = .ok (.getfield 59, 3) := dk_180 0 59 (dk_at dksX0_mark_1 3 rfl rfl)
theorem dX0_mark_30 : decode cX0_mark 30 = .ok (.aload_n 0, 1) := dk_42 (dk_at dksX0_mark_1 6 rfl rfl)
theorem dX0_mark_31 : decode cX0_mark 31 = .ok (.getfield 536, 3) := dk_180 2 24 (dk_at dksX0_mark_1 7 rfl rfl)
theorem dX0_mark_34 : decode cX0_mark 34 = .ok (.aaload, 1) := dk_50 (dk_at dksX0_mark_1 10 rfl rfl)
theorem dX0_mark_35 : decode cX0_mark 35 = .ok (.ifnonnull 19, 3) := dk_199 0 19 (dk_at dksX0_mark_1 11 rfl rfl)
theorem dX0_mark_38 : decode cX0_mark 38 = .ok (.aload_n 0, 1) := dk_42 (dk_at dksX0_mark_1 14 rfl rfl)
theorem dX0_mark_39 : decode cX0_mark 39 = .ok (.getfield 59, 3) := dk_180 0 59 (dk_at dksX0_mark_1 15 rfl rfl)
theorem dX0_mark_42 : decode cX0_mark 42 = .ok (.aload_n 0, 1) := dk_42 (dk_at dksX0_mark_1 18 rfl rfl)
theorem dX0_mark_43 : decode cX0_mark 43 = .ok (.getfield 536, 3) := dk_180 2 24 (dk_at dksX0_mark_1 19 rfl rfl)
theorem dX0_mark_46 : decode cX0_mark 46 = .ok (.new 52, 3) := dk_187 0 52 (dk_at dksX0_mark_2 0 rfl rfl)
theorem dX0_mark_49 : decode cX0_mark 49 = .ok (.dup, 1) := dk_89 (dk_at dksX0_mark_2 3 rfl rfl)
theorem dX0_mark_50 : decode cX0_mark 50 = .ok (.invokespecial 54, 3) := dk_183 0 54 (dk_at dksX0_mark_2 4 rfl rfl)
theorem dX0_mark_53 : decode cX0_mark 53 = .ok (.aastore, 1) := dk_83 (dk_at dksX0_mark_2 7 rfl rfl)
theorem dX0_mark_54 : decode cX0_mark 54 = .ok (.aload_n 0, 1) := dk_42 (dk_at dksX0_mark_2 8 rfl rfl)
theorem dX0_mark_55 : decode cX0_mark 55 = .ok (.getfield 59, 3) := dk_180 0 59 (dk_at dksX0_mark_2 9 rfl rfl)
theorem dX0_mark_58 : decode cX0_mark 58 = .ok (.aload_n 0, 1) := dk_42 (dk_at dksX0_mark_2 12 rfl rfl)
theorem dX0_mark_59 : decode cX0_mark 59 = .ok (.getfield 536, 3) := dk_180 2 24 (dk_at dksX0_mark_2 13 rfl rfl)
theorem dX0_mark_62 : decode cX0_mark 62 = .ok (.aaload, 1) := dk_50 (dk_at dksX0_mark_2 16 rfl rfl)
theorem dX0_mark_63 : decode cX0_mark 63 = .ok (.aload_n 0, 1) := dk_42 (dk_at dksX0_mark_2 17 rfl rfl)
theorem dX0_mark_64 : decode cX0_mark 64 = .ok (.getfield 55, 3) := dk_180 0 55 (dk_at dksX0_mark_2 18 rfl rfl)
theorem dX0_mark_67 : decode cX0_mark 67 = .ok (.invokevirtual 539, 3) := dk_182 2 27 (dk_at dksX0_mark_2 21 rfl rfl)
theorem dX0_mark_70 : decode cX0_mark 70 = .ok (.aload_n 0, 1) := dk_42 (dk_at dksX0_mark_3 0 rfl rfl)
theorem dX0_mark_71 : decode cX0_mark 71 = .ok (.dup, 1) := dk_89 (dk_at dksX0_mark_3 1 rfl rfl)
theorem dX0_mark_72 : decode cX0_mark 72 = .ok (.getfield 536, 3) := dk_180 2 24 (dk_at dksX0_mark_3 2 rfl rfl)
theorem dX0_mark_75 : decode cX0_mark 75 = .ok (.iconst 1, 1) := dk_4 (dk_at dksX0_mark_3 5 rfl rfl)
theorem dX0_mark_76 : decode cX0_mark 76 = .ok (.iadd, 1) := dk_96 (dk_at dksX0_mark_3 6 rfl rfl)
theorem dX0_mark_77 : decode cX0_mark 77 = .ok (.putfield 536, 3) := dk_181 2 24 (dk_at dksX0_mark_3 7 rfl rfl)
theorem dX0_mark_80 : decode cX0_mark 80 = .ok (.aload_n 0, 1) := dk_42 (dk_at dksX0_mark_3 10 rfl rfl)
theorem dX0_mark_81 : decode cX0_mark 81 = .ok (.getfield 536, 3) := dk_180 2 24 (dk_at dksX0_mark_3 11 rfl rfl)
theorem dX0_mark_84 : decode cX0_mark 84 = .ok (.ireturn, 1) := dk_172 (dk_at dksX0_mark_3 14 rfl rfl)
abbrev cX0_undo : ByteArray := prog_1_method_106_code
def yX0_undo : MethodName := ⟨RX0, "undo", "()I"⟩
def dkwX0_undo_2 : List UInt8 := [50, 182, 2, 27, 42, 180, 2, 24, 172]
abbrev dktX0_undo_2 : List UInt8 := dkwX0_undo_2 ++ []
def dkwX0_undo_1 : List UInt8 := [2, 172, 42, 89, 180, 2, 24, 4, 100, 181, 2, 24, 42, 180, 0, 55, 42, 180, 0, 59, 42, 180, 2, 24]
abbrev dktX0_undo_1 : List UInt8 := dkwX0_undo_1 ++ dktX0_undo_2
def dkwX0_undo_0 : List UInt8 := [42, 42, 180, 2, 24, 154, 0, 8, 16, 6, 167, 0, 4, 3, 181, 0, 91, 42, 180, 0, 91, 158, 0, 5]
abbrev dktX0_undo_0 : List UInt8 := dkwX0_undo_0 ++ dktX0_undo_1
theorem dksX0_undo_0 : cX0_undo.data.toList.drop 0 = dktX0_undo_0 := by decide +kernel
theorem dksX0_undo_1 : cX0_undo.data.toList.drop 24 = dktX0_undo_1 := dk_seg dksX0_undo_0 24 rfl rfl
theorem dksX0_undo_2 : cX0_undo.data.toList.drop 48 = dktX0_undo_2 := dk_seg dksX0_undo_1 24 rfl rfl
theorem dX0_undo_0 : decode cX0_undo 0 = .ok (.aload_n 0, 1) := dk_42 (dk_at dksX0_undo_0 0 rfl rfl)
theorem dX0_undo_1 : decode cX0_undo 1 = .ok (.aload_n 0, 1) := dk_42 (dk_at dksX0_undo_0 1 rfl rfl)
theorem dX0_undo_2 : decode cX0_undo 2 = .ok (.getfield 536, 3) := dk_180 2 24 (dk_at dksX0_undo_0 2 rfl rfl)
theorem dX0_undo_5 : decode cX0_undo 5 = .ok (.ifCond .ne 8, 3) := dk_154 0 8 (dk_at dksX0_undo_0 5 rfl rfl)
theorem dX0_undo_8 : decode cX0_undo 8 = .ok (.bipush 6, 2) := dk_16 6 (dk_at dksX0_undo_0 8 rfl rfl)
theorem dX0_undo_10 : decode cX0_undo 10 = .ok (.goto 4, 3) := dk_167 0 4 (dk_at dksX0_undo_0 10 rfl rfl)
theorem dX0_undo_13 : decode cX0_undo 13 = .ok (.iconst 0, 1) := dk_3 (dk_at dksX0_undo_0 13 rfl rfl)
theorem dX0_undo_14 : decode cX0_undo 14 = .ok (.putfield 91, 3) := dk_181 0 91 (dk_at dksX0_undo_0 14 rfl rfl)
theorem dX0_undo_17 : decode cX0_undo 17 = .ok (.aload_n 0, 1) := dk_42 (dk_at dksX0_undo_0 17 rfl rfl)
theorem dX0_undo_18 : decode cX0_undo 18 = .ok (.getfield 91, 3) := dk_180 0 91 (dk_at dksX0_undo_0 18 rfl rfl)
theorem dX0_undo_21 : decode cX0_undo 21 = .ok (.ifCond .le 5, 3) := dk_158 0 5 (dk_at dksX0_undo_0 21 rfl rfl)
theorem dX0_undo_24 : decode cX0_undo 24 = .ok (.iconst (-1), 1) := dk_2 (dk_at dksX0_undo_1 0 rfl rfl)
theorem dX0_undo_25 : decode cX0_undo 25 = .ok (.ireturn, 1) := dk_172 (dk_at dksX0_undo_1 1 rfl rfl)
theorem dX0_undo_26 : decode cX0_undo 26 = .ok (.aload_n 0, 1) := dk_42 (dk_at dksX0_undo_1 2 rfl rfl)
theorem dX0_undo_27 : decode cX0_undo 27 = .ok (.dup, 1) := dk_89 (dk_at dksX0_undo_1 3 rfl rfl)
theorem dX0_undo_28 : decode cX0_undo 28 = .ok (.getfield 536, 3) := dk_180 2 24 (dk_at dksX0_undo_1 4 rfl rfl)
theorem dX0_undo_31 : decode cX0_undo 31 = .ok (.iconst 1, 1) := dk_4 (dk_at dksX0_undo_1 7 rfl rfl)
theorem dX0_undo_32 : decode cX0_undo 32 = .ok (.isub, 1) := dk_100 (dk_at dksX0_undo_1 8 rfl rfl)
theorem dX0_undo_33 : decode cX0_undo 33 = .ok (.putfield 536, 3) := dk_181 2 24 (dk_at dksX0_undo_1 9 rfl rfl)
theorem dX0_undo_36 : decode cX0_undo 36 = .ok (.aload_n 0, 1) := dk_42 (dk_at dksX0_undo_1 12 rfl rfl)
theorem dX0_undo_37 : decode cX0_undo 37 = .ok (.getfield 55, 3) := dk_180 0 55 (dk_at dksX0_undo_1 13 rfl rfl)
theorem dX0_undo_40 : decode cX0_undo 40 = .ok (.aload_n 0, 1) := dk_42 (dk_at dksX0_undo_1 16 rfl rfl)
theorem dX0_undo_41 : decode cX0_undo 41 = .ok (.getfield 59, 3) := dk_180 0 59 (dk_at dksX0_undo_1 17 rfl rfl)
theorem dX0_undo_44 : decode cX0_undo 44 = .ok (.aload_n 0, 1) := dk_42 (dk_at dksX0_undo_1 20 rfl rfl)
theorem dX0_undo_45 : decode cX0_undo 45 = .ok (.getfield 536, 3) := dk_180 2 24 (dk_at dksX0_undo_1 21 rfl rfl)
theorem dX0_undo_48 : decode cX0_undo 48 = .ok (.aaload, 1) := dk_50 (dk_at dksX0_undo_2 0 rfl rfl)
theorem dX0_undo_49 : decode cX0_undo 49 = .ok (.invokevirtual 539, 3) := dk_182 2 27 (dk_at dksX0_undo_2 1 rfl rfl)
theorem dX0_undo_52 : decode cX0_undo 52 = .ok (.aload_n 0, 1) := dk_42 (dk_at dksX0_undo_2 4 rfl rfl)
theorem dX0_undo_53 : decode cX0_undo 53 = .ok (.getfield 536, 3) := dk_180 2 24 (dk_at dksX0_undo_2 5 rfl rfl)
theorem dX0_undo_56 : decode cX0_undo 56 = .ok (.ireturn, 1) := dk_172 (dk_at dksX0_undo_2 8 rfl rfl)
theorem q167 : (Jvm.Cond.initialized "CatWitness") ∈ lw_all := lw_g (lw_at lw_m1 1 rfl) rfl
theorem q198 : (Jvm.Cond.instantiable "CatWitness" (28 : Nat)) ∈ lw_all := lw_g (lw_at lw_m1 32 rfl) rfl
theorem q200 : (Jvm.Cond.instanceMethod ({ cls := "CatWitness", name := "<init>", desc := "()V" } : Jvm.MethodName)) ∈ lw_all := lw_g (lw_at lw_m1 34 rfl) rfl
theorem q201 : (Jvm.Cond.code ({ cls := "CatWitness", name := "<init>", desc := "()V" } : Jvm.MethodName) prog_1_method_8_code (1 : Nat) (Option.none : Option Jvm.ClassFile.FieldType)) ∈ lw_all := lw_g (lw_at lw_m1 35 rfl) rfl
theorem q202 : (Jvm.Cond.methodLink "CatWitness" (9 : Nat) ({ cls := "java/lang/Object", name := "<init>", desc := "()V" } : Jvm.MethodName)) ∈ lw_all := lw_g (lw_at lw_m1 36 rfl) rfl
theorem q205 : (Jvm.Cond.classLink "CatWitness" (15 : Nat) "CatWitness$Tray") ∈ lw_all := lw_g (lw_at lw_m1 39 rfl) rfl
theorem q208 : (Jvm.Cond.methodLinkNest "CatWitness" (17 : Nat) ({ cls := "CatWitness$Tray", name := "<init>", desc := "()V" } : Jvm.MethodName) "CatWitness") ∈ lw_tbl := lw_at lw_m1 42 rfl
theorem q212 : (Jvm.Cond.fieldLinkNest "CatWitness" (120 : Nat) "CatWitness$Tray" "row" "Ljava/lang/Object;" "CatWitness") ∈ lw_tbl := lw_at lw_m1 46 rfl
theorem q216 : (Jvm.Cond.classLink "CatWitness" (34 : Nat) "CatWitness$Bad") ∈ lw_all := lw_g (lw_at lw_m1 50 rfl) rfl
theorem q256 : (Jvm.Cond.methodLink "CatWitness" (36 : Nat) ({ cls := "CatWitness$Bad", name := "<init>", desc := "()V" } : Jvm.MethodName)) ∈ lw_all := lw_g (lw_at lw_m1 90 rfl) rfl
theorem q266 : (Jvm.Cond.fieldLinkNest "CatWitness" (198 : Nat) "CatWitness$Bad" "kind" "I" "CatWitness") ∈ lw_tbl := lw_at lw_m1 100 rfl
theorem q268 : (Jvm.Cond.fieldLinkNest "CatWitness" (201 : Nat) "CatWitness$Bad" "place" "I" "CatWitness") ∈ lw_tbl := lw_at lw_m1 102 rfl
theorem q287 : (Jvm.Cond.classLink "CatWitness" (41 : Nat) "CatWitness$Refused") ∈ lw_all := lw_g (lw_at lw_m1 121 rfl) rfl
theorem q296 : (Jvm.Cond.methodLink "CatWitness" (43 : Nat) ({ cls := "CatWitness$Refused", name := "<init>", desc := "()V" } : Jvm.MethodName)) ∈ lw_all := lw_g (lw_at lw_m1 130 rfl) rfl
theorem q301 : (Jvm.Cond.fieldLinkNest "CatWitness" (101 : Nat) "CatWitness$Refused" "why" "I" "CatWitness") ∈ lw_tbl := lw_at lw_m1 135 rfl
theorem q306 : (Jvm.Cond.classLink "CatWitness" (52 : Nat) "CatWitness$House") ∈ lw_all := lw_g (lw_at lw_m1 140 rfl) rfl
theorem q308 : (Jvm.Cond.methodLinkNest "CatWitness" (54 : Nat) ({ cls := "CatWitness$House", name := "<init>", desc := "()V" } : Jvm.MethodName) "CatWitness") ∈ lw_tbl := lw_at lw_m1 142 rfl
theorem q321 : (Jvm.Cond.fieldLinkNest "CatWitness" (172 : Nat) "CatWitness$Court" "smells" "I" "CatWitness") ∈ lw_tbl := lw_at lw_m1 155 rfl
theorem q324 : (Jvm.Cond.fieldLinkNest "CatWitness" (179 : Nat) "CatWitness$Court" "cues" "I" "CatWitness") ∈ lw_tbl := lw_at lw_m1 158 rfl
theorem q327 : (Jvm.Cond.fieldLinkNest "CatWitness" (182 : Nat) "CatWitness$Court" "rules" "I" "CatWitness") ∈ lw_tbl := lw_at lw_m1 161 rfl
theorem q331 : (Jvm.Cond.fieldLinkNest "CatWitness" (185 : Nat) "CatWitness$Court" "people" "I" "CatWitness") ∈ lw_tbl := lw_at lw_m1 165 rfl
theorem q334 : (Jvm.Cond.fieldLinkNest "CatWitness" (188 : Nat) "CatWitness$Court" "readers" "I" "CatWitness") ∈ lw_tbl := lw_at lw_m1 168 rfl
theorem q338 : (Jvm.Cond.fieldLinkNest "CatWitness" (242 : Nat) "CatWitness$Court" "words" "I" "CatWitness") ∈ lw_tbl := lw_at lw_m1 172 rfl
theorem q342 : (Jvm.Cond.fieldLinkNest "CatWitness" (245 : Nat) "CatWitness$Court" "warm" "I" "CatWitness") ∈ lw_tbl := lw_at lw_m1 176 rfl
theorem q345 : (Jvm.Cond.fieldLinkNest "CatWitness" (248 : Nat) "CatWitness$Court" "sittings" "I" "CatWitness") ∈ lw_tbl := lw_at lw_m1 179 rfl
theorem q356 : (Jvm.Cond.fieldLinkNest "CatWitness" (266 : Nat) "CatWitness$Court" "sense" "[I" "CatWitness") ∈ lw_tbl := lw_at lw_m1 190 rfl
theorem q359 : (Jvm.Cond.fieldLinkNest "CatWitness" (308 : Nat) "CatWitness$Court" "fed" "[I" "CatWitness") ∈ lw_tbl := lw_at lw_m1 193 rfl
theorem q362 : (Jvm.Cond.fieldLinkNest "CatWitness" (311 : Nat) "CatWitness$Court" "scents" "[I" "CatWitness") ∈ lw_tbl := lw_at lw_m1 196 rfl
theorem q365 : (Jvm.Cond.fieldLinkNest "CatWitness" (314 : Nat) "CatWitness$Court" "state" "[I" "CatWitness") ∈ lw_tbl := lw_at lw_m1 199 rfl
theorem q368 : (Jvm.Cond.fieldLinkNest "CatWitness" (237 : Nat) "CatWitness$Court" "guilty" "[I" "CatWitness") ∈ lw_tbl := lw_at lw_m1 202 rfl
theorem q370 : (Jvm.Cond.fieldLinkNest "CatWitness" (317 : Nat) "CatWitness$Court" "sat" "[I" "CatWitness") ∈ lw_tbl := lw_at lw_m1 204 rfl
theorem q373 : (Jvm.Cond.fieldLinkNest "CatWitness" (323 : Nat) "CatWitness$Court" "slip" "[I" "CatWitness") ∈ lw_tbl := lw_at lw_m1 207 rfl
theorem q376 : (Jvm.Cond.fieldLinkNest "CatWitness" (326 : Nat) "CatWitness$Court" "votes" "[I" "CatWitness") ∈ lw_tbl := lw_at lw_m1 210 rfl
theorem q379 : (Jvm.Cond.fieldLinkNest "CatWitness" (329 : Nat) "CatWitness$Court" "about" "[I" "CatWitness") ∈ lw_tbl := lw_at lw_m1 213 rfl
theorem q382 : (Jvm.Cond.fieldLinkNest "CatWitness" (332 : Nat) "CatWitness$Court" "says" "[I" "CatWitness") ∈ lw_tbl := lw_at lw_m1 216 rfl
theorem q385 : (Jvm.Cond.fieldLinkNest "CatWitness" (274 : Nat) "CatWitness$Court" "rule" "[LCatWitness$Rule;" "CatWitness") ∈ lw_tbl := lw_at lw_m1 219 rfl
theorem q436 : (Jvm.Cond.fieldLinkNest "CatWitness" (165 : Nat) "CatWitness$House" "court" "LCatWitness$Court;" "CatWitness") ∈ lw_tbl := lw_at lw_m2 30 rfl
theorem q438 : (Jvm.Cond.fieldLinkNest "CatWitness" (219 : Nat) "CatWitness$House" "weeks" "LCatWitness$Loop;" "CatWitness") ∈ lw_tbl := lw_at lw_m2 32 rfl
theorem q445 : (Jvm.Cond.classLink "CatWitness" (63 : Nat) "CatWitness$Court") ∈ lw_all := lw_g (lw_at lw_m2 39 rfl) rfl
theorem q446 : (Jvm.Cond.methodLinkNest "CatWitness" (65 : Nat) ({ cls := "CatWitness$Court", name := "<init>", desc := "()V" } : Jvm.MethodName) "CatWitness") ∈ lw_tbl := lw_at lw_m2 40 rfl
theorem q447 : (Jvm.Cond.fieldLink "CatWitness" (18 : Nat) "CatWitness" "trays" "[LCatWitness$Tray;") ∈ lw_all := lw_g (lw_at lw_m2 41 rfl) rfl
theorem q449 : (Jvm.Cond.fieldLink "CatWitness" (24 : Nat) "CatWitness" "tape" "[B") ∈ lw_all := lw_g (lw_at lw_m2 43 rfl) rfl
theorem q450 : (Jvm.Cond.fieldLink "CatWitness" (191 : Nat) "CatWitness" "taped" "I") ∈ lw_all := lw_g (lw_at lw_m2 44 rfl) rfl
theorem q451 : (Jvm.Cond.fieldLink "CatWitness" (27 : Nat) "CatWitness" "faultKind" "I") ∈ lw_all := lw_g (lw_at lw_m2 45 rfl) rfl
theorem q452 : (Jvm.Cond.fieldLink "CatWitness" (31 : Nat) "CatWitness" "faultAt" "I") ∈ lw_all := lw_g (lw_at lw_m2 46 rfl) rfl
theorem q454 : (Jvm.Cond.fieldLink "CatWitness" (37 : Nat) "CatWitness" "bad" "LCatWitness$Bad;") ∈ lw_all := lw_g (lw_at lw_m2 48 rfl) rfl
theorem q455 : (Jvm.Cond.fieldLink "CatWitness" (44 : Nat) "CatWitness" "refused" "LCatWitness$Refused;") ∈ lw_all := lw_g (lw_at lw_m2 49 rfl) rfl
theorem q456 : (Jvm.Cond.fieldLink "CatWitness" (91 : Nat) "CatWitness" "status" "I") ∈ lw_all := lw_g (lw_at lw_m2 50 rfl) rfl
theorem q457 : (Jvm.Cond.fieldLink "CatWitness" (94 : Nat) "CatWitness" "above" "J") ∈ lw_all := lw_g (lw_at lw_m2 51 rfl) rfl
theorem q458 : (Jvm.Cond.fieldLink "CatWitness" (48 : Nat) "CatWitness" "under" "J") ∈ lw_all := lw_g (lw_at lw_m2 52 rfl) rfl
theorem q459 : (Jvm.Cond.fieldLink "CatWitness" (55 : Nat) "CatWitness" "now" "LCatWitness$House;") ∈ lw_all := lw_g (lw_at lw_m2 53 rfl) rfl
theorem q460 : (Jvm.Cond.fieldLink "CatWitness" (59 : Nat) "CatWitness" "marks" "[LCatWitness$House;") ∈ lw_all := lw_g (lw_at lw_m2 54 rfl) rfl
theorem q461 : (Jvm.Cond.fieldLink "CatWitness" (536 : Nat) "CatWitness" "markMany" "I") ∈ lw_all := lw_g (lw_at lw_m2 55 rfl) rfl
theorem q462 : (Jvm.Cond.fieldLink "CatWitness" (66 : Nat) "CatWitness" "aside" "LCatWitness$Court;") ∈ lw_all := lw_g (lw_at lw_m2 56 rfl) rfl
theorem q463 : (Jvm.Cond.fieldLink "CatWitness" (70 : Nat) "CatWitness" "may" "[I") ∈ lw_all := lw_g (lw_at lw_m2 57 rfl) rfl
theorem q464 : (Jvm.Cond.fieldLink "CatWitness" (413 : Nat) "CatWitness" "leastFed" "I") ∈ lw_all := lw_g (lw_at lw_m2 58 rfl) rfl
theorem q465 : (Jvm.Cond.fieldLink "CatWitness" (416 : Nat) "CatWitness" "leastScents" "I") ∈ lw_all := lw_g (lw_at lw_m2 59 rfl) rfl
theorem q466 : (Jvm.Cond.fieldLink "CatWitness" (73 : Nat) "CatWitness" "firsts" "[I") ∈ lw_all := lw_g (lw_at lw_m2 60 rfl) rfl
theorem q467 : (Jvm.Cond.fieldLink "CatWitness" (76 : Nat) "CatWitness" "shows" "[I") ∈ lw_all := lw_g (lw_at lw_m2 61 rfl) rfl
theorem q468 : (Jvm.Cond.fieldLink "CatWitness" (79 : Nat) "CatWitness" "guilts" "[I") ∈ lw_all := lw_g (lw_at lw_m2 62 rfl) rfl
theorem q469 : (Jvm.Cond.fieldLink "CatWitness" (443 : Nat) "CatWitness" "rightOf" "J") ∈ lw_all := lw_g (lw_at lw_m2 63 rfl) rfl
theorem q470 : (Jvm.Cond.fieldLink "CatWitness" (82 : Nat) "CatWitness" "order" "[I") ∈ lw_all := lw_g (lw_at lw_m2 64 rfl) rfl
theorem q471 : (Jvm.Cond.fieldLink "CatWitness" (85 : Nat) "CatWitness" "bestOrder" "[I") ∈ lw_all := lw_g (lw_at lw_m2 65 rfl) rfl
theorem q472 : (Jvm.Cond.fieldLink "CatWitness" (467 : Nat) "CatWitness" "bestFree" "I") ∈ lw_all := lw_g (lw_at lw_m2 66 rfl) rfl
theorem q473 : (Jvm.Cond.fieldLink "CatWitness" (489 : Nat) "CatWitness" "firstPerson" "I") ∈ lw_all := lw_g (lw_at lw_m2 67 rfl) rfl
theorem q474 : (Jvm.Cond.fieldLink "CatWitness" (492 : Nat) "CatWitness" "firstDeed" "I") ∈ lw_all := lw_g (lw_at lw_m2 68 rfl) rfl
theorem q475 : (Jvm.Cond.fieldLink "CatWitness" (88 : Nat) "CatWitness" "last" "[I") ∈ lw_all := lw_g (lw_at lw_m2 69 rfl) rfl
theorem q476 : (Jvm.Cond.fieldLink "CatWitness" (527 : Nat) "CatWitness" "hasLived" "Z") ∈ lw_all := lw_g (lw_at lw_m2 70 rfl) rfl
theorem q477 : (Jvm.Cond.laysFinal "CatWitness" "CatWitness" "trays" "[LCatWitness$Tray;") ∈ lw_all := lw_g (lw_at lw_m2 71 rfl) rfl
theorem q478 : (Jvm.Cond.soleField "CatWitness" "trays") ∈ lw_all := lw_g (lw_at lw_m2 72 rfl) rfl
theorem q479 : (Jvm.Cond.laysFinal "CatWitness" "CatWitness" "tape" "[B") ∈ lw_all := lw_g (lw_at lw_m2 73 rfl) rfl
theorem q480 : (Jvm.Cond.soleField "CatWitness" "tape") ∈ lw_all := lw_g (lw_at lw_m2 74 rfl) rfl
theorem q481 : (Jvm.Cond.lays "CatWitness" "CatWitness" "taped" "I") ∈ lw_all := lw_g (lw_at lw_m2 75 rfl) rfl
theorem q482 : (Jvm.Cond.soleField "CatWitness" "taped") ∈ lw_all := lw_g (lw_at lw_m2 76 rfl) rfl
theorem q483 : (Jvm.Cond.lays "CatWitness" "CatWitness" "faultKind" "I") ∈ lw_all := lw_g (lw_at lw_m2 77 rfl) rfl
theorem q484 : (Jvm.Cond.soleField "CatWitness" "faultKind") ∈ lw_all := lw_g (lw_at lw_m2 78 rfl) rfl
theorem q485 : (Jvm.Cond.lays "CatWitness" "CatWitness" "faultAt" "I") ∈ lw_all := lw_g (lw_at lw_m2 79 rfl) rfl
theorem q486 : (Jvm.Cond.soleField "CatWitness" "faultAt") ∈ lw_all := lw_g (lw_at lw_m2 80 rfl) rfl
theorem q487 : (Jvm.Cond.laysFinal "CatWitness" "CatWitness" "bad" "LCatWitness$Bad;") ∈ lw_all := lw_g (lw_at lw_m2 81 rfl) rfl
theorem q488 : (Jvm.Cond.soleField "CatWitness" "bad") ∈ lw_all := lw_g (lw_at lw_m2 82 rfl) rfl
theorem q489 : (Jvm.Cond.laysFinal "CatWitness" "CatWitness" "refused" "LCatWitness$Refused;") ∈ lw_all := lw_g (lw_at lw_m2 83 rfl) rfl
theorem q490 : (Jvm.Cond.soleField "CatWitness" "refused") ∈ lw_all := lw_g (lw_at lw_m2 84 rfl) rfl
theorem q491 : (Jvm.Cond.lays "CatWitness" "CatWitness" "status" "I") ∈ lw_all := lw_g (lw_at lw_m2 85 rfl) rfl
theorem q492 : (Jvm.Cond.soleField "CatWitness" "status") ∈ lw_all := lw_g (lw_at lw_m2 86 rfl) rfl
theorem q493 : (Jvm.Cond.lays "CatWitness" "CatWitness" "above" "J") ∈ lw_all := lw_g (lw_at lw_m2 87 rfl) rfl
theorem q494 : (Jvm.Cond.soleField "CatWitness" "above") ∈ lw_all := lw_g (lw_at lw_m2 88 rfl) rfl
theorem q495 : (Jvm.Cond.lays "CatWitness" "CatWitness" "under" "J") ∈ lw_all := lw_g (lw_at lw_m2 89 rfl) rfl
theorem q496 : (Jvm.Cond.soleField "CatWitness" "under") ∈ lw_all := lw_g (lw_at lw_m2 90 rfl) rfl
theorem q497 : (Jvm.Cond.laysFinal "CatWitness" "CatWitness" "now" "LCatWitness$House;") ∈ lw_all := lw_g (lw_at lw_m2 91 rfl) rfl
theorem q498 : (Jvm.Cond.soleField "CatWitness" "now") ∈ lw_all := lw_g (lw_at lw_m2 92 rfl) rfl
theorem q499 : (Jvm.Cond.laysFinal "CatWitness" "CatWitness" "marks" "[LCatWitness$House;") ∈ lw_all := lw_g (lw_at lw_m2 93 rfl) rfl
theorem q500 : (Jvm.Cond.soleField "CatWitness" "marks") ∈ lw_all := lw_g (lw_at lw_m2 94 rfl) rfl
theorem q501 : (Jvm.Cond.lays "CatWitness" "CatWitness" "markMany" "I") ∈ lw_all := lw_g (lw_at lw_m2 95 rfl) rfl
theorem q502 : (Jvm.Cond.soleField "CatWitness" "markMany") ∈ lw_all := lw_g (lw_at lw_m2 96 rfl) rfl
theorem q503 : (Jvm.Cond.laysFinal "CatWitness" "CatWitness" "aside" "LCatWitness$Court;") ∈ lw_all := lw_g (lw_at lw_m2 97 rfl) rfl
theorem q504 : (Jvm.Cond.soleField "CatWitness" "aside") ∈ lw_all := lw_g (lw_at lw_m2 98 rfl) rfl
theorem q505 : (Jvm.Cond.laysFinal "CatWitness" "CatWitness" "may" "[I") ∈ lw_all := lw_g (lw_at lw_m2 99 rfl) rfl
theorem q506 : (Jvm.Cond.soleField "CatWitness" "may") ∈ lw_all := lw_g (lw_at lw_m2 100 rfl) rfl
theorem q507 : (Jvm.Cond.lays "CatWitness" "CatWitness" "leastFed" "I") ∈ lw_all := lw_g (lw_at lw_m2 101 rfl) rfl
theorem q508 : (Jvm.Cond.soleField "CatWitness" "leastFed") ∈ lw_all := lw_g (lw_at lw_m2 102 rfl) rfl
theorem q509 : (Jvm.Cond.lays "CatWitness" "CatWitness" "leastScents" "I") ∈ lw_all := lw_g (lw_at lw_m2 103 rfl) rfl
theorem q510 : (Jvm.Cond.soleField "CatWitness" "leastScents") ∈ lw_all := lw_g (lw_at lw_m2 104 rfl) rfl
theorem q511 : (Jvm.Cond.laysFinal "CatWitness" "CatWitness" "firsts" "[I") ∈ lw_all := lw_g (lw_at lw_m2 105 rfl) rfl
theorem q512 : (Jvm.Cond.soleField "CatWitness" "firsts") ∈ lw_all := lw_g (lw_at lw_m2 106 rfl) rfl
theorem q513 : (Jvm.Cond.laysFinal "CatWitness" "CatWitness" "shows" "[I") ∈ lw_all := lw_g (lw_at lw_m2 107 rfl) rfl
theorem q514 : (Jvm.Cond.soleField "CatWitness" "shows") ∈ lw_all := lw_g (lw_at lw_m2 108 rfl) rfl
theorem q515 : (Jvm.Cond.laysFinal "CatWitness" "CatWitness" "guilts" "[I") ∈ lw_all := lw_g (lw_at lw_m2 109 rfl) rfl
theorem q516 : (Jvm.Cond.soleField "CatWitness" "guilts") ∈ lw_all := lw_g (lw_at lw_m2 110 rfl) rfl
theorem q517 : (Jvm.Cond.lays "CatWitness" "CatWitness" "rightOf" "J") ∈ lw_all := lw_g (lw_at lw_m2 111 rfl) rfl
theorem q518 : (Jvm.Cond.soleField "CatWitness" "rightOf") ∈ lw_all := lw_g (lw_at lw_m2 112 rfl) rfl
theorem q519 : (Jvm.Cond.laysFinal "CatWitness" "CatWitness" "order" "[I") ∈ lw_all := lw_g (lw_at lw_m2 113 rfl) rfl
theorem q520 : (Jvm.Cond.soleField "CatWitness" "order") ∈ lw_all := lw_g (lw_at lw_m2 114 rfl) rfl
theorem q521 : (Jvm.Cond.laysFinal "CatWitness" "CatWitness" "bestOrder" "[I") ∈ lw_all := lw_g (lw_at lw_m2 115 rfl) rfl
theorem q522 : (Jvm.Cond.soleField "CatWitness" "bestOrder") ∈ lw_all := lw_g (lw_at lw_m2 116 rfl) rfl
theorem q523 : (Jvm.Cond.lays "CatWitness" "CatWitness" "bestFree" "I") ∈ lw_all := lw_g (lw_at lw_m2 117 rfl) rfl
theorem q524 : (Jvm.Cond.soleField "CatWitness" "bestFree") ∈ lw_all := lw_g (lw_at lw_m2 118 rfl) rfl
theorem q525 : (Jvm.Cond.lays "CatWitness" "CatWitness" "firstPerson" "I") ∈ lw_all := lw_g (lw_at lw_m2 119 rfl) rfl
theorem q526 : (Jvm.Cond.soleField "CatWitness" "firstPerson") ∈ lw_all := lw_g (lw_at lw_m2 120 rfl) rfl
theorem q527 : (Jvm.Cond.lays "CatWitness" "CatWitness" "firstDeed" "I") ∈ lw_all := lw_g (lw_at lw_m2 121 rfl) rfl
theorem q528 : (Jvm.Cond.soleField "CatWitness" "firstDeed") ∈ lw_all := lw_g (lw_at lw_m2 122 rfl) rfl
theorem q529 : (Jvm.Cond.laysFinal "CatWitness" "CatWitness" "last" "[I") ∈ lw_all := lw_g (lw_at lw_m2 123 rfl) rfl
theorem q530 : (Jvm.Cond.soleField "CatWitness" "last") ∈ lw_all := lw_g (lw_at lw_m2 124 rfl) rfl
theorem q531 : (Jvm.Cond.lays "CatWitness" "CatWitness" "hasLived" "Z") ∈ lw_all := lw_g (lw_at lw_m2 125 rfl) rfl
theorem q532 : (Jvm.Cond.soleField "CatWitness" "hasLived") ∈ lw_all := lw_g (lw_at lw_m2 126 rfl) rfl
theorem q533 : (Jvm.Cond.superclass "CatWitness" "java/lang/Object") ∈ lw_all := lw_g (lw_at lw_m2 127 rfl) rfl
theorem q535 : (Jvm.Cond.instanceMethod ({ cls := "CatWitness", name := "status", desc := "()I" } : Jvm.MethodName)) ∈ lw_all := lw_g (lw_at lw_m2 129 rfl) rfl
theorem q536 : (Jvm.Cond.selects "CatWitness" ({ cls := "CatWitness", name := "status", desc := "()I" } : Jvm.MethodName) ({ cls := "CatWitness", name := "status", desc := "()I" } : Jvm.MethodName)) ∈ lw_all := lw_g (lw_at lw_m2 130 rfl) rfl
theorem q537 : (Jvm.Cond.code ({ cls := "CatWitness", name := "status", desc := "()I" } : Jvm.MethodName) prog_1_method_9_code (1 : Nat) (Option.some Jvm.ClassFile.FieldType.int)) ∈ lw_all := lw_g (lw_at lw_m2 131 rfl) rfl
theorem q539 : (Jvm.Cond.instanceMethod ({ cls := "CatWitness", name := "top", desc := "()J" } : Jvm.MethodName)) ∈ lw_all := lw_g (lw_at lw_m2 133 rfl) rfl
theorem q540 : (Jvm.Cond.selects "CatWitness" ({ cls := "CatWitness", name := "top", desc := "()J" } : Jvm.MethodName) ({ cls := "CatWitness", name := "top", desc := "()J" } : Jvm.MethodName)) ∈ lw_all := lw_g (lw_at lw_m2 134 rfl) rfl
theorem q541 : (Jvm.Cond.code ({ cls := "CatWitness", name := "top", desc := "()J" } : Jvm.MethodName) prog_1_method_10_code (1 : Nat) (Option.some Jvm.ClassFile.FieldType.long)) ∈ lw_all := lw_g (lw_at lw_m2 135 rfl) rfl
theorem q543 : (Jvm.Cond.instanceMethod ({ cls := "CatWitness", name := "bottom", desc := "()J" } : Jvm.MethodName)) ∈ lw_all := lw_g (lw_at lw_m2 137 rfl) rfl
theorem q544 : (Jvm.Cond.selects "CatWitness" ({ cls := "CatWitness", name := "bottom", desc := "()J" } : Jvm.MethodName) ({ cls := "CatWitness", name := "bottom", desc := "()J" } : Jvm.MethodName)) ∈ lw_all := lw_g (lw_at lw_m2 138 rfl) rfl
theorem q545 : (Jvm.Cond.code ({ cls := "CatWitness", name := "bottom", desc := "()J" } : Jvm.MethodName) prog_1_method_11_code (1 : Nat) (Option.some Jvm.ClassFile.FieldType.long)) ∈ lw_all := lw_g (lw_at lw_m2 139 rfl) rfl
theorem q547 : (Jvm.Cond.instanceMethod ({ cls := "CatWitness", name := "tray", desc := "(III)Z" } : Jvm.MethodName)) ∈ lw_all := lw_g (lw_at lw_m2 141 rfl) rfl
theorem q548 : (Jvm.Cond.selects "CatWitness" ({ cls := "CatWitness", name := "tray", desc := "(III)Z" } : Jvm.MethodName) ({ cls := "CatWitness", name := "tray", desc := "(III)Z" } : Jvm.MethodName)) ∈ lw_all := lw_g (lw_at lw_m2 142 rfl) rfl
theorem q549 : (Jvm.Cond.codeWith ({ cls := "CatWitness", name := "tray", desc := "(III)Z" } : Jvm.MethodName) prog_1_method_17_code (5 : Nat) (Option.some Jvm.ClassFile.FieldType.boolean) [((5 : Nat), (54 : Nat), (55 : Nat), (127 : Nat)), ((5 : Nat), (54 : Nat), (64 : Nat), (41 : Nat))]) ∈ lw_all := lw_g (lw_at lw_m2 143 rfl) rfl
theorem q550 : (Jvm.Cond.classLink "CatWitness" (127 : Nat) "java/lang/NegativeArraySizeException") ∈ lw_all := lw_g (lw_at lw_m2 144 rfl) rfl
theorem q579 : (Jvm.Cond.methodLink "CatWitness" (116 : Nat) ({ cls := "CatWitness", name := "want", desc := "(ZI)V" } : Jvm.MethodName)) ∈ lw_all := lw_g (lw_at lw_m2 173 rfl) rfl
theorem q580 : (Jvm.Cond.privateMethod ({ cls := "CatWitness", name := "want", desc := "(ZI)V" } : Jvm.MethodName)) ∈ lw_tbl := lw_at lw_m2 174 rfl
theorem q581 : (Jvm.Cond.instanceMethod ({ cls := "CatWitness", name := "want", desc := "(ZI)V" } : Jvm.MethodName)) ∈ lw_all := lw_g (lw_at lw_m2 175 rfl) rfl
theorem q582 : (Jvm.Cond.code ({ cls := "CatWitness", name := "want", desc := "(ZI)V" } : Jvm.MethodName) prog_1_method_12_code (3 : Nat) (Option.none : Option Jvm.ClassFile.FieldType)) ∈ lw_all := lw_g (lw_at lw_m2 176 rfl) rfl
theorem q583 : (Jvm.Cond.methodLink "CatWitness" (97 : Nat) ({ cls := "CatWitness$Refused", name := "by", desc := "(I)LCatWitness$Refused;" } : Jvm.MethodName)) ∈ lw_all := lw_g (lw_at lw_m2 177 rfl) rfl
theorem q587 : (Jvm.Cond.methodLink "CatWitness" (124 : Nat) ({ cls := "CatWitness", name := "row", desc := "(II)Ljava/lang/Object;" } : Jvm.MethodName)) ∈ lw_all := lw_g (lw_at lw_m2 181 rfl) rfl
theorem q588 : (Jvm.Cond.static ({ cls := "CatWitness", name := "row", desc := "(II)Ljava/lang/Object;" } : Jvm.MethodName)) ∈ lw_all := lw_g (lw_at lw_m2 182 rfl) rfl
theorem q589 : (Jvm.Cond.code ({ cls := "CatWitness", name := "row", desc := "(II)Ljava/lang/Object;" } : Jvm.MethodName) prog_1_method_1_code (2 : Nat) (Option.some (Jvm.ClassFile.FieldType.object "java/lang/Object"))) ∈ lw_all := lw_g (lw_at lw_m2 183 rfl) rfl
theorem q590 : (Jvm.Cond.methodLink "CatWitness" (129 : Nat) ({ cls := "CatWitness", name := "no", desc := "(LCatWitness$Refused;)Z" } : Jvm.MethodName)) ∈ lw_all := lw_g (lw_at lw_m2 184 rfl) rfl
theorem q591 : (Jvm.Cond.privateMethod ({ cls := "CatWitness", name := "no", desc := "(LCatWitness$Refused;)Z" } : Jvm.MethodName)) ∈ lw_tbl := lw_at lw_m2 185 rfl
theorem q592 : (Jvm.Cond.instanceMethod ({ cls := "CatWitness", name := "no", desc := "(LCatWitness$Refused;)Z" } : Jvm.MethodName)) ∈ lw_all := lw_g (lw_at lw_m2 186 rfl) rfl
theorem q593 : (Jvm.Cond.code ({ cls := "CatWitness", name := "no", desc := "(LCatWitness$Refused;)Z" } : Jvm.MethodName) prog_1_method_14_code (2 : Nat) (Option.some Jvm.ClassFile.FieldType.boolean)) ∈ lw_all := lw_g (lw_at lw_m2 187 rfl) rfl
theorem q596 : (Jvm.Cond.instanceMethod ({ cls := "CatWitness", name := "write", desc := "(IIJ)Z" } : Jvm.MethodName)) ∈ lw_all := lw_g (lw_at lw_m2 190 rfl) rfl
theorem q597 : (Jvm.Cond.selects "CatWitness" ({ cls := "CatWitness", name := "write", desc := "(IIJ)Z" } : Jvm.MethodName) ({ cls := "CatWitness", name := "write", desc := "(IIJ)Z" } : Jvm.MethodName)) ∈ lw_all := lw_g (lw_at lw_m2 191 rfl) rfl
theorem q598 : (Jvm.Cond.codeWith ({ cls := "CatWitness", name := "write", desc := "(IIJ)Z" } : Jvm.MethodName) prog_1_method_18_code (6 : Nat) (Option.some Jvm.ClassFile.FieldType.boolean) [((5 : Nat), (16 : Nat), (17 : Nat), (141 : Nat)), ((5 : Nat), (16 : Nat), (26 : Nat), (41 : Nat))]) ∈ lw_all := lw_g (lw_at lw_m2 192 rfl) rfl
theorem q599 : (Jvm.Cond.classLink "CatWitness" (141 : Nat) "java/lang/ArrayIndexOutOfBoundsException") ∈ lw_all := lw_g (lw_at lw_m2 193 rfl) rfl
theorem q618 : (Jvm.Cond.methodLink "CatWitness" (133 : Nat) ({ cls := "CatWitness", name := "on", desc := "(I)Ljava/lang/Object;" } : Jvm.MethodName)) ∈ lw_all := lw_g (lw_at lw_m2 212 rfl) rfl
theorem q619 : (Jvm.Cond.privateMethod ({ cls := "CatWitness", name := "on", desc := "(I)Ljava/lang/Object;" } : Jvm.MethodName)) ∈ lw_tbl := lw_at lw_m2 213 rfl
theorem q620 : (Jvm.Cond.instanceMethod ({ cls := "CatWitness", name := "on", desc := "(I)Ljava/lang/Object;" } : Jvm.MethodName)) ∈ lw_all := lw_g (lw_at lw_m2 214 rfl) rfl
theorem q621 : (Jvm.Cond.code ({ cls := "CatWitness", name := "on", desc := "(I)Ljava/lang/Object;" } : Jvm.MethodName) prog_1_method_16_code (2 : Nat) (Option.some (Jvm.ClassFile.FieldType.object "java/lang/Object"))) ∈ lw_all := lw_g (lw_at lw_m2 215 rfl) rfl
theorem q622 : (Jvm.Cond.methodLink "CatWitness" (137 : Nat) ({ cls := "CatWitness", name := "put", desc := "(Ljava/lang/Object;IJ)V" } : Jvm.MethodName)) ∈ lw_all := lw_g (lw_at lw_m2 216 rfl) rfl
theorem q623 : (Jvm.Cond.static ({ cls := "CatWitness", name := "put", desc := "(Ljava/lang/Object;IJ)V" } : Jvm.MethodName)) ∈ lw_all := lw_g (lw_at lw_m2 217 rfl) rfl
theorem q624 : (Jvm.Cond.code ({ cls := "CatWitness", name := "put", desc := "(Ljava/lang/Object;IJ)V" } : Jvm.MethodName) prog_1_method_5_code (7 : Nat) (Option.none : Option Jvm.ClassFile.FieldType)) ∈ lw_all := lw_g (lw_at lw_m2 218 rfl) rfl
theorem q625 : (Jvm.Cond.classLink "CatWitness" (1 : Nat) "[B") ∈ lw_all := lw_g (lw_at lw_m2 219 rfl) rfl
theorem q626 : (Jvm.Cond.classLink "CatWitness" (3 : Nat) "[S") ∈ lw_all := lw_g (lw_at lw_m2 220 rfl) rfl
theorem q627 : (Jvm.Cond.classLink "CatWitness" (5 : Nat) "[I") ∈ lw_all := lw_g (lw_at lw_m2 221 rfl) rfl
theorem q628 : (Jvm.Cond.classLink "CatWitness" (7 : Nat) "[J") ∈ lw_all := lw_g (lw_at lw_m2 222 rfl) rfl
theorem q630 : (Jvm.Cond.instanceMethod ({ cls := "CatWitness", name := "read", desc := "(II)J" } : Jvm.MethodName)) ∈ lw_all := lw_g (lw_at lw_m2 224 rfl) rfl
theorem q631 : (Jvm.Cond.selects "CatWitness" ({ cls := "CatWitness", name := "read", desc := "(II)J" } : Jvm.MethodName) ({ cls := "CatWitness", name := "read", desc := "(II)J" } : Jvm.MethodName)) ∈ lw_all := lw_g (lw_at lw_m2 225 rfl) rfl
theorem q632 : (Jvm.Cond.codeWith ({ cls := "CatWitness", name := "read", desc := "(II)J" } : Jvm.MethodName) prog_1_method_19_code (4 : Nat) (Option.some Jvm.ClassFile.FieldType.long) [((5 : Nat), (14 : Nat), (15 : Nat), (141 : Nat)), ((5 : Nat), (14 : Nat), (25 : Nat), (41 : Nat))]) ∈ lw_all := lw_g (lw_at lw_m2 226 rfl) rfl
theorem q633 : (Jvm.Cond.methodLink "CatWitness" (143 : Nat) ({ cls := "CatWitness", name := "number", desc := "(Ljava/lang/Object;I)J" } : Jvm.MethodName)) ∈ lw_all := lw_g (lw_at lw_m2 227 rfl) rfl
theorem q634 : (Jvm.Cond.static ({ cls := "CatWitness", name := "number", desc := "(Ljava/lang/Object;I)J" } : Jvm.MethodName)) ∈ lw_all := lw_g (lw_at lw_m2 228 rfl) rfl
theorem q635 : (Jvm.Cond.code ({ cls := "CatWitness", name := "number", desc := "(Ljava/lang/Object;I)J" } : Jvm.MethodName) prog_1_method_4_code (3 : Nat) (Option.some Jvm.ClassFile.FieldType.long)) ∈ lw_all := lw_g (lw_at lw_m2 229 rfl) rfl
theorem q636 : (Jvm.Cond.constantLong "CatWitness" (147 : Nat) (-1 : Int64)) ∈ lw_all := lw_g (lw_at lw_m2 230 rfl) rfl
theorem q637 : (Jvm.Cond.methodLink "CatWitness" (149 : Nat) ({ cls := "CatWitness", name := "none", desc := "(LCatWitness$Refused;)I" } : Jvm.MethodName)) ∈ lw_all := lw_g (lw_at lw_m2 231 rfl) rfl
theorem q638 : (Jvm.Cond.privateMethod ({ cls := "CatWitness", name := "none", desc := "(LCatWitness$Refused;)I" } : Jvm.MethodName)) ∈ lw_tbl := lw_at lw_m2 232 rfl
theorem q639 : (Jvm.Cond.instanceMethod ({ cls := "CatWitness", name := "none", desc := "(LCatWitness$Refused;)I" } : Jvm.MethodName)) ∈ lw_all := lw_g (lw_at lw_m2 233 rfl) rfl
theorem q640 : (Jvm.Cond.code ({ cls := "CatWitness", name := "none", desc := "(LCatWitness$Refused;)I" } : Jvm.MethodName) prog_1_method_13_code (2 : Nat) (Option.some Jvm.ClassFile.FieldType.int)) ∈ lw_all := lw_g (lw_at lw_m2 234 rfl) rfl
theorem q642 : (Jvm.Cond.instanceMethod ({ cls := "CatWitness", name := "pour", desc := "(IIIII)Z" } : Jvm.MethodName)) ∈ lw_all := lw_g (lw_at lw_m2 236 rfl) rfl
theorem q643 : (Jvm.Cond.selects "CatWitness" ({ cls := "CatWitness", name := "pour", desc := "(IIIII)Z" } : Jvm.MethodName) ({ cls := "CatWitness", name := "pour", desc := "(IIIII)Z" } : Jvm.MethodName)) ∈ lw_all := lw_g (lw_at lw_m2 237 rfl) rfl
theorem q644 : (Jvm.Cond.codeWith ({ cls := "CatWitness", name := "pour", desc := "(IIIII)Z" } : Jvm.MethodName) prog_1_method_20_code (9 : Nat) (Option.some Jvm.ClassFile.FieldType.boolean) [((85 : Nat), (97 : Nat), (100 : Nat), (163 : Nat)), ((5 : Nat), (112 : Nat), (113 : Nat), (41 : Nat))]) ∈ lw_all := lw_g (lw_at lw_m2 238 rfl) rfl
theorem q645 : (Jvm.Cond.classLink "CatWitness" (163 : Nat) "java/lang/IndexOutOfBoundsException") ∈ lw_all := lw_g (lw_at lw_m2 239 rfl) rfl
theorem q646 : (Jvm.Cond.methodLink "CatWitness" (153 : Nat) ({ cls := "CatWitness", name := "sortOf", desc := "(Ljava/lang/Object;)I" } : Jvm.MethodName)) ∈ lw_all := lw_g (lw_at lw_m3 0 rfl) rfl
theorem q647 : (Jvm.Cond.static ({ cls := "CatWitness", name := "sortOf", desc := "(Ljava/lang/Object;)I" } : Jvm.MethodName)) ∈ lw_all := lw_g (lw_at lw_m3 1 rfl) rfl
theorem q648 : (Jvm.Cond.code ({ cls := "CatWitness", name := "sortOf", desc := "(Ljava/lang/Object;)I" } : Jvm.MethodName) prog_1_method_2_code (1 : Nat) (Option.some Jvm.ClassFile.FieldType.int)) ∈ lw_all := lw_g (lw_at lw_m3 2 rfl) rfl
theorem q649 : (Jvm.Cond.methodLink "CatWitness" (157 : Nat) ({ cls := "java/lang/System", name := "arraycopy", desc := "(Ljava/lang/Object;ILjava/lang/Object;II)V" } : Jvm.MethodName)) ∈ lw_all := lw_g (lw_at lw_m3 3 rfl) rfl
theorem q653 : (Jvm.Cond.instanceMethod ({ cls := "CatWitness", name := "feed", desc := "(IIIII)I" } : Jvm.MethodName)) ∈ lw_all := lw_g (lw_at lw_m3 7 rfl) rfl
theorem q654 : (Jvm.Cond.selects "CatWitness" ({ cls := "CatWitness", name := "feed", desc := "(IIIII)I" } : Jvm.MethodName) ({ cls := "CatWitness", name := "feed", desc := "(IIIII)I" } : Jvm.MethodName)) ∈ lw_all := lw_g (lw_at lw_m3 8 rfl) rfl
theorem q655 : (Jvm.Cond.code ({ cls := "CatWitness", name := "feed", desc := "(IIIII)I" } : Jvm.MethodName) prog_1_method_29_code (6 : Nat) (Option.some Jvm.ClassFile.FieldType.int)) ∈ lw_all := lw_g (lw_at lw_m3 9 rfl) rfl
theorem q656 : (Jvm.Cond.methodLink "CatWitness" (194 : Nat) ({ cls := "CatWitness", name := "lay", desc := "(I)V" } : Jvm.MethodName)) ∈ lw_all := lw_g (lw_at lw_m3 10 rfl) rfl
theorem q657 : (Jvm.Cond.privateMethod ({ cls := "CatWitness", name := "lay", desc := "(I)V" } : Jvm.MethodName)) ∈ lw_tbl := lw_at lw_m3 11 rfl
theorem q658 : (Jvm.Cond.instanceMethod ({ cls := "CatWitness", name := "lay", desc := "(I)V" } : Jvm.MethodName)) ∈ lw_all := lw_g (lw_at lw_m3 12 rfl) rfl
theorem q659 : (Jvm.Cond.code ({ cls := "CatWitness", name := "lay", desc := "(I)V" } : Jvm.MethodName) prog_1_method_30_code (3 : Nat) (Option.none : Option Jvm.ClassFile.FieldType)) ∈ lw_all := lw_g (lw_at lw_m3 13 rfl) rfl
theorem q661 : (Jvm.Cond.instanceMethod ({ cls := "CatWitness", name := "court", desc := "(I)I" } : Jvm.MethodName)) ∈ lw_all := lw_g (lw_at lw_m3 15 rfl) rfl
theorem q662 : (Jvm.Cond.selects "CatWitness" ({ cls := "CatWitness", name := "court", desc := "(I)I" } : Jvm.MethodName) ({ cls := "CatWitness", name := "court", desc := "(I)I" } : Jvm.MethodName)) ∈ lw_all := lw_g (lw_at lw_m3 16 rfl) rfl
theorem q663 : (Jvm.Cond.codeWith ({ cls := "CatWitness", name := "court", desc := "(I)I" } : Jvm.MethodName) prog_1_method_33_code (3 : Nat) (Option.some Jvm.ClassFile.FieldType.int) [((13 : Nat), (54 : Nat), (55 : Nat), (34 : Nat))]) ∈ lw_all := lw_g (lw_at lw_m3 17 rfl) rfl
theorem q664 : (Jvm.Cond.methodLink "CatWitness" (204 : Nat) ({ cls := "CatWitness", name := "opens", desc := "(II)Z" } : Jvm.MethodName)) ∈ lw_all := lw_g (lw_at lw_m3 18 rfl) rfl
theorem q665 : (Jvm.Cond.privateMethod ({ cls := "CatWitness", name := "opens", desc := "(II)Z" } : Jvm.MethodName)) ∈ lw_tbl := lw_at lw_m3 19 rfl
theorem q666 : (Jvm.Cond.instanceMethod ({ cls := "CatWitness", name := "opens", desc := "(II)Z" } : Jvm.MethodName)) ∈ lw_all := lw_g (lw_at lw_m3 20 rfl) rfl
theorem q667 : (Jvm.Cond.code ({ cls := "CatWitness", name := "opens", desc := "(II)Z" } : Jvm.MethodName) prog_1_method_31_code (3 : Nat) (Option.some Jvm.ClassFile.FieldType.boolean)) ∈ lw_all := lw_g (lw_at lw_m3 21 rfl) rfl
theorem q668 : (Jvm.Cond.classLink "CatWitness" (208 : Nat) "CatWitness$Reader") ∈ lw_all := lw_g (lw_at lw_m3 22 rfl) rfl
theorem q670 : (Jvm.Cond.methodLink "CatWitness" (210 : Nat) ({ cls := "CatWitness$Reader", name := "<init>", desc := "(LCatWitness;I)V" } : Jvm.MethodName)) ∈ lw_all := lw_g (lw_at lw_m3 24 rfl) rfl
theorem q692 : (Jvm.Cond.fieldLinkNest "CatWitness" (234 : Nat) "CatWitness$Reader" "steps" "I" "CatWitness") ∈ lw_tbl := lw_at lw_m3 46 rfl
theorem q709 : (Jvm.Cond.methodLink "CatWitness" (213 : Nat) ({ cls := "CatWitness$Reader", name := "court", desc := "(LCatWitness$Court;)V" } : Jvm.MethodName)) ∈ lw_all := lw_g (lw_at lw_m3 63 rfl) rfl
theorem q880 : (Jvm.Cond.static ({ cls := "CatWitness", name := "has", desc := "(II)Z" } : Jvm.MethodName)) ∈ lw_all := lw_g (lw_at lw_m3 234 rfl) rfl
theorem q881 : (Jvm.Cond.code ({ cls := "CatWitness", name := "has", desc := "(II)Z" } : Jvm.MethodName) prog_1_method_6_code (2 : Nat) (Option.some Jvm.ClassFile.FieldType.boolean)) ∈ lw_all := lw_g (lw_at lw_m3 235 rfl) rfl
theorem q910 : (Jvm.Cond.fieldLinkNest "CatWitness" (278 : Nat) "CatWitness$Rule" "cue" "I" "CatWitness") ∈ lw_tbl := lw_at lw_m4 24 rfl
theorem q912 : (Jvm.Cond.fieldLinkNest "CatWitness" (283 : Nat) "CatWitness$Rule" "guilt" "I" "CatWitness") ∈ lw_tbl := lw_at lw_m4 26 rfl
theorem q914 : (Jvm.Cond.fieldLinkNest "CatWitness" (286 : Nat) "CatWitness$Rule" "fedSign" "I" "CatWitness") ∈ lw_tbl := lw_at lw_m4 28 rfl
theorem q916 : (Jvm.Cond.fieldLinkNest "CatWitness" (289 : Nat) "CatWitness$Rule" "fedNumber" "I" "CatWitness") ∈ lw_tbl := lw_at lw_m4 30 rfl
theorem q918 : (Jvm.Cond.fieldLinkNest "CatWitness" (295 : Nat) "CatWitness$Rule" "warmSign" "I" "CatWitness") ∈ lw_tbl := lw_at lw_m4 32 rfl
theorem q920 : (Jvm.Cond.fieldLinkNest "CatWitness" (298 : Nat) "CatWitness$Rule" "warmNumber" "I" "CatWitness") ∈ lw_tbl := lw_at lw_m4 34 rfl
theorem q922 : (Jvm.Cond.fieldLinkNest "CatWitness" (301 : Nat) "CatWitness$Rule" "smell" "I" "CatWitness") ∈ lw_tbl := lw_at lw_m4 36 rfl
theorem q962 : (Jvm.Cond.methodLink "CatWitness" (168 : Nat) ({ cls := "CatWitness", name := "at", desc := "()LCatWitness$Court;" } : Jvm.MethodName)) ∈ lw_all := lw_g (lw_at lw_m4 76 rfl) rfl
theorem q963 : (Jvm.Cond.privateMethod ({ cls := "CatWitness", name := "at", desc := "()LCatWitness$Court;" } : Jvm.MethodName)) ∈ lw_tbl := lw_at lw_m4 77 rfl
theorem q964 : (Jvm.Cond.instanceMethod ({ cls := "CatWitness", name := "at", desc := "()LCatWitness$Court;" } : Jvm.MethodName)) ∈ lw_all := lw_g (lw_at lw_m4 78 rfl) rfl
theorem q965 : (Jvm.Cond.code ({ cls := "CatWitness", name := "at", desc := "()LCatWitness$Court;" } : Jvm.MethodName) prog_1_method_22_code (1 : Nat) (Option.some (Jvm.ClassFile.FieldType.object "CatWitness$Court"))) ∈ lw_all := lw_g (lw_at lw_m4 79 rfl) rfl
theorem q966 : (Jvm.Cond.methodLink "CatWitness" (216 : Nat) ({ cls := "CatWitness$Court", name := "be", desc := "(LCatWitness$Court;)V" } : Jvm.MethodName)) ∈ lw_all := lw_g (lw_at lw_m4 80 rfl) rfl
theorem q974 : (Jvm.Cond.methodLink "CatWitness" (223 : Nat) ({ cls := "CatWitness", name := "faulty", desc := "(LCatWitness$Bad;)I" } : Jvm.MethodName)) ∈ lw_all := lw_g (lw_at lw_m4 88 rfl) rfl
theorem q975 : (Jvm.Cond.privateMethod ({ cls := "CatWitness", name := "faulty", desc := "(LCatWitness$Bad;)I" } : Jvm.MethodName)) ∈ lw_tbl := lw_at lw_m4 89 rfl
theorem q976 : (Jvm.Cond.instanceMethod ({ cls := "CatWitness", name := "faulty", desc := "(LCatWitness$Bad;)I" } : Jvm.MethodName)) ∈ lw_all := lw_g (lw_at lw_m4 90 rfl) rfl
theorem q977 : (Jvm.Cond.code ({ cls := "CatWitness", name := "faulty", desc := "(LCatWitness$Bad;)I" } : Jvm.MethodName) prog_1_method_32_code (2 : Nat) (Option.some Jvm.ClassFile.FieldType.int)) ∈ lw_all := lw_g (lw_at lw_m4 91 rfl) rfl
theorem q979 : (Jvm.Cond.instanceMethod ({ cls := "CatWitness", name := "weeks", desc := "(I)I" } : Jvm.MethodName)) ∈ lw_all := lw_g (lw_at lw_m4 93 rfl) rfl
theorem q980 : (Jvm.Cond.selects "CatWitness" ({ cls := "CatWitness", name := "weeks", desc := "(I)I" } : Jvm.MethodName) ({ cls := "CatWitness", name := "weeks", desc := "(I)I" } : Jvm.MethodName)) ∈ lw_all := lw_g (lw_at lw_m4 94 rfl) rfl
theorem q981 : (Jvm.Cond.codeWith ({ cls := "CatWitness", name := "weeks", desc := "(I)I" } : Jvm.MethodName) prog_1_method_34_code (4 : Nat) (Option.some Jvm.ClassFile.FieldType.int) [((13 : Nat), (53 : Nat), (54 : Nat), (34 : Nat))]) ∈ lw_all := lw_g (lw_at lw_m4 95 rfl) rfl
theorem q982 : (Jvm.Cond.classLink "CatWitness" (227 : Nat) "CatWitness$Loop") ∈ lw_all := lw_g (lw_at lw_m4 96 rfl) rfl
theorem q984 : (Jvm.Cond.methodLink "CatWitness" (229 : Nat) ({ cls := "CatWitness$Loop", name := "<init>", desc := "(I)V" } : Jvm.MethodName)) ∈ lw_all := lw_g (lw_at lw_m4 98 rfl) rfl
theorem q1006 : (Jvm.Cond.methodLink "CatWitness" (231 : Nat) ({ cls := "CatWitness$Reader", name := "weeks", desc := "(LCatWitness$Court;LCatWitness$Block;)V" } : Jvm.MethodName)) ∈ lw_all := lw_g (lw_at lw_m4 120 rfl) rfl
theorem q1073 : (Jvm.Cond.instanceMethod ({ cls := "CatWitness", name := "fault", desc := "(I)I" } : Jvm.MethodName)) ∈ lw_all := lw_g (lw_at lw_m4 187 rfl) rfl
theorem q1074 : (Jvm.Cond.selects "CatWitness" ({ cls := "CatWitness", name := "fault", desc := "(I)I" } : Jvm.MethodName) ({ cls := "CatWitness", name := "fault", desc := "(I)I" } : Jvm.MethodName)) ∈ lw_all := lw_g (lw_at lw_m4 188 rfl) rfl
theorem q1075 : (Jvm.Cond.code ({ cls := "CatWitness", name := "fault", desc := "(I)I" } : Jvm.MethodName) prog_1_method_35_code (2 : Nat) (Option.some Jvm.ClassFile.FieldType.int)) ∈ lw_all := lw_g (lw_at lw_m4 189 rfl) rfl
theorem q1077 : (Jvm.Cond.instanceMethod ({ cls := "CatWitness", name := "told", desc := "(I)I" } : Jvm.MethodName)) ∈ lw_all := lw_g (lw_at lw_m4 191 rfl) rfl
theorem q1078 : (Jvm.Cond.selects "CatWitness" ({ cls := "CatWitness", name := "told", desc := "(I)I" } : Jvm.MethodName) ({ cls := "CatWitness", name := "told", desc := "(I)I" } : Jvm.MethodName)) ∈ lw_all := lw_g (lw_at lw_m4 192 rfl) rfl
theorem q1079 : (Jvm.Cond.code ({ cls := "CatWitness", name := "told", desc := "(I)I" } : Jvm.MethodName) prog_1_method_37_code (2 : Nat) (Option.some Jvm.ClassFile.FieldType.int)) ∈ lw_all := lw_g (lw_at lw_m4 193 rfl) rfl
theorem q1080 : (Jvm.Cond.constantLong "CatWitness" (240 : Nat) (12 : Int64)) ∈ lw_all := lw_g (lw_at lw_m4 194 rfl) rfl
theorem q1081 : (Jvm.Cond.methodLink "CatWitness" (175 : Nat) ({ cls := "CatWitness", name := "isIn", desc := "(JJJ)Z" } : Jvm.MethodName)) ∈ lw_all := lw_g (lw_at lw_m4 195 rfl) rfl
theorem q1082 : (Jvm.Cond.static ({ cls := "CatWitness", name := "isIn", desc := "(JJJ)Z" } : Jvm.MethodName)) ∈ lw_all := lw_g (lw_at lw_m4 196 rfl) rfl
theorem q1083 : (Jvm.Cond.code ({ cls := "CatWitness", name := "isIn", desc := "(JJJ)Z" } : Jvm.MethodName) prog_1_method_21_code (6 : Nat) (Option.some Jvm.ClassFile.FieldType.boolean)) ∈ lw_all := lw_g (lw_at lw_m4 197 rfl) rfl
theorem q1084 : (Jvm.Cond.methodLink "CatWitness" (251 : Nat) ({ cls := "CatWitness", name := "guilties", desc := "()I" } : Jvm.MethodName)) ∈ lw_all := lw_g (lw_at lw_m4 198 rfl) rfl
theorem q1085 : (Jvm.Cond.privateMethod ({ cls := "CatWitness", name := "guilties", desc := "()I" } : Jvm.MethodName)) ∈ lw_tbl := lw_at lw_m4 199 rfl
theorem q1086 : (Jvm.Cond.instanceMethod ({ cls := "CatWitness", name := "guilties", desc := "()I" } : Jvm.MethodName)) ∈ lw_all := lw_g (lw_at lw_m4 200 rfl) rfl
theorem q1087 : (Jvm.Cond.code ({ cls := "CatWitness", name := "guilties", desc := "()I" } : Jvm.MethodName) prog_1_method_36_code (3 : Nat) (Option.some Jvm.ClassFile.FieldType.int)) ∈ lw_all := lw_g (lw_at lw_m4 201 rfl) rfl
theorem q1088 : (Jvm.Cond.methodLink "CatWitness" (255 : Nat) ({ cls := "CatWitness$Court", name := "allVotes", desc := "()I" } : Jvm.MethodName)) ∈ lw_all := lw_g (lw_at lw_m4 202 rfl) rfl
theorem q1092 : (Jvm.Cond.methodLink "CatWitness" (258 : Nat) ({ cls := "CatWitness$Court", name := "are", desc := "(I)I" } : Jvm.MethodName)) ∈ lw_all := lw_g (lw_at lw_m4 206 rfl) rfl
theorem q1097 : (Jvm.Cond.instanceMethod ({ cls := "CatWitness", name := "sense", desc := "(I)I" } : Jvm.MethodName)) ∈ lw_all := lw_g (lw_at lw_m4 211 rfl) rfl
theorem q1098 : (Jvm.Cond.selects "CatWitness" ({ cls := "CatWitness", name := "sense", desc := "(I)I" } : Jvm.MethodName) ({ cls := "CatWitness", name := "sense", desc := "(I)I" } : Jvm.MethodName)) ∈ lw_all := lw_g (lw_at lw_m4 212 rfl) rfl
theorem q1099 : (Jvm.Cond.code ({ cls := "CatWitness", name := "sense", desc := "(I)I" } : Jvm.MethodName) prog_1_method_38_code (2 : Nat) (Option.some Jvm.ClassFile.FieldType.int)) ∈ lw_all := lw_g (lw_at lw_m4 213 rfl) rfl
theorem q1100 : (Jvm.Cond.methodLink "CatWitness" (262 : Nat) ({ cls := "CatWitness", name := "isCue", desc := "(I)Z" } : Jvm.MethodName)) ∈ lw_all := lw_g (lw_at lw_m4 214 rfl) rfl
theorem q1101 : (Jvm.Cond.privateMethod ({ cls := "CatWitness", name := "isCue", desc := "(I)Z" } : Jvm.MethodName)) ∈ lw_tbl := lw_at lw_m4 215 rfl
theorem q1102 : (Jvm.Cond.instanceMethod ({ cls := "CatWitness", name := "isCue", desc := "(I)Z" } : Jvm.MethodName)) ∈ lw_all := lw_g (lw_at lw_m4 216 rfl) rfl
theorem q1103 : (Jvm.Cond.code ({ cls := "CatWitness", name := "isCue", desc := "(I)Z" } : Jvm.MethodName) prog_1_method_24_code (2 : Nat) (Option.some Jvm.ClassFile.FieldType.boolean)) ∈ lw_all := lw_g (lw_at lw_m4 217 rfl) rfl
theorem q1105 : (Jvm.Cond.instanceMethod ({ cls := "CatWitness", name := "rule", desc := "(II)I" } : Jvm.MethodName)) ∈ lw_all := lw_g (lw_at lw_m4 219 rfl) rfl
theorem q1106 : (Jvm.Cond.selects "CatWitness" ({ cls := "CatWitness", name := "rule", desc := "(II)I" } : Jvm.MethodName) ({ cls := "CatWitness", name := "rule", desc := "(II)I" } : Jvm.MethodName)) ∈ lw_all := lw_g (lw_at lw_m4 220 rfl) rfl
theorem q1107 : (Jvm.Cond.code ({ cls := "CatWitness", name := "rule", desc := "(II)I" } : Jvm.MethodName) prog_1_method_39_code (4 : Nat) (Option.some Jvm.ClassFile.FieldType.int)) ∈ lw_all := lw_g (lw_at lw_m4 221 rfl) rfl
theorem q1108 : (Jvm.Cond.methodLink "CatWitness" (269 : Nat) ({ cls := "CatWitness", name := "isRule", desc := "(I)Z" } : Jvm.MethodName)) ∈ lw_all := lw_g (lw_at lw_m4 222 rfl) rfl
theorem q1109 : (Jvm.Cond.privateMethod ({ cls := "CatWitness", name := "isRule", desc := "(I)Z" } : Jvm.MethodName)) ∈ lw_tbl := lw_at lw_m4 223 rfl
theorem q1110 : (Jvm.Cond.instanceMethod ({ cls := "CatWitness", name := "isRule", desc := "(I)Z" } : Jvm.MethodName)) ∈ lw_all := lw_g (lw_at lw_m4 224 rfl) rfl
theorem q1111 : (Jvm.Cond.code ({ cls := "CatWitness", name := "isRule", desc := "(I)Z" } : Jvm.MethodName) prog_1_method_25_code (2 : Nat) (Option.some Jvm.ClassFile.FieldType.boolean)) ∈ lw_all := lw_g (lw_at lw_m4 225 rfl) rfl
theorem q1112 : (Jvm.Cond.constantLong "CatWitness" (272 : Nat) (4 : Int64)) ∈ lw_all := lw_g (lw_at lw_m4 226 rfl) rfl
theorem q1113 : (Jvm.Cond.methodLink "CatWitness" (292 : Nat) ({ cls := "CatWitness", name := "answer", desc := "(I)I" } : Jvm.MethodName)) ∈ lw_all := lw_g (lw_at lw_m4 227 rfl) rfl
theorem q1114 : (Jvm.Cond.privateMethod ({ cls := "CatWitness", name := "answer", desc := "(I)I" } : Jvm.MethodName)) ∈ lw_tbl := lw_at lw_m4 228 rfl
theorem q1115 : (Jvm.Cond.instanceMethod ({ cls := "CatWitness", name := "answer", desc := "(I)I" } : Jvm.MethodName)) ∈ lw_all := lw_g (lw_at lw_m4 229 rfl) rfl
theorem q1116 : (Jvm.Cond.code ({ cls := "CatWitness", name := "answer", desc := "(I)I" } : Jvm.MethodName) prog_1_method_28_code (2 : Nat) (Option.some Jvm.ClassFile.FieldType.int)) ∈ lw_all := lw_g (lw_at lw_m4 230 rfl) rfl
theorem q1118 : (Jvm.Cond.instanceMethod ({ cls := "CatWitness", name := "person", desc := "(II)I" } : Jvm.MethodName)) ∈ lw_all := lw_g (lw_at lw_m4 232 rfl) rfl
theorem q1119 : (Jvm.Cond.selects "CatWitness" ({ cls := "CatWitness", name := "person", desc := "(II)I" } : Jvm.MethodName) ({ cls := "CatWitness", name := "person", desc := "(II)I" } : Jvm.MethodName)) ∈ lw_all := lw_g (lw_at lw_m4 233 rfl) rfl
theorem q1120 : (Jvm.Cond.code ({ cls := "CatWitness", name := "person", desc := "(II)I" } : Jvm.MethodName) prog_1_method_40_code (3 : Nat) (Option.some Jvm.ClassFile.FieldType.int)) ∈ lw_all := lw_g (lw_at lw_m4 234 rfl) rfl
theorem q1121 : (Jvm.Cond.methodLink "CatWitness" (304 : Nat) ({ cls := "CatWitness", name := "isPerson", desc := "(J)Z" } : Jvm.MethodName)) ∈ lw_all := lw_g (lw_at lw_m4 235 rfl) rfl
theorem q1122 : (Jvm.Cond.privateMethod ({ cls := "CatWitness", name := "isPerson", desc := "(J)Z" } : Jvm.MethodName)) ∈ lw_tbl := lw_at lw_m4 236 rfl
theorem q1123 : (Jvm.Cond.instanceMethod ({ cls := "CatWitness", name := "isPerson", desc := "(J)Z" } : Jvm.MethodName)) ∈ lw_all := lw_g (lw_at lw_m4 237 rfl) rfl
theorem q1124 : (Jvm.Cond.code ({ cls := "CatWitness", name := "isPerson", desc := "(J)Z" } : Jvm.MethodName) prog_1_method_26_code (3 : Nat) (Option.some Jvm.ClassFile.FieldType.boolean)) ∈ lw_all := lw_g (lw_at lw_m4 238 rfl) rfl
theorem q1126 : (Jvm.Cond.instanceMethod ({ cls := "CatWitness", name := "reader", desc := "(II)I" } : Jvm.MethodName)) ∈ lw_all := lw_g (lw_at lw_m5 0 rfl) rfl
theorem q1127 : (Jvm.Cond.selects "CatWitness" ({ cls := "CatWitness", name := "reader", desc := "(II)I" } : Jvm.MethodName) ({ cls := "CatWitness", name := "reader", desc := "(II)I" } : Jvm.MethodName)) ∈ lw_all := lw_g (lw_at lw_m5 1 rfl) rfl
theorem q1128 : (Jvm.Cond.code ({ cls := "CatWitness", name := "reader", desc := "(II)I" } : Jvm.MethodName) prog_1_method_41_code (3 : Nat) (Option.some Jvm.ClassFile.FieldType.int)) ∈ lw_all := lw_g (lw_at lw_m5 2 rfl) rfl
theorem q1129 : (Jvm.Cond.methodLink "CatWitness" (320 : Nat) ({ cls := "CatWitness", name := "isReader", desc := "(I)Z" } : Jvm.MethodName)) ∈ lw_all := lw_g (lw_at lw_m5 3 rfl) rfl
theorem q1130 : (Jvm.Cond.privateMethod ({ cls := "CatWitness", name := "isReader", desc := "(I)Z" } : Jvm.MethodName)) ∈ lw_tbl := lw_at lw_m5 4 rfl
theorem q1131 : (Jvm.Cond.instanceMethod ({ cls := "CatWitness", name := "isReader", desc := "(I)Z" } : Jvm.MethodName)) ∈ lw_all := lw_g (lw_at lw_m5 5 rfl) rfl
theorem q1132 : (Jvm.Cond.code ({ cls := "CatWitness", name := "isReader", desc := "(I)Z" } : Jvm.MethodName) prog_1_method_27_code (2 : Nat) (Option.some Jvm.ClassFile.FieldType.boolean)) ∈ lw_all := lw_g (lw_at lw_m5 6 rfl) rfl
theorem q1134 : (Jvm.Cond.instanceMethod ({ cls := "CatWitness", name := "word", desc := "(II)I" } : Jvm.MethodName)) ∈ lw_all := lw_g (lw_at lw_m5 8 rfl) rfl
theorem q1135 : (Jvm.Cond.selects "CatWitness" ({ cls := "CatWitness", name := "word", desc := "(II)I" } : Jvm.MethodName) ({ cls := "CatWitness", name := "word", desc := "(II)I" } : Jvm.MethodName)) ∈ lw_all := lw_g (lw_at lw_m5 9 rfl) rfl
theorem q1136 : (Jvm.Cond.code ({ cls := "CatWitness", name := "word", desc := "(II)I" } : Jvm.MethodName) prog_1_method_42_code (3 : Nat) (Option.some Jvm.ClassFile.FieldType.int)) ∈ lw_all := lw_g (lw_at lw_m5 10 rfl) rfl
theorem q1138 : (Jvm.Cond.instanceMethod ({ cls := "CatWitness", name := "sit", desc := "(I)I" } : Jvm.MethodName)) ∈ lw_all := lw_g (lw_at lw_m5 12 rfl) rfl
theorem q1139 : (Jvm.Cond.selects "CatWitness" ({ cls := "CatWitness", name := "sit", desc := "(I)I" } : Jvm.MethodName) ({ cls := "CatWitness", name := "sit", desc := "(I)I" } : Jvm.MethodName)) ∈ lw_all := lw_g (lw_at lw_m5 13 rfl) rfl
theorem q1140 : (Jvm.Cond.code ({ cls := "CatWitness", name := "sit", desc := "(I)I" } : Jvm.MethodName) prog_1_method_43_code (2 : Nat) (Option.some Jvm.ClassFile.FieldType.int)) ∈ lw_all := lw_g (lw_at lw_m5 14 rfl) rfl
theorem q1141 : (Jvm.Cond.methodLink "CatWitness" (335 : Nat) ({ cls := "CatWitness$Court", name := "sits", desc := "(I)I" } : Jvm.MethodName)) ∈ lw_all := lw_g (lw_at lw_m5 15 rfl) rfl
theorem q1166 : (Jvm.Cond.static ({ cls := "CatWitness", name := "compares", desc := "(III)Z" } : Jvm.MethodName)) ∈ lw_all := lw_g (lw_at lw_m5 40 rfl) rfl
theorem q1167 : (Jvm.Cond.code ({ cls := "CatWitness", name := "compares", desc := "(III)Z" } : Jvm.MethodName) prog_1_method_7_code (3 : Nat) (Option.some Jvm.ClassFile.FieldType.boolean)) ∈ lw_all := lw_g (lw_at lw_m5 41 rfl) rfl
theorem q1173 : (Jvm.Cond.instanceMethod ({ cls := "CatWitness", name := "term", desc := "()I" } : Jvm.MethodName)) ∈ lw_all := lw_g (lw_at lw_m5 47 rfl) rfl
theorem q1174 : (Jvm.Cond.selects "CatWitness" ({ cls := "CatWitness", name := "term", desc := "()I" } : Jvm.MethodName) ({ cls := "CatWitness", name := "term", desc := "()I" } : Jvm.MethodName)) ∈ lw_all := lw_g (lw_at lw_m5 48 rfl) rfl
theorem q1175 : (Jvm.Cond.code ({ cls := "CatWitness", name := "term", desc := "()I" } : Jvm.MethodName) prog_1_method_44_code (2 : Nat) (Option.some Jvm.ClassFile.FieldType.int)) ∈ lw_all := lw_g (lw_at lw_m5 49 rfl) rfl
theorem q1176 : (Jvm.Cond.methodLink "CatWitness" (338 : Nat) ({ cls := "java/lang/Integer", name := "bitCount", desc := "(I)I" } : Jvm.MethodName)) ∈ lw_all := lw_g (lw_at lw_m5 50 rfl) rfl
theorem q1182 : (Jvm.Cond.methodLink "CatWitness" (343 : Nat) ({ cls := "CatWitness$Court", name := "term", desc := "()I" } : Jvm.MethodName)) ∈ lw_all := lw_g (lw_at lw_m5 56 rfl) rfl
theorem q1196 : (Jvm.Cond.instanceMethod ({ cls := "CatWitness", name := "meal", desc := "(II)I" } : Jvm.MethodName)) ∈ lw_all := lw_g (lw_at lw_m5 70 rfl) rfl
theorem q1197 : (Jvm.Cond.selects "CatWitness" ({ cls := "CatWitness", name := "meal", desc := "(II)I" } : Jvm.MethodName) ({ cls := "CatWitness", name := "meal", desc := "(II)I" } : Jvm.MethodName)) ∈ lw_all := lw_g (lw_at lw_m5 71 rfl) rfl
theorem q1198 : (Jvm.Cond.code ({ cls := "CatWitness", name := "meal", desc := "(II)I" } : Jvm.MethodName) prog_1_method_45_code (3 : Nat) (Option.some Jvm.ClassFile.FieldType.int)) ∈ lw_all := lw_g (lw_at lw_m5 72 rfl) rfl
theorem q1199 : (Jvm.Cond.constantLong "CatWitness" (346 : Nat) (99 : Int64)) ∈ lw_all := lw_g (lw_at lw_m5 73 rfl) rfl
theorem q1200 : (Jvm.Cond.methodLink "CatWitness" (348 : Nat) ({ cls := "CatWitness$Court", name := "feeds", desc := "(II)Z" } : Jvm.MethodName)) ∈ lw_all := lw_g (lw_at lw_m5 74 rfl) rfl
theorem q1205 : (Jvm.Cond.instanceMethod ({ cls := "CatWitness", name := "scent", desc := "(IIZ)Z" } : Jvm.MethodName)) ∈ lw_all := lw_g (lw_at lw_m5 79 rfl) rfl
theorem q1206 : (Jvm.Cond.selects "CatWitness" ({ cls := "CatWitness", name := "scent", desc := "(IIZ)Z" } : Jvm.MethodName) ({ cls := "CatWitness", name := "scent", desc := "(IIZ)Z" } : Jvm.MethodName)) ∈ lw_all := lw_g (lw_at lw_m5 80 rfl) rfl
theorem q1207 : (Jvm.Cond.code ({ cls := "CatWitness", name := "scent", desc := "(IIZ)Z" } : Jvm.MethodName) prog_1_method_46_code (4 : Nat) (Option.some Jvm.ClassFile.FieldType.boolean)) ∈ lw_all := lw_g (lw_at lw_m5 81 rfl) rfl
theorem q1208 : (Jvm.Cond.methodLink "CatWitness" (351 : Nat) ({ cls := "CatWitness", name := "isSmell", desc := "(I)Z" } : Jvm.MethodName)) ∈ lw_all := lw_g (lw_at lw_m5 82 rfl) rfl
theorem q1209 : (Jvm.Cond.privateMethod ({ cls := "CatWitness", name := "isSmell", desc := "(I)Z" } : Jvm.MethodName)) ∈ lw_tbl := lw_at lw_m5 83 rfl
theorem q1210 : (Jvm.Cond.instanceMethod ({ cls := "CatWitness", name := "isSmell", desc := "(I)Z" } : Jvm.MethodName)) ∈ lw_all := lw_g (lw_at lw_m5 84 rfl) rfl
theorem q1211 : (Jvm.Cond.code ({ cls := "CatWitness", name := "isSmell", desc := "(I)Z" } : Jvm.MethodName) prog_1_method_23_code (2 : Nat) (Option.some Jvm.ClassFile.FieldType.boolean)) ∈ lw_all := lw_g (lw_at lw_m5 85 rfl) rfl
theorem q1212 : (Jvm.Cond.methodLink "CatWitness" (354 : Nat) ({ cls := "CatWitness$Court", name := "scents", desc := "(IIZ)Z" } : Jvm.MethodName)) ∈ lw_all := lw_g (lw_at lw_m5 86 rfl) rfl
theorem q1218 : (Jvm.Cond.instanceMethod ({ cls := "CatWitness", name := "night", desc := "()I" } : Jvm.MethodName)) ∈ lw_all := lw_g (lw_at lw_m5 92 rfl) rfl
theorem q1219 : (Jvm.Cond.selects "CatWitness" ({ cls := "CatWitness", name := "night", desc := "()I" } : Jvm.MethodName) ({ cls := "CatWitness", name := "night", desc := "()I" } : Jvm.MethodName)) ∈ lw_all := lw_g (lw_at lw_m5 93 rfl) rfl
theorem q1220 : (Jvm.Cond.code ({ cls := "CatWitness", name := "night", desc := "()I" } : Jvm.MethodName) prog_1_method_47_code (2 : Nat) (Option.some Jvm.ClassFile.FieldType.int)) ∈ lw_all := lw_g (lw_at lw_m5 94 rfl) rfl
theorem q1222 : (Jvm.Cond.instanceMethod ({ cls := "CatWitness", name := "appeal", desc := "(I)I" } : Jvm.MethodName)) ∈ lw_all := lw_g (lw_at lw_m5 96 rfl) rfl
theorem q1223 : (Jvm.Cond.selects "CatWitness" ({ cls := "CatWitness", name := "appeal", desc := "(I)I" } : Jvm.MethodName) ({ cls := "CatWitness", name := "appeal", desc := "(I)I" } : Jvm.MethodName)) ∈ lw_all := lw_g (lw_at lw_m5 97 rfl) rfl
theorem q1224 : (Jvm.Cond.code ({ cls := "CatWitness", name := "appeal", desc := "(I)I" } : Jvm.MethodName) prog_1_method_48_code (3 : Nat) (Option.some Jvm.ClassFile.FieldType.int)) ∈ lw_all := lw_g (lw_at lw_m5 98 rfl) rfl
theorem q1226 : (Jvm.Cond.instanceMethod ({ cls := "CatWitness", name := "blame", desc := "(IZ)Z" } : Jvm.MethodName)) ∈ lw_all := lw_g (lw_at lw_m5 100 rfl) rfl
theorem q1227 : (Jvm.Cond.selects "CatWitness" ({ cls := "CatWitness", name := "blame", desc := "(IZ)Z" } : Jvm.MethodName) ({ cls := "CatWitness", name := "blame", desc := "(IZ)Z" } : Jvm.MethodName)) ∈ lw_all := lw_g (lw_at lw_m5 101 rfl) rfl
theorem q1228 : (Jvm.Cond.code ({ cls := "CatWitness", name := "blame", desc := "(IZ)Z" } : Jvm.MethodName) prog_1_method_49_code (3 : Nat) (Option.some Jvm.ClassFile.FieldType.boolean)) ∈ lw_all := lw_g (lw_at lw_m5 102 rfl) rfl
theorem q1230 : (Jvm.Cond.instanceMethod ({ cls := "CatWitness", name := "reread", desc := "(II)Z" } : Jvm.MethodName)) ∈ lw_all := lw_g (lw_at lw_m5 104 rfl) rfl
theorem q1231 : (Jvm.Cond.selects "CatWitness" ({ cls := "CatWitness", name := "reread", desc := "(II)Z" } : Jvm.MethodName) ({ cls := "CatWitness", name := "reread", desc := "(II)Z" } : Jvm.MethodName)) ∈ lw_all := lw_g (lw_at lw_m5 105 rfl) rfl
theorem q1232 : (Jvm.Cond.code ({ cls := "CatWitness", name := "reread", desc := "(II)Z" } : Jvm.MethodName) prog_1_method_50_code (3 : Nat) (Option.some Jvm.ClassFile.FieldType.boolean)) ∈ lw_all := lw_g (lw_at lw_m5 106 rfl) rfl
theorem q1233 : (Jvm.Cond.constantLong "CatWitness" (357 : Nat) (2 : Int64)) ∈ lw_all := lw_g (lw_at lw_m5 107 rfl) rfl
theorem q1235 : (Jvm.Cond.instanceMethod ({ cls := "CatWitness", name := "enact", desc := "(III)I" } : Jvm.MethodName)) ∈ lw_all := lw_g (lw_at lw_m5 109 rfl) rfl
theorem q1236 : (Jvm.Cond.selects "CatWitness" ({ cls := "CatWitness", name := "enact", desc := "(III)I" } : Jvm.MethodName) ({ cls := "CatWitness", name := "enact", desc := "(III)I" } : Jvm.MethodName)) ∈ lw_all := lw_g (lw_at lw_m5 110 rfl) rfl
theorem q1237 : (Jvm.Cond.code ({ cls := "CatWitness", name := "enact", desc := "(III)I" } : Jvm.MethodName) prog_1_method_51_code (5 : Nat) (Option.some Jvm.ClassFile.FieldType.int)) ∈ lw_all := lw_g (lw_at lw_m5 111 rfl) rfl
theorem q1238 : (Jvm.Cond.classLink "CatWitness" (279 : Nat) "CatWitness$Rule") ∈ lw_all := lw_g (lw_at lw_m5 112 rfl) rfl
theorem q1239 : (Jvm.Cond.methodLink "CatWitness" (359 : Nat) ({ cls := "CatWitness$Rule", name := "<init>", desc := "(IIIIIII)V" } : Jvm.MethodName)) ∈ lw_all := lw_g (lw_at lw_m5 113 rfl) rfl
theorem q1241 : (Jvm.Cond.instanceMethod ({ cls := "CatWitness", name := "repeal", desc := "(I)I" } : Jvm.MethodName)) ∈ lw_all := lw_g (lw_at lw_m5 115 rfl) rfl
theorem q1242 : (Jvm.Cond.selects "CatWitness" ({ cls := "CatWitness", name := "repeal", desc := "(I)I" } : Jvm.MethodName) ({ cls := "CatWitness", name := "repeal", desc := "(I)I" } : Jvm.MethodName)) ∈ lw_all := lw_g (lw_at lw_m5 116 rfl) rfl
theorem q1243 : (Jvm.Cond.code ({ cls := "CatWitness", name := "repeal", desc := "(I)I" } : Jvm.MethodName) prog_1_method_52_code (2 : Nat) (Option.some Jvm.ClassFile.FieldType.int)) ∈ lw_all := lw_g (lw_at lw_m5 117 rfl) rfl
theorem q1245 : (Jvm.Cond.instanceMethod ({ cls := "CatWitness", name := "strain", desc := "(II)Z" } : Jvm.MethodName)) ∈ lw_all := lw_g (lw_at lw_m5 119 rfl) rfl
theorem q1246 : (Jvm.Cond.selects "CatWitness" ({ cls := "CatWitness", name := "strain", desc := "(II)Z" } : Jvm.MethodName) ({ cls := "CatWitness", name := "strain", desc := "(II)Z" } : Jvm.MethodName)) ∈ lw_all := lw_g (lw_at lw_m5 120 rfl) rfl
theorem q1247 : (Jvm.Cond.code ({ cls := "CatWitness", name := "strain", desc := "(II)Z" } : Jvm.MethodName) prog_1_method_53_code (3 : Nat) (Option.some Jvm.ClassFile.FieldType.boolean)) ∈ lw_all := lw_g (lw_at lw_m5 121 rfl) rfl
theorem q1248 : (Jvm.Cond.constantLong "CatWitness" (362 : Nat) (16 : Int64)) ∈ lw_all := lw_g (lw_at lw_m5 122 rfl) rfl
theorem q1250 : (Jvm.Cond.instanceMethod ({ cls := "CatWitness", name := "cue", desc := "(I)I" } : Jvm.MethodName)) ∈ lw_all := lw_g (lw_at lw_m5 124 rfl) rfl
theorem q1251 : (Jvm.Cond.selects "CatWitness" ({ cls := "CatWitness", name := "cue", desc := "(I)I" } : Jvm.MethodName) ({ cls := "CatWitness", name := "cue", desc := "(I)I" } : Jvm.MethodName)) ∈ lw_all := lw_g (lw_at lw_m5 125 rfl) rfl
theorem q1252 : (Jvm.Cond.code ({ cls := "CatWitness", name := "cue", desc := "(I)I" } : Jvm.MethodName) prog_1_method_55_code (2 : Nat) (Option.some Jvm.ClassFile.FieldType.int)) ∈ lw_all := lw_g (lw_at lw_m5 126 rfl) rfl
theorem q1253 : (Jvm.Cond.methodLink "CatWitness" (364 : Nat) ({ cls := "CatWitness$Court", name := "showsNow", desc := "(I)I" } : Jvm.MethodName)) ∈ lw_all := lw_g (lw_at lw_m5 127 rfl) rfl
theorem q1254 : (Jvm.Cond.methodLink "CatWitness" (367 : Nat) ({ cls := "CatWitness", name := "answerCue", desc := "(I)I" } : Jvm.MethodName)) ∈ lw_all := lw_g (lw_at lw_m5 128 rfl) rfl
theorem q1255 : (Jvm.Cond.privateMethod ({ cls := "CatWitness", name := "answerCue", desc := "(I)I" } : Jvm.MethodName)) ∈ lw_tbl := lw_at lw_m5 129 rfl
theorem q1256 : (Jvm.Cond.instanceMethod ({ cls := "CatWitness", name := "answerCue", desc := "(I)I" } : Jvm.MethodName)) ∈ lw_all := lw_g (lw_at lw_m5 130 rfl) rfl
theorem q1257 : (Jvm.Cond.code ({ cls := "CatWitness", name := "answerCue", desc := "(I)I" } : Jvm.MethodName) prog_1_method_54_code (2 : Nat) (Option.some Jvm.ClassFile.FieldType.int)) ∈ lw_all := lw_g (lw_at lw_m5 131 rfl) rfl
theorem q1259 : (Jvm.Cond.instanceMethod ({ cls := "CatWitness", name := "cueAt", desc := "(II)I" } : Jvm.MethodName)) ∈ lw_all := lw_g (lw_at lw_m5 133 rfl) rfl
theorem q1260 : (Jvm.Cond.selects "CatWitness" ({ cls := "CatWitness", name := "cueAt", desc := "(II)I" } : Jvm.MethodName) ({ cls := "CatWitness", name := "cueAt", desc := "(II)I" } : Jvm.MethodName)) ∈ lw_all := lw_g (lw_at lw_m5 134 rfl) rfl
theorem q1261 : (Jvm.Cond.code ({ cls := "CatWitness", name := "cueAt", desc := "(II)I" } : Jvm.MethodName) prog_1_method_56_code (3 : Nat) (Option.some Jvm.ClassFile.FieldType.int)) ∈ lw_all := lw_g (lw_at lw_m5 135 rfl) rfl
theorem q1262 : (Jvm.Cond.constantLong "CatWitness" (370 : Nat) (9 : Int64)) ∈ lw_all := lw_g (lw_at lw_m5 136 rfl) rfl
theorem q1263 : (Jvm.Cond.methodLink "CatWitness" (372 : Nat) ({ cls := "CatWitness$Court", name := "showsAt", desc := "(II)I" } : Jvm.MethodName)) ∈ lw_all := lw_g (lw_at lw_m5 137 rfl) rfl
theorem q1265 : (Jvm.Cond.instanceMethod ({ cls := "CatWitness", name := "bears", desc := "(I)I" } : Jvm.MethodName)) ∈ lw_all := lw_g (lw_at lw_m5 139 rfl) rfl
theorem q1266 : (Jvm.Cond.selects "CatWitness" ({ cls := "CatWitness", name := "bears", desc := "(I)I" } : Jvm.MethodName) ({ cls := "CatWitness", name := "bears", desc := "(I)I" } : Jvm.MethodName)) ∈ lw_all := lw_g (lw_at lw_m5 140 rfl) rfl
theorem q1267 : (Jvm.Cond.code ({ cls := "CatWitness", name := "bears", desc := "(I)I" } : Jvm.MethodName) prog_1_method_57_code (2 : Nat) (Option.some Jvm.ClassFile.FieldType.int)) ∈ lw_all := lw_g (lw_at lw_m5 141 rfl) rfl
theorem q1268 : (Jvm.Cond.methodLink "CatWitness" (376 : Nat) ({ cls := "CatWitness$Court", name := "first", desc := "(ZIII)I" } : Jvm.MethodName)) ∈ lw_all := lw_g (lw_at lw_m5 142 rfl) rfl
theorem q1270 : (Jvm.Cond.instanceMethod ({ cls := "CatWitness", name := "bearing", desc := "(I)I" } : Jvm.MethodName)) ∈ lw_all := lw_g (lw_at lw_m5 144 rfl) rfl
theorem q1271 : (Jvm.Cond.selects "CatWitness" ({ cls := "CatWitness", name := "bearing", desc := "(I)I" } : Jvm.MethodName) ({ cls := "CatWitness", name := "bearing", desc := "(I)I" } : Jvm.MethodName)) ∈ lw_all := lw_g (lw_at lw_m5 145 rfl) rfl
theorem q1272 : (Jvm.Cond.code ({ cls := "CatWitness", name := "bearing", desc := "(I)I" } : Jvm.MethodName) prog_1_method_58_code (4 : Nat) (Option.some Jvm.ClassFile.FieldType.int)) ∈ lw_all := lw_g (lw_at lw_m5 146 rfl) rfl
theorem q1273 : (Jvm.Cond.methodLink "CatWitness" (380 : Nat) ({ cls := "CatWitness$Rule", name := "bears", desc := "(ZIII)Z" } : Jvm.MethodName)) ∈ lw_all := lw_g (lw_at lw_m5 147 rfl) rfl
theorem q1275 : (Jvm.Cond.instanceMethod ({ cls := "CatWitness", name := "shown", desc := "(I)I" } : Jvm.MethodName)) ∈ lw_all := lw_g (lw_at lw_m5 149 rfl) rfl
theorem q1276 : (Jvm.Cond.selects "CatWitness" ({ cls := "CatWitness", name := "shown", desc := "(I)I" } : Jvm.MethodName) ({ cls := "CatWitness", name := "shown", desc := "(I)I" } : Jvm.MethodName)) ∈ lw_all := lw_g (lw_at lw_m5 150 rfl) rfl
theorem q1277 : (Jvm.Cond.code ({ cls := "CatWitness", name := "shown", desc := "(I)I" } : Jvm.MethodName) prog_1_method_59_code (4 : Nat) (Option.some Jvm.ClassFile.FieldType.int)) ∈ lw_all := lw_g (lw_at lw_m5 151 rfl) rfl
theorem q1279 : (Jvm.Cond.instanceMethod ({ cls := "CatWitness", name := "freeIn", desc := "(I)I" } : Jvm.MethodName)) ∈ lw_all := lw_g (lw_at lw_m5 153 rfl) rfl
theorem q1280 : (Jvm.Cond.selects "CatWitness" ({ cls := "CatWitness", name := "freeIn", desc := "(I)I" } : Jvm.MethodName) ({ cls := "CatWitness", name := "freeIn", desc := "(I)I" } : Jvm.MethodName)) ∈ lw_all := lw_g (lw_at lw_m5 154 rfl) rfl
theorem q1281 : (Jvm.Cond.code ({ cls := "CatWitness", name := "freeIn", desc := "(I)I" } : Jvm.MethodName) prog_1_method_60_code (3 : Nat) (Option.some Jvm.ClassFile.FieldType.int)) ∈ lw_all := lw_g (lw_at lw_m5 155 rfl) rfl
theorem q1282 : (Jvm.Cond.constantLong "CatWitness" (384 : Nat) (40 : Int64)) ∈ lw_all := lw_g (lw_at lw_m5 156 rfl) rfl
theorem q1284 : (Jvm.Cond.instanceMethod ({ cls := "CatWitness", name := "judgedIn", desc := "(I)I" } : Jvm.MethodName)) ∈ lw_all := lw_g (lw_at lw_m5 158 rfl) rfl
theorem q1285 : (Jvm.Cond.selects "CatWitness" ({ cls := "CatWitness", name := "judgedIn", desc := "(I)I" } : Jvm.MethodName) ({ cls := "CatWitness", name := "judgedIn", desc := "(I)I" } : Jvm.MethodName)) ∈ lw_all := lw_g (lw_at lw_m5 159 rfl) rfl
theorem q1286 : (Jvm.Cond.code ({ cls := "CatWitness", name := "judgedIn", desc := "(I)I" } : Jvm.MethodName) prog_1_method_61_code (3 : Nat) (Option.some Jvm.ClassFile.FieldType.int)) ∈ lw_all := lw_g (lw_at lw_m5 160 rfl) rfl
theorem q1288 : (Jvm.Cond.instanceMethod ({ cls := "CatWitness", name := "fits", desc := "(II)I" } : Jvm.MethodName)) ∈ lw_all := lw_g (lw_at lw_m5 162 rfl) rfl
theorem q1289 : (Jvm.Cond.selects "CatWitness" ({ cls := "CatWitness", name := "fits", desc := "(II)I" } : Jvm.MethodName) ({ cls := "CatWitness", name := "fits", desc := "(II)I" } : Jvm.MethodName)) ∈ lw_all := lw_g (lw_at lw_m5 163 rfl) rfl
theorem q1290 : (Jvm.Cond.codeWith ({ cls := "CatWitness", name := "fits", desc := "(II)I" } : Jvm.MethodName) prog_1_method_65_code (4 : Nat) (Option.some Jvm.ClassFile.FieldType.int) [((5 : Nat), (15 : Nat), (16 : Nat), (41 : Nat))]) ∈ lw_all := lw_g (lw_at lw_m5 164 rfl) rfl
theorem q1291 : (Jvm.Cond.methodLink "CatWitness" (399 : Nat) ({ cls := "CatWitness", name := "laysFits", desc := "(II)V" } : Jvm.MethodName)) ∈ lw_all := lw_g (lw_at lw_m5 165 rfl) rfl
theorem q1292 : (Jvm.Cond.privateMethod ({ cls := "CatWitness", name := "laysFits", desc := "(II)V" } : Jvm.MethodName)) ∈ lw_tbl := lw_at lw_m5 166 rfl
theorem q1293 : (Jvm.Cond.instanceMethod ({ cls := "CatWitness", name := "laysFits", desc := "(II)V" } : Jvm.MethodName)) ∈ lw_all := lw_g (lw_at lw_m5 167 rfl) rfl
theorem q1294 : (Jvm.Cond.code ({ cls := "CatWitness", name := "laysFits", desc := "(II)V" } : Jvm.MethodName) prog_1_method_62_code (7 : Nat) (Option.none : Option Jvm.ClassFile.FieldType)) ∈ lw_all := lw_g (lw_at lw_m5 168 rfl) rfl
theorem q1295 : (Jvm.Cond.constantLong "CatWitness" (386 : Nat) (20 : Int64)) ∈ lw_all := lw_g (lw_at lw_m5 169 rfl) rfl
theorem q1296 : (Jvm.Cond.constantLong "CatWitness" (388 : Nat) (3 : Int64)) ∈ lw_all := lw_g (lw_at lw_m5 170 rfl) rfl
theorem q1297 : (Jvm.Cond.methodLink "CatWitness" (390 : Nat) ({ cls := "CatWitness", name := "sizeOf", desc := "(Ljava/lang/Object;)I" } : Jvm.MethodName)) ∈ lw_all := lw_g (lw_at lw_m5 171 rfl) rfl
theorem q1298 : (Jvm.Cond.static ({ cls := "CatWitness", name := "sizeOf", desc := "(Ljava/lang/Object;)I" } : Jvm.MethodName)) ∈ lw_all := lw_g (lw_at lw_m5 172 rfl) rfl
theorem q1299 : (Jvm.Cond.code ({ cls := "CatWitness", name := "sizeOf", desc := "(Ljava/lang/Object;)I" } : Jvm.MethodName) prog_1_method_3_code (2 : Nat) (Option.some Jvm.ClassFile.FieldType.int)) ∈ lw_all := lw_g (lw_at lw_m5 173 rfl) rfl
theorem q1300 : (Jvm.Cond.methodLink "CatWitness" (393 : Nat) ({ cls := "CatWitness", name := "shownIf", desc := "(III)I" } : Jvm.MethodName)) ∈ lw_all := lw_g (lw_at lw_m5 174 rfl) rfl
theorem q1301 : (Jvm.Cond.privateMethod ({ cls := "CatWitness", name := "shownIf", desc := "(III)I" } : Jvm.MethodName)) ∈ lw_tbl := lw_at lw_m5 175 rfl
theorem q1302 : (Jvm.Cond.instanceMethod ({ cls := "CatWitness", name := "shownIf", desc := "(III)I" } : Jvm.MethodName)) ∈ lw_all := lw_g (lw_at lw_m5 176 rfl) rfl
theorem q1303 : (Jvm.Cond.code ({ cls := "CatWitness", name := "shownIf", desc := "(III)I" } : Jvm.MethodName) prog_1_method_63_code (4 : Nat) (Option.some Jvm.ClassFile.FieldType.int)) ∈ lw_all := lw_g (lw_at lw_m5 177 rfl) rfl
theorem q1304 : (Jvm.Cond.methodLink "CatWitness" (397 : Nat) ({ cls := "CatWitness$Court", name := "shows", desc := "(ZIII)I" } : Jvm.MethodName)) ∈ lw_all := lw_g (lw_at lw_m5 178 rfl) rfl
theorem q1305 : (Jvm.Cond.methodLink "CatWitness" (403 : Nat) ({ cls := "CatWitness", name := "ways", desc := "()I" } : Jvm.MethodName)) ∈ lw_all := lw_g (lw_at lw_m5 179 rfl) rfl
theorem q1306 : (Jvm.Cond.privateMethod ({ cls := "CatWitness", name := "ways", desc := "()I" } : Jvm.MethodName)) ∈ lw_tbl := lw_at lw_m5 180 rfl
theorem q1307 : (Jvm.Cond.instanceMethod ({ cls := "CatWitness", name := "ways", desc := "()I" } : Jvm.MethodName)) ∈ lw_all := lw_g (lw_at lw_m5 181 rfl) rfl
theorem q1308 : (Jvm.Cond.code ({ cls := "CatWitness", name := "ways", desc := "()I" } : Jvm.MethodName) prog_1_method_64_code (3 : Nat) (Option.some Jvm.ClassFile.FieldType.int)) ∈ lw_all := lw_g (lw_at lw_m5 182 rfl) rfl
theorem q1310 : (Jvm.Cond.instanceMethod ({ cls := "CatWitness", name := "sure", desc := "(III)I" } : Jvm.MethodName)) ∈ lw_all := lw_g (lw_at lw_m5 184 rfl) rfl
theorem q1311 : (Jvm.Cond.selects "CatWitness" ({ cls := "CatWitness", name := "sure", desc := "(III)I" } : Jvm.MethodName) ({ cls := "CatWitness", name := "sure", desc := "(III)I" } : Jvm.MethodName)) ∈ lw_all := lw_g (lw_at lw_m5 185 rfl) rfl
theorem q1312 : (Jvm.Cond.codeWith ({ cls := "CatWitness", name := "sure", desc := "(III)I" } : Jvm.MethodName) prog_1_method_66_code (5 : Nat) (Option.some Jvm.ClassFile.FieldType.int) [((5 : Nat), (55 : Nat), (56 : Nat), (41 : Nat))]) ∈ lw_all := lw_g (lw_at lw_m5 186 rfl) rfl
theorem q1314 : (Jvm.Cond.instanceMethod ({ cls := "CatWitness", name := "odds", desc := "(III)Z" } : Jvm.MethodName)) ∈ lw_all := lw_g (lw_at lw_m5 188 rfl) rfl
theorem q1315 : (Jvm.Cond.selects "CatWitness" ({ cls := "CatWitness", name := "odds", desc := "(III)Z" } : Jvm.MethodName) ({ cls := "CatWitness", name := "odds", desc := "(III)Z" } : Jvm.MethodName)) ∈ lw_all := lw_g (lw_at lw_m5 189 rfl) rfl
theorem q1316 : (Jvm.Cond.codeWith ({ cls := "CatWitness", name := "odds", desc := "(III)Z" } : Jvm.MethodName) prog_1_method_67_code (5 : Nat) (Option.some Jvm.ClassFile.FieldType.boolean) [((5 : Nat), (65 : Nat), (66 : Nat), (41 : Nat))]) ∈ lw_all := lw_g (lw_at lw_m5 190 rfl) rfl
theorem q1317 : (Jvm.Cond.methodLink "CatWitness" (406 : Nat) ({ cls := "CatWitness", name := "fraction", desc := "(JJ)I" } : Jvm.MethodName)) ∈ lw_all := lw_g (lw_at lw_m5 191 rfl) rfl
theorem q1318 : (Jvm.Cond.privateMethod ({ cls := "CatWitness", name := "fraction", desc := "(JJ)I" } : Jvm.MethodName)) ∈ lw_tbl := lw_at lw_m5 192 rfl
theorem q1319 : (Jvm.Cond.instanceMethod ({ cls := "CatWitness", name := "fraction", desc := "(JJ)I" } : Jvm.MethodName)) ∈ lw_all := lw_g (lw_at lw_m5 193 rfl) rfl
theorem q1320 : (Jvm.Cond.code ({ cls := "CatWitness", name := "fraction", desc := "(JJ)I" } : Jvm.MethodName) prog_1_method_15_code (11 : Nat) (Option.some Jvm.ClassFile.FieldType.int)) ∈ lw_all := lw_g (lw_at lw_m5 194 rfl) rfl
theorem q1321 : (Jvm.Cond.methodLink "CatWitness" (104 : Nat) ({ cls := "java/lang/Math", name := "abs", desc := "(J)J" } : Jvm.MethodName)) ∈ lw_all := lw_g (lw_at lw_m5 195 rfl) rfl
theorem q1324 : (Jvm.Cond.methodLink "CatWitness" (110 : Nat) ({ cls := "java/lang/Long", name := "signum", desc := "(J)I" } : Jvm.MethodName)) ∈ lw_all := lw_g (lw_at lw_m5 198 rfl) rfl
theorem q1328 : (Jvm.Cond.instanceMethod ({ cls := "CatWitness", name := "ask", desc := "(III)I" } : Jvm.MethodName)) ∈ lw_all := lw_g (lw_at lw_m5 202 rfl) rfl
theorem q1329 : (Jvm.Cond.selects "CatWitness" ({ cls := "CatWitness", name := "ask", desc := "(III)I" } : Jvm.MethodName) ({ cls := "CatWitness", name := "ask", desc := "(III)I" } : Jvm.MethodName)) ∈ lw_all := lw_g (lw_at lw_m5 203 rfl) rfl
theorem q1330 : (Jvm.Cond.codeWith ({ cls := "CatWitness", name := "ask", desc := "(III)I" } : Jvm.MethodName) prog_1_method_68_code (6 : Nat) (Option.some Jvm.ClassFile.FieldType.int) [((5 : Nat), (110 : Nat), (125 : Nat), (41 : Nat)), ((111 : Nat), (124 : Nat), (125 : Nat), (41 : Nat))]) ∈ lw_all := lw_g (lw_at lw_m5 204 rfl) rfl
theorem q1332 : (Jvm.Cond.instanceMethod ({ cls := "CatWitness", name := "least", desc := "(II)I" } : Jvm.MethodName)) ∈ lw_all := lw_g (lw_at lw_m5 206 rfl) rfl
theorem q1333 : (Jvm.Cond.selects "CatWitness" ({ cls := "CatWitness", name := "least", desc := "(II)I" } : Jvm.MethodName) ({ cls := "CatWitness", name := "least", desc := "(II)I" } : Jvm.MethodName)) ∈ lw_all := lw_g (lw_at lw_m5 207 rfl) rfl
theorem q1334 : (Jvm.Cond.code ({ cls := "CatWitness", name := "least", desc := "(II)I" } : Jvm.MethodName) prog_1_method_70_code (3 : Nat) (Option.some Jvm.ClassFile.FieldType.int)) ∈ lw_all := lw_g (lw_at lw_m5 208 rfl) rfl
theorem q1335 : (Jvm.Cond.methodLink "CatWitness" (419 : Nat) ({ cls := "CatWitness", name := "leastOf", desc := "(II)I" } : Jvm.MethodName)) ∈ lw_all := lw_g (lw_at lw_m5 209 rfl) rfl
theorem q1336 : (Jvm.Cond.privateMethod ({ cls := "CatWitness", name := "leastOf", desc := "(II)I" } : Jvm.MethodName)) ∈ lw_tbl := lw_at lw_m5 210 rfl
theorem q1337 : (Jvm.Cond.instanceMethod ({ cls := "CatWitness", name := "leastOf", desc := "(II)I" } : Jvm.MethodName)) ∈ lw_all := lw_g (lw_at lw_m5 211 rfl) rfl
theorem q1338 : (Jvm.Cond.code ({ cls := "CatWitness", name := "leastOf", desc := "(II)I" } : Jvm.MethodName) prog_1_method_69_code (7 : Nat) (Option.some Jvm.ClassFile.FieldType.int)) ∈ lw_all := lw_g (lw_at lw_m5 212 rfl) rfl
theorem q1339 : (Jvm.Cond.methodLink "CatWitness" (410 : Nat) ({ cls := "CatWitness$Court", name := "allSmells", desc := "()I" } : Jvm.MethodName)) ∈ lw_all := lw_g (lw_at lw_m5 213 rfl) rfl
theorem q1344 : (Jvm.Cond.instanceMethod ({ cls := "CatWitness", name := "leastBy", desc := "(III)I" } : Jvm.MethodName)) ∈ lw_all := lw_g (lw_at lw_m5 218 rfl) rfl
theorem q1345 : (Jvm.Cond.selects "CatWitness" ({ cls := "CatWitness", name := "leastBy", desc := "(III)I" } : Jvm.MethodName) ({ cls := "CatWitness", name := "leastBy", desc := "(III)I" } : Jvm.MethodName)) ∈ lw_all := lw_g (lw_at lw_m5 219 rfl) rfl
theorem q1346 : (Jvm.Cond.code ({ cls := "CatWitness", name := "leastBy", desc := "(III)I" } : Jvm.MethodName) prog_1_method_71_code (4 : Nat) (Option.some Jvm.ClassFile.FieldType.int)) ∈ lw_all := lw_g (lw_at lw_m5 220 rfl) rfl
theorem q1348 : (Jvm.Cond.instanceMethod ({ cls := "CatWitness", name := "reach", desc := "(I)I" } : Jvm.MethodName)) ∈ lw_all := lw_g (lw_at lw_m5 222 rfl) rfl
theorem q1349 : (Jvm.Cond.selects "CatWitness" ({ cls := "CatWitness", name := "reach", desc := "(I)I" } : Jvm.MethodName) ({ cls := "CatWitness", name := "reach", desc := "(I)I" } : Jvm.MethodName)) ∈ lw_all := lw_g (lw_at lw_m5 223 rfl) rfl
theorem q1350 : (Jvm.Cond.code ({ cls := "CatWitness", name := "reach", desc := "(I)I" } : Jvm.MethodName) prog_1_method_73_code (2 : Nat) (Option.some Jvm.ClassFile.FieldType.int)) ∈ lw_all := lw_g (lw_at lw_m5 224 rfl) rfl
theorem q1351 : (Jvm.Cond.methodLink "CatWitness" (428 : Nat) ({ cls := "CatWitness", name := "laysWorlds", desc := "()V" } : Jvm.MethodName)) ∈ lw_all := lw_g (lw_at lw_m5 225 rfl) rfl
theorem q1352 : (Jvm.Cond.privateMethod ({ cls := "CatWitness", name := "laysWorlds", desc := "()V" } : Jvm.MethodName)) ∈ lw_tbl := lw_at lw_m5 226 rfl
theorem q1353 : (Jvm.Cond.instanceMethod ({ cls := "CatWitness", name := "laysWorlds", desc := "()V" } : Jvm.MethodName)) ∈ lw_all := lw_g (lw_at lw_m5 227 rfl) rfl
theorem q1354 : (Jvm.Cond.code ({ cls := "CatWitness", name := "laysWorlds", desc := "()V" } : Jvm.MethodName) prog_1_method_72_code (7 : Nat) (Option.none : Option Jvm.ClassFile.FieldType)) ∈ lw_all := lw_g (lw_at lw_m5 228 rfl) rfl
theorem q1355 : (Jvm.Cond.methodLink "CatWitness" (422 : Nat) ({ cls := "java/util/Arrays", name := "fill", desc := "([II)V" } : Jvm.MethodName)) ∈ lw_all := lw_g (lw_at lw_m5 229 rfl) rfl
theorem q1359 : (Jvm.Cond.instanceMethod ({ cls := "CatWitness", name := "idle", desc := "()I" } : Jvm.MethodName)) ∈ lw_all := lw_g (lw_at lw_m5 233 rfl) rfl
theorem q1360 : (Jvm.Cond.selects "CatWitness" ({ cls := "CatWitness", name := "idle", desc := "()I" } : Jvm.MethodName) ({ cls := "CatWitness", name := "idle", desc := "()I" } : Jvm.MethodName)) ∈ lw_all := lw_g (lw_at lw_m5 234 rfl) rfl
theorem q1361 : (Jvm.Cond.code ({ cls := "CatWitness", name := "idle", desc := "()I" } : Jvm.MethodName) prog_1_method_74_code (3 : Nat) (Option.some Jvm.ClassFile.FieldType.int)) ∈ lw_all := lw_g (lw_at lw_m5 235 rfl) rfl
theorem q1363 : (Jvm.Cond.instanceMethod ({ cls := "CatWitness", name := "tells", desc := "(I)Z" } : Jvm.MethodName)) ∈ lw_all := lw_g (lw_at lw_m5 237 rfl) rfl
theorem q1364 : (Jvm.Cond.selects "CatWitness" ({ cls := "CatWitness", name := "tells", desc := "(I)Z" } : Jvm.MethodName) ({ cls := "CatWitness", name := "tells", desc := "(I)Z" } : Jvm.MethodName)) ∈ lw_all := lw_g (lw_at lw_m5 238 rfl) rfl
theorem q1365 : (Jvm.Cond.code ({ cls := "CatWitness", name := "tells", desc := "(I)Z" } : Jvm.MethodName) prog_1_method_75_code (2 : Nat) (Option.some Jvm.ClassFile.FieldType.boolean)) ∈ lw_all := lw_g (lw_at lw_m5 239 rfl) rfl
theorem q1367 : (Jvm.Cond.instanceMethod ({ cls := "CatWitness", name := "mute", desc := "()I" } : Jvm.MethodName)) ∈ lw_all := lw_g (lw_at lw_m6 1 rfl) rfl
theorem q1368 : (Jvm.Cond.selects "CatWitness" ({ cls := "CatWitness", name := "mute", desc := "()I" } : Jvm.MethodName) ({ cls := "CatWitness", name := "mute", desc := "()I" } : Jvm.MethodName)) ∈ lw_all := lw_g (lw_at lw_m6 2 rfl) rfl
theorem q1369 : (Jvm.Cond.code ({ cls := "CatWitness", name := "mute", desc := "()I" } : Jvm.MethodName) prog_1_method_76_code (1 : Nat) (Option.some Jvm.ClassFile.FieldType.int)) ∈ lw_all := lw_g (lw_at lw_m6 3 rfl) rfl
theorem q1371 : (Jvm.Cond.instanceMethod ({ cls := "CatWitness", name := "verdict", desc := "(I)Z" } : Jvm.MethodName)) ∈ lw_all := lw_g (lw_at lw_m6 5 rfl) rfl
theorem q1372 : (Jvm.Cond.selects "CatWitness" ({ cls := "CatWitness", name := "verdict", desc := "(I)Z" } : Jvm.MethodName) ({ cls := "CatWitness", name := "verdict", desc := "(I)Z" } : Jvm.MethodName)) ∈ lw_all := lw_g (lw_at lw_m6 6 rfl) rfl
theorem q1373 : (Jvm.Cond.code ({ cls := "CatWitness", name := "verdict", desc := "(I)Z" } : Jvm.MethodName) prog_1_method_79_code (2 : Nat) (Option.some Jvm.ClassFile.FieldType.boolean)) ∈ lw_all := lw_g (lw_at lw_m6 7 rfl) rfl
theorem q1374 : (Jvm.Cond.methodLink "CatWitness" (434 : Nat) ({ cls := "CatWitness", name := "verdicts", desc := "(I)J" } : Jvm.MethodName)) ∈ lw_all := lw_g (lw_at lw_m6 8 rfl) rfl
theorem q1375 : (Jvm.Cond.privateMethod ({ cls := "CatWitness", name := "verdicts", desc := "(I)J" } : Jvm.MethodName)) ∈ lw_tbl := lw_at lw_m6 9 rfl
theorem q1376 : (Jvm.Cond.instanceMethod ({ cls := "CatWitness", name := "verdicts", desc := "(I)J" } : Jvm.MethodName)) ∈ lw_all := lw_g (lw_at lw_m6 10 rfl) rfl
theorem q1377 : (Jvm.Cond.code ({ cls := "CatWitness", name := "verdicts", desc := "(I)J" } : Jvm.MethodName) prog_1_method_77_code (10 : Nat) (Option.some Jvm.ClassFile.FieldType.long)) ∈ lw_all := lw_g (lw_at lw_m6 11 rfl) rfl
theorem q1378 : (Jvm.Cond.methodLink "CatWitness" (431 : Nat) ({ cls := "CatWitness", name := "has", desc := "(II)Z" } : Jvm.MethodName)) ∈ lw_all := lw_g (lw_at lw_m6 12 rfl) rfl
theorem q1379 : (Jvm.Cond.methodLink "CatWitness" (438 : Nat) ({ cls := "CatWitness", name := "sixteenths", desc := "(I)J" } : Jvm.MethodName)) ∈ lw_all := lw_g (lw_at lw_m6 13 rfl) rfl
theorem q1380 : (Jvm.Cond.static ({ cls := "CatWitness", name := "sixteenths", desc := "(I)J" } : Jvm.MethodName)) ∈ lw_all := lw_g (lw_at lw_m6 14 rfl) rfl
theorem q1381 : (Jvm.Cond.code ({ cls := "CatWitness", name := "sixteenths", desc := "(I)J" } : Jvm.MethodName) prog_1_method_78_code (4 : Nat) (Option.some Jvm.ClassFile.FieldType.long)) ∈ lw_all := lw_g (lw_at lw_m6 15 rfl) rfl
theorem q1383 : (Jvm.Cond.instanceMethod ({ cls := "CatWitness", name := "sworn", desc := "(I)I" } : Jvm.MethodName)) ∈ lw_all := lw_g (lw_at lw_m6 17 rfl) rfl
theorem q1384 : (Jvm.Cond.selects "CatWitness" ({ cls := "CatWitness", name := "sworn", desc := "(I)I" } : Jvm.MethodName) ({ cls := "CatWitness", name := "sworn", desc := "(I)I" } : Jvm.MethodName)) ∈ lw_all := lw_g (lw_at lw_m6 18 rfl) rfl
theorem q1385 : (Jvm.Cond.code ({ cls := "CatWitness", name := "sworn", desc := "(I)I" } : Jvm.MethodName) prog_1_method_80_code (4 : Nat) (Option.some Jvm.ClassFile.FieldType.int)) ∈ lw_all := lw_g (lw_at lw_m6 19 rfl) rfl
theorem q1386 : (Jvm.Cond.constantLong "CatWitness" (441 : Nat) (6 : Int64)) ∈ lw_all := lw_g (lw_at lw_m6 20 rfl) rfl
theorem q1388 : (Jvm.Cond.instanceMethod ({ cls := "CatWitness", name := "power", desc := "(I)Z" } : Jvm.MethodName)) ∈ lw_all := lw_g (lw_at lw_m6 22 rfl) rfl
theorem q1389 : (Jvm.Cond.selects "CatWitness" ({ cls := "CatWitness", name := "power", desc := "(I)Z" } : Jvm.MethodName) ({ cls := "CatWitness", name := "power", desc := "(I)Z" } : Jvm.MethodName)) ∈ lw_all := lw_g (lw_at lw_m6 23 rfl) rfl
theorem q1390 : (Jvm.Cond.code ({ cls := "CatWitness", name := "power", desc := "(I)Z" } : Jvm.MethodName) prog_1_method_83_code (2 : Nat) (Option.some Jvm.ClassFile.FieldType.boolean)) ∈ lw_all := lw_g (lw_at lw_m6 24 rfl) rfl
theorem q1391 : (Jvm.Cond.methodLink "CatWitness" (449 : Nat) ({ cls := "CatWitness", name := "pivots", desc := "(III)I" } : Jvm.MethodName)) ∈ lw_all := lw_g (lw_at lw_m6 25 rfl) rfl
theorem q1392 : (Jvm.Cond.privateMethod ({ cls := "CatWitness", name := "pivots", desc := "(III)I" } : Jvm.MethodName)) ∈ lw_tbl := lw_at lw_m6 26 rfl
theorem q1393 : (Jvm.Cond.instanceMethod ({ cls := "CatWitness", name := "pivots", desc := "(III)I" } : Jvm.MethodName)) ∈ lw_all := lw_g (lw_at lw_m6 27 rfl) rfl
theorem q1394 : (Jvm.Cond.code ({ cls := "CatWitness", name := "pivots", desc := "(III)I" } : Jvm.MethodName) prog_1_method_81_code (7 : Nat) (Option.some Jvm.ClassFile.FieldType.int)) ∈ lw_all := lw_g (lw_at lw_m6 28 rfl) rfl
theorem q1395 : (Jvm.Cond.methodLink "CatWitness" (446 : Nat) ({ cls := "CatWitness", name := "orders", desc := "(I)I" } : Jvm.MethodName)) ∈ lw_all := lw_g (lw_at lw_m6 29 rfl) rfl
theorem q1396 : (Jvm.Cond.static ({ cls := "CatWitness", name := "orders", desc := "(I)I" } : Jvm.MethodName)) ∈ lw_all := lw_g (lw_at lw_m6 30 rfl) rfl
theorem q1397 : (Jvm.Cond.code ({ cls := "CatWitness", name := "orders", desc := "(I)I" } : Jvm.MethodName) prog_1_method_82_code (1 : Nat) (Option.some Jvm.ClassFile.FieldType.int)) ∈ lw_all := lw_g (lw_at lw_m6 31 rfl) rfl
theorem q1399 : (Jvm.Cond.instanceMethod ({ cls := "CatWitness", name := "clash", desc := "()I" } : Jvm.MethodName)) ∈ lw_all := lw_g (lw_at lw_m6 33 rfl) rfl
theorem q1400 : (Jvm.Cond.selects "CatWitness" ({ cls := "CatWitness", name := "clash", desc := "()I" } : Jvm.MethodName) ({ cls := "CatWitness", name := "clash", desc := "()I" } : Jvm.MethodName)) ∈ lw_all := lw_g (lw_at lw_m6 34 rfl) rfl
theorem q1401 : (Jvm.Cond.code ({ cls := "CatWitness", name := "clash", desc := "()I" } : Jvm.MethodName) prog_1_method_86_code (1 : Nat) (Option.some Jvm.ClassFile.FieldType.int)) ∈ lw_all := lw_g (lw_at lw_m6 35 rfl) rfl
theorem q1402 : (Jvm.Cond.methodLink "CatWitness" (458 : Nat) ({ cls := "CatWitness", name := "clashing", desc := "()I" } : Jvm.MethodName)) ∈ lw_all := lw_g (lw_at lw_m6 36 rfl) rfl
theorem q1403 : (Jvm.Cond.privateMethod ({ cls := "CatWitness", name := "clashing", desc := "()I" } : Jvm.MethodName)) ∈ lw_tbl := lw_at lw_m6 37 rfl
theorem q1404 : (Jvm.Cond.instanceMethod ({ cls := "CatWitness", name := "clashing", desc := "()I" } : Jvm.MethodName)) ∈ lw_all := lw_g (lw_at lw_m6 38 rfl) rfl
theorem q1405 : (Jvm.Cond.code ({ cls := "CatWitness", name := "clashing", desc := "()I" } : Jvm.MethodName) prog_1_method_85_code (3 : Nat) (Option.some Jvm.ClassFile.FieldType.int)) ∈ lw_all := lw_g (lw_at lw_m6 39 rfl) rfl
theorem q1406 : (Jvm.Cond.methodLink "CatWitness" (455 : Nat) ({ cls := "CatWitness", name := "meant", desc := "(I)I" } : Jvm.MethodName)) ∈ lw_all := lw_g (lw_at lw_m6 40 rfl) rfl
theorem q1407 : (Jvm.Cond.privateMethod ({ cls := "CatWitness", name := "meant", desc := "(I)I" } : Jvm.MethodName)) ∈ lw_tbl := lw_at lw_m6 41 rfl
theorem q1408 : (Jvm.Cond.instanceMethod ({ cls := "CatWitness", name := "meant", desc := "(I)I" } : Jvm.MethodName)) ∈ lw_all := lw_g (lw_at lw_m6 42 rfl) rfl
theorem q1409 : (Jvm.Cond.code ({ cls := "CatWitness", name := "meant", desc := "(I)I" } : Jvm.MethodName) prog_1_method_84_code (2 : Nat) (Option.some Jvm.ClassFile.FieldType.int)) ∈ lw_all := lw_g (lw_at lw_m6 43 rfl) rfl
theorem q1410 : (Jvm.Cond.methodLink "CatWitness" (452 : Nat) ({ cls := "CatWitness$Court", name := "senseOf", desc := "(I)I" } : Jvm.MethodName)) ∈ lw_all := lw_g (lw_at lw_m6 44 rfl) rfl
theorem q1412 : (Jvm.Cond.instanceMethod ({ cls := "CatWitness", name := "struck", desc := "()I" } : Jvm.MethodName)) ∈ lw_all := lw_g (lw_at lw_m6 46 rfl) rfl
theorem q1413 : (Jvm.Cond.selects "CatWitness" ({ cls := "CatWitness", name := "struck", desc := "()I" } : Jvm.MethodName) ({ cls := "CatWitness", name := "struck", desc := "()I" } : Jvm.MethodName)) ∈ lw_all := lw_g (lw_at lw_m6 47 rfl) rfl
theorem q1414 : (Jvm.Cond.code ({ cls := "CatWitness", name := "struck", desc := "()I" } : Jvm.MethodName) prog_1_method_89_code (1 : Nat) (Option.some Jvm.ClassFile.FieldType.int)) ∈ lw_all := lw_g (lw_at lw_m6 48 rfl) rfl
theorem q1415 : (Jvm.Cond.methodLink "CatWitness" (464 : Nat) ({ cls := "CatWitness", name := "striking", desc := "()I" } : Jvm.MethodName)) ∈ lw_all := lw_g (lw_at lw_m6 49 rfl) rfl
theorem q1416 : (Jvm.Cond.privateMethod ({ cls := "CatWitness", name := "striking", desc := "()I" } : Jvm.MethodName)) ∈ lw_tbl := lw_at lw_m6 50 rfl
theorem q1417 : (Jvm.Cond.instanceMethod ({ cls := "CatWitness", name := "striking", desc := "()I" } : Jvm.MethodName)) ∈ lw_all := lw_g (lw_at lw_m6 51 rfl) rfl
theorem q1418 : (Jvm.Cond.code ({ cls := "CatWitness", name := "striking", desc := "()I" } : Jvm.MethodName) prog_1_method_88_code (7 : Nat) (Option.some Jvm.ClassFile.FieldType.int)) ∈ lw_all := lw_g (lw_at lw_m6 52 rfl) rfl
theorem q1419 : (Jvm.Cond.methodLink "CatWitness" (461 : Nat) ({ cls := "CatWitness", name := "saying", desc := "(II)I" } : Jvm.MethodName)) ∈ lw_all := lw_g (lw_at lw_m6 53 rfl) rfl
theorem q1420 : (Jvm.Cond.privateMethod ({ cls := "CatWitness", name := "saying", desc := "(II)I" } : Jvm.MethodName)) ∈ lw_tbl := lw_at lw_m6 54 rfl
theorem q1421 : (Jvm.Cond.instanceMethod ({ cls := "CatWitness", name := "saying", desc := "(II)I" } : Jvm.MethodName)) ∈ lw_all := lw_g (lw_at lw_m6 55 rfl) rfl
theorem q1422 : (Jvm.Cond.code ({ cls := "CatWitness", name := "saying", desc := "(II)I" } : Jvm.MethodName) prog_1_method_87_code (5 : Nat) (Option.some Jvm.ClassFile.FieldType.int)) ∈ lw_all := lw_g (lw_at lw_m6 56 rfl) rfl
theorem q1424 : (Jvm.Cond.instanceMethod ({ cls := "CatWitness", name := "struckSet", desc := "()I" } : Jvm.MethodName)) ∈ lw_all := lw_g (lw_at lw_m6 58 rfl) rfl
theorem q1425 : (Jvm.Cond.selects "CatWitness" ({ cls := "CatWitness", name := "struckSet", desc := "()I" } : Jvm.MethodName) ({ cls := "CatWitness", name := "struckSet", desc := "()I" } : Jvm.MethodName)) ∈ lw_all := lw_g (lw_at lw_m6 59 rfl) rfl
theorem q1426 : (Jvm.Cond.code ({ cls := "CatWitness", name := "struckSet", desc := "()I" } : Jvm.MethodName) prog_1_method_90_code (1 : Nat) (Option.some Jvm.ClassFile.FieldType.int)) ∈ lw_all := lw_g (lw_at lw_m6 60 rfl) rfl
theorem q1428 : (Jvm.Cond.instanceMethod ({ cls := "CatWitness", name := "best", desc := "()I" } : Jvm.MethodName)) ∈ lw_all := lw_g (lw_at lw_m6 62 rfl) rfl
theorem q1429 : (Jvm.Cond.selects "CatWitness" ({ cls := "CatWitness", name := "best", desc := "()I" } : Jvm.MethodName) ({ cls := "CatWitness", name := "best", desc := "()I" } : Jvm.MethodName)) ∈ lw_all := lw_g (lw_at lw_m6 63 rfl) rfl
theorem q1430 : (Jvm.Cond.code ({ cls := "CatWitness", name := "best", desc := "()I" } : Jvm.MethodName) prog_1_method_93_code (1 : Nat) (Option.some Jvm.ClassFile.FieldType.int)) ∈ lw_all := lw_g (lw_at lw_m6 64 rfl) rfl
theorem q1431 : (Jvm.Cond.methodLink "CatWitness" (477 : Nat) ({ cls := "CatWitness", name := "laysOrder", desc := "()V" } : Jvm.MethodName)) ∈ lw_all := lw_g (lw_at lw_m6 65 rfl) rfl
theorem q1432 : (Jvm.Cond.privateMethod ({ cls := "CatWitness", name := "laysOrder", desc := "()V" } : Jvm.MethodName)) ∈ lw_tbl := lw_at lw_m6 66 rfl
theorem q1433 : (Jvm.Cond.instanceMethod ({ cls := "CatWitness", name := "laysOrder", desc := "()V" } : Jvm.MethodName)) ∈ lw_all := lw_g (lw_at lw_m6 67 rfl) rfl
theorem q1434 : (Jvm.Cond.code ({ cls := "CatWitness", name := "laysOrder", desc := "()V" } : Jvm.MethodName) prog_1_method_92_code (1 : Nat) (Option.none : Option Jvm.ClassFile.FieldType)) ∈ lw_all := lw_g (lw_at lw_m6 68 rfl) rfl
theorem q1435 : (Jvm.Cond.methodLink "CatWitness" (473 : Nat) ({ cls := "CatWitness", name := "sitsInOrder", desc := "(III)V" } : Jvm.MethodName)) ∈ lw_all := lw_g (lw_at lw_m6 69 rfl) rfl
theorem q1436 : (Jvm.Cond.privateMethod ({ cls := "CatWitness", name := "sitsInOrder", desc := "(III)V" } : Jvm.MethodName)) ∈ lw_tbl := lw_at lw_m6 70 rfl
theorem q1437 : (Jvm.Cond.instanceMethod ({ cls := "CatWitness", name := "sitsInOrder", desc := "(III)V" } : Jvm.MethodName)) ∈ lw_all := lw_g (lw_at lw_m6 71 rfl) rfl
theorem q1438 : (Jvm.Cond.code ({ cls := "CatWitness", name := "sitsInOrder", desc := "(III)V" } : Jvm.MethodName) prog_1_method_91_code (6 : Nat) (Option.none : Option Jvm.ClassFile.FieldType)) ∈ lw_all := lw_g (lw_at lw_m6 72 rfl) rfl
theorem q1439 : (Jvm.Cond.methodLink "CatWitness" (470 : Nat) ({ cls := "java/lang/Math", name := "min", desc := "(II)I" } : Jvm.MethodName)) ∈ lw_all := lw_g (lw_at lw_m6 73 rfl) rfl
theorem q1441 : (Jvm.Cond.instanceMethod ({ cls := "CatWitness", name := "bestAt", desc := "(I)I" } : Jvm.MethodName)) ∈ lw_all := lw_g (lw_at lw_m6 75 rfl) rfl
theorem q1442 : (Jvm.Cond.selects "CatWitness" ({ cls := "CatWitness", name := "bestAt", desc := "(I)I" } : Jvm.MethodName) ({ cls := "CatWitness", name := "bestAt", desc := "(I)I" } : Jvm.MethodName)) ∈ lw_all := lw_g (lw_at lw_m6 76 rfl) rfl
theorem q1443 : (Jvm.Cond.code ({ cls := "CatWitness", name := "bestAt", desc := "(I)I" } : Jvm.MethodName) prog_1_method_94_code (2 : Nat) (Option.some Jvm.ClassFile.FieldType.int)) ∈ lw_all := lw_g (lw_at lw_m6 77 rfl) rfl
theorem q1445 : (Jvm.Cond.instanceMethod ({ cls := "CatWitness", name := "game", desc := "(I)I" } : Jvm.MethodName)) ∈ lw_all := lw_g (lw_at lw_m6 79 rfl) rfl
theorem q1446 : (Jvm.Cond.selects "CatWitness" ({ cls := "CatWitness", name := "game", desc := "(I)I" } : Jvm.MethodName) ({ cls := "CatWitness", name := "game", desc := "(I)I" } : Jvm.MethodName)) ∈ lw_all := lw_g (lw_at lw_m6 80 rfl) rfl
theorem q1447 : (Jvm.Cond.code ({ cls := "CatWitness", name := "game", desc := "(I)I" } : Jvm.MethodName) prog_1_method_99_code (2 : Nat) (Option.some Jvm.ClassFile.FieldType.int)) ∈ lw_all := lw_g (lw_at lw_m6 81 rfl) rfl
theorem q1448 : (Jvm.Cond.methodLink "CatWitness" (495 : Nat) ({ cls := "CatWitness", name := "gameOf", desc := "(I)I" } : Jvm.MethodName)) ∈ lw_all := lw_g (lw_at lw_m6 82 rfl) rfl
theorem q1449 : (Jvm.Cond.privateMethod ({ cls := "CatWitness", name := "gameOf", desc := "(I)I" } : Jvm.MethodName)) ∈ lw_tbl := lw_at lw_m6 83 rfl
theorem q1450 : (Jvm.Cond.instanceMethod ({ cls := "CatWitness", name := "gameOf", desc := "(I)I" } : Jvm.MethodName)) ∈ lw_all := lw_g (lw_at lw_m6 84 rfl) rfl
theorem q1451 : (Jvm.Cond.code ({ cls := "CatWitness", name := "gameOf", desc := "(I)I" } : Jvm.MethodName) prog_1_method_98_code (2 : Nat) (Option.some Jvm.ClassFile.FieldType.int)) ∈ lw_all := lw_g (lw_at lw_m6 85 rfl) rfl
theorem q1452 : (Jvm.Cond.methodLink "CatWitness" (486 : Nat) ({ cls := "CatWitness", name := "plays", desc := "(II)I" } : Jvm.MethodName)) ∈ lw_all := lw_g (lw_at lw_m6 86 rfl) rfl
theorem q1453 : (Jvm.Cond.privateMethod ({ cls := "CatWitness", name := "plays", desc := "(II)I" } : Jvm.MethodName)) ∈ lw_tbl := lw_at lw_m6 87 rfl
theorem q1454 : (Jvm.Cond.instanceMethod ({ cls := "CatWitness", name := "plays", desc := "(II)I" } : Jvm.MethodName)) ∈ lw_all := lw_g (lw_at lw_m6 88 rfl) rfl
theorem q1455 : (Jvm.Cond.code ({ cls := "CatWitness", name := "plays", desc := "(II)I" } : Jvm.MethodName) prog_1_method_96_code (10 : Nat) (Option.some Jvm.ClassFile.FieldType.int)) ∈ lw_all := lw_g (lw_at lw_m6 89 rfl) rfl
theorem q1456 : (Jvm.Cond.methodLink "CatWitness" (480 : Nat) ({ cls := "CatWitness", name := "score", desc := "()I" } : Jvm.MethodName)) ∈ lw_all := lw_g (lw_at lw_m6 90 rfl) rfl
theorem q1457 : (Jvm.Cond.privateMethod ({ cls := "CatWitness", name := "score", desc := "()I" } : Jvm.MethodName)) ∈ lw_tbl := lw_at lw_m6 91 rfl
theorem q1458 : (Jvm.Cond.instanceMethod ({ cls := "CatWitness", name := "score", desc := "()I" } : Jvm.MethodName)) ∈ lw_all := lw_g (lw_at lw_m6 92 rfl) rfl
theorem q1459 : (Jvm.Cond.code ({ cls := "CatWitness", name := "score", desc := "()I" } : Jvm.MethodName) prog_1_method_95_code (4 : Nat) (Option.some Jvm.ClassFile.FieldType.int)) ∈ lw_all := lw_g (lw_at lw_m6 93 rfl) rfl
theorem q1460 : (Jvm.Cond.methodLink "CatWitness" (483 : Nat) ({ cls := "CatWitness", name := "deeds", desc := "(III)V" } : Jvm.MethodName)) ∈ lw_all := lw_g (lw_at lw_m6 94 rfl) rfl
theorem q1461 : (Jvm.Cond.privateMethod ({ cls := "CatWitness", name := "deeds", desc := "(III)V" } : Jvm.MethodName)) ∈ lw_tbl := lw_at lw_m6 95 rfl
theorem q1462 : (Jvm.Cond.instanceMethod ({ cls := "CatWitness", name := "deeds", desc := "(III)V" } : Jvm.MethodName)) ∈ lw_all := lw_g (lw_at lw_m6 96 rfl) rfl
theorem q1463 : (Jvm.Cond.code ({ cls := "CatWitness", name := "deeds", desc := "(III)V" } : Jvm.MethodName) prog_1_method_97_code (4 : Nat) (Option.none : Option Jvm.ClassFile.FieldType)) ∈ lw_all := lw_g (lw_at lw_m6 97 rfl) rfl
theorem q1465 : (Jvm.Cond.instanceMethod ({ cls := "CatWitness", name := "moveOf", desc := "(II)I" } : Jvm.MethodName)) ∈ lw_all := lw_g (lw_at lw_m6 99 rfl) rfl
theorem q1466 : (Jvm.Cond.selects "CatWitness" ({ cls := "CatWitness", name := "moveOf", desc := "(II)I" } : Jvm.MethodName) ({ cls := "CatWitness", name := "moveOf", desc := "(II)I" } : Jvm.MethodName)) ∈ lw_all := lw_g (lw_at lw_m6 100 rfl) rfl
theorem q1467 : (Jvm.Cond.code ({ cls := "CatWitness", name := "moveOf", desc := "(II)I" } : Jvm.MethodName) prog_1_method_100_code (3 : Nat) (Option.some Jvm.ClassFile.FieldType.int)) ∈ lw_all := lw_g (lw_at lw_m6 101 rfl) rfl
theorem q1469 : (Jvm.Cond.instanceMethod ({ cls := "CatWitness", name := "copyFed", desc := "(I)I" } : Jvm.MethodName)) ∈ lw_all := lw_g (lw_at lw_m6 103 rfl) rfl
theorem q1470 : (Jvm.Cond.selects "CatWitness" ({ cls := "CatWitness", name := "copyFed", desc := "(I)I" } : Jvm.MethodName) ({ cls := "CatWitness", name := "copyFed", desc := "(I)I" } : Jvm.MethodName)) ∈ lw_all := lw_g (lw_at lw_m6 104 rfl) rfl
theorem q1471 : (Jvm.Cond.codeWith ({ cls := "CatWitness", name := "copyFed", desc := "(I)I" } : Jvm.MethodName) prog_1_method_101_code (3 : Nat) (Option.some Jvm.ClassFile.FieldType.int) [((5 : Nat), (47 : Nat), (50 : Nat), (41 : Nat))]) ∈ lw_all := lw_g (lw_at lw_m6 105 rfl) rfl
theorem q1472 : (Jvm.Cond.methodLink "CatWitness" (498 : Nat) ({ cls := "CatWitness", name := "write", desc := "(IIJ)Z" } : Jvm.MethodName)) ∈ lw_all := lw_g (lw_at lw_m6 106 rfl) rfl
theorem q1474 : (Jvm.Cond.instanceMethod ({ cls := "CatWitness", name := "live", desc := "(I)I" } : Jvm.MethodName)) ∈ lw_all := lw_g (lw_at lw_m6 108 rfl) rfl
theorem q1475 : (Jvm.Cond.selects "CatWitness" ({ cls := "CatWitness", name := "live", desc := "(I)I" } : Jvm.MethodName) ({ cls := "CatWitness", name := "live", desc := "(I)I" } : Jvm.MethodName)) ∈ lw_all := lw_g (lw_at lw_m6 109 rfl) rfl
theorem q1476 : (Jvm.Cond.code ({ cls := "CatWitness", name := "live", desc := "(I)I" } : Jvm.MethodName) prog_1_method_102_code (3 : Nat) (Option.some Jvm.ClassFile.FieldType.int)) ∈ lw_all := lw_g (lw_at lw_m6 110 rfl) rfl
theorem q1477 : (Jvm.Cond.constantLong "CatWitness" (502 : Nat) (9999 : Int64)) ∈ lw_all := lw_g (lw_at lw_m6 111 rfl) rfl
theorem q1478 : (Jvm.Cond.classLink "CatWitness" (504 : Nat) "CatWitness$Living") ∈ lw_all := lw_g (lw_at lw_m6 112 rfl) rfl
theorem q1480 : (Jvm.Cond.methodLink "CatWitness" (506 : Nat) ({ cls := "CatWitness$Living", name := "<init>", desc := "(LCatWitness$Court;I)V" } : Jvm.MethodName)) ∈ lw_all := lw_g (lw_at lw_m6 114 rfl) rfl
theorem q1489 : (Jvm.Cond.fieldLinkNest "CatWitness" (530 : Nat) "CatWitness$Living" "done" "I" "CatWitness") ∈ lw_tbl := lw_at lw_m6 123 rfl
theorem q1491 : (Jvm.Cond.fieldLinkNest "CatWitness" (513 : Nat) "CatWitness$Living" "missed" "I" "CatWitness") ∈ lw_tbl := lw_at lw_m6 125 rfl
theorem q1493 : (Jvm.Cond.fieldLinkNest "CatWitness" (516 : Nat) "CatWitness$Living" "sittings" "I" "CatWitness") ∈ lw_tbl := lw_at lw_m6 127 rfl
theorem q1495 : (Jvm.Cond.fieldLinkNest "CatWitness" (517 : Nat) "CatWitness$Living" "free" "I" "CatWitness") ∈ lw_tbl := lw_at lw_m6 129 rfl
theorem q1497 : (Jvm.Cond.fieldLinkNest "CatWitness" (520 : Nat) "CatWitness$Living" "held" "I" "CatWitness") ∈ lw_tbl := lw_at lw_m6 131 rfl
theorem q1503 : (Jvm.Cond.fieldLinkNest "CatWitness" (523 : Nat) "CatWitness$Living" "isLeft" "Z" "CatWitness") ∈ lw_tbl := lw_at lw_m6 137 rfl
theorem q1523 : (Jvm.Cond.methodLink "CatWitness" (509 : Nat) ({ cls := "CatWitness$Loop", name := "all", desc := "(LCatWitness$Living;)V" } : Jvm.MethodName)) ∈ lw_all := lw_g (lw_at lw_m6 157 rfl) rfl
theorem q1587 : (Jvm.Cond.instanceMethod ({ cls := "CatWitness", name := "lived", desc := "(I)I" } : Jvm.MethodName)) ∈ lw_all := lw_g (lw_at lw_m6 221 rfl) rfl
theorem q1588 : (Jvm.Cond.selects "CatWitness" ({ cls := "CatWitness", name := "lived", desc := "(I)I" } : Jvm.MethodName) ({ cls := "CatWitness", name := "lived", desc := "(I)I" } : Jvm.MethodName)) ∈ lw_all := lw_g (lw_at lw_m6 222 rfl) rfl
theorem q1589 : (Jvm.Cond.code ({ cls := "CatWitness", name := "lived", desc := "(I)I" } : Jvm.MethodName) prog_1_method_103_code (2 : Nat) (Option.some Jvm.ClassFile.FieldType.int)) ∈ lw_all := lw_g (lw_at lw_m6 223 rfl) rfl
theorem q1591 : (Jvm.Cond.instanceMethod ({ cls := "CatWitness", name := "mean", desc := "(II)Z" } : Jvm.MethodName)) ∈ lw_all := lw_g (lw_at lw_m6 225 rfl) rfl
theorem q1592 : (Jvm.Cond.selects "CatWitness" ({ cls := "CatWitness", name := "mean", desc := "(II)Z" } : Jvm.MethodName) ({ cls := "CatWitness", name := "mean", desc := "(II)Z" } : Jvm.MethodName)) ∈ lw_all := lw_g (lw_at lw_m6 226 rfl) rfl
theorem q1593 : (Jvm.Cond.code ({ cls := "CatWitness", name := "mean", desc := "(II)Z" } : Jvm.MethodName) prog_1_method_104_code (6 : Nat) (Option.some Jvm.ClassFile.FieldType.boolean)) ∈ lw_all := lw_g (lw_at lw_m6 227 rfl) rfl
theorem q1594 : (Jvm.Cond.methodLink "CatWitness" (533 : Nat) ({ cls := "CatWitness$Court", name := "allFed", desc := "()I" } : Jvm.MethodName)) ∈ lw_all := lw_g (lw_at lw_m6 228 rfl) rfl
theorem q1599 : (Jvm.Cond.instanceMethod ({ cls := "CatWitness", name := "mark", desc := "()I" } : Jvm.MethodName)) ∈ lw_all := lw_g (lw_at lw_m6 233 rfl) rfl
theorem q1600 : (Jvm.Cond.selects "CatWitness" ({ cls := "CatWitness", name := "mark", desc := "()I" } : Jvm.MethodName) ({ cls := "CatWitness", name := "mark", desc := "()I" } : Jvm.MethodName)) ∈ lw_all := lw_g (lw_at lw_m6 234 rfl) rfl
theorem q1601 : (Jvm.Cond.code ({ cls := "CatWitness", name := "mark", desc := "()I" } : Jvm.MethodName) prog_1_method_105_code (1 : Nat) (Option.some Jvm.ClassFile.FieldType.int)) ∈ lw_all := lw_g (lw_at lw_m6 235 rfl) rfl
theorem q1602 : (Jvm.Cond.methodLink "CatWitness" (539 : Nat) ({ cls := "CatWitness$House", name := "be", desc := "(LCatWitness$House;)V" } : Jvm.MethodName)) ∈ lw_all := lw_g (lw_at lw_m6 236 rfl) rfl
theorem q1608 : (Jvm.Cond.instanceMethod ({ cls := "CatWitness", name := "undo", desc := "()I" } : Jvm.MethodName)) ∈ lw_all := lw_g (lw_at lw_m7 2 rfl) rfl
theorem q1609 : (Jvm.Cond.selects "CatWitness" ({ cls := "CatWitness", name := "undo", desc := "()I" } : Jvm.MethodName) ({ cls := "CatWitness", name := "undo", desc := "()I" } : Jvm.MethodName)) ∈ lw_all := lw_g (lw_at lw_m7 3 rfl) rfl
theorem q1610 : (Jvm.Cond.code ({ cls := "CatWitness", name := "undo", desc := "()I" } : Jvm.MethodName) prog_1_method_106_code (1 : Nat) (Option.some Jvm.ClassFile.FieldType.int)) ∈ lw_all := lw_g (lw_at lw_m7 4 rfl) rfl
theorem in_X0 : ∀ w ∈ wsX00, w ∈ lw_all := lw_in wsX00 [477, 479, 481, 483, 485, 487, 489, 491, 493, 495, 497, 499, 501, 503, 505, 507, 509, 511, 513, 515, 517, 519, 521, 523, 525, 527, 529, 531] (by decide +kernel) (by decide +kernel)
