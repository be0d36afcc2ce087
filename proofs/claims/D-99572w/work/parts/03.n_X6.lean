/-! CatWitnessModel -/
set_option maxRecDepth 100000
def RX6 : String := "CatWitnessModel"
def TX6 : u_T := fun k => match k with
  | 0 => ("CatWitnessModel", "at", "[I", true)
  | 1 => ("CatWitnessModel", "names", "[J", true)
  | 2 => ("CatWitnessModel", "status", "I", false)
  | 3 => ("CatWitnessModel", "top", "J", false)
  | 4 => ("CatWitnessModel", "bottom", "J", false)
  | 5 => ("CatWitnessModel", "sort", "[I", true)
  | 6 => ("CatWitnessModel", "trayMany", "[I", true)
  | 7 => ("CatWitnessModel", "trays", "[J", true)
  | 8 => ("CatWitnessModel", "tape", "[B", true)
  | 9 => ("CatWitnessModel", "text", "[B", true)
  | 10 => ("CatWitnessModel", "taped", "I", false)
  | 11 => ("CatWitnessModel", "size", "I", false)
  | 12 => ("CatWitnessModel", "token", "I", false)
  | 13 => ("CatWitnessModel", "from", "I", false)
  | 14 => ("CatWitnessModel", "end", "I", false)
  | 15 => ("CatWitnessModel", "value", "I", false)
  | 16 => ("CatWitnessModel", "faultKind", "I", false)
  | 17 => ("CatWitnessModel", "faultPlace", "I", false)
  | 18 => ("CatWitnessModel", "faults", "I", false)
  | 19 => ("CatWitnessModel", "seen", "I", false)
  | 20 => ("CatWitnessModel", "opened", "[I", true)
  | 21 => ("CatWitnessModel", "depth", "I", false)
  | 22 => ("CatWitnessModel", "counted", "I", false)
  | 23 => ("CatWitnessModel", "fitsBy", "[Z", true)
  | 24 => ("CatWitnessModel", "fitMany", "I", false)
  | 25 => ("CatWitnessModel", "shownBy", "[I", true)
  | 26 => ("CatWitnessModel", "deedsLeast", "I", false)
  | 27 => ("CatWitnessModel", "mealsLeast", "I", false)
  | 28 => ("CatWitnessModel", "smellsLeast", "I", false)
  | 29 => ("CatWitnessModel", "firstBy", "[I", true)
  | 30 => ("CatWitnessModel", "guiltyBy", "[I", true)
  | 31 => ("CatWitnessModel", "freeBy", "[I", true)
  | 32 => ("CatWitnessModel", "doneAt", "[I", true)
  | 33 => ("CatWitnessModel", "cameAt", "[I", true)
  | 34 => ("CatWitnessModel", "bestDeed", "[I", true)
  | 35 => ("CatWitnessModel", "drawn", "I", false)
  | 36 => ("CatWitnessModel", "ranSteps", "I", false)
  | 37 => ("CatWitnessModel", "loops", "[I", true)
  | 38 => ("CatWitnessModel", "ran", "[I", true)
  | 39 => ("CatWitnessModel", "told1", "[I", true)
  | 40 => ("CatWitnessModel", "isTold", "Z", false)
  | _ => ("CatWitnessModel", "marks", "I", false)
def tyX6 : Nat → FieldType := fun k => match k with
  | 0 => .array .int
  | 1 => .array .long
  | 2 => .int
  | 3 => .long
  | 4 => .long
  | 5 => .array .int
  | 6 => .array .int
  | 7 => .array .long
  | 8 => .array .byte
  | 9 => .array .byte
  | 10 => .int
  | 11 => .int
  | 12 => .int
  | 13 => .int
  | 14 => .int
  | 15 => .int
  | 16 => .int
  | 17 => .int
  | 18 => .int
  | 19 => .int
  | 20 => .array .int
  | 21 => .int
  | 22 => .int
  | 23 => .array .boolean
  | 24 => .int
  | 25 => .array .int
  | 26 => .int
  | 27 => .int
  | 28 => .int
  | 29 => .array .int
  | 30 => .array .int
  | 31 => .array .int
  | 32 => .array .int
  | 33 => .array .int
  | 34 => .array .int
  | 35 => .int
  | 36 => .int
  | 37 => .array .int
  | 38 => .array .int
  | 39 => .array .int
  | 40 => .boolean
  | _ => .int
abbrev wsX60 : List Cond := u_ws RX6 TX6 42
set_option maxRecDepth 100000 in
theorem nmX6 : ∀ a, a < 42 → ∀ b, b < 42 → a ≠ b → (TX6 a).2.1 ≠ (TX6 b).2.1 := by decide +kernel
set_option maxRecDepth 100000 in
theorem tyX6_ok : ∀ k, k < 42 → parseFieldDescriptor (TX6 k).2.2.1 = some (tyX6 k) := by decide +kernel
abbrev cX6_init : ByteArray := prog_16_method_1_code
def yX6_init : MethodName := ⟨RX6, "<init>", "()V"⟩
def dkwX6_init_7 : List UInt8 := [181, 0, 72, 42, 8, 188, 10, 181, 0, 75, 42, 8, 188, 10, 181, 0, 78, 42, 3, 182, 0, 81, 177]
abbrev dktX6_init_7 : List UInt8 := dkwX6_init_7 ++ []
def dkwX6_init_6 : List UInt8 := [188, 10, 181, 0, 63, 42, 7, 188, 10, 181, 0, 66, 42, 7, 188, 10, 181, 0, 69, 42, 16, 80, 188, 10]
abbrev dktX6_init_6 : List UInt8 := dkwX6_init_6 ++ dktX6_init_7
def dkwX6_init_5 : List UInt8 := [188, 10, 181, 0, 54, 42, 16, 9, 188, 10, 181, 0, 57, 42, 16, 64, 188, 10, 181, 0, 60, 42, 7]
abbrev dktX6_init_5 : List UInt8 := dkwX6_init_5 ++ dktX6_init_6
def dkwX6_init_4 : List UInt8 := [188, 10, 181, 0, 44, 42, 16, 64, 188, 4, 181, 0, 47, 42, 16, 7, 188, 10, 181, 0, 51, 42, 16, 9]
abbrev dktX6_init_4 : List UInt8 := dkwX6_init_4 ++ dktX6_init_5
def dkwX6_init_3 : List UInt8 := [181, 0, 30, 42, 17, 3, 132, 188, 8, 181, 0, 34, 42, 2, 181, 0, 37, 42, 2, 181, 0, 41, 42, 6]
abbrev dktX6_init_3 : List UInt8 := dkwX6_init_3 ++ dktX6_init_4
def dkwX6_init_2 : List UInt8 := [2, 79, 89, 6, 2, 79, 181, 0, 24, 42, 17, 0, 240, 188, 11, 181, 0, 27, 42, 17, 3, 132, 188, 8]
abbrev dktX6_init_2 : List UInt8 := dkwX6_init_2 ++ dktX6_init_3
def dkwX6_init_1 : List UInt8 := [181, 0, 17, 42, 7, 188, 10, 181, 0, 21, 42, 7, 188, 10, 89, 3, 2, 79, 89, 4, 2, 79, 89, 5]
abbrev dktX6_init_1 : List UInt8 := dkwX6_init_1 ++ dktX6_init_2
def dkwX6_init_0 : List UInt8 := [42, 183, 0, 1, 42, 17, 13, 220, 188, 10, 181, 0, 7, 42, 17, 0, 138, 188, 11, 181, 0, 13, 42, 10]
abbrev dktX6_init_0 : List UInt8 := dkwX6_init_0 ++ dktX6_init_1
theorem dksX6_init_0 : cX6_init.data.toList.drop 0 = dktX6_init_0 := by decide +kernel
theorem dksX6_init_1 : cX6_init.data.toList.drop 24 = dktX6_init_1 := dk_seg dksX6_init_0 24 rfl rfl
theorem dksX6_init_2 : cX6_init.data.toList.drop 48 = dktX6_init_2 := dk_seg dksX6_init_1 24 rfl rfl
theorem dksX6_init_3 : cX6_init.data.toList.drop 72 = dktX6_init_3 := dk_seg dksX6_init_2 24 rfl rfl
theorem dksX6_init_4 : cX6_init.data.toList.drop 96 = dktX6_init_4 := dk_seg dksX6_init_3 24 rfl rfl
theorem dksX6_init_5 : cX6_init.data.toList.drop 120 = dktX6_init_5 := dk_seg dksX6_init_4 24 rfl rfl
theorem dksX6_init_6 : cX6_init.data.toList.drop 143 = dktX6_init_6 := dk_seg dksX6_init_5 23 rfl rfl
theorem dksX6_init_7 : cX6_init.data.toList.drop 167 = dktX6_init_7 := dk_seg dksX6_init_6 24 rfl rfl
theorem dX6_init_0 : decode cX6_init 0 = .ok (.aload_n 0, 1) := dk_42 (dk_at dksX6_init_0 0 rfl rfl)
theorem dX6_init_1 : decode cX6_init 1 = .ok (.invokespecial 1, 3) := dk_183 0 1 (dk_at dksX6_init_0 1 rfl rfl)
theorem dX6_init_4 : decode cX6_init 4 = .ok (.aload_n 0, 1) := dk_42 (dk_at dksX6_init_0 4 rfl rfl)
theorem dX6_init_5 : decode cX6_init 5 = .ok (.sipush 3548, 3) := dk_17 13 220 (dk_at dksX6_init_0 5 rfl rfl)
theorem dX6_init_8 : decode cX6_init 8 = .ok (.newarray .int, 2) := dk_188_10 (dk_at dksX6_init_0 8 rfl rfl)
theorem dX6_init_10 : decode cX6_init 10 = .ok (.putfield 7, 3) := dk_181 0 7 (dk_at dksX6_init_0 10 rfl rfl)
theorem dX6_init_13 : decode cX6_init 13 = .ok (.aload_n 0, 1) := dk_42 (dk_at dksX6_init_0 13 rfl rfl)
theorem dX6_init_14 : decode cX6_init 14 = .ok (.sipush 138, 3) := dk_17 0 138 (dk_at dksX6_init_0 14 rfl rfl)
theorem dX6_init_17 : decode cX6_init 17 = .ok (.newarray .long, 2) := dk_188_11 (dk_at dksX6_init_0 17 rfl rfl)
theorem dX6_init_19 : decode cX6_init 19 = .ok (.putfield 13, 3) := dk_181 0 13 (dk_at dksX6_init_0 19 rfl rfl)
theorem dX6_init_22 : decode cX6_init 22 = .ok (.aload_n 0, 1) := dk_42 (dk_at dksX6_init_0 22 rfl rfl)
theorem dX6_init_23 : decode cX6_init 23 = .ok (.lconst 1, 1) := dk_10 (dk_at dksX6_init_0 23 rfl rfl)
theorem dX6_init_24 : decode cX6_init 24 = .ok (.putfield 17, 3) := dk_181 0 17 (dk_at dksX6_init_1 0 rfl rfl)
theorem dX6_init_27 : decode cX6_init 27 = .ok (.aload_n 0, 1) := dk_42 (dk_at dksX6_init_1 3 rfl rfl)
theorem dX6_init_28 : decode cX6_init 28 = .ok (.iconst 4, 1) := dk_7 (dk_at dksX6_init_1 4 rfl rfl)
theorem dX6_init_29 : decode cX6_init 29 = .ok (.newarray .int, 2) := dk_188_10 (dk_at dksX6_init_1 5 rfl rfl)
theorem dX6_init_31 : decode cX6_init 31 = .ok (.putfield 21, 3) := dk_181 0 21 (dk_at dksX6_init_1 7 rfl rfl)
theorem dX6_init_34 : decode cX6_init 34 = .ok (.aload_n 0, 1) := dk_42 (dk_at dksX6_init_1 10 rfl rfl)
theorem dX6_init_35 : decode cX6_init 35 = .ok (.iconst 4, 1) := dk_7 (dk_at dksX6_init_1 11 rfl rfl)
theorem dX6_init_36 : decode cX6_init 36 = .ok (.newarray .int, 2) := dk_188_10 (dk_at dksX6_init_1 12 rfl rfl)
theorem dX6_init_38 : decode cX6_init 38 = .ok (.dup, 1) := dk_89 (dk_at dksX6_init_1 14 rfl rfl)
theorem dX6_init_39 : decode cX6_init 39 = .ok (.iconst 0, 1) := dk_3 (dk_at dksX6_init_1 15 rfl rfl)
theorem dX6_init_40 : decode cX6_init 40 = .ok (.iconst (-1), 1) := dk_2 (dk_at dksX6_init_1 16 rfl rfl)
theorem dX6_init_41 : decode cX6_init 41 = .ok (.iastore, 1) := dk_79 (dk_at dksX6_init_1 17 rfl rfl)
theorem dX6_init_42 : decode cX6_init 42 = .ok (.dup, 1) := dk_89 (dk_at dksX6_init_1 18 rfl rfl)
theorem dX6_init_43 : decode cX6_init 43 = .ok (.iconst 1, 1) := dk_4 (dk_at dksX6_init_1 19 rfl rfl)
theorem dX6_init_44 : decode cX6_init 44 = .ok (.iconst (-1), 1) := dk_2 (dk_at dksX6_init_1 20 rfl rfl)
theorem dX6_init_45 : decode cX6_init 45 = .ok (.iastore, 1) := dk_79 (dk_at dksX6_init_1 21 rfl rfl)
theorem dX6_init_46 : decode cX6_init 46 = .ok (.dup, 1) := dk_89 (dk_at dksX6_init_1 22 rfl rfl)
theorem dX6_init_47 : decode cX6_init 47 = .ok (.iconst 2, 1) := dk_5 (dk_at dksX6_init_1 23 rfl rfl)
theorem dX6_init_48 : decode cX6_init 48 = .ok (.iconst (-1), 1) := dk_2 (dk_at dksX6_init_2 0 rfl rfl)
theorem dX6_init_49 : decode cX6_init 49 = .ok (.iastore, 1) := dk_79 (dk_at dksX6_init_2 1 rfl rfl)
theorem dX6_init_50 : decode cX6_init 50 = .ok (.dup, 1) := dk_89 (dk_at dksX6_init_2 2 rfl rfl)
theorem dX6_init_51 : decode cX6_init 51 = .ok (.iconst 3, 1) := dk_6 (dk_at dksX6_init_2 3 rfl rfl)
theorem dX6_init_52 : decode cX6_init 52 = .ok (.iconst (-1), 1) := dk_2 (dk_at dksX6_init_2 4 rfl rfl)
theorem dX6_init_53 : decode cX6_init 53 = .ok (.iastore, 1) := dk_79 (dk_at dksX6_init_2 5 rfl rfl)
theorem dX6_init_54 : decode cX6_init 54 = .ok (.putfield 24, 3) := dk_181 0 24 (dk_at dksX6_init_2 6 rfl rfl)
theorem dX6_init_57 : decode cX6_init 57 = .ok (.aload_n 0, 1) := dk_42 (dk_at dksX6_init_2 9 rfl rfl)
theorem dX6_init_58 : decode cX6_init 58 = .ok (.sipush 240, 3) := dk_17 0 240 (dk_at dksX6_init_2 10 rfl rfl)
theorem dX6_init_61 : decode cX6_init 61 = .ok (.newarray .long, 2) := dk_188_11 (dk_at dksX6_init_2 13 rfl rfl)
theorem dX6_init_63 : decode cX6_init 63 = .ok (.putfield 27, 3) := dk_181 0 27 (dk_at dksX6_init_2 15 rfl rfl)
theorem dX6_init_66 : decode cX6_init 66 = .ok (.aload_n 0, 1) := dk_42 (dk_at dksX6_init_2 18 rfl rfl)
theorem dX6_init_67 : decode cX6_init 67 = .ok (.sipush 900, 3) := dk_17 3 132 (dk_at dksX6_init_2 19 rfl rfl)
theorem dX6_init_70 : decode cX6_init 70 = .ok (.newarray .byte, 2) := dk_188_8 (dk_at dksX6_init_2 22 rfl rfl)
theorem dX6_init_72 : decode cX6_init 72 = .ok (.putfield 30, 3) := dk_181 0 30 (dk_at dksX6_init_3 0 rfl rfl)
theorem dX6_init_75 : decode cX6_init 75 = .ok (.aload_n 0, 1) := dk_42 (dk_at dksX6_init_3 3 rfl rfl)
theorem dX6_init_76 : decode cX6_init 76 = .ok (.sipush 900, 3) := dk_17 3 132 (dk_at dksX6_init_3 4 rfl rfl)
theorem dX6_init_79 : decode cX6_init 79 = .ok (.newarray .byte, 2) := dk_188_8 (dk_at dksX6_init_3 7 rfl rfl)
theorem dX6_init_81 : decode cX6_init 81 = .ok (.putfield 34, 3) := dk_181 0 34 (dk_at dksX6_init_3 9 rfl rfl)
theorem dX6_init_84 : decode cX6_init 84 = .ok (.aload_n 0, 1) := dk_42 (dk_at dksX6_init_3 12 rfl rfl)
theorem dX6_init_85 : decode cX6_init 85 = .ok (.iconst (-1), 1) := dk_2 (dk_at dksX6_init_3 13 rfl rfl)
theorem dX6_init_86 : decode cX6_init 86 = .ok (.putfield 37, 3) := dk_181 0 37 (dk_at dksX6_init_3 14 rfl rfl)
theorem dX6_init_89 : decode cX6_init 89 = .ok (.aload_n 0, 1) := dk_42 (dk_at dksX6_init_3 17 rfl rfl)
theorem dX6_init_90 : decode cX6_init 90 = .ok (.iconst (-1), 1) := dk_2 (dk_at dksX6_init_3 18 rfl rfl)
theorem dX6_init_91 : decode cX6_init 91 = .ok (.putfield 41, 3) := dk_181 0 41 (dk_at dksX6_init_3 19 rfl rfl)
theorem dX6_init_94 : decode cX6_init 94 = .ok (.aload_n 0, 1) := dk_42 (dk_at dksX6_init_3 22 rfl rfl)
theorem dX6_init_95 : decode cX6_init 95 = .ok (.iconst 3, 1) := dk_6 (dk_at dksX6_init_3 23 rfl rfl)
theorem dX6_init_96 : decode cX6_init 96 = .ok (.newarray .int, 2) := dk_188_10 (dk_at dksX6_init_4 0 rfl rfl)
theorem dX6_init_98 : decode cX6_init 98 = .ok (.putfield 44, 3) := dk_181 0 44 (dk_at dksX6_init_4 2 rfl rfl)
theorem dX6_init_101 : decode cX6_init 101 = .ok (.aload_n 0, 1) := dk_42 (dk_at dksX6_init_4 5 rfl rfl)
theorem dX6_init_102 : decode cX6_init 102 = .ok (.bipush 64, 2) := dk_16 64 (dk_at dksX6_init_4 6 rfl rfl)
theorem dX6_init_104 : decode cX6_init 104 = .ok (.newarray .boolean, 2) := dk_188_4 (dk_at dksX6_init_4 8 rfl rfl)
theorem dX6_init_106 : decode cX6_init 106 = .ok (.putfield 47, 3) := dk_181 0 47 (dk_at dksX6_init_4 10 rfl rfl)
theorem dX6_init_109 : decode cX6_init 109 = .ok (.aload_n 0, 1) := dk_42 (dk_at dksX6_init_4 13 rfl rfl)
theorem dX6_init_110 : decode cX6_init 110 = .ok (.bipush 7, 2) := dk_16 7 (dk_at dksX6_init_4 14 rfl rfl)
theorem dX6_init_112 : decode cX6_init 112 = .ok (.newarray .int, 2) := dk_188_10 (dk_at dksX6_init_4 16 rfl rfl)
theorem dX6_init_114 : decode cX6_init 114 = .ok (.putfield 51, 3) := dk_181 0 51 (dk_at dksX6_init_4 18 rfl rfl)
theorem dX6_init_117 : decode cX6_init 117 = .ok (.aload_n 0, 1) := dk_42 (dk_at dksX6_init_4 21 rfl rfl)
theorem dX6_init_118 : decode cX6_init 118 = .ok (.bipush 9, 2) := dk_16 9 (dk_at dksX6_init_4 22 rfl rfl)
theorem dX6_init_120 : decode cX6_init 120 = .ok (.newarray .int, 2) := dk_188_10 (dk_at dksX6_init_5 0 rfl rfl)
theorem dX6_init_122 : decode cX6_init 122 = .ok (.putfield 54, 3) := dk_181 0 54 (dk_at dksX6_init_5 2 rfl rfl)
theorem dX6_init_125 : decode cX6_init 125 = .ok (.aload_n 0, 1) := dk_42 (dk_at dksX6_init_5 5 rfl rfl)
theorem dX6_init_126 : decode cX6_init 126 = .ok (.bipush 9, 2) := dk_16 9 (dk_at dksX6_init_5 6 rfl rfl)
theorem dX6_init_128 : decode cX6_init 128 = .ok (.newarray .int, 2) := dk_188_10 (dk_at dksX6_init_5 8 rfl rfl)
theorem dX6_init_130 : decode cX6_init 130 = .ok (.putfield 57, 3) := dk_181 0 57 (dk_at dksX6_init_5 10 rfl rfl)
theorem dX6_init_133 : decode cX6_init 133 = .ok (.aload_n 0, 1) := dk_42 (dk_at dksX6_init_5 13 rfl rfl)
theorem dX6_init_134 : decode cX6_init 134 = .ok (.bipush 64, 2) := dk_16 64 (dk_at dksX6_init_5 14 rfl rfl)
theorem dX6_init_136 : decode cX6_init 136 = .ok (.newarray .int, 2) := dk_188_10 (dk_at dksX6_init_5 16 rfl rfl)
theorem dX6_init_138 : decode cX6_init 138 = .ok (.putfield 60, 3) := dk_181 0 60 (dk_at dksX6_init_5 18 rfl rfl)
theorem dX6_init_141 : decode cX6_init 141 = .ok (.aload_n 0, 1) := dk_42 (dk_at dksX6_init_5 21 rfl rfl)
theorem dX6_init_142 : decode cX6_init 142 = .ok (.iconst 4, 1) := dk_7 (dk_at dksX6_init_5 22 rfl rfl)
theorem dX6_init_143 : decode cX6_init 143 = .ok (.newarray .int, 2) := dk_188_10 (dk_at dksX6_init_6 0 rfl rfl)
theorem dX6_init_145 : decode cX6_init 145 = .ok (.putfield 63, 3) := dk_181 0 63 (dk_at dksX6_init_6 2 rfl rfl)
theorem dX6_init_148 : decode cX6_init 148 = .ok (.aload_n 0, 1) := dk_42 (dk_at dksX6_init_6 5 rfl rfl)
theorem dX6_init_149 : decode cX6_init 149 = .ok (.iconst 4, 1) := dk_7 (dk_at dksX6_init_6 6 rfl rfl)
theorem dX6_init_150 : decode cX6_init 150 = .ok (.newarray .int, 2) := dk_188_10 (dk_at dksX6_init_6 7 rfl rfl)
theorem dX6_init_152 : decode cX6_init 152 = .ok (.putfield 66, 3) := dk_181 0 66 (dk_at dksX6_init_6 9 rfl rfl)
theorem dX6_init_155 : decode cX6_init 155 = .ok (.aload_n 0, 1) := dk_42 (dk_at dksX6_init_6 12 rfl rfl)
theorem dX6_init_156 : decode cX6_init 156 = .ok (.iconst 4, 1) := dk_7 (dk_at dksX6_init_6 13 rfl rfl)
theorem dX6_init_157 : decode cX6_init 157 = .ok (.newarray .int, 2) := dk_188_10 (dk_at dksX6_init_6 14 rfl rfl)
theorem dX6_init_159 : decode cX6_init 159 = .ok (.putfield 69, 3) := dk_181 0 69 (dk_at dksX6_init_6 16 rfl rfl)
theorem dX6_init_162 : decode cX6_init 162 = .ok (.aload_n 0, 1) := dk_42 (dk_at dksX6_init_6 19 rfl rfl)
theorem dX6_init_163 : decode cX6_init 163 = .ok (.bipush 80, 2) := dk_16 80 (dk_at dksX6_init_6 20 rfl rfl)
theorem dX6_init_165 : decode cX6_init 165 = .ok (.newarray .int, 2) := dk_188_10 (dk_at dksX6_init_6 22 rfl rfl)
theorem dX6_init_167 : decode cX6_init 167 = .ok (.putfield 72, 3) := dk_181 0 72 (dk_at dksX6_init_7 0 rfl rfl)
theorem dX6_init_170 : decode cX6_init 170 = .ok (.aload_n 0, 1) := dk_42 (dk_at dksX6_init_7 3 rfl rfl)
theorem dX6_init_171 : decode cX6_init 171 = .ok (.iconst 5, 1) := dk_8 (dk_at dksX6_init_7 4 rfl rfl)
theorem dX6_init_172 : decode cX6_init 172 = .ok (.newarray .int, 2) := dk_188_10 (dk_at dksX6_init_7 5 rfl rfl)
theorem dX6_init_174 : decode cX6_init 174 = .ok (.putfield 75, 3) := dk_181 0 75 (dk_at dksX6_init_7 7 rfl rfl)
theorem dX6_init_177 : decode cX6_init 177 = .ok (.aload_n 0, 1) := dk_42 (dk_at dksX6_init_7 10 rfl rfl)
theorem dX6_init_178 : decode cX6_init 178 = .ok (.iconst 5, 1) := dk_8 (dk_at dksX6_init_7 11 rfl rfl)
theorem dX6_init_179 : decode cX6_init 179 = .ok (.newarray .int, 2) := dk_188_10 (dk_at dksX6_init_7 12 rfl rfl)
theorem dX6_init_181 : decode cX6_init 181 = .ok (.putfield 78, 3) := dk_181 0 78 (dk_at dksX6_init_7 14 rfl rfl)
theorem dX6_init_184 : decode cX6_init 184 = .ok (.aload_n 0, 1) := dk_42 (dk_at dksX6_init_7 17 rfl rfl)
theorem dX6_init_185 : decode cX6_init 185 = .ok (.iconst 0, 1) := dk_3 (dk_at dksX6_init_7 18 rfl rfl)
theorem dX6_init_186 : decode cX6_init 186 = .ok (.invokevirtual 81, 3) := dk_182 0 81 (dk_at dksX6_init_7 19 rfl rfl)
theorem dX6_init_189 : decode cX6_init 189 = .ok (.return_, 1) := dk_177 (dk_at dksX6_init_7 22 rfl rfl)
abbrev cX6_plain : ByteArray := prog_16_method_2_code
def yX6_plain : MethodName := ⟨RX6, "plain", "(I)V"⟩
def dkwX6_plain_1 : List UInt8 := [42, 180, 0, 7, 27, 16, 8, 96, 2, 79, 177]
abbrev dktX6_plain_1 : List UInt8 := dkwX6_plain_1 ++ []
def dkwX6_plain_0 : List UInt8 := [3, 61, 28, 17, 1, 246, 162, 0, 18, 42, 180, 0, 7, 27, 28, 96, 3, 79, 132, 2, 1, 167, 255, 237]
abbrev dktX6_plain_0 : List UInt8 := dkwX6_plain_0 ++ dktX6_plain_1
theorem dksX6_plain_0 : cX6_plain.data.toList.drop 0 = dktX6_plain_0 := by decide +kernel
theorem dksX6_plain_1 : cX6_plain.data.toList.drop 24 = dktX6_plain_1 := dk_seg dksX6_plain_0 24 rfl rfl
theorem dX6_plain_0 : decode cX6_plain 0 = .ok (.iconst 0, 1) := dk_3 (dk_at dksX6_plain_0 0 rfl rfl)
theorem dX6_plain_1 : decode cX6_plain 1 = .ok (.istore_n 2, 1) := dk_61 (dk_at dksX6_plain_0 1 rfl rfl)
theorem dX6_plain_2 : decode cX6_plain 2 = .ok (.iload_n 2, 1) := dk_28 (dk_at dksX6_plain_0 2 rfl rfl)
theorem dX6_plain_3 : decode cX6_plain 3 = .ok (.sipush 502, 3) := dk_17 1 246 (dk_at dksX6_plain_0 3 rfl rfl)
theorem dX6_plain_6 : decode cX6_plain 6 = .ok (.if_icmp .ge 18, 3) := dk_162 0 18 (dk_at dksX6_plain_0 6 rfl rfl)
theorem dX6_plain_9 : decode cX6_plain 9 = .ok (.aload_n 0, 1) := dk_42 (dk_at dksX6_plain_0 9 rfl rfl)
theorem dX6_plain_10 : decode cX6_plain 10 = .ok (.getfield 7, 3) := dk_180 0 7 (dk_at dksX6_plain_0 10 rfl rfl)
theorem dX6_plain_13 : decode cX6_plain 13 = .ok (.iload_n 1, 1) := dk_27 (dk_at dksX6_plain_0 13 rfl rfl)
theorem dX6_plain_14 : decode cX6_plain 14 = .ok (.iload_n 2, 1) := dk_28 (dk_at dksX6_plain_0 14 rfl rfl)
theorem dX6_plain_15 : decode cX6_plain 15 = .ok (.iadd, 1) := dk_96 (dk_at dksX6_plain_0 15 rfl rfl)
theorem dX6_plain_16 : decode cX6_plain 16 = .ok (.iconst 0, 1) := dk_3 (dk_at dksX6_plain_0 16 rfl rfl)
theorem dX6_plain_17 : decode cX6_plain 17 = .ok (.iastore, 1) := dk_79 (dk_at dksX6_plain_0 17 rfl rfl)
theorem dX6_plain_18 : decode cX6_plain 18 = .ok (.iinc 2 1, 3) := dk_132 2 1 (dk_at dksX6_plain_0 18 rfl rfl)
theorem dX6_plain_21 : decode cX6_plain 21 = .ok (.goto (-19), 3) := dk_167 255 237 (dk_at dksX6_plain_0 21 rfl rfl)
theorem dX6_plain_24 : decode cX6_plain 24 = .ok (.aload_n 0, 1) := dk_42 (dk_at dksX6_plain_1 0 rfl rfl)
theorem dX6_plain_25 : decode cX6_plain 25 = .ok (.getfield 7, 3) := dk_180 0 7 (dk_at dksX6_plain_1 1 rfl rfl)
theorem dX6_plain_28 : decode cX6_plain 28 = .ok (.iload_n 1, 1) := dk_27 (dk_at dksX6_plain_1 4 rfl rfl)
theorem dX6_plain_29 : decode cX6_plain 29 = .ok (.bipush 8, 2) := dk_16 8 (dk_at dksX6_plain_1 5 rfl rfl)
theorem dX6_plain_31 : decode cX6_plain 31 = .ok (.iadd, 1) := dk_96 (dk_at dksX6_plain_1 7 rfl rfl)
theorem dX6_plain_32 : decode cX6_plain 32 = .ok (.iconst (-1), 1) := dk_2 (dk_at dksX6_plain_1 8 rfl rfl)
theorem dX6_plain_33 : decode cX6_plain 33 = .ok (.iastore, 1) := dk_79 (dk_at dksX6_plain_1 9 rfl rfl)
theorem dX6_plain_34 : decode cX6_plain 34 = .ok (.return_, 1) := dk_177 (dk_at dksX6_plain_1 10 rfl rfl)
abbrev cX6_status : ByteArray := prog_16_method_3_code
def yX6_status : MethodName := ⟨RX6, "status", "()I"⟩
theorem dX6_status_0 : decode cX6_status 0 = .ok (.aload_n 0, 1) := by decide +kernel
theorem dX6_status_1 : decode cX6_status 1 = .ok (.getfield 85, 3) := by decide +kernel
theorem dX6_status_4 : decode cX6_status 4 = .ok (.ireturn, 1) := by decide +kernel
abbrev cX6_top : ByteArray := prog_16_method_4_code
def yX6_top : MethodName := ⟨RX6, "top", "()J"⟩
theorem dX6_top_0 : decode cX6_top 0 = .ok (.aload_n 0, 1) := by decide +kernel
theorem dX6_top_1 : decode cX6_top 1 = .ok (.getfield 88, 3) := by decide +kernel
theorem dX6_top_4 : decode cX6_top 4 = .ok (.lreturn, 1) := by decide +kernel
abbrev cX6_bottom : ByteArray := prog_16_method_5_code
def yX6_bottom : MethodName := ⟨RX6, "bottom", "()J"⟩
theorem dX6_bottom_0 : decode cX6_bottom 0 = .ok (.aload_n 0, 1) := by decide +kernel
theorem dX6_bottom_1 : decode cX6_bottom 1 = .ok (.getfield 17, 3) := by decide +kernel
theorem dX6_bottom_4 : decode cX6_bottom 4 = .ok (.lreturn, 1) := by decide +kernel
abbrev cX6_tray : ByteArray := prog_16_method_13_code
def yX6_tray : MethodName := ⟨RX6, "tray", "(III)Z"⟩
def dkwX6_tray_3 : List UInt8 := [167, 255, 234, 42, 3, 182, 0, 98, 172]
abbrev dktX6_tray_3 : List UInt8 := dkwX6_tray_3 ++ []
def dkwX6_tray_2 : List UInt8 := [54, 4, 21, 4, 29, 162, 0, 22, 42, 180, 0, 27, 16, 60, 27, 104, 21, 4, 96, 9, 80, 132, 4, 1]
abbrev dktX6_tray_2 : List UInt8 := dkwX6_tray_2 ++ dktX6_tray_3
def dkwX6_tray_1 : List UInt8 := [164, 0, 9, 42, 4, 182, 0, 98, 172, 42, 180, 0, 21, 27, 28, 79, 42, 180, 0, 24, 27, 29, 79, 3]
abbrev dktX6_tray_1 : List UInt8 := dkwX6_tray_1 ++ dktX6_tray_2
def dkwX6_tray_0 : List UInt8 := [27, 184, 0, 102, 153, 0, 22, 28, 155, 0, 18, 28, 6, 163, 0, 13, 29, 155, 0, 9, 29, 16, 60]
abbrev dktX6_tray_0 : List UInt8 := dkwX6_tray_0 ++ dktX6_tray_1
theorem dksX6_tray_0 : cX6_tray.data.toList.drop 0 = dktX6_tray_0 := by decide +kernel
theorem dksX6_tray_1 : cX6_tray.data.toList.drop 23 = dktX6_tray_1 := dk_seg dksX6_tray_0 23 rfl rfl
theorem dksX6_tray_2 : cX6_tray.data.toList.drop 47 = dktX6_tray_2 := dk_seg dksX6_tray_1 24 rfl rfl
theorem dksX6_tray_3 : cX6_tray.data.toList.drop 71 = dktX6_tray_3 := dk_seg dksX6_tray_2 24 rfl rfl
theorem dX6_tray_0 : decode cX6_tray 0 = .ok (.iload_n 1, 1) := dk_27 (dk_at dksX6_tray_0 0 rfl rfl)
theorem dX6_tray_1 : decode cX6_tray 1 = .ok (.invokestatic 102, 3) := dk_184 0 102 (dk_at dksX6_tray_0 1 rfl rfl)
theorem dX6_tray_4 : decode cX6_tray 4 = .ok (.ifCond .eq 22, 3) := dk_153 0 22 (dk_at dksX6_tray_0 4 rfl rfl)
theorem dX6_tray_7 : decode cX6_tray 7 = .ok (.iload_n 2, 1) := dk_28 (dk_at dksX6_tray_0 7 rfl rfl)
theorem dX6_tray_8 : decode cX6_tray 8 = .ok (.ifCond .lt 18, 3) := dk_155 0 18 (dk_at dksX6_tray_0 8 rfl rfl)
theorem dX6_tray_11 : decode cX6_tray 11 = .ok (.iload_n 2, 1) := dk_28 (dk_at dksX6_tray_0 11 rfl rfl)
theorem dX6_tray_12 : decode cX6_tray 12 = .ok (.iconst 3, 1) := dk_6 (dk_at dksX6_tray_0 12 rfl rfl)
theorem dX6_tray_13 : decode cX6_tray 13 = .ok (.if_icmp .gt 13, 3) := dk_163 0 13 (dk_at dksX6_tray_0 13 rfl rfl)
theorem dX6_tray_16 : decode cX6_tray 16 = .ok (.iload_n 3, 1) := dk_29 (dk_at dksX6_tray_0 16 rfl rfl)
theorem dX6_tray_17 : decode cX6_tray 17 = .ok (.ifCond .lt 9, 3) := dk_155 0 9 (dk_at dksX6_tray_0 17 rfl rfl)
theorem dX6_tray_20 : decode cX6_tray 20 = .ok (.iload_n 3, 1) := dk_29 (dk_at dksX6_tray_0 20 rfl rfl)
theorem dX6_tray_21 : decode cX6_tray 21 = .ok (.bipush 60, 2) := dk_16 60 (dk_at dksX6_tray_0 21 rfl rfl)
theorem dX6_tray_23 : decode cX6_tray 23 = .ok (.if_icmp .le 9, 3) := dk_164 0 9 (dk_at dksX6_tray_1 0 rfl rfl)
theorem dX6_tray_26 : decode cX6_tray 26 = .ok (.aload_n 0, 1) := dk_42 (dk_at dksX6_tray_1 3 rfl rfl)
theorem dX6_tray_27 : decode cX6_tray 27 = .ok (.iconst 1, 1) := dk_4 (dk_at dksX6_tray_1 4 rfl rfl)
theorem dX6_tray_28 : decode cX6_tray 28 = .ok (.invokevirtual 98, 3) := dk_182 0 98 (dk_at dksX6_tray_1 5 rfl rfl)
theorem dX6_tray_31 : decode cX6_tray 31 = .ok (.ireturn, 1) := dk_172 (dk_at dksX6_tray_1 8 rfl rfl)
theorem dX6_tray_32 : decode cX6_tray 32 = .ok (.aload_n 0, 1) := dk_42 (dk_at dksX6_tray_1 9 rfl rfl)
theorem dX6_tray_33 : decode cX6_tray 33 = .ok (.getfield 21, 3) := dk_180 0 21 (dk_at dksX6_tray_1 10 rfl rfl)
theorem dX6_tray_36 : decode cX6_tray 36 = .ok (.iload_n 1, 1) := dk_27 (dk_at dksX6_tray_1 13 rfl rfl)
theorem dX6_tray_37 : decode cX6_tray 37 = .ok (.iload_n 2, 1) := dk_28 (dk_at dksX6_tray_1 14 rfl rfl)
theorem dX6_tray_38 : decode cX6_tray 38 = .ok (.iastore, 1) := dk_79 (dk_at dksX6_tray_1 15 rfl rfl)
theorem dX6_tray_39 : decode cX6_tray 39 = .ok (.aload_n 0, 1) := dk_42 (dk_at dksX6_tray_1 16 rfl rfl)
theorem dX6_tray_40 : decode cX6_tray 40 = .ok (.getfield 24, 3) := dk_180 0 24 (dk_at dksX6_tray_1 17 rfl rfl)
theorem dX6_tray_43 : decode cX6_tray 43 = .ok (.iload_n 1, 1) := dk_27 (dk_at dksX6_tray_1 20 rfl rfl)
theorem dX6_tray_44 : decode cX6_tray 44 = .ok (.iload_n 3, 1) := dk_29 (dk_at dksX6_tray_1 21 rfl rfl)
theorem dX6_tray_45 : decode cX6_tray 45 = .ok (.iastore, 1) := dk_79 (dk_at dksX6_tray_1 22 rfl rfl)
theorem dX6_tray_46 : decode cX6_tray 46 = .ok (.iconst 0, 1) := dk_3 (dk_at dksX6_tray_1 23 rfl rfl)
theorem dX6_tray_47 : decode cX6_tray 47 = .ok (.istore 4, 2) := dk_54 4 (dk_at dksX6_tray_2 0 rfl rfl)
theorem dX6_tray_49 : decode cX6_tray 49 = .ok (.iload 4, 2) := dk_21 4 (dk_at dksX6_tray_2 2 rfl rfl)
theorem dX6_tray_51 : decode cX6_tray 51 = .ok (.iload_n 3, 1) := dk_29 (dk_at dksX6_tray_2 4 rfl rfl)
theorem dX6_tray_52 : decode cX6_tray 52 = .ok (.if_icmp .ge 22, 3) := dk_162 0 22 (dk_at dksX6_tray_2 5 rfl rfl)
theorem dX6_tray_55 : decode cX6_tray 55 = .ok (.aload_n 0, 1) := dk_42 (dk_at dksX6_tray_2 8 rfl rfl)
theorem dX6_tray_56 : decode cX6_tray 56 = .ok (.getfield 27, 3) := dk_180 0 27 (dk_at dksX6_tray_2 9 rfl rfl)
theorem dX6_tray_59 : decode cX6_tray 59 = .ok (.bipush 60, 2) := dk_16 60 (dk_at dksX6_tray_2 12 rfl rfl)
theorem dX6_tray_61 : decode cX6_tray 61 = .ok (.iload_n 1, 1) := dk_27 (dk_at dksX6_tray_2 14 rfl rfl)
theorem dX6_tray_62 : decode cX6_tray 62 = .ok (.imul, 1) := dk_104 (dk_at dksX6_tray_2 15 rfl rfl)
theorem dX6_tray_63 : decode cX6_tray 63 = .ok (.iload 4, 2) := dk_21 4 (dk_at dksX6_tray_2 16 rfl rfl)
theorem dX6_tray_65 : decode cX6_tray 65 = .ok (.iadd, 1) := dk_96 (dk_at dksX6_tray_2 18 rfl rfl)
theorem dX6_tray_66 : decode cX6_tray 66 = .ok (.lconst 0, 1) := dk_9 (dk_at dksX6_tray_2 19 rfl rfl)
theorem dX6_tray_67 : decode cX6_tray 67 = .ok (.lastore, 1) := dk_80 (dk_at dksX6_tray_2 20 rfl rfl)
theorem dX6_tray_68 : decode cX6_tray 68 = .ok (.iinc 4 1, 3) := dk_132 4 1 (dk_at dksX6_tray_2 21 rfl rfl)
theorem dX6_tray_71 : decode cX6_tray 71 = .ok (.goto (-22), 3) := dk_167 255 234 (dk_at dksX6_tray_3 0 rfl rfl)
theorem dX6_tray_74 : decode cX6_tray 74 = .ok (.aload_n 0, 1) := dk_42 (dk_at dksX6_tray_3 3 rfl rfl)
theorem dX6_tray_75 : decode cX6_tray 75 = .ok (.iconst 0, 1) := dk_3 (dk_at dksX6_tray_3 4 rfl rfl)
theorem dX6_tray_76 : decode cX6_tray 76 = .ok (.invokevirtual 98, 3) := dk_182 0 98 (dk_at dksX6_tray_3 5 rfl rfl)
theorem dX6_tray_79 : decode cX6_tray 79 = .ok (.ireturn, 1) := dk_172 (dk_at dksX6_tray_3 8 rfl rfl)
abbrev cX6_isTray : ByteArray := prog_16_method_11_code
def yX6_isTray : MethodName := ⟨RX6, "isTray", "(I)Z"⟩
def dkwX6_isTray_0 : List UInt8 := [26, 155, 0, 12, 26, 7, 162, 0, 7, 4, 167, 0, 4, 3, 172]
abbrev dktX6_isTray_0 : List UInt8 := dkwX6_isTray_0 ++ []
theorem dksX6_isTray_0 : cX6_isTray.data.toList.drop 0 = dktX6_isTray_0 := by decide +kernel
theorem dX6_isTray_0 : decode cX6_isTray 0 = .ok (.iload_n 0, 1) := dk_26 (dk_at dksX6_isTray_0 0 rfl rfl)
theorem dX6_isTray_1 : decode cX6_isTray 1 = .ok (.ifCond .lt 12, 3) := dk_155 0 12 (dk_at dksX6_isTray_0 1 rfl rfl)
theorem dX6_isTray_4 : decode cX6_isTray 4 = .ok (.iload_n 0, 1) := dk_26 (dk_at dksX6_isTray_0 4 rfl rfl)
theorem dX6_isTray_5 : decode cX6_isTray 5 = .ok (.iconst 4, 1) := dk_7 (dk_at dksX6_isTray_0 5 rfl rfl)
theorem dX6_isTray_6 : decode cX6_isTray 6 = .ok (.if_icmp .ge 7, 3) := dk_162 0 7 (dk_at dksX6_isTray_0 6 rfl rfl)
theorem dX6_isTray_9 : decode cX6_isTray 9 = .ok (.iconst 1, 1) := dk_4 (dk_at dksX6_isTray_0 9 rfl rfl)
theorem dX6_isTray_10 : decode cX6_isTray 10 = .ok (.goto 4, 3) := dk_167 0 4 (dk_at dksX6_isTray_0 10 rfl rfl)
theorem dX6_isTray_13 : decode cX6_isTray 13 = .ok (.iconst 0, 1) := dk_3 (dk_at dksX6_isTray_0 13 rfl rfl)
theorem dX6_isTray_14 : decode cX6_isTray 14 = .ok (.ireturn, 1) := dk_172 (dk_at dksX6_isTray_0 14 rfl rfl)
abbrev cX6_is : ByteArray := prog_16_method_6_code
def yX6_is : MethodName := ⟨RX6, "is", "(I)Z"⟩
def dkwX6_is_0 : List UInt8 := [42, 27, 181, 0, 85, 27, 154, 0, 7, 4, 167, 0, 4, 3, 172]
abbrev dktX6_is_0 : List UInt8 := dkwX6_is_0 ++ []
theorem dksX6_is_0 : cX6_is.data.toList.drop 0 = dktX6_is_0 := by decide +kernel
theorem dX6_is_0 : decode cX6_is 0 = .ok (.aload_n 0, 1) := dk_42 (dk_at dksX6_is_0 0 rfl rfl)
theorem dX6_is_1 : decode cX6_is 1 = .ok (.iload_n 1, 1) := dk_27 (dk_at dksX6_is_0 1 rfl rfl)
theorem dX6_is_2 : decode cX6_is 2 = .ok (.putfield 85, 3) := dk_181 0 85 (dk_at dksX6_is_0 2 rfl rfl)
theorem dX6_is_5 : decode cX6_is 5 = .ok (.iload_n 1, 1) := dk_27 (dk_at dksX6_is_0 5 rfl rfl)
theorem dX6_is_6 : decode cX6_is 6 = .ok (.ifCond .ne 7, 3) := dk_154 0 7 (dk_at dksX6_is_0 6 rfl rfl)
theorem dX6_is_9 : decode cX6_is 9 = .ok (.iconst 1, 1) := dk_4 (dk_at dksX6_is_0 9 rfl rfl)
theorem dX6_is_10 : decode cX6_is 10 = .ok (.goto 4, 3) := dk_167 0 4 (dk_at dksX6_is_0 10 rfl rfl)
theorem dX6_is_13 : decode cX6_is 13 = .ok (.iconst 0, 1) := dk_3 (dk_at dksX6_is_0 13 rfl rfl)
theorem dX6_is_14 : decode cX6_is 14 = .ok (.ireturn, 1) := dk_172 (dk_at dksX6_is_0 14 rfl rfl)
abbrev cX6_write : ByteArray := prog_16_method_15_code
def yX6_write : MethodName := ⟨RX6, "write", "(IIJ)Z"⟩
def dkwX6_write_1 : List UInt8 := [42, 180, 0, 21, 27, 46, 184, 0, 109, 80, 42, 21, 5, 182, 0, 98, 172]
abbrev dktX6_write_1 : List UInt8 := dkwX6_write_1 ++ []
def dkwX6_write_0 : List UInt8 := [42, 27, 28, 182, 0, 105, 54, 5, 21, 5, 154, 0, 24, 42, 180, 0, 27, 16, 60, 27, 104, 28, 96, 33]
abbrev dktX6_write_0 : List UInt8 := dkwX6_write_0 ++ dktX6_write_1
theorem dksX6_write_0 : cX6_write.data.toList.drop 0 = dktX6_write_0 := by decide +kernel
theorem dksX6_write_1 : cX6_write.data.toList.drop 24 = dktX6_write_1 := dk_seg dksX6_write_0 24 rfl rfl
theorem dX6_write_0 : decode cX6_write 0 = .ok (.aload_n 0, 1) := dk_42 (dk_at dksX6_write_0 0 rfl rfl)
theorem dX6_write_1 : decode cX6_write 1 = .ok (.iload_n 1, 1) := dk_27 (dk_at dksX6_write_0 1 rfl rfl)
theorem dX6_write_2 : decode cX6_write 2 = .ok (.iload_n 2, 1) := dk_28 (dk_at dksX6_write_0 2 rfl rfl)
theorem dX6_write_3 : decode cX6_write 3 = .ok (.invokevirtual 105, 3) := dk_182 0 105 (dk_at dksX6_write_0 3 rfl rfl)
theorem dX6_write_6 : decode cX6_write 6 = .ok (.istore 5, 2) := dk_54 5 (dk_at dksX6_write_0 6 rfl rfl)
theorem dX6_write_8 : decode cX6_write 8 = .ok (.iload 5, 2) := dk_21 5 (dk_at dksX6_write_0 8 rfl rfl)
theorem dX6_write_10 : decode cX6_write 10 = .ok (.ifCond .ne 24, 3) := dk_154 0 24 (dk_at dksX6_write_0 10 rfl rfl)
theorem dX6_write_13 : decode cX6_write 13 = .ok (.aload_n 0, 1) := dk_42 (dk_at dksX6_write_0 13 rfl rfl)
theorem dX6_write_14 : decode cX6_write 14 = .ok (.getfield 27, 3) := dk_180 0 27 (dk_at dksX6_write_0 14 rfl rfl)
theorem dX6_write_17 : decode cX6_write 17 = .ok (.bipush 60, 2) := dk_16 60 (dk_at dksX6_write_0 17 rfl rfl)
theorem dX6_write_19 : decode cX6_write 19 = .ok (.iload_n 1, 1) := dk_27 (dk_at dksX6_write_0 19 rfl rfl)
theorem dX6_write_20 : decode cX6_write 20 = .ok (.imul, 1) := dk_104 (dk_at dksX6_write_0 20 rfl rfl)
theorem dX6_write_21 : decode cX6_write 21 = .ok (.iload_n 2, 1) := dk_28 (dk_at dksX6_write_0 21 rfl rfl)
theorem dX6_write_22 : decode cX6_write 22 = .ok (.iadd, 1) := dk_96 (dk_at dksX6_write_0 22 rfl rfl)
theorem dX6_write_23 : decode cX6_write 23 = .ok (.lload_n 3, 1) := dk_33 (dk_at dksX6_write_0 23 rfl rfl)
theorem dX6_write_24 : decode cX6_write 24 = .ok (.aload_n 0, 1) := dk_42 (dk_at dksX6_write_1 0 rfl rfl)
theorem dX6_write_25 : decode cX6_write 25 = .ok (.getfield 21, 3) := dk_180 0 21 (dk_at dksX6_write_1 1 rfl rfl)
theorem dX6_write_28 : decode cX6_write 28 = .ok (.iload_n 1, 1) := dk_27 (dk_at dksX6_write_1 4 rfl rfl)
theorem dX6_write_29 : decode cX6_write 29 = .ok (.iaload, 1) := dk_46 (dk_at dksX6_write_1 5 rfl rfl)
theorem dX6_write_30 : decode cX6_write 30 = .ok (.invokestatic 109, 3) := dk_184 0 109 (dk_at dksX6_write_1 6 rfl rfl)
theorem dX6_write_33 : decode cX6_write 33 = .ok (.lastore, 1) := dk_80 (dk_at dksX6_write_1 9 rfl rfl)
theorem dX6_write_34 : decode cX6_write 34 = .ok (.aload_n 0, 1) := dk_42 (dk_at dksX6_write_1 10 rfl rfl)
theorem dX6_write_35 : decode cX6_write 35 = .ok (.iload 5, 2) := dk_21 5 (dk_at dksX6_write_1 11 rfl rfl)
theorem dX6_write_37 : decode cX6_write 37 = .ok (.invokevirtual 98, 3) := dk_182 0 98 (dk_at dksX6_write_1 13 rfl rfl)
theorem dX6_write_40 : decode cX6_write 40 = .ok (.ireturn, 1) := dk_172 (dk_at dksX6_write_1 16 rfl rfl)
abbrev cX6_wrongPlace : ByteArray := prog_16_method_14_code
def yX6_wrongPlace : MethodName := ⟨RX6, "wrongPlace", "(II)I"⟩
def dkwX6_wrongPlace_1 : List UInt8 := [167, 0, 22, 28, 155, 0, 13, 28, 42, 180, 0, 24, 27, 46, 161, 0, 7, 6, 167, 0, 4, 3, 172]
abbrev dktX6_wrongPlace_1 : List UInt8 := dkwX6_wrongPlace_1 ++ []
def dkwX6_wrongPlace_0 : List UInt8 := [27, 184, 0, 102, 154, 0, 7, 4, 167, 0, 36, 42, 180, 0, 24, 27, 46, 2, 160, 0, 7, 5]
abbrev dktX6_wrongPlace_0 : List UInt8 := dkwX6_wrongPlace_0 ++ dktX6_wrongPlace_1
theorem dksX6_wrongPlace_0 : cX6_wrongPlace.data.toList.drop 0 = dktX6_wrongPlace_0 := by decide +kernel
theorem dksX6_wrongPlace_1 : cX6_wrongPlace.data.toList.drop 22 = dktX6_wrongPlace_1 := dk_seg dksX6_wrongPlace_0 22 rfl rfl
theorem dX6_wrongPlace_0 : decode cX6_wrongPlace 0 = .ok (.iload_n 1, 1) := dk_27 (dk_at dksX6_wrongPlace_0 0 rfl rfl)
theorem dX6_wrongPlace_1 : decode cX6_wrongPlace 1 = .ok (.invokestatic 102, 3) := dk_184 0 102 (dk_at dksX6_wrongPlace_0 1 rfl rfl)
theorem dX6_wrongPlace_4 : decode cX6_wrongPlace 4 = .ok (.ifCond .ne 7, 3) := dk_154 0 7 (dk_at dksX6_wrongPlace_0 4 rfl rfl)
theorem dX6_wrongPlace_7 : decode cX6_wrongPlace 7 = .ok (.iconst 1, 1) := dk_4 (dk_at dksX6_wrongPlace_0 7 rfl rfl)
theorem dX6_wrongPlace_8 : decode cX6_wrongPlace 8 = .ok (.goto 36, 3) := dk_167 0 36 (dk_at dksX6_wrongPlace_0 8 rfl rfl)
theorem dX6_wrongPlace_11 : decode cX6_wrongPlace 11 = .ok (.aload_n 0, 1) := dk_42 (dk_at dksX6_wrongPlace_0 11 rfl rfl)
theorem dX6_wrongPlace_12 : decode cX6_wrongPlace 12 = .ok (.getfield 24, 3) := dk_180 0 24 (dk_at dksX6_wrongPlace_0 12 rfl rfl)
theorem dX6_wrongPlace_15 : decode cX6_wrongPlace 15 = .ok (.iload_n 1, 1) := dk_27 (dk_at dksX6_wrongPlace_0 15 rfl rfl)
theorem dX6_wrongPlace_16 : decode cX6_wrongPlace 16 = .ok (.iaload, 1) := dk_46 (dk_at dksX6_wrongPlace_0 16 rfl rfl)
theorem dX6_wrongPlace_17 : decode cX6_wrongPlace 17 = .ok (.iconst (-1), 1) := dk_2 (dk_at dksX6_wrongPlace_0 17 rfl rfl)
theorem dX6_wrongPlace_18 : decode cX6_wrongPlace 18 = .ok (.if_icmp .ne 7, 3) := dk_160 0 7 (dk_at dksX6_wrongPlace_0 18 rfl rfl)
theorem dX6_wrongPlace_21 : decode cX6_wrongPlace 21 = .ok (.iconst 2, 1) := dk_5 (dk_at dksX6_wrongPlace_0 21 rfl rfl)
theorem dX6_wrongPlace_22 : decode cX6_wrongPlace 22 = .ok (.goto 22, 3) := dk_167 0 22 (dk_at dksX6_wrongPlace_1 0 rfl rfl)
theorem dX6_wrongPlace_25 : decode cX6_wrongPlace 25 = .ok (.iload_n 2, 1) := dk_28 (dk_at dksX6_wrongPlace_1 3 rfl rfl)
theorem dX6_wrongPlace_26 : decode cX6_wrongPlace 26 = .ok (.ifCond .lt 13, 3) := dk_155 0 13 (dk_at dksX6_wrongPlace_1 4 rfl rfl)
theorem dX6_wrongPlace_29 : decode cX6_wrongPlace 29 = .ok (.iload_n 2, 1) := dk_28 (dk_at dksX6_wrongPlace_1 7 rfl rfl)
theorem dX6_wrongPlace_30 : decode cX6_wrongPlace 30 = .ok (.aload_n 0, 1) := dk_42 (dk_at dksX6_wrongPlace_1 8 rfl rfl)
theorem dX6_wrongPlace_31 : decode cX6_wrongPlace 31 = .ok (.getfield 24, 3) := dk_180 0 24 (dk_at dksX6_wrongPlace_1 9 rfl rfl)
theorem dX6_wrongPlace_34 : decode cX6_wrongPlace 34 = .ok (.iload_n 1, 1) := dk_27 (dk_at dksX6_wrongPlace_1 12 rfl rfl)
theorem dX6_wrongPlace_35 : decode cX6_wrongPlace 35 = .ok (.iaload, 1) := dk_46 (dk_at dksX6_wrongPlace_1 13 rfl rfl)
theorem dX6_wrongPlace_36 : decode cX6_wrongPlace 36 = .ok (.if_icmp .lt 7, 3) := dk_161 0 7 (dk_at dksX6_wrongPlace_1 14 rfl rfl)
theorem dX6_wrongPlace_39 : decode cX6_wrongPlace 39 = .ok (.iconst 3, 1) := dk_6 (dk_at dksX6_wrongPlace_1 17 rfl rfl)
theorem dX6_wrongPlace_40 : decode cX6_wrongPlace 40 = .ok (.goto 4, 3) := dk_167 0 4 (dk_at dksX6_wrongPlace_1 18 rfl rfl)
theorem dX6_wrongPlace_43 : decode cX6_wrongPlace 43 = .ok (.iconst 0, 1) := dk_3 (dk_at dksX6_wrongPlace_1 21 rfl rfl)
theorem dX6_wrongPlace_44 : decode cX6_wrongPlace 44 = .ok (.ireturn, 1) := dk_172 (dk_at dksX6_wrongPlace_1 22 rfl rfl)
abbrev cX6_cut : ByteArray := prog_16_method_12_code
def yX6_cut : MethodName := ⟨RX6, "cut", "(JI)J"⟩
def dkwX6_cut_1 : List UInt8 := [5, 160, 0, 9, 30, 136, 133, 167, 0, 4, 30, 173]
abbrev dktX6_cut_1 : List UInt8 := dkwX6_cut_1 ++ []
def dkwX6_cut_0 : List UInt8 := [28, 154, 0, 10, 30, 136, 145, 133, 167, 0, 27, 28, 4, 160, 0, 10, 30, 136, 147, 133, 167, 0, 15, 28]
abbrev dktX6_cut_0 : List UInt8 := dkwX6_cut_0 ++ dktX6_cut_1
theorem dksX6_cut_0 : cX6_cut.data.toList.drop 0 = dktX6_cut_0 := by decide +kernel
theorem dksX6_cut_1 : cX6_cut.data.toList.drop 24 = dktX6_cut_1 := dk_seg dksX6_cut_0 24 rfl rfl
theorem dX6_cut_0 : decode cX6_cut 0 = .ok (.iload_n 2, 1) := dk_28 (dk_at dksX6_cut_0 0 rfl rfl)
theorem dX6_cut_1 : decode cX6_cut 1 = .ok (.ifCond .ne 10, 3) := dk_154 0 10 (dk_at dksX6_cut_0 1 rfl rfl)
theorem dX6_cut_4 : decode cX6_cut 4 = .ok (.lload_n 0, 1) := dk_30 (dk_at dksX6_cut_0 4 rfl rfl)
theorem dX6_cut_5 : decode cX6_cut 5 = .ok (.l2i, 1) := dk_136 (dk_at dksX6_cut_0 5 rfl rfl)
theorem dX6_cut_6 : decode cX6_cut 6 = .ok (.i2b, 1) := dk_145 (dk_at dksX6_cut_0 6 rfl rfl)
theorem dX6_cut_7 : decode cX6_cut 7 = .ok (.i2l, 1) := dk_133 (dk_at dksX6_cut_0 7 rfl rfl)
theorem dX6_cut_8 : decode cX6_cut 8 = .ok (.goto 27, 3) := dk_167 0 27 (dk_at dksX6_cut_0 8 rfl rfl)
theorem dX6_cut_11 : decode cX6_cut 11 = .ok (.iload_n 2, 1) := dk_28 (dk_at dksX6_cut_0 11 rfl rfl)
theorem dX6_cut_12 : decode cX6_cut 12 = .ok (.iconst 1, 1) := dk_4 (dk_at dksX6_cut_0 12 rfl rfl)
theorem dX6_cut_13 : decode cX6_cut 13 = .ok (.if_icmp .ne 10, 3) := dk_160 0 10 (dk_at dksX6_cut_0 13 rfl rfl)
theorem dX6_cut_16 : decode cX6_cut 16 = .ok (.lload_n 0, 1) := dk_30 (dk_at dksX6_cut_0 16 rfl rfl)
theorem dX6_cut_17 : decode cX6_cut 17 = .ok (.l2i, 1) := dk_136 (dk_at dksX6_cut_0 17 rfl rfl)
theorem dX6_cut_18 : decode cX6_cut 18 = .ok (.i2s, 1) := dk_147 (dk_at dksX6_cut_0 18 rfl rfl)
theorem dX6_cut_19 : decode cX6_cut 19 = .ok (.i2l, 1) := dk_133 (dk_at dksX6_cut_0 19 rfl rfl)
theorem dX6_cut_20 : decode cX6_cut 20 = .ok (.goto 15, 3) := dk_167 0 15 (dk_at dksX6_cut_0 20 rfl rfl)
theorem dX6_cut_23 : decode cX6_cut 23 = .ok (.iload_n 2, 1) := dk_28 (dk_at dksX6_cut_0 23 rfl rfl)
theorem dX6_cut_24 : decode cX6_cut 24 = .ok (.iconst 2, 1) := dk_5 (dk_at dksX6_cut_1 0 rfl rfl)
theorem dX6_cut_25 : decode cX6_cut 25 = .ok (.if_icmp .ne 9, 3) := dk_160 0 9 (dk_at dksX6_cut_1 1 rfl rfl)
theorem dX6_cut_28 : decode cX6_cut 28 = .ok (.lload_n 0, 1) := dk_30 (dk_at dksX6_cut_1 4 rfl rfl)
theorem dX6_cut_29 : decode cX6_cut 29 = .ok (.l2i, 1) := dk_136 (dk_at dksX6_cut_1 5 rfl rfl)
theorem dX6_cut_30 : decode cX6_cut 30 = .ok (.i2l, 1) := dk_133 (dk_at dksX6_cut_1 6 rfl rfl)
theorem dX6_cut_31 : decode cX6_cut 31 = .ok (.goto 4, 3) := dk_167 0 4 (dk_at dksX6_cut_1 7 rfl rfl)
theorem dX6_cut_34 : decode cX6_cut 34 = .ok (.lload_n 0, 1) := dk_30 (dk_at dksX6_cut_1 10 rfl rfl)
theorem dX6_cut_35 : decode cX6_cut 35 = .ok (.lreturn, 1) := dk_173 (dk_at dksX6_cut_1 11 rfl rfl)
abbrev cX6_read : ByteArray := prog_16_method_16_code
def yX6_read : MethodName := ⟨RX6, "read", "(II)J"⟩
def dkwX6_read_1 : List UInt8 := [180, 0, 27, 16, 60, 27, 104, 28, 96, 47, 173]
abbrev dktX6_read_1 : List UInt8 := dkwX6_read_1 ++ []
def dkwX6_read_0 : List UInt8 := [42, 42, 27, 28, 182, 0, 105, 181, 0, 85, 42, 180, 0, 85, 158, 0, 9, 20, 0, 113, 167, 0, 14, 42]
abbrev dktX6_read_0 : List UInt8 := dkwX6_read_0 ++ dktX6_read_1
theorem dksX6_read_0 : cX6_read.data.toList.drop 0 = dktX6_read_0 := by decide +kernel
theorem dksX6_read_1 : cX6_read.data.toList.drop 24 = dktX6_read_1 := dk_seg dksX6_read_0 24 rfl rfl
theorem dX6_read_0 : decode cX6_read 0 = .ok (.aload_n 0, 1) := dk_42 (dk_at dksX6_read_0 0 rfl rfl)
theorem dX6_read_1 : decode cX6_read 1 = .ok (.aload_n 0, 1) := dk_42 (dk_at dksX6_read_0 1 rfl rfl)
theorem dX6_read_2 : decode cX6_read 2 = .ok (.iload_n 1, 1) := dk_27 (dk_at dksX6_read_0 2 rfl rfl)
theorem dX6_read_3 : decode cX6_read 3 = .ok (.iload_n 2, 1) := dk_28 (dk_at dksX6_read_0 3 rfl rfl)
theorem dX6_read_4 : decode cX6_read 4 = .ok (.invokevirtual 105, 3) := dk_182 0 105 (dk_at dksX6_read_0 4 rfl rfl)
theorem dX6_read_7 : decode cX6_read 7 = .ok (.putfield 85, 3) := dk_181 0 85 (dk_at dksX6_read_0 7 rfl rfl)
theorem dX6_read_10 : decode cX6_read 10 = .ok (.aload_n 0, 1) := dk_42 (dk_at dksX6_read_0 10 rfl rfl)
theorem dX6_read_11 : decode cX6_read 11 = .ok (.getfield 85, 3) := dk_180 0 85 (dk_at dksX6_read_0 11 rfl rfl)
theorem dX6_read_14 : decode cX6_read 14 = .ok (.ifCond .le 9, 3) := dk_158 0 9 (dk_at dksX6_read_0 14 rfl rfl)
theorem dX6_read_17 : decode cX6_read 17 = .ok (.ldc2_w 113, 3) := dk_20 0 113 (dk_at dksX6_read_0 17 rfl rfl)
theorem dX6_read_20 : decode cX6_read 20 = .ok (.goto 14, 3) := dk_167 0 14 (dk_at dksX6_read_0 20 rfl rfl)
theorem dX6_read_23 : decode cX6_read 23 = .ok (.aload_n 0, 1) := dk_42 (dk_at dksX6_read_0 23 rfl rfl)
theorem dX6_read_24 : decode cX6_read 24 = .ok (.getfield 27, 3) := dk_180 0 27 (dk_at dksX6_read_1 0 rfl rfl)
theorem dX6_read_27 : decode cX6_read 27 = .ok (.bipush 60, 2) := dk_16 60 (dk_at dksX6_read_1 3 rfl rfl)
theorem dX6_read_29 : decode cX6_read 29 = .ok (.iload_n 1, 1) := dk_27 (dk_at dksX6_read_1 5 rfl rfl)
theorem dX6_read_30 : decode cX6_read 30 = .ok (.imul, 1) := dk_104 (dk_at dksX6_read_1 6 rfl rfl)
theorem dX6_read_31 : decode cX6_read 31 = .ok (.iload_n 2, 1) := dk_28 (dk_at dksX6_read_1 7 rfl rfl)
theorem dX6_read_32 : decode cX6_read 32 = .ok (.iadd, 1) := dk_96 (dk_at dksX6_read_1 8 rfl rfl)
theorem dX6_read_33 : decode cX6_read 33 = .ok (.laload, 1) := dk_47 (dk_at dksX6_read_1 9 rfl rfl)
theorem dX6_read_34 : decode cX6_read 34 = .ok (.lreturn, 1) := dk_173 (dk_at dksX6_read_1 10 rfl rfl)
abbrev cX6_pour : ByteArray := prog_16_method_17_code
def yX6_pour : MethodName := ⟨RX6, "pour", "(IIIII)Z"⟩
def dkwX6_pour_8 : List UInt8 := [182, 0, 98, 172]
abbrev dktX6_pour_8 : List UInt8 := dkwX6_pour_8 ++ []
def dkwX6_pour_7 : List UInt8 := [180, 0, 27, 16, 60, 27, 104, 28, 96, 21, 7, 96, 47, 80, 132, 6, 1, 167, 255, 197, 42, 3]
abbrev dktX6_pour_7 : List UInt8 := dkwX6_pour_7 ++ dktX6_pour_8
def dkwX6_pour_6 : List UInt8 := [167, 0, 5, 21, 6, 54, 7, 42, 180, 0, 27, 16, 60, 29, 104, 21, 4, 96, 21, 7, 96, 42]
abbrev dktX6_pour_6 : List UInt8 := dkwX6_pour_6 ++ dktX6_pour_7
def dkwX6_pour_5 : List UInt8 := [3, 54, 6, 21, 6, 21, 5, 162, 0, 58, 28, 21, 4, 162, 0, 13, 21, 5, 4, 100, 21, 6, 100]
abbrev dktX6_pour_5 : List UInt8 := dkwX6_pour_5 ++ dktX6_pour_6
def dkwX6_pour_4 : List UInt8 := [100, 163, 0, 17, 21, 5, 42, 180, 0, 24, 29, 46, 21, 4, 100, 164, 0, 9, 42, 6, 182, 0, 98, 172]
abbrev dktX6_pour_4 : List UInt8 := dkwX6_pour_4 ++ dktX6_pour_5
def dkwX6_pour_3 : List UInt8 := [180, 0, 21, 29, 46, 159, 0, 10, 42, 16, 8, 182, 0, 98, 172, 21, 5, 42, 180, 0, 24, 27, 46, 28]
abbrev dktX6_pour_3 : List UInt8 := dkwX6_pour_3 ++ dktX6_pour_4
def dkwX6_pour_2 : List UInt8 := [180, 0, 24, 29, 46, 2, 160, 0, 9, 42, 5, 182, 0, 98, 172, 42, 180, 0, 21, 27, 46, 42]
abbrev dktX6_pour_2 : List UInt8 := dkwX6_pour_2 ++ dktX6_pour_3
def dkwX6_pour_1 : List UInt8 := [21, 5, 156, 0, 9, 42, 4, 182, 0, 98, 172, 42, 180, 0, 24, 27, 46, 2, 159, 0, 13, 42]
abbrev dktX6_pour_1 : List UInt8 := dkwX6_pour_1 ++ dktX6_pour_2
def dkwX6_pour_0 : List UInt8 := [27, 184, 0, 102, 153, 0, 24, 29, 184, 0, 102, 153, 0, 17, 28, 155, 0, 13, 21, 4, 155, 0, 8]
abbrev dktX6_pour_0 : List UInt8 := dkwX6_pour_0 ++ dktX6_pour_1
theorem dksX6_pour_0 : cX6_pour.data.toList.drop 0 = dktX6_pour_0 := by decide +kernel
theorem dksX6_pour_1 : cX6_pour.data.toList.drop 23 = dktX6_pour_1 := dk_seg dksX6_pour_0 23 rfl rfl
theorem dksX6_pour_2 : cX6_pour.data.toList.drop 45 = dktX6_pour_2 := dk_seg dksX6_pour_1 22 rfl rfl
theorem dksX6_pour_3 : cX6_pour.data.toList.drop 67 = dktX6_pour_3 := dk_seg dksX6_pour_2 22 rfl rfl
theorem dksX6_pour_4 : cX6_pour.data.toList.drop 91 = dktX6_pour_4 := dk_seg dksX6_pour_3 24 rfl rfl
theorem dksX6_pour_5 : cX6_pour.data.toList.drop 115 = dktX6_pour_5 := dk_seg dksX6_pour_4 24 rfl rfl
theorem dksX6_pour_6 : cX6_pour.data.toList.drop 138 = dktX6_pour_6 := dk_seg dksX6_pour_5 23 rfl rfl
theorem dksX6_pour_7 : cX6_pour.data.toList.drop 160 = dktX6_pour_7 := dk_seg dksX6_pour_6 22 rfl rfl
theorem dksX6_pour_8 : cX6_pour.data.toList.drop 182 = dktX6_pour_8 := dk_seg dksX6_pour_7 22 rfl rfl
theorem dX6_pour_0 : decode cX6_pour 0 = .ok (.iload_n 1, 1) := dk_27 (dk_at dksX6_pour_0 0 rfl rfl)
theorem dX6_pour_1 : decode cX6_pour 1 = .ok (.invokestatic 102, 3) := dk_184 0 102 (dk_at dksX6_pour_0 1 rfl rfl)
theorem dX6_pour_4 : decode cX6_pour 4 = .ok (.ifCond .eq 24, 3) := dk_153 0 24 (dk_at dksX6_pour_0 4 rfl rfl)
theorem dX6_pour_7 : decode cX6_pour 7 = .ok (.iload_n 3, 1) := dk_29 (dk_at dksX6_pour_0 7 rfl rfl)
theorem dX6_pour_8 : decode cX6_pour 8 = .ok (.invokestatic 102, 3) := dk_184 0 102 (dk_at dksX6_pour_0 8 rfl rfl)
theorem dX6_pour_11 : decode cX6_pour 11 = .ok (.ifCond .eq 17, 3) := dk_153 0 17 (dk_at dksX6_pour_0 11 rfl rfl)
theorem dX6_pour_14 : decode cX6_pour 14 = .ok (.iload_n 2, 1) := dk_28 (dk_at dksX6_pour_0 14 rfl rfl)
theorem dX6_pour_15 : decode cX6_pour 15 = .ok (.ifCond .lt 13, 3) := dk_155 0 13 (dk_at dksX6_pour_0 15 rfl rfl)
theorem dX6_pour_18 : decode cX6_pour 18 = .ok (.iload 4, 2) := dk_21 4 (dk_at dksX6_pour_0 18 rfl rfl)
theorem dX6_pour_20 : decode cX6_pour 20 = .ok (.ifCond .lt 8, 3) := dk_155 0 8 (dk_at dksX6_pour_0 20 rfl rfl)
theorem dX6_pour_23 : decode cX6_pour 23 = .ok (.iload 5, 2) := dk_21 5 (dk_at dksX6_pour_1 0 rfl rfl)
theorem dX6_pour_25 : decode cX6_pour 25 = .ok (.ifCond .ge 9, 3) := dk_156 0 9 (dk_at dksX6_pour_1 2 rfl rfl)
theorem dX6_pour_28 : decode cX6_pour 28 = .ok (.aload_n 0, 1) := dk_42 (dk_at dksX6_pour_1 5 rfl rfl)
theorem dX6_pour_29 : decode cX6_pour 29 = .ok (.iconst 1, 1) := dk_4 (dk_at dksX6_pour_1 6 rfl rfl)
theorem dX6_pour_30 : decode cX6_pour 30 = .ok (.invokevirtual 98, 3) := dk_182 0 98 (dk_at dksX6_pour_1 7 rfl rfl)
theorem dX6_pour_33 : decode cX6_pour 33 = .ok (.ireturn, 1) := dk_172 (dk_at dksX6_pour_1 10 rfl rfl)
theorem dX6_pour_34 : decode cX6_pour 34 = .ok (.aload_n 0, 1) := dk_42 (dk_at dksX6_pour_1 11 rfl rfl)
theorem dX6_pour_35 : decode cX6_pour 35 = .ok (.getfield 24, 3) := dk_180 0 24 (dk_at dksX6_pour_1 12 rfl rfl)
theorem dX6_pour_38 : decode cX6_pour 38 = .ok (.iload_n 1, 1) := dk_27 (dk_at dksX6_pour_1 15 rfl rfl)
theorem dX6_pour_39 : decode cX6_pour 39 = .ok (.iaload, 1) := dk_46 (dk_at dksX6_pour_1 16 rfl rfl)
theorem dX6_pour_40 : decode cX6_pour 40 = .ok (.iconst (-1), 1) := dk_2 (dk_at dksX6_pour_1 17 rfl rfl)
theorem dX6_pour_41 : decode cX6_pour 41 = .ok (.if_icmp .eq 13, 3) := dk_159 0 13 (dk_at dksX6_pour_1 18 rfl rfl)
theorem dX6_pour_44 : decode cX6_pour 44 = .ok (.aload_n 0, 1) := dk_42 (dk_at dksX6_pour_1 21 rfl rfl)
theorem dX6_pour_45 : decode cX6_pour 45 = .ok (.getfield 24, 3) := dk_180 0 24 (dk_at dksX6_pour_2 0 rfl rfl)
theorem dX6_pour_48 : decode cX6_pour 48 = .ok (.iload_n 3, 1) := dk_29 (dk_at dksX6_pour_2 3 rfl rfl)
theorem dX6_pour_49 : decode cX6_pour 49 = .ok (.iaload, 1) := dk_46 (dk_at dksX6_pour_2 4 rfl rfl)
theorem dX6_pour_50 : decode cX6_pour 50 = .ok (.iconst (-1), 1) := dk_2 (dk_at dksX6_pour_2 5 rfl rfl)
theorem dX6_pour_51 : decode cX6_pour 51 = .ok (.if_icmp .ne 9, 3) := dk_160 0 9 (dk_at dksX6_pour_2 6 rfl rfl)
theorem dX6_pour_54 : decode cX6_pour 54 = .ok (.aload_n 0, 1) := dk_42 (dk_at dksX6_pour_2 9 rfl rfl)
theorem dX6_pour_55 : decode cX6_pour 55 = .ok (.iconst 2, 1) := dk_5 (dk_at dksX6_pour_2 10 rfl rfl)
theorem dX6_pour_56 : decode cX6_pour 56 = .ok (.invokevirtual 98, 3) := dk_182 0 98 (dk_at dksX6_pour_2 11 rfl rfl)
theorem dX6_pour_59 : decode cX6_pour 59 = .ok (.ireturn, 1) := dk_172 (dk_at dksX6_pour_2 14 rfl rfl)
theorem dX6_pour_60 : decode cX6_pour 60 = .ok (.aload_n 0, 1) := dk_42 (dk_at dksX6_pour_2 15 rfl rfl)
theorem dX6_pour_61 : decode cX6_pour 61 = .ok (.getfield 21, 3) := dk_180 0 21 (dk_at dksX6_pour_2 16 rfl rfl)
theorem dX6_pour_64 : decode cX6_pour 64 = .ok (.iload_n 1, 1) := dk_27 (dk_at dksX6_pour_2 19 rfl rfl)
theorem dX6_pour_65 : decode cX6_pour 65 = .ok (.iaload, 1) := dk_46 (dk_at dksX6_pour_2 20 rfl rfl)
theorem dX6_pour_66 : decode cX6_pour 66 = .ok (.aload_n 0, 1) := dk_42 (dk_at dksX6_pour_2 21 rfl rfl)
theorem dX6_pour_67 : decode cX6_pour 67 = .ok (.getfield 21, 3) := dk_180 0 21 (dk_at dksX6_pour_3 0 rfl rfl)
theorem dX6_pour_70 : decode cX6_pour 70 = .ok (.iload_n 3, 1) := dk_29 (dk_at dksX6_pour_3 3 rfl rfl)
theorem dX6_pour_71 : decode cX6_pour 71 = .ok (.iaload, 1) := dk_46 (dk_at dksX6_pour_3 4 rfl rfl)
theorem dX6_pour_72 : decode cX6_pour 72 = .ok (.if_icmp .eq 10, 3) := dk_159 0 10 (dk_at dksX6_pour_3 5 rfl rfl)
theorem dX6_pour_75 : decode cX6_pour 75 = .ok (.aload_n 0, 1) := dk_42 (dk_at dksX6_pour_3 8 rfl rfl)
theorem dX6_pour_76 : decode cX6_pour 76 = .ok (.bipush 8, 2) := dk_16 8 (dk_at dksX6_pour_3 9 rfl rfl)
theorem dX6_pour_78 : decode cX6_pour 78 = .ok (.invokevirtual 98, 3) := dk_182 0 98 (dk_at dksX6_pour_3 11 rfl rfl)
theorem dX6_pour_81 : decode cX6_pour 81 = .ok (.ireturn, 1) := dk_172 (dk_at dksX6_pour_3 14 rfl rfl)
theorem dX6_pour_82 : decode cX6_pour 82 = .ok (.iload 5, 2) := dk_21 5 (dk_at dksX6_pour_3 15 rfl rfl)
theorem dX6_pour_84 : decode cX6_pour 84 = .ok (.aload_n 0, 1) := dk_42 (dk_at dksX6_pour_3 17 rfl rfl)
theorem dX6_pour_85 : decode cX6_pour 85 = .ok (.getfield 24, 3) := dk_180 0 24 (dk_at dksX6_pour_3 18 rfl rfl)
theorem dX6_pour_88 : decode cX6_pour 88 = .ok (.iload_n 1, 1) := dk_27 (dk_at dksX6_pour_3 21 rfl rfl)
theorem dX6_pour_89 : decode cX6_pour 89 = .ok (.iaload, 1) := dk_46 (dk_at dksX6_pour_3 22 rfl rfl)
theorem dX6_pour_90 : decode cX6_pour 90 = .ok (.iload_n 2, 1) := dk_28 (dk_at dksX6_pour_3 23 rfl rfl)
theorem dX6_pour_91 : decode cX6_pour 91 = .ok (.isub, 1) := dk_100 (dk_at dksX6_pour_4 0 rfl rfl)
theorem dX6_pour_92 : decode cX6_pour 92 = .ok (.if_icmp .gt 17, 3) := dk_163 0 17 (dk_at dksX6_pour_4 1 rfl rfl)
theorem dX6_pour_95 : decode cX6_pour 95 = .ok (.iload 5, 2) := dk_21 5 (dk_at dksX6_pour_4 4 rfl rfl)
theorem dX6_pour_97 : decode cX6_pour 97 = .ok (.aload_n 0, 1) := dk_42 (dk_at dksX6_pour_4 6 rfl rfl)
theorem dX6_pour_98 : decode cX6_pour 98 = .ok (.getfield 24, 3) := dk_180 0 24 (dk_at dksX6_pour_4 7 rfl rfl)
theorem dX6_pour_101 : decode cX6_pour 101 = .ok (.iload_n 3, 1) := dk_29 (dk_at dksX6_pour_4 10 rfl rfl)
theorem dX6_pour_102 : decode cX6_pour 102 = .ok (.iaload, 1) := dk_46 (dk_at dksX6_pour_4 11 rfl rfl)
theorem dX6_pour_103 : decode cX6_pour 103 = .ok (.iload 4, 2) := dk_21 4 (dk_at dksX6_pour_4 12 rfl rfl)
theorem dX6_pour_105 : decode cX6_pour 105 = .ok (.isub, 1) := dk_100 (dk_at dksX6_pour_4 14 rfl rfl)
theorem dX6_pour_106 : decode cX6_pour 106 = .ok (.if_icmp .le 9, 3) := dk_164 0 9 (dk_at dksX6_pour_4 15 rfl rfl)
theorem dX6_pour_109 : decode cX6_pour 109 = .ok (.aload_n 0, 1) := dk_42 (dk_at dksX6_pour_4 18 rfl rfl)
theorem dX6_pour_110 : decode cX6_pour 110 = .ok (.iconst 3, 1) := dk_6 (dk_at dksX6_pour_4 19 rfl rfl)
theorem dX6_pour_111 : decode cX6_pour 111 = .ok (.invokevirtual 98, 3) := dk_182 0 98 (dk_at dksX6_pour_4 20 rfl rfl)
theorem dX6_pour_114 : decode cX6_pour 114 = .ok (.ireturn, 1) := dk_172 (dk_at dksX6_pour_4 23 rfl rfl)
theorem dX6_pour_115 : decode cX6_pour 115 = .ok (.iconst 0, 1) := dk_3 (dk_at dksX6_pour_5 0 rfl rfl)
theorem dX6_pour_116 : decode cX6_pour 116 = .ok (.istore 6, 2) := dk_54 6 (dk_at dksX6_pour_5 1 rfl rfl)
theorem dX6_pour_118 : decode cX6_pour 118 = .ok (.iload 6, 2) := dk_21 6 (dk_at dksX6_pour_5 3 rfl rfl)
theorem dX6_pour_120 : decode cX6_pour 120 = .ok (.iload 5, 2) := dk_21 5 (dk_at dksX6_pour_5 5 rfl rfl)
theorem dX6_pour_122 : decode cX6_pour 122 = .ok (.if_icmp .ge 58, 3) := dk_162 0 58 (dk_at dksX6_pour_5 7 rfl rfl)
theorem dX6_pour_125 : decode cX6_pour 125 = .ok (.iload_n 2, 1) := dk_28 (dk_at dksX6_pour_5 10 rfl rfl)
theorem dX6_pour_126 : decode cX6_pour 126 = .ok (.iload 4, 2) := dk_21 4 (dk_at dksX6_pour_5 11 rfl rfl)
theorem dX6_pour_128 : decode cX6_pour 128 = .ok (.if_icmp .ge 13, 3) := dk_162 0 13 (dk_at dksX6_pour_5 13 rfl rfl)
theorem dX6_pour_131 : decode cX6_pour 131 = .ok (.iload 5, 2) := dk_21 5 (dk_at dksX6_pour_5 16 rfl rfl)
theorem dX6_pour_133 : decode cX6_pour 133 = .ok (.iconst 1, 1) := dk_4 (dk_at dksX6_pour_5 18 rfl rfl)
theorem dX6_pour_134 : decode cX6_pour 134 = .ok (.isub, 1) := dk_100 (dk_at dksX6_pour_5 19 rfl rfl)
theorem dX6_pour_135 : decode cX6_pour 135 = .ok (.iload 6, 2) := dk_21 6 (dk_at dksX6_pour_5 20 rfl rfl)
theorem dX6_pour_137 : decode cX6_pour 137 = .ok (.isub, 1) := dk_100 (dk_at dksX6_pour_5 22 rfl rfl)
theorem dX6_pour_138 : decode cX6_pour 138 = .ok (.goto 5, 3) := dk_167 0 5 (dk_at dksX6_pour_6 0 rfl rfl)
theorem dX6_pour_141 : decode cX6_pour 141 = .ok (.iload 6, 2) := dk_21 6 (dk_at dksX6_pour_6 3 rfl rfl)
theorem dX6_pour_143 : decode cX6_pour 143 = .ok (.istore 7, 2) := dk_54 7 (dk_at dksX6_pour_6 5 rfl rfl)
theorem dX6_pour_145 : decode cX6_pour 145 = .ok (.aload_n 0, 1) := dk_42 (dk_at dksX6_pour_6 7 rfl rfl)
theorem dX6_pour_146 : decode cX6_pour 146 = .ok (.getfield 27, 3) := dk_180 0 27 (dk_at dksX6_pour_6 8 rfl rfl)
theorem dX6_pour_149 : decode cX6_pour 149 = .ok (.bipush 60, 2) := dk_16 60 (dk_at dksX6_pour_6 11 rfl rfl)
theorem dX6_pour_151 : decode cX6_pour 151 = .ok (.iload_n 3, 1) := dk_29 (dk_at dksX6_pour_6 13 rfl rfl)
theorem dX6_pour_152 : decode cX6_pour 152 = .ok (.imul, 1) := dk_104 (dk_at dksX6_pour_6 14 rfl rfl)
theorem dX6_pour_153 : decode cX6_pour 153 = .ok (.iload 4, 2) := dk_21 4 (dk_at dksX6_pour_6 15 rfl rfl)
theorem dX6_pour_155 : decode cX6_pour 155 = .ok (.iadd, 1) := dk_96 (dk_at dksX6_pour_6 17 rfl rfl)
theorem dX6_pour_156 : decode cX6_pour 156 = .ok (.iload 7, 2) := dk_21 7 (dk_at dksX6_pour_6 18 rfl rfl)
theorem dX6_pour_158 : decode cX6_pour 158 = .ok (.iadd, 1) := dk_96 (dk_at dksX6_pour_6 20 rfl rfl)
theorem dX6_pour_159 : decode cX6_pour 159 = .ok (.aload_n 0, 1) := dk_42 (dk_at dksX6_pour_6 21 rfl rfl)
theorem dX6_pour_160 : decode cX6_pour 160 = .ok (.getfield 27, 3) := dk_180 0 27 (dk_at dksX6_pour_7 0 rfl rfl)
theorem dX6_pour_163 : decode cX6_pour 163 = .ok (.bipush 60, 2) := dk_16 60 (dk_at dksX6_pour_7 3 rfl rfl)
theorem dX6_pour_165 : decode cX6_pour 165 = .ok (.iload_n 1, 1) := dk_27 (dk_at dksX6_pour_7 5 rfl rfl)
theorem dX6_pour_166 : decode cX6_pour 166 = .ok (.imul, 1) := dk_104 (dk_at dksX6_pour_7 6 rfl rfl)
theorem dX6_pour_167 : decode cX6_pour 167 = .ok (.iload_n 2, 1) := dk_28 (dk_at dksX6_pour_7 7 rfl rfl)
theorem dX6_pour_168 : decode cX6_pour 168 = .ok (.iadd, 1) := dk_96 (dk_at dksX6_pour_7 8 rfl rfl)
theorem dX6_pour_169 : decode cX6_pour 169 = .ok (.iload 7, 2) := dk_21 7 (dk_at dksX6_pour_7 9 rfl rfl)
theorem dX6_pour_171 : decode cX6_pour 171 = .ok (.iadd, 1) := dk_96 (dk_at dksX6_pour_7 11 rfl rfl)
theorem dX6_pour_172 : decode cX6_pour 172 = .ok (.laload, 1) := dk_47 (dk_at dksX6_pour_7 12 rfl rfl)
theorem dX6_pour_173 : decode cX6_pour 173 = .ok (.lastore, 1) := dk_80 (dk_at dksX6_pour_7 13 rfl rfl)
theorem dX6_pour_174 : decode cX6_pour 174 = .ok (.iinc 6 1, 3) := dk_132 6 1 (dk_at dksX6_pour_7 14 rfl rfl)
theorem dX6_pour_177 : decode cX6_pour 177 = .ok (.goto (-59), 3) := dk_167 255 197 (dk_at dksX6_pour_7 17 rfl rfl)
theorem dX6_pour_180 : decode cX6_pour 180 = .ok (.aload_n 0, 1) := dk_42 (dk_at dksX6_pour_7 20 rfl rfl)
theorem dX6_pour_181 : decode cX6_pour 181 = .ok (.iconst 0, 1) := dk_3 (dk_at dksX6_pour_7 21 rfl rfl)
theorem dX6_pour_182 : decode cX6_pour 182 = .ok (.invokevirtual 98, 3) := dk_182 0 98 (dk_at dksX6_pour_8 0 rfl rfl)
theorem dX6_pour_185 : decode cX6_pour 185 = .ok (.ireturn, 1) := dk_172 (dk_at dksX6_pour_8 3 rfl rfl)
abbrev cX6_feed : ByteArray := prog_16_method_19_code
def yX6_feed : MethodName := ⟨RX6, "feed", "(IIIII)I"⟩
def dkwX6_feed_2 : List UInt8 := [172]
abbrev dktX6_feed_2 : List UInt8 := dkwX6_feed_2 ++ []
def dkwX6_feed_1 : List UInt8 := [182, 0, 118, 42, 29, 182, 0, 118, 42, 21, 4, 182, 0, 118, 42, 21, 5, 182, 0, 118, 42, 180, 0, 115]
abbrev dktX6_feed_1 : List UInt8 := dkwX6_feed_1 ++ dktX6_feed_2
def dkwX6_feed_0 : List UInt8 := [42, 180, 0, 115, 16, 20, 96, 17, 3, 132, 164, 0, 5, 2, 172, 42, 27, 182, 0, 118, 42, 28]
abbrev dktX6_feed_0 : List UInt8 := dkwX6_feed_0 ++ dktX6_feed_1
theorem dksX6_feed_0 : cX6_feed.data.toList.drop 0 = dktX6_feed_0 := by decide +kernel
theorem dksX6_feed_1 : cX6_feed.data.toList.drop 22 = dktX6_feed_1 := dk_seg dksX6_feed_0 22 rfl rfl
theorem dksX6_feed_2 : cX6_feed.data.toList.drop 46 = dktX6_feed_2 := dk_seg dksX6_feed_1 24 rfl rfl
theorem dX6_feed_0 : decode cX6_feed 0 = .ok (.aload_n 0, 1) := dk_42 (dk_at dksX6_feed_0 0 rfl rfl)
theorem dX6_feed_1 : decode cX6_feed 1 = .ok (.getfield 115, 3) := dk_180 0 115 (dk_at dksX6_feed_0 1 rfl rfl)
theorem dX6_feed_4 : decode cX6_feed 4 = .ok (.bipush 20, 2) := dk_16 20 (dk_at dksX6_feed_0 4 rfl rfl)
theorem dX6_feed_6 : decode cX6_feed 6 = .ok (.iadd, 1) := dk_96 (dk_at dksX6_feed_0 6 rfl rfl)
theorem dX6_feed_7 : decode cX6_feed 7 = .ok (.sipush 900, 3) := dk_17 3 132 (dk_at dksX6_feed_0 7 rfl rfl)
theorem dX6_feed_10 : decode cX6_feed 10 = .ok (.if_icmp .le 5, 3) := dk_164 0 5 (dk_at dksX6_feed_0 10 rfl rfl)
theorem dX6_feed_13 : decode cX6_feed 13 = .ok (.iconst (-1), 1) := dk_2 (dk_at dksX6_feed_0 13 rfl rfl)
theorem dX6_feed_14 : decode cX6_feed 14 = .ok (.ireturn, 1) := dk_172 (dk_at dksX6_feed_0 14 rfl rfl)
theorem dX6_feed_15 : decode cX6_feed 15 = .ok (.aload_n 0, 1) := dk_42 (dk_at dksX6_feed_0 15 rfl rfl)
theorem dX6_feed_16 : decode cX6_feed 16 = .ok (.iload_n 1, 1) := dk_27 (dk_at dksX6_feed_0 16 rfl rfl)
theorem dX6_feed_17 : decode cX6_feed 17 = .ok (.invokevirtual 118, 3) := dk_182 0 118 (dk_at dksX6_feed_0 17 rfl rfl)
theorem dX6_feed_20 : decode cX6_feed 20 = .ok (.aload_n 0, 1) := dk_42 (dk_at dksX6_feed_0 20 rfl rfl)
theorem dX6_feed_21 : decode cX6_feed 21 = .ok (.iload_n 2, 1) := dk_28 (dk_at dksX6_feed_0 21 rfl rfl)
theorem dX6_feed_22 : decode cX6_feed 22 = .ok (.invokevirtual 118, 3) := dk_182 0 118 (dk_at dksX6_feed_1 0 rfl rfl)
theorem dX6_feed_25 : decode cX6_feed 25 = .ok (.aload_n 0, 1) := dk_42 (dk_at dksX6_feed_1 3 rfl rfl)
theorem dX6_feed_26 : decode cX6_feed 26 = .ok (.iload_n 3, 1) := dk_29 (dk_at dksX6_feed_1 4 rfl rfl)
theorem dX6_feed_27 : decode cX6_feed 27 = .ok (.invokevirtual 118, 3) := dk_182 0 118 (dk_at dksX6_feed_1 5 rfl rfl)
theorem dX6_feed_30 : decode cX6_feed 30 = .ok (.aload_n 0, 1) := dk_42 (dk_at dksX6_feed_1 8 rfl rfl)
theorem dX6_feed_31 : decode cX6_feed 31 = .ok (.iload 4, 2) := dk_21 4 (dk_at dksX6_feed_1 9 rfl rfl)
theorem dX6_feed_33 : decode cX6_feed 33 = .ok (.invokevirtual 118, 3) := dk_182 0 118 (dk_at dksX6_feed_1 11 rfl rfl)
theorem dX6_feed_36 : decode cX6_feed 36 = .ok (.aload_n 0, 1) := dk_42 (dk_at dksX6_feed_1 14 rfl rfl)
theorem dX6_feed_37 : decode cX6_feed 37 = .ok (.iload 5, 2) := dk_21 5 (dk_at dksX6_feed_1 15 rfl rfl)
theorem dX6_feed_39 : decode cX6_feed 39 = .ok (.invokevirtual 118, 3) := dk_182 0 118 (dk_at dksX6_feed_1 17 rfl rfl)
theorem dX6_feed_42 : decode cX6_feed 42 = .ok (.aload_n 0, 1) := dk_42 (dk_at dksX6_feed_1 20 rfl rfl)
theorem dX6_feed_43 : decode cX6_feed 43 = .ok (.getfield 115, 3) := dk_180 0 115 (dk_at dksX6_feed_1 21 rfl rfl)
theorem dX6_feed_46 : decode cX6_feed 46 = .ok (.ireturn, 1) := dk_172 (dk_at dksX6_feed_2 0 rfl rfl)
abbrev cX6_four : ByteArray := prog_16_method_20_code
def yX6_four : MethodName := ⟨RX6, "four", "(I)V"⟩
def dkwX6_four_1 : List UInt8 := [180, 0, 115, 4, 96, 181, 0, 115, 132, 2, 248, 167, 255, 226, 177]
abbrev dktX6_four_1 : List UInt8 := dkwX6_four_1 ++ []
def dkwX6_four_0 : List UInt8 := [16, 24, 61, 28, 155, 0, 32, 42, 180, 0, 30, 42, 180, 0, 115, 27, 28, 122, 145, 84, 42, 89]
abbrev dktX6_four_0 : List UInt8 := dkwX6_four_0 ++ dktX6_four_1
theorem dksX6_four_0 : cX6_four.data.toList.drop 0 = dktX6_four_0 := by decide +kernel
theorem dksX6_four_1 : cX6_four.data.toList.drop 22 = dktX6_four_1 := dk_seg dksX6_four_0 22 rfl rfl
theorem dX6_four_0 : decode cX6_four 0 = .ok (.bipush 24, 2) := dk_16 24 (dk_at dksX6_four_0 0 rfl rfl)
theorem dX6_four_2 : decode cX6_four 2 = .ok (.istore_n 2, 1) := dk_61 (dk_at dksX6_four_0 2 rfl rfl)
theorem dX6_four_3 : decode cX6_four 3 = .ok (.iload_n 2, 1) := dk_28 (dk_at dksX6_four_0 3 rfl rfl)
theorem dX6_four_4 : decode cX6_four 4 = .ok (.ifCond .lt 32, 3) := dk_155 0 32 (dk_at dksX6_four_0 4 rfl rfl)
theorem dX6_four_7 : decode cX6_four 7 = .ok (.aload_n 0, 1) := dk_42 (dk_at dksX6_four_0 7 rfl rfl)
theorem dX6_four_8 : decode cX6_four 8 = .ok (.getfield 30, 3) := dk_180 0 30 (dk_at dksX6_four_0 8 rfl rfl)
theorem dX6_four_11 : decode cX6_four 11 = .ok (.aload_n 0, 1) := dk_42 (dk_at dksX6_four_0 11 rfl rfl)
theorem dX6_four_12 : decode cX6_four 12 = .ok (.getfield 115, 3) := dk_180 0 115 (dk_at dksX6_four_0 12 rfl rfl)
theorem dX6_four_15 : decode cX6_four 15 = .ok (.iload_n 1, 1) := dk_27 (dk_at dksX6_four_0 15 rfl rfl)
theorem dX6_four_16 : decode cX6_four 16 = .ok (.iload_n 2, 1) := dk_28 (dk_at dksX6_four_0 16 rfl rfl)
theorem dX6_four_17 : decode cX6_four 17 = .ok (.ishr, 1) := dk_122 (dk_at dksX6_four_0 17 rfl rfl)
theorem dX6_four_18 : decode cX6_four 18 = .ok (.i2b, 1) := dk_145 (dk_at dksX6_four_0 18 rfl rfl)
theorem dX6_four_19 : decode cX6_four 19 = .ok (.bastore, 1) := dk_84 (dk_at dksX6_four_0 19 rfl rfl)
theorem dX6_four_20 : decode cX6_four 20 = .ok (.aload_n 0, 1) := dk_42 (dk_at dksX6_four_0 20 rfl rfl)
theorem dX6_four_21 : decode cX6_four 21 = .ok (.dup, 1) := dk_89 (dk_at dksX6_four_0 21 rfl rfl)
theorem dX6_four_22 : decode cX6_four 22 = .ok (.getfield 115, 3) := dk_180 0 115 (dk_at dksX6_four_1 0 rfl rfl)
theorem dX6_four_25 : decode cX6_four 25 = .ok (.iconst 1, 1) := dk_4 (dk_at dksX6_four_1 3 rfl rfl)
theorem dX6_four_26 : decode cX6_four 26 = .ok (.iadd, 1) := dk_96 (dk_at dksX6_four_1 4 rfl rfl)
theorem dX6_four_27 : decode cX6_four 27 = .ok (.putfield 115, 3) := dk_181 0 115 (dk_at dksX6_four_1 5 rfl rfl)
theorem dX6_four_30 : decode cX6_four 30 = .ok (.iinc 2 (-8), 3) := dk_132 2 248 (dk_at dksX6_four_1 8 rfl rfl)
theorem dX6_four_33 : decode cX6_four 33 = .ok (.goto (-30), 3) := dk_167 255 226 (dk_at dksX6_four_1 11 rfl rfl)
theorem dX6_four_36 : decode cX6_four 36 = .ok (.return_, 1) := dk_177 (dk_at dksX6_four_1 14 rfl rfl)
abbrev cX6_fault : ByteArray := prog_16_method_35_code
def yX6_fault : MethodName := ⟨RX6, "fault", "(I)I"⟩
def dkwX6_fault_1 : List UInt8 := [172]
abbrev dktX6_fault_1 : List UInt8 := dkwX6_fault_1 ++ []
def dkwX6_fault_0 : List UInt8 := [27, 154, 0, 10, 42, 180, 0, 37, 167, 0, 16, 27, 4, 160, 0, 10, 42, 180, 0, 41, 167, 0, 4, 2]
abbrev dktX6_fault_0 : List UInt8 := dkwX6_fault_0 ++ dktX6_fault_1
theorem dksX6_fault_0 : cX6_fault.data.toList.drop 0 = dktX6_fault_0 := by decide +kernel
theorem dksX6_fault_1 : cX6_fault.data.toList.drop 24 = dktX6_fault_1 := dk_seg dksX6_fault_0 24 rfl rfl
theorem dX6_fault_0 : decode cX6_fault 0 = .ok (.iload_n 1, 1) := dk_27 (dk_at dksX6_fault_0 0 rfl rfl)
theorem dX6_fault_1 : decode cX6_fault 1 = .ok (.ifCond .ne 10, 3) := dk_154 0 10 (dk_at dksX6_fault_0 1 rfl rfl)
theorem dX6_fault_4 : decode cX6_fault 4 = .ok (.aload_n 0, 1) := dk_42 (dk_at dksX6_fault_0 4 rfl rfl)
theorem dX6_fault_5 : decode cX6_fault 5 = .ok (.getfield 37, 3) := dk_180 0 37 (dk_at dksX6_fault_0 5 rfl rfl)
theorem dX6_fault_8 : decode cX6_fault 8 = .ok (.goto 16, 3) := dk_167 0 16 (dk_at dksX6_fault_0 8 rfl rfl)
theorem dX6_fault_11 : decode cX6_fault 11 = .ok (.iload_n 1, 1) := dk_27 (dk_at dksX6_fault_0 11 rfl rfl)
theorem dX6_fault_12 : decode cX6_fault 12 = .ok (.iconst 1, 1) := dk_4 (dk_at dksX6_fault_0 12 rfl rfl)
theorem dX6_fault_13 : decode cX6_fault 13 = .ok (.if_icmp .ne 10, 3) := dk_160 0 10 (dk_at dksX6_fault_0 13 rfl rfl)
theorem dX6_fault_16 : decode cX6_fault 16 = .ok (.aload_n 0, 1) := dk_42 (dk_at dksX6_fault_0 16 rfl rfl)
theorem dX6_fault_17 : decode cX6_fault 17 = .ok (.getfield 41, 3) := dk_180 0 41 (dk_at dksX6_fault_0 17 rfl rfl)
theorem dX6_fault_20 : decode cX6_fault 20 = .ok (.goto 4, 3) := dk_167 0 4 (dk_at dksX6_fault_0 20 rfl rfl)
theorem dX6_fault_23 : decode cX6_fault 23 = .ok (.iconst (-1), 1) := dk_2 (dk_at dksX6_fault_0 23 rfl rfl)
theorem dX6_fault_24 : decode cX6_fault 24 = .ok (.ireturn, 1) := dk_172 (dk_at dksX6_fault_1 0 rfl rfl)
abbrev cX6_court : ByteArray := prog_16_method_53_code
def yX6_court : MethodName := ⟨RX6, "court", "(I)I"⟩
def dkwX6_court_5 : List UInt8 := [180, 0, 7, 6, 46, 182, 1, 1, 172]
abbrev dktX6_court_5 : List UInt8 := dkwX6_court_5 ++ []
def dkwX6_court_4 : List UInt8 := [180, 0, 13, 29, 42, 180, 0, 13, 16, 92, 29, 96, 47, 80, 132, 3, 1, 167, 255, 232, 42, 42]
abbrev dktX6_court_4 : List UInt8 := dkwX6_court_4 ++ dktX6_court_5
def dkwX6_court_3 : List UInt8 := [17, 7, 216, 29, 96, 46, 79, 132, 3, 1, 167, 255, 230, 3, 62, 29, 16, 23, 162, 0, 24, 42]
abbrev dktX6_court_3 : List UInt8 := dkwX6_court_3 ++ dktX6_court_4
def dkwX6_court_2 : List UInt8 := [180, 0, 161, 154, 0, 63, 3, 62, 29, 17, 1, 246, 162, 0, 25, 42, 180, 0, 7, 29, 42, 180, 0, 7]
abbrev dktX6_court_2 : List UInt8 := dkwX6_court_2 ++ dktX6_court_3
def dkwX6_court_1 : List UInt8 := [4, 61, 28, 153, 0, 18, 42, 180, 0, 136, 153, 0, 11, 42, 182, 0, 254, 61, 167, 255, 240, 42]
abbrev dktX6_court_1 : List UInt8 := dkwX6_court_1 ++ dktX6_court_2
def dkwX6_court_0 : List UInt8 := [42, 27, 17, 3, 132, 182, 0, 251, 154, 0, 9, 42, 4, 182, 0, 91, 172, 42, 17, 7, 216, 182, 0, 81]
abbrev dktX6_court_0 : List UInt8 := dkwX6_court_0 ++ dktX6_court_1
theorem dksX6_court_0 : cX6_court.data.toList.drop 0 = dktX6_court_0 := by decide +kernel
theorem dksX6_court_1 : cX6_court.data.toList.drop 24 = dktX6_court_1 := dk_seg dksX6_court_0 24 rfl rfl
theorem dksX6_court_2 : cX6_court.data.toList.drop 46 = dktX6_court_2 := dk_seg dksX6_court_1 22 rfl rfl
theorem dksX6_court_3 : cX6_court.data.toList.drop 70 = dktX6_court_3 := dk_seg dksX6_court_2 24 rfl rfl
theorem dksX6_court_4 : cX6_court.data.toList.drop 92 = dktX6_court_4 := dk_seg dksX6_court_3 22 rfl rfl
theorem dksX6_court_5 : cX6_court.data.toList.drop 114 = dktX6_court_5 := dk_seg dksX6_court_4 22 rfl rfl
theorem dX6_court_0 : decode cX6_court 0 = .ok (.aload_n 0, 1) := dk_42 (dk_at dksX6_court_0 0 rfl rfl)
theorem dX6_court_1 : decode cX6_court 1 = .ok (.iload_n 1, 1) := dk_27 (dk_at dksX6_court_0 1 rfl rfl)
theorem dX6_court_2 : decode cX6_court 2 = .ok (.sipush 900, 3) := dk_17 3 132 (dk_at dksX6_court_0 2 rfl rfl)
theorem dX6_court_5 : decode cX6_court 5 = .ok (.invokevirtual 251, 3) := dk_182 0 251 (dk_at dksX6_court_0 5 rfl rfl)
theorem dX6_court_8 : decode cX6_court 8 = .ok (.ifCond .ne 9, 3) := dk_154 0 9 (dk_at dksX6_court_0 8 rfl rfl)
theorem dX6_court_11 : decode cX6_court 11 = .ok (.aload_n 0, 1) := dk_42 (dk_at dksX6_court_0 11 rfl rfl)
theorem dX6_court_12 : decode cX6_court 12 = .ok (.iconst 1, 1) := dk_4 (dk_at dksX6_court_0 12 rfl rfl)
theorem dX6_court_13 : decode cX6_court 13 = .ok (.invokevirtual 91, 3) := dk_182 0 91 (dk_at dksX6_court_0 13 rfl rfl)
theorem dX6_court_16 : decode cX6_court 16 = .ok (.ireturn, 1) := dk_172 (dk_at dksX6_court_0 16 rfl rfl)
theorem dX6_court_17 : decode cX6_court 17 = .ok (.aload_n 0, 1) := dk_42 (dk_at dksX6_court_0 17 rfl rfl)
theorem dX6_court_18 : decode cX6_court 18 = .ok (.sipush 2008, 3) := dk_17 7 216 (dk_at dksX6_court_0 18 rfl rfl)
theorem dX6_court_21 : decode cX6_court 21 = .ok (.invokevirtual 81, 3) := dk_182 0 81 (dk_at dksX6_court_0 21 rfl rfl)
theorem dX6_court_24 : decode cX6_court 24 = .ok (.iconst 1, 1) := dk_4 (dk_at dksX6_court_1 0 rfl rfl)
theorem dX6_court_25 : decode cX6_court 25 = .ok (.istore_n 2, 1) := dk_61 (dk_at dksX6_court_1 1 rfl rfl)
theorem dX6_court_26 : decode cX6_court 26 = .ok (.iload_n 2, 1) := dk_28 (dk_at dksX6_court_1 2 rfl rfl)
theorem dX6_court_27 : decode cX6_court 27 = .ok (.ifCond .eq 18, 3) := dk_153 0 18 (dk_at dksX6_court_1 3 rfl rfl)
theorem dX6_court_30 : decode cX6_court 30 = .ok (.aload_n 0, 1) := dk_42 (dk_at dksX6_court_1 6 rfl rfl)
theorem dX6_court_31 : decode cX6_court 31 = .ok (.getfield 136, 3) := dk_180 0 136 (dk_at dksX6_court_1 7 rfl rfl)
theorem dX6_court_34 : decode cX6_court 34 = .ok (.ifCond .eq 11, 3) := dk_153 0 11 (dk_at dksX6_court_1 10 rfl rfl)
theorem dX6_court_37 : decode cX6_court 37 = .ok (.aload_n 0, 1) := dk_42 (dk_at dksX6_court_1 13 rfl rfl)
theorem dX6_court_38 : decode cX6_court 38 = .ok (.invokevirtual 254, 3) := dk_182 0 254 (dk_at dksX6_court_1 14 rfl rfl)
theorem dX6_court_41 : decode cX6_court 41 = .ok (.istore_n 2, 1) := dk_61 (dk_at dksX6_court_1 17 rfl rfl)
theorem dX6_court_42 : decode cX6_court 42 = .ok (.goto (-16), 3) := dk_167 255 240 (dk_at dksX6_court_1 18 rfl rfl)
theorem dX6_court_45 : decode cX6_court 45 = .ok (.aload_n 0, 1) := dk_42 (dk_at dksX6_court_1 21 rfl rfl)
theorem dX6_court_46 : decode cX6_court 46 = .ok (.getfield 161, 3) := dk_180 0 161 (dk_at dksX6_court_2 0 rfl rfl)
theorem dX6_court_49 : decode cX6_court 49 = .ok (.ifCond .ne 63, 3) := dk_154 0 63 (dk_at dksX6_court_2 3 rfl rfl)
theorem dX6_court_52 : decode cX6_court 52 = .ok (.iconst 0, 1) := dk_3 (dk_at dksX6_court_2 6 rfl rfl)
theorem dX6_court_53 : decode cX6_court 53 = .ok (.istore_n 3, 1) := dk_62 (dk_at dksX6_court_2 7 rfl rfl)
theorem dX6_court_54 : decode cX6_court 54 = .ok (.iload_n 3, 1) := dk_29 (dk_at dksX6_court_2 8 rfl rfl)
theorem dX6_court_55 : decode cX6_court 55 = .ok (.sipush 502, 3) := dk_17 1 246 (dk_at dksX6_court_2 9 rfl rfl)
theorem dX6_court_58 : decode cX6_court 58 = .ok (.if_icmp .ge 25, 3) := dk_162 0 25 (dk_at dksX6_court_2 12 rfl rfl)
theorem dX6_court_61 : decode cX6_court 61 = .ok (.aload_n 0, 1) := dk_42 (dk_at dksX6_court_2 15 rfl rfl)
theorem dX6_court_62 : decode cX6_court 62 = .ok (.getfield 7, 3) := dk_180 0 7 (dk_at dksX6_court_2 16 rfl rfl)
theorem dX6_court_65 : decode cX6_court 65 = .ok (.iload_n 3, 1) := dk_29 (dk_at dksX6_court_2 19 rfl rfl)
theorem dX6_court_66 : decode cX6_court 66 = .ok (.aload_n 0, 1) := dk_42 (dk_at dksX6_court_2 20 rfl rfl)
theorem dX6_court_67 : decode cX6_court 67 = .ok (.getfield 7, 3) := dk_180 0 7 (dk_at dksX6_court_2 21 rfl rfl)
theorem dX6_court_70 : decode cX6_court 70 = .ok (.sipush 2008, 3) := dk_17 7 216 (dk_at dksX6_court_3 0 rfl rfl)
theorem dX6_court_73 : decode cX6_court 73 = .ok (.iload_n 3, 1) := dk_29 (dk_at dksX6_court_3 3 rfl rfl)
theorem dX6_court_74 : decode cX6_court 74 = .ok (.iadd, 1) := dk_96 (dk_at dksX6_court_3 4 rfl rfl)
theorem dX6_court_75 : decode cX6_court 75 = .ok (.iaload, 1) := dk_46 (dk_at dksX6_court_3 5 rfl rfl)
theorem dX6_court_76 : decode cX6_court 76 = .ok (.iastore, 1) := dk_79 (dk_at dksX6_court_3 6 rfl rfl)
theorem dX6_court_77 : decode cX6_court 77 = .ok (.iinc 3 1, 3) := dk_132 3 1 (dk_at dksX6_court_3 7 rfl rfl)
theorem dX6_court_80 : decode cX6_court 80 = .ok (.goto (-26), 3) := dk_167 255 230 (dk_at dksX6_court_3 10 rfl rfl)
theorem dX6_court_83 : decode cX6_court 83 = .ok (.iconst 0, 1) := dk_3 (dk_at dksX6_court_3 13 rfl rfl)
theorem dX6_court_84 : decode cX6_court 84 = .ok (.istore_n 3, 1) := dk_62 (dk_at dksX6_court_3 14 rfl rfl)
theorem dX6_court_85 : decode cX6_court 85 = .ok (.iload_n 3, 1) := dk_29 (dk_at dksX6_court_3 15 rfl rfl)
theorem dX6_court_86 : decode cX6_court 86 = .ok (.bipush 23, 2) := dk_16 23 (dk_at dksX6_court_3 16 rfl rfl)
theorem dX6_court_88 : decode cX6_court 88 = .ok (.if_icmp .ge 24, 3) := dk_162 0 24 (dk_at dksX6_court_3 18 rfl rfl)
theorem dX6_court_91 : decode cX6_court 91 = .ok (.aload_n 0, 1) := dk_42 (dk_at dksX6_court_3 21 rfl rfl)
theorem dX6_court_92 : decode cX6_court 92 = .ok (.getfield 13, 3) := dk_180 0 13 (dk_at dksX6_court_4 0 rfl rfl)
theorem dX6_court_95 : decode cX6_court 95 = .ok (.iload_n 3, 1) := dk_29 (dk_at dksX6_court_4 3 rfl rfl)
theorem dX6_court_96 : decode cX6_court 96 = .ok (.aload_n 0, 1) := dk_42 (dk_at dksX6_court_4 4 rfl rfl)
theorem dX6_court_97 : decode cX6_court 97 = .ok (.getfield 13, 3) := dk_180 0 13 (dk_at dksX6_court_4 5 rfl rfl)
theorem dX6_court_100 : decode cX6_court 100 = .ok (.bipush 92, 2) := dk_16 92 (dk_at dksX6_court_4 8 rfl rfl)
theorem dX6_court_102 : decode cX6_court 102 = .ok (.iload_n 3, 1) := dk_29 (dk_at dksX6_court_4 10 rfl rfl)
theorem dX6_court_103 : decode cX6_court 103 = .ok (.iadd, 1) := dk_96 (dk_at dksX6_court_4 11 rfl rfl)
theorem dX6_court_104 : decode cX6_court 104 = .ok (.laload, 1) := dk_47 (dk_at dksX6_court_4 12 rfl rfl)
theorem dX6_court_105 : decode cX6_court 105 = .ok (.lastore, 1) := dk_80 (dk_at dksX6_court_4 13 rfl rfl)
theorem dX6_court_106 : decode cX6_court 106 = .ok (.iinc 3 1, 3) := dk_132 3 1 (dk_at dksX6_court_4 14 rfl rfl)
theorem dX6_court_109 : decode cX6_court 109 = .ok (.goto (-24), 3) := dk_167 255 232 (dk_at dksX6_court_4 17 rfl rfl)
theorem dX6_court_112 : decode cX6_court 112 = .ok (.aload_n 0, 1) := dk_42 (dk_at dksX6_court_4 20 rfl rfl)
theorem dX6_court_113 : decode cX6_court 113 = .ok (.aload_n 0, 1) := dk_42 (dk_at dksX6_court_4 21 rfl rfl)
theorem dX6_court_114 : decode cX6_court 114 = .ok (.getfield 7, 3) := dk_180 0 7 (dk_at dksX6_court_5 0 rfl rfl)
theorem dX6_court_117 : decode cX6_court 117 = .ok (.iconst 3, 1) := dk_6 (dk_at dksX6_court_5 3 rfl rfl)
theorem dX6_court_118 : decode cX6_court 118 = .ok (.iaload, 1) := dk_46 (dk_at dksX6_court_5 4 rfl rfl)
theorem dX6_court_119 : decode cX6_court 119 = .ok (.invokevirtual 257, 3) := dk_182 1 1 (dk_at dksX6_court_5 5 rfl rfl)
theorem dX6_court_122 : decode cX6_court 122 = .ok (.ireturn, 1) := dk_172 (dk_at dksX6_court_5 8 rfl rfl)
abbrev cX6_begins : ByteArray := prog_16_method_28_code
def yX6_begins : MethodName := ⟨RX6, "begins", "(II)Z"⟩
def dkwX6_begins_3 : List UInt8 := [3, 181, 0, 164, 42, 182, 0, 167, 4, 172]
abbrev dktX6_begins_3 : List UInt8 := dkwX6_begins_3 ++ []
def dkwX6_begins_2 : List UInt8 := [167, 255, 236, 42, 3, 181, 0, 115, 42, 3, 181, 0, 161, 42, 2, 181, 0, 41, 42, 3, 181, 0, 124, 42]
abbrev dktX6_begins_2 : List UInt8 := dkwX6_begins_2 ++ dktX6_begins_3
def dkwX6_begins_1 : List UInt8 := [3, 62, 29, 27, 162, 0, 21, 42, 180, 0, 34, 29, 42, 180, 0, 30, 29, 51, 84, 132, 3, 1]
abbrev dktX6_begins_1 : List UInt8 := dkwX6_begins_1 ++ dktX6_begins_2
def dkwX6_begins_0 : List UInt8 := [27, 155, 0, 16, 27, 42, 180, 0, 115, 163, 0, 8, 27, 28, 164, 0, 5, 3, 172, 42, 27, 181, 0, 121]
abbrev dktX6_begins_0 : List UInt8 := dkwX6_begins_0 ++ dktX6_begins_1
theorem dksX6_begins_0 : cX6_begins.data.toList.drop 0 = dktX6_begins_0 := by decide +kernel
theorem dksX6_begins_1 : cX6_begins.data.toList.drop 24 = dktX6_begins_1 := dk_seg dksX6_begins_0 24 rfl rfl
theorem dksX6_begins_2 : cX6_begins.data.toList.drop 46 = dktX6_begins_2 := dk_seg dksX6_begins_1 22 rfl rfl
theorem dksX6_begins_3 : cX6_begins.data.toList.drop 70 = dktX6_begins_3 := dk_seg dksX6_begins_2 24 rfl rfl
theorem dX6_begins_0 : decode cX6_begins 0 = .ok (.iload_n 1, 1) := dk_27 (dk_at dksX6_begins_0 0 rfl rfl)
theorem dX6_begins_1 : decode cX6_begins 1 = .ok (.ifCond .lt 16, 3) := dk_155 0 16 (dk_at dksX6_begins_0 1 rfl rfl)
theorem dX6_begins_4 : decode cX6_begins 4 = .ok (.iload_n 1, 1) := dk_27 (dk_at dksX6_begins_0 4 rfl rfl)
theorem dX6_begins_5 : decode cX6_begins 5 = .ok (.aload_n 0, 1) := dk_42 (dk_at dksX6_begins_0 5 rfl rfl)
theorem dX6_begins_6 : decode cX6_begins 6 = .ok (.getfield 115, 3) := dk_180 0 115 (dk_at dksX6_begins_0 6 rfl rfl)
theorem dX6_begins_9 : decode cX6_begins 9 = .ok (.if_icmp .gt 8, 3) := dk_163 0 8 (dk_at dksX6_begins_0 9 rfl rfl)
theorem dX6_begins_12 : decode cX6_begins 12 = .ok (.iload_n 1, 1) := dk_27 (dk_at dksX6_begins_0 12 rfl rfl)
theorem dX6_begins_13 : decode cX6_begins 13 = .ok (.iload_n 2, 1) := dk_28 (dk_at dksX6_begins_0 13 rfl rfl)
theorem dX6_begins_14 : decode cX6_begins 14 = .ok (.if_icmp .le 5, 3) := dk_164 0 5 (dk_at dksX6_begins_0 14 rfl rfl)
theorem dX6_begins_17 : decode cX6_begins 17 = .ok (.iconst 0, 1) := dk_3 (dk_at dksX6_begins_0 17 rfl rfl)
theorem dX6_begins_18 : decode cX6_begins 18 = .ok (.ireturn, 1) := dk_172 (dk_at dksX6_begins_0 18 rfl rfl)
theorem dX6_begins_19 : decode cX6_begins 19 = .ok (.aload_n 0, 1) := dk_42 (dk_at dksX6_begins_0 19 rfl rfl)
theorem dX6_begins_20 : decode cX6_begins 20 = .ok (.iload_n 1, 1) := dk_27 (dk_at dksX6_begins_0 20 rfl rfl)
theorem dX6_begins_21 : decode cX6_begins 21 = .ok (.putfield 121, 3) := dk_181 0 121 (dk_at dksX6_begins_0 21 rfl rfl)
theorem dX6_begins_24 : decode cX6_begins 24 = .ok (.iconst 0, 1) := dk_3 (dk_at dksX6_begins_1 0 rfl rfl)
theorem dX6_begins_25 : decode cX6_begins 25 = .ok (.istore_n 3, 1) := dk_62 (dk_at dksX6_begins_1 1 rfl rfl)
theorem dX6_begins_26 : decode cX6_begins 26 = .ok (.iload_n 3, 1) := dk_29 (dk_at dksX6_begins_1 2 rfl rfl)
theorem dX6_begins_27 : decode cX6_begins 27 = .ok (.iload_n 1, 1) := dk_27 (dk_at dksX6_begins_1 3 rfl rfl)
theorem dX6_begins_28 : decode cX6_begins 28 = .ok (.if_icmp .ge 21, 3) := dk_162 0 21 (dk_at dksX6_begins_1 4 rfl rfl)
theorem dX6_begins_31 : decode cX6_begins 31 = .ok (.aload_n 0, 1) := dk_42 (dk_at dksX6_begins_1 7 rfl rfl)
theorem dX6_begins_32 : decode cX6_begins 32 = .ok (.getfield 34, 3) := dk_180 0 34 (dk_at dksX6_begins_1 8 rfl rfl)
theorem dX6_begins_35 : decode cX6_begins 35 = .ok (.iload_n 3, 1) := dk_29 (dk_at dksX6_begins_1 11 rfl rfl)
theorem dX6_begins_36 : decode cX6_begins 36 = .ok (.aload_n 0, 1) := dk_42 (dk_at dksX6_begins_1 12 rfl rfl)
theorem dX6_begins_37 : decode cX6_begins 37 = .ok (.getfield 30, 3) := dk_180 0 30 (dk_at dksX6_begins_1 13 rfl rfl)
theorem dX6_begins_40 : decode cX6_begins 40 = .ok (.iload_n 3, 1) := dk_29 (dk_at dksX6_begins_1 16 rfl rfl)
theorem dX6_begins_41 : decode cX6_begins 41 = .ok (.baload, 1) := dk_51 (dk_at dksX6_begins_1 17 rfl rfl)
theorem dX6_begins_42 : decode cX6_begins 42 = .ok (.bastore, 1) := dk_84 (dk_at dksX6_begins_1 18 rfl rfl)
theorem dX6_begins_43 : decode cX6_begins 43 = .ok (.iinc 3 1, 3) := dk_132 3 1 (dk_at dksX6_begins_1 19 rfl rfl)
theorem dX6_begins_46 : decode cX6_begins 46 = .ok (.goto (-20), 3) := dk_167 255 236 (dk_at dksX6_begins_2 0 rfl rfl)
theorem dX6_begins_49 : decode cX6_begins 49 = .ok (.aload_n 0, 1) := dk_42 (dk_at dksX6_begins_2 3 rfl rfl)
theorem dX6_begins_50 : decode cX6_begins 50 = .ok (.iconst 0, 1) := dk_3 (dk_at dksX6_begins_2 4 rfl rfl)
theorem dX6_begins_51 : decode cX6_begins 51 = .ok (.putfield 115, 3) := dk_181 0 115 (dk_at dksX6_begins_2 5 rfl rfl)
theorem dX6_begins_54 : decode cX6_begins 54 = .ok (.aload_n 0, 1) := dk_42 (dk_at dksX6_begins_2 8 rfl rfl)
theorem dX6_begins_55 : decode cX6_begins 55 = .ok (.iconst 0, 1) := dk_3 (dk_at dksX6_begins_2 9 rfl rfl)
theorem dX6_begins_56 : decode cX6_begins 56 = .ok (.putfield 161, 3) := dk_181 0 161 (dk_at dksX6_begins_2 10 rfl rfl)
theorem dX6_begins_59 : decode cX6_begins 59 = .ok (.aload_n 0, 1) := dk_42 (dk_at dksX6_begins_2 13 rfl rfl)
theorem dX6_begins_60 : decode cX6_begins 60 = .ok (.iconst (-1), 1) := dk_2 (dk_at dksX6_begins_2 14 rfl rfl)
theorem dX6_begins_61 : decode cX6_begins 61 = .ok (.putfield 41, 3) := dk_181 0 41 (dk_at dksX6_begins_2 15 rfl rfl)
theorem dX6_begins_64 : decode cX6_begins 64 = .ok (.aload_n 0, 1) := dk_42 (dk_at dksX6_begins_2 18 rfl rfl)
theorem dX6_begins_65 : decode cX6_begins 65 = .ok (.iconst 0, 1) := dk_3 (dk_at dksX6_begins_2 19 rfl rfl)
theorem dX6_begins_66 : decode cX6_begins 66 = .ok (.putfield 124, 3) := dk_181 0 124 (dk_at dksX6_begins_2 20 rfl rfl)
theorem dX6_begins_69 : decode cX6_begins 69 = .ok (.aload_n 0, 1) := dk_42 (dk_at dksX6_begins_2 23 rfl rfl)
theorem dX6_begins_70 : decode cX6_begins 70 = .ok (.iconst 0, 1) := dk_3 (dk_at dksX6_begins_3 0 rfl rfl)
theorem dX6_begins_71 : decode cX6_begins 71 = .ok (.putfield 164, 3) := dk_181 0 164 (dk_at dksX6_begins_3 1 rfl rfl)
theorem dX6_begins_74 : decode cX6_begins 74 = .ok (.aload_n 0, 1) := dk_42 (dk_at dksX6_begins_3 4 rfl rfl)
theorem dX6_begins_75 : decode cX6_begins 75 = .ok (.invokevirtual 167, 3) := dk_182 0 167 (dk_at dksX6_begins_3 5 rfl rfl)
theorem dX6_begins_78 : decode cX6_begins 78 = .ok (.iconst 1, 1) := dk_4 (dk_at dksX6_begins_3 8 rfl rfl)
theorem dX6_begins_79 : decode cX6_begins 79 = .ok (.ireturn, 1) := dk_172 (dk_at dksX6_begins_3 9 rfl rfl)
abbrev cX6_ahead : ByteArray := prog_16_method_24_code
def yX6_ahead : MethodName := ⟨RX6, "ahead", "()V"⟩
def dkwX6_ahead_10 : List UInt8 := [16, 62, 159, 0, 9, 27, 16, 61, 160, 0, 7, 7, 167, 0, 4, 4, 181, 0, 136, 177]
abbrev dktX6_ahead_10 : List UInt8 := dkwX6_ahead_10 ++ []
def dkwX6_ahead_9 : List UInt8 := [89, 180, 0, 124, 4, 96, 181, 0, 124, 42, 27, 16, 59, 159, 0, 21, 27, 16, 60, 159, 0, 15, 27]
abbrev dktX6_ahead_9 : List UInt8 := dkwX6_ahead_9 ++ dktX6_ahead_10
def dkwX6_ahead_8 : List UInt8 := [180, 0, 124, 42, 180, 0, 130, 100, 7, 164, 0, 7, 4, 167, 0, 4, 6, 181, 0, 136, 167, 0, 46, 42]
abbrev dktX6_ahead_8 : List UInt8 := dkwX6_ahead_8 ++ dktX6_ahead_9
def dkwX6_ahead_7 : List UInt8 := [100, 184, 0, 146, 181, 0, 133, 42, 89, 180, 0, 124, 4, 96, 181, 0, 124, 167, 255, 204, 42, 42]
abbrev dktX6_ahead_7 : List UInt8 := dkwX6_ahead_7 ++ dktX6_ahead_8
def dkwX6_ahead_6 : List UInt8 := [153, 0, 44, 42, 18, 145, 16, 10, 42, 180, 0, 133, 104, 42, 42, 180, 0, 124, 182, 0, 127, 96, 16, 48]
abbrev dktX6_ahead_6 : List UInt8 := dkwX6_ahead_6 ++ dktX6_ahead_7
def dkwX6_ahead_5 : List UInt8 := [184, 0, 142, 153, 0, 88, 42, 3, 181, 0, 133, 42, 42, 180, 0, 124, 182, 0, 127, 184, 0, 142]
abbrev dktX6_ahead_5 : List UInt8 := dkwX6_ahead_5 ++ dktX6_ahead_6
def dkwX6_ahead_4 : List UInt8 := [42, 89, 180, 0, 124, 4, 96, 181, 0, 124, 167, 255, 232, 42, 5, 181, 0, 136, 167, 0, 138, 27]
abbrev dktX6_ahead_4 : List UInt8 := dkwX6_ahead_4 ++ dktX6_ahead_5
def dkwX6_ahead_3 : List UInt8 := [167, 0, 180, 27, 184, 0, 139, 153, 0, 38, 42, 42, 180, 0, 124, 182, 0, 127, 184, 0, 139, 153, 0, 16]
abbrev dktX6_ahead_3 : List UInt8 := dkwX6_ahead_3 ++ dktX6_ahead_4
def dkwX6_ahead_2 : List UInt8 := [42, 42, 180, 0, 124, 182, 0, 127, 60, 42, 27, 181, 0, 133, 27, 2, 160, 0, 11, 42, 3, 181, 0, 136]
abbrev dktX6_ahead_2 : List UInt8 := dkwX6_ahead_2 ++ dktX6_ahead_3
def dkwX6_ahead_1 : List UInt8 := [160, 0, 16, 42, 89, 180, 0, 124, 4, 96, 181, 0, 124, 167, 255, 220, 42, 42, 180, 0, 124, 181, 0, 130]
abbrev dktX6_ahead_1 : List UInt8 := dkwX6_ahead_1 ++ dktX6_ahead_2
def dkwX6_ahead_0 : List UInt8 := [42, 42, 180, 0, 124, 182, 0, 127, 16, 32, 159, 0, 16, 42, 42, 180, 0, 124, 182, 0, 127, 16, 10]
abbrev dktX6_ahead_0 : List UInt8 := dkwX6_ahead_0 ++ dktX6_ahead_1
theorem dksX6_ahead_0 : cX6_ahead.data.toList.drop 0 = dktX6_ahead_0 := by decide +kernel
theorem dksX6_ahead_1 : cX6_ahead.data.toList.drop 23 = dktX6_ahead_1 := dk_seg dksX6_ahead_0 23 rfl rfl
theorem dksX6_ahead_2 : cX6_ahead.data.toList.drop 47 = dktX6_ahead_2 := dk_seg dksX6_ahead_1 24 rfl rfl
theorem dksX6_ahead_3 : cX6_ahead.data.toList.drop 71 = dktX6_ahead_3 := dk_seg dksX6_ahead_2 24 rfl rfl
theorem dksX6_ahead_4 : cX6_ahead.data.toList.drop 95 = dktX6_ahead_4 := dk_seg dksX6_ahead_3 24 rfl rfl
theorem dksX6_ahead_5 : cX6_ahead.data.toList.drop 117 = dktX6_ahead_5 := dk_seg dksX6_ahead_4 22 rfl rfl
theorem dksX6_ahead_6 : cX6_ahead.data.toList.drop 139 = dktX6_ahead_6 := dk_seg dksX6_ahead_5 22 rfl rfl
theorem dksX6_ahead_7 : cX6_ahead.data.toList.drop 163 = dktX6_ahead_7 := dk_seg dksX6_ahead_6 24 rfl rfl
theorem dksX6_ahead_8 : cX6_ahead.data.toList.drop 185 = dktX6_ahead_8 := dk_seg dksX6_ahead_7 22 rfl rfl
theorem dksX6_ahead_9 : cX6_ahead.data.toList.drop 209 = dktX6_ahead_9 := dk_seg dksX6_ahead_8 24 rfl rfl
theorem dksX6_ahead_10 : cX6_ahead.data.toList.drop 232 = dktX6_ahead_10 := dk_seg dksX6_ahead_9 23 rfl rfl
theorem dX6_ahead_0 : decode cX6_ahead 0 = .ok (.aload_n 0, 1) := dk_42 (dk_at dksX6_ahead_0 0 rfl rfl)
theorem dX6_ahead_1 : decode cX6_ahead 1 = .ok (.aload_n 0, 1) := dk_42 (dk_at dksX6_ahead_0 1 rfl rfl)
theorem dX6_ahead_2 : decode cX6_ahead 2 = .ok (.getfield 124, 3) := dk_180 0 124 (dk_at dksX6_ahead_0 2 rfl rfl)
theorem dX6_ahead_5 : decode cX6_ahead 5 = .ok (.invokevirtual 127, 3) := dk_182 0 127 (dk_at dksX6_ahead_0 5 rfl rfl)
theorem dX6_ahead_8 : decode cX6_ahead 8 = .ok (.bipush 32, 2) := dk_16 32 (dk_at dksX6_ahead_0 8 rfl rfl)
theorem dX6_ahead_10 : decode cX6_ahead 10 = .ok (.if_icmp .eq 16, 3) := dk_159 0 16 (dk_at dksX6_ahead_0 10 rfl rfl)
theorem dX6_ahead_13 : decode cX6_ahead 13 = .ok (.aload_n 0, 1) := dk_42 (dk_at dksX6_ahead_0 13 rfl rfl)
theorem dX6_ahead_14 : decode cX6_ahead 14 = .ok (.aload_n 0, 1) := dk_42 (dk_at dksX6_ahead_0 14 rfl rfl)
theorem dX6_ahead_15 : decode cX6_ahead 15 = .ok (.getfield 124, 3) := dk_180 0 124 (dk_at dksX6_ahead_0 15 rfl rfl)
theorem dX6_ahead_18 : decode cX6_ahead 18 = .ok (.invokevirtual 127, 3) := dk_182 0 127 (dk_at dksX6_ahead_0 18 rfl rfl)
theorem dX6_ahead_21 : decode cX6_ahead 21 = .ok (.bipush 10, 2) := dk_16 10 (dk_at dksX6_ahead_0 21 rfl rfl)
theorem dX6_ahead_23 : decode cX6_ahead 23 = .ok (.if_icmp .ne 16, 3) := dk_160 0 16 (dk_at dksX6_ahead_1 0 rfl rfl)
theorem dX6_ahead_26 : decode cX6_ahead 26 = .ok (.aload_n 0, 1) := dk_42 (dk_at dksX6_ahead_1 3 rfl rfl)
theorem dX6_ahead_27 : decode cX6_ahead 27 = .ok (.dup, 1) := dk_89 (dk_at dksX6_ahead_1 4 rfl rfl)
theorem dX6_ahead_28 : decode cX6_ahead 28 = .ok (.getfield 124, 3) := dk_180 0 124 (dk_at dksX6_ahead_1 5 rfl rfl)
theorem dX6_ahead_31 : decode cX6_ahead 31 = .ok (.iconst 1, 1) := dk_4 (dk_at dksX6_ahead_1 8 rfl rfl)
theorem dX6_ahead_32 : decode cX6_ahead 32 = .ok (.iadd, 1) := dk_96 (dk_at dksX6_ahead_1 9 rfl rfl)
theorem dX6_ahead_33 : decode cX6_ahead 33 = .ok (.putfield 124, 3) := dk_181 0 124 (dk_at dksX6_ahead_1 10 rfl rfl)
theorem dX6_ahead_36 : decode cX6_ahead 36 = .ok (.goto (-36), 3) := dk_167 255 220 (dk_at dksX6_ahead_1 13 rfl rfl)
theorem dX6_ahead_39 : decode cX6_ahead 39 = .ok (.aload_n 0, 1) := dk_42 (dk_at dksX6_ahead_1 16 rfl rfl)
theorem dX6_ahead_40 : decode cX6_ahead 40 = .ok (.aload_n 0, 1) := dk_42 (dk_at dksX6_ahead_1 17 rfl rfl)
theorem dX6_ahead_41 : decode cX6_ahead 41 = .ok (.getfield 124, 3) := dk_180 0 124 (dk_at dksX6_ahead_1 18 rfl rfl)
theorem dX6_ahead_44 : decode cX6_ahead 44 = .ok (.putfield 130, 3) := dk_181 0 130 (dk_at dksX6_ahead_1 21 rfl rfl)
theorem dX6_ahead_47 : decode cX6_ahead 47 = .ok (.aload_n 0, 1) := dk_42 (dk_at dksX6_ahead_2 0 rfl rfl)
theorem dX6_ahead_48 : decode cX6_ahead 48 = .ok (.aload_n 0, 1) := dk_42 (dk_at dksX6_ahead_2 1 rfl rfl)
theorem dX6_ahead_49 : decode cX6_ahead 49 = .ok (.getfield 124, 3) := dk_180 0 124 (dk_at dksX6_ahead_2 2 rfl rfl)
theorem dX6_ahead_52 : decode cX6_ahead 52 = .ok (.invokevirtual 127, 3) := dk_182 0 127 (dk_at dksX6_ahead_2 5 rfl rfl)
theorem dX6_ahead_55 : decode cX6_ahead 55 = .ok (.istore_n 1, 1) := dk_60 (dk_at dksX6_ahead_2 8 rfl rfl)
theorem dX6_ahead_56 : decode cX6_ahead 56 = .ok (.aload_n 0, 1) := dk_42 (dk_at dksX6_ahead_2 9 rfl rfl)
theorem dX6_ahead_57 : decode cX6_ahead 57 = .ok (.iload_n 1, 1) := dk_27 (dk_at dksX6_ahead_2 10 rfl rfl)
theorem dX6_ahead_58 : decode cX6_ahead 58 = .ok (.putfield 133, 3) := dk_181 0 133 (dk_at dksX6_ahead_2 11 rfl rfl)
theorem dX6_ahead_61 : decode cX6_ahead 61 = .ok (.iload_n 1, 1) := dk_27 (dk_at dksX6_ahead_2 14 rfl rfl)
theorem dX6_ahead_62 : decode cX6_ahead 62 = .ok (.iconst (-1), 1) := dk_2 (dk_at dksX6_ahead_2 15 rfl rfl)
theorem dX6_ahead_63 : decode cX6_ahead 63 = .ok (.if_icmp .ne 11, 3) := dk_160 0 11 (dk_at dksX6_ahead_2 16 rfl rfl)
theorem dX6_ahead_66 : decode cX6_ahead 66 = .ok (.aload_n 0, 1) := dk_42 (dk_at dksX6_ahead_2 19 rfl rfl)
theorem dX6_ahead_67 : decode cX6_ahead 67 = .ok (.iconst 0, 1) := dk_3 (dk_at dksX6_ahead_2 20 rfl rfl)
theorem dX6_ahead_68 : decode cX6_ahead 68 = .ok (.putfield 136, 3) := dk_181 0 136 (dk_at dksX6_ahead_2 21 rfl rfl)
theorem dX6_ahead_71 : decode cX6_ahead 71 = .ok (.goto 180, 3) := dk_167 0 180 (dk_at dksX6_ahead_3 0 rfl rfl)
theorem dX6_ahead_74 : decode cX6_ahead 74 = .ok (.iload_n 1, 1) := dk_27 (dk_at dksX6_ahead_3 3 rfl rfl)
theorem dX6_ahead_75 : decode cX6_ahead 75 = .ok (.invokestatic 139, 3) := dk_184 0 139 (dk_at dksX6_ahead_3 4 rfl rfl)
theorem dX6_ahead_78 : decode cX6_ahead 78 = .ok (.ifCond .eq 38, 3) := dk_153 0 38 (dk_at dksX6_ahead_3 7 rfl rfl)
theorem dX6_ahead_81 : decode cX6_ahead 81 = .ok (.aload_n 0, 1) := dk_42 (dk_at dksX6_ahead_3 10 rfl rfl)
theorem dX6_ahead_82 : decode cX6_ahead 82 = .ok (.aload_n 0, 1) := dk_42 (dk_at dksX6_ahead_3 11 rfl rfl)
theorem dX6_ahead_83 : decode cX6_ahead 83 = .ok (.getfield 124, 3) := dk_180 0 124 (dk_at dksX6_ahead_3 12 rfl rfl)
theorem dX6_ahead_86 : decode cX6_ahead 86 = .ok (.invokevirtual 127, 3) := dk_182 0 127 (dk_at dksX6_ahead_3 15 rfl rfl)
theorem dX6_ahead_89 : decode cX6_ahead 89 = .ok (.invokestatic 139, 3) := dk_184 0 139 (dk_at dksX6_ahead_3 18 rfl rfl)
theorem dX6_ahead_92 : decode cX6_ahead 92 = .ok (.ifCond .eq 16, 3) := dk_153 0 16 (dk_at dksX6_ahead_3 21 rfl rfl)
theorem dX6_ahead_95 : decode cX6_ahead 95 = .ok (.aload_n 0, 1) := dk_42 (dk_at dksX6_ahead_4 0 rfl rfl)
theorem dX6_ahead_96 : decode cX6_ahead 96 = .ok (.dup, 1) := dk_89 (dk_at dksX6_ahead_4 1 rfl rfl)
theorem dX6_ahead_97 : decode cX6_ahead 97 = .ok (.getfield 124, 3) := dk_180 0 124 (dk_at dksX6_ahead_4 2 rfl rfl)
theorem dX6_ahead_100 : decode cX6_ahead 100 = .ok (.iconst 1, 1) := dk_4 (dk_at dksX6_ahead_4 5 rfl rfl)
theorem dX6_ahead_101 : decode cX6_ahead 101 = .ok (.iadd, 1) := dk_96 (dk_at dksX6_ahead_4 6 rfl rfl)
theorem dX6_ahead_102 : decode cX6_ahead 102 = .ok (.putfield 124, 3) := dk_181 0 124 (dk_at dksX6_ahead_4 7 rfl rfl)
theorem dX6_ahead_105 : decode cX6_ahead 105 = .ok (.goto (-24), 3) := dk_167 255 232 (dk_at dksX6_ahead_4 10 rfl rfl)
theorem dX6_ahead_108 : decode cX6_ahead 108 = .ok (.aload_n 0, 1) := dk_42 (dk_at dksX6_ahead_4 13 rfl rfl)
theorem dX6_ahead_109 : decode cX6_ahead 109 = .ok (.iconst 2, 1) := dk_5 (dk_at dksX6_ahead_4 14 rfl rfl)
theorem dX6_ahead_110 : decode cX6_ahead 110 = .ok (.putfield 136, 3) := dk_181 0 136 (dk_at dksX6_ahead_4 15 rfl rfl)
theorem dX6_ahead_113 : decode cX6_ahead 113 = .ok (.goto 138, 3) := dk_167 0 138 (dk_at dksX6_ahead_4 18 rfl rfl)
theorem dX6_ahead_116 : decode cX6_ahead 116 = .ok (.iload_n 1, 1) := dk_27 (dk_at dksX6_ahead_4 21 rfl rfl)
theorem dX6_ahead_117 : decode cX6_ahead 117 = .ok (.invokestatic 142, 3) := dk_184 0 142 (dk_at dksX6_ahead_5 0 rfl rfl)
theorem dX6_ahead_120 : decode cX6_ahead 120 = .ok (.ifCond .eq 88, 3) := dk_153 0 88 (dk_at dksX6_ahead_5 3 rfl rfl)
theorem dX6_ahead_123 : decode cX6_ahead 123 = .ok (.aload_n 0, 1) := dk_42 (dk_at dksX6_ahead_5 6 rfl rfl)
theorem dX6_ahead_124 : decode cX6_ahead 124 = .ok (.iconst 0, 1) := dk_3 (dk_at dksX6_ahead_5 7 rfl rfl)
theorem dX6_ahead_125 : decode cX6_ahead 125 = .ok (.putfield 133, 3) := dk_181 0 133 (dk_at dksX6_ahead_5 8 rfl rfl)
theorem dX6_ahead_128 : decode cX6_ahead 128 = .ok (.aload_n 0, 1) := dk_42 (dk_at dksX6_ahead_5 11 rfl rfl)
theorem dX6_ahead_129 : decode cX6_ahead 129 = .ok (.aload_n 0, 1) := dk_42 (dk_at dksX6_ahead_5 12 rfl rfl)
theorem dX6_ahead_130 : decode cX6_ahead 130 = .ok (.getfield 124, 3) := dk_180 0 124 (dk_at dksX6_ahead_5 13 rfl rfl)
theorem dX6_ahead_133 : decode cX6_ahead 133 = .ok (.invokevirtual 127, 3) := dk_182 0 127 (dk_at dksX6_ahead_5 16 rfl rfl)
theorem dX6_ahead_136 : decode cX6_ahead 136 = .ok (.invokestatic 142, 3) := dk_184 0 142 (dk_at dksX6_ahead_5 19 rfl rfl)
theorem dX6_ahead_139 : decode cX6_ahead 139 = .ok (.ifCond .eq 44, 3) := dk_153 0 44 (dk_at dksX6_ahead_6 0 rfl rfl)
theorem dX6_ahead_142 : decode cX6_ahead 142 = .ok (.aload_n 0, 1) := dk_42 (dk_at dksX6_ahead_6 3 rfl rfl)
theorem dX6_ahead_143 : decode cX6_ahead 143 = .ok (.ldc 145, 2) := dk_18 145 (dk_at dksX6_ahead_6 4 rfl rfl)
theorem dX6_ahead_145 : decode cX6_ahead 145 = .ok (.bipush 10, 2) := dk_16 10 (dk_at dksX6_ahead_6 6 rfl rfl)
theorem dX6_ahead_147 : decode cX6_ahead 147 = .ok (.aload_n 0, 1) := dk_42 (dk_at dksX6_ahead_6 8 rfl rfl)
theorem dX6_ahead_148 : decode cX6_ahead 148 = .ok (.getfield 133, 3) := dk_180 0 133 (dk_at dksX6_ahead_6 9 rfl rfl)
theorem dX6_ahead_151 : decode cX6_ahead 151 = .ok (.imul, 1) := dk_104 (dk_at dksX6_ahead_6 12 rfl rfl)
theorem dX6_ahead_152 : decode cX6_ahead 152 = .ok (.aload_n 0, 1) := dk_42 (dk_at dksX6_ahead_6 13 rfl rfl)
theorem dX6_ahead_153 : decode cX6_ahead 153 = .ok (.aload_n 0, 1) := dk_42 (dk_at dksX6_ahead_6 14 rfl rfl)
theorem dX6_ahead_154 : decode cX6_ahead 154 = .ok (.getfield 124, 3) := dk_180 0 124 (dk_at dksX6_ahead_6 15 rfl rfl)
theorem dX6_ahead_157 : decode cX6_ahead 157 = .ok (.invokevirtual 127, 3) := dk_182 0 127 (dk_at dksX6_ahead_6 18 rfl rfl)
theorem dX6_ahead_160 : decode cX6_ahead 160 = .ok (.iadd, 1) := dk_96 (dk_at dksX6_ahead_6 21 rfl rfl)
theorem dX6_ahead_161 : decode cX6_ahead 161 = .ok (.bipush 48, 2) := dk_16 48 (dk_at dksX6_ahead_6 22 rfl rfl)
theorem dX6_ahead_163 : decode cX6_ahead 163 = .ok (.isub, 1) := dk_100 (dk_at dksX6_ahead_7 0 rfl rfl)
theorem dX6_ahead_164 : decode cX6_ahead 164 = .ok (.invokestatic 146, 3) := dk_184 0 146 (dk_at dksX6_ahead_7 1 rfl rfl)
theorem dX6_ahead_167 : decode cX6_ahead 167 = .ok (.putfield 133, 3) := dk_181 0 133 (dk_at dksX6_ahead_7 4 rfl rfl)
theorem dX6_ahead_170 : decode cX6_ahead 170 = .ok (.aload_n 0, 1) := dk_42 (dk_at dksX6_ahead_7 7 rfl rfl)
theorem dX6_ahead_171 : decode cX6_ahead 171 = .ok (.dup, 1) := dk_89 (dk_at dksX6_ahead_7 8 rfl rfl)
theorem dX6_ahead_172 : decode cX6_ahead 172 = .ok (.getfield 124, 3) := dk_180 0 124 (dk_at dksX6_ahead_7 9 rfl rfl)
theorem dX6_ahead_175 : decode cX6_ahead 175 = .ok (.iconst 1, 1) := dk_4 (dk_at dksX6_ahead_7 12 rfl rfl)
theorem dX6_ahead_176 : decode cX6_ahead 176 = .ok (.iadd, 1) := dk_96 (dk_at dksX6_ahead_7 13 rfl rfl)
theorem dX6_ahead_177 : decode cX6_ahead 177 = .ok (.putfield 124, 3) := dk_181 0 124 (dk_at dksX6_ahead_7 14 rfl rfl)
theorem dX6_ahead_180 : decode cX6_ahead 180 = .ok (.goto (-52), 3) := dk_167 255 204 (dk_at dksX6_ahead_7 17 rfl rfl)
theorem dX6_ahead_183 : decode cX6_ahead 183 = .ok (.aload_n 0, 1) := dk_42 (dk_at dksX6_ahead_7 20 rfl rfl)
theorem dX6_ahead_184 : decode cX6_ahead 184 = .ok (.aload_n 0, 1) := dk_42 (dk_at dksX6_ahead_7 21 rfl rfl)
theorem dX6_ahead_185 : decode cX6_ahead 185 = .ok (.getfield 124, 3) := dk_180 0 124 (dk_at dksX6_ahead_8 0 rfl rfl)
theorem dX6_ahead_188 : decode cX6_ahead 188 = .ok (.aload_n 0, 1) := dk_42 (dk_at dksX6_ahead_8 3 rfl rfl)
theorem dX6_ahead_189 : decode cX6_ahead 189 = .ok (.getfield 130, 3) := dk_180 0 130 (dk_at dksX6_ahead_8 4 rfl rfl)
theorem dX6_ahead_192 : decode cX6_ahead 192 = .ok (.isub, 1) := dk_100 (dk_at dksX6_ahead_8 7 rfl rfl)
theorem dX6_ahead_193 : decode cX6_ahead 193 = .ok (.iconst 4, 1) := dk_7 (dk_at dksX6_ahead_8 8 rfl rfl)
theorem dX6_ahead_194 : decode cX6_ahead 194 = .ok (.if_icmp .le 7, 3) := dk_164 0 7 (dk_at dksX6_ahead_8 9 rfl rfl)
theorem dX6_ahead_197 : decode cX6_ahead 197 = .ok (.iconst 1, 1) := dk_4 (dk_at dksX6_ahead_8 12 rfl rfl)
theorem dX6_ahead_198 : decode cX6_ahead 198 = .ok (.goto 4, 3) := dk_167 0 4 (dk_at dksX6_ahead_8 13 rfl rfl)
theorem dX6_ahead_201 : decode cX6_ahead 201 = .ok (.iconst 3, 1) := dk_6 (dk_at dksX6_ahead_8 16 rfl rfl)
theorem dX6_ahead_202 : decode cX6_ahead 202 = .ok (.putfield 136, 3) := dk_181 0 136 (dk_at dksX6_ahead_8 17 rfl rfl)
theorem dX6_ahead_205 : decode cX6_ahead 205 = .ok (.goto 46, 3) := dk_167 0 46 (dk_at dksX6_ahead_8 20 rfl rfl)
theorem dX6_ahead_208 : decode cX6_ahead 208 = .ok (.aload_n 0, 1) := dk_42 (dk_at dksX6_ahead_8 23 rfl rfl)
theorem dX6_ahead_209 : decode cX6_ahead 209 = .ok (.dup, 1) := dk_89 (dk_at dksX6_ahead_9 0 rfl rfl)
theorem dX6_ahead_210 : decode cX6_ahead 210 = .ok (.getfield 124, 3) := dk_180 0 124 (dk_at dksX6_ahead_9 1 rfl rfl)
theorem dX6_ahead_213 : decode cX6_ahead 213 = .ok (.iconst 1, 1) := dk_4 (dk_at dksX6_ahead_9 4 rfl rfl)
theorem dX6_ahead_214 : decode cX6_ahead 214 = .ok (.iadd, 1) := dk_96 (dk_at dksX6_ahead_9 5 rfl rfl)
theorem dX6_ahead_215 : decode cX6_ahead 215 = .ok (.putfield 124, 3) := dk_181 0 124 (dk_at dksX6_ahead_9 6 rfl rfl)
theorem dX6_ahead_218 : decode cX6_ahead 218 = .ok (.aload_n 0, 1) := dk_42 (dk_at dksX6_ahead_9 9 rfl rfl)
theorem dX6_ahead_219 : decode cX6_ahead 219 = .ok (.iload_n 1, 1) := dk_27 (dk_at dksX6_ahead_9 10 rfl rfl)
theorem dX6_ahead_220 : decode cX6_ahead 220 = .ok (.bipush 59, 2) := dk_16 59 (dk_at dksX6_ahead_9 11 rfl rfl)
theorem dX6_ahead_222 : decode cX6_ahead 222 = .ok (.if_icmp .eq 21, 3) := dk_159 0 21 (dk_at dksX6_ahead_9 13 rfl rfl)
theorem dX6_ahead_225 : decode cX6_ahead 225 = .ok (.iload_n 1, 1) := dk_27 (dk_at dksX6_ahead_9 16 rfl rfl)
theorem dX6_ahead_226 : decode cX6_ahead 226 = .ok (.bipush 60, 2) := dk_16 60 (dk_at dksX6_ahead_9 17 rfl rfl)
theorem dX6_ahead_228 : decode cX6_ahead 228 = .ok (.if_icmp .eq 15, 3) := dk_159 0 15 (dk_at dksX6_ahead_9 19 rfl rfl)
theorem dX6_ahead_231 : decode cX6_ahead 231 = .ok (.iload_n 1, 1) := dk_27 (dk_at dksX6_ahead_9 22 rfl rfl)
theorem dX6_ahead_232 : decode cX6_ahead 232 = .ok (.bipush 62, 2) := dk_16 62 (dk_at dksX6_ahead_10 0 rfl rfl)
theorem dX6_ahead_234 : decode cX6_ahead 234 = .ok (.if_icmp .eq 9, 3) := dk_159 0 9 (dk_at dksX6_ahead_10 2 rfl rfl)
theorem dX6_ahead_237 : decode cX6_ahead 237 = .ok (.iload_n 1, 1) := dk_27 (dk_at dksX6_ahead_10 5 rfl rfl)
theorem dX6_ahead_238 : decode cX6_ahead 238 = .ok (.bipush 61, 2) := dk_16 61 (dk_at dksX6_ahead_10 6 rfl rfl)
theorem dX6_ahead_240 : decode cX6_ahead 240 = .ok (.if_icmp .ne 7, 3) := dk_160 0 7 (dk_at dksX6_ahead_10 8 rfl rfl)
theorem dX6_ahead_243 : decode cX6_ahead 243 = .ok (.iconst 4, 1) := dk_7 (dk_at dksX6_ahead_10 11 rfl rfl)
theorem dX6_ahead_244 : decode cX6_ahead 244 = .ok (.goto 4, 3) := dk_167 0 4 (dk_at dksX6_ahead_10 12 rfl rfl)
theorem dX6_ahead_247 : decode cX6_ahead 247 = .ok (.iconst 1, 1) := dk_4 (dk_at dksX6_ahead_10 15 rfl rfl)
theorem dX6_ahead_248 : decode cX6_ahead 248 = .ok (.putfield 136, 3) := dk_181 0 136 (dk_at dksX6_ahead_10 16 rfl rfl)
theorem dX6_ahead_251 : decode cX6_ahead 251 = .ok (.return_, 1) := dk_177 (dk_at dksX6_ahead_10 19 rfl rfl)
abbrev cX6_byteAt : ByteArray := prog_16_method_21_code
def yX6_byteAt : MethodName := ⟨RX6, "byteAt", "(I)I"⟩
def dkwX6_byteAt_0 : List UInt8 := [27, 42, 180, 0, 121, 162, 0, 16, 42, 180, 0, 34, 27, 51, 17, 0, 255, 126, 167, 0, 4, 2, 172]
abbrev dktX6_byteAt_0 : List UInt8 := dkwX6_byteAt_0 ++ []
theorem dksX6_byteAt_0 : cX6_byteAt.data.toList.drop 0 = dktX6_byteAt_0 := by decide +kernel
theorem dX6_byteAt_0 : decode cX6_byteAt 0 = .ok (.iload_n 1, 1) := dk_27 (dk_at dksX6_byteAt_0 0 rfl rfl)
theorem dX6_byteAt_1 : decode cX6_byteAt 1 = .ok (.aload_n 0, 1) := dk_42 (dk_at dksX6_byteAt_0 1 rfl rfl)
theorem dX6_byteAt_2 : decode cX6_byteAt 2 = .ok (.getfield 121, 3) := dk_180 0 121 (dk_at dksX6_byteAt_0 2 rfl rfl)
theorem dX6_byteAt_5 : decode cX6_byteAt 5 = .ok (.if_icmp .ge 16, 3) := dk_162 0 16 (dk_at dksX6_byteAt_0 5 rfl rfl)
theorem dX6_byteAt_8 : decode cX6_byteAt 8 = .ok (.aload_n 0, 1) := dk_42 (dk_at dksX6_byteAt_0 8 rfl rfl)
theorem dX6_byteAt_9 : decode cX6_byteAt 9 = .ok (.getfield 34, 3) := dk_180 0 34 (dk_at dksX6_byteAt_0 9 rfl rfl)
theorem dX6_byteAt_12 : decode cX6_byteAt 12 = .ok (.iload_n 1, 1) := dk_27 (dk_at dksX6_byteAt_0 12 rfl rfl)
theorem dX6_byteAt_13 : decode cX6_byteAt 13 = .ok (.baload, 1) := dk_51 (dk_at dksX6_byteAt_0 13 rfl rfl)
theorem dX6_byteAt_14 : decode cX6_byteAt 14 = .ok (.sipush 255, 3) := dk_17 0 255 (dk_at dksX6_byteAt_0 14 rfl rfl)
theorem dX6_byteAt_17 : decode cX6_byteAt 17 = .ok (.iand, 1) := dk_126 (dk_at dksX6_byteAt_0 17 rfl rfl)
theorem dX6_byteAt_18 : decode cX6_byteAt 18 = .ok (.goto 4, 3) := dk_167 0 4 (dk_at dksX6_byteAt_0 18 rfl rfl)
theorem dX6_byteAt_21 : decode cX6_byteAt 21 = .ok (.iconst (-1), 1) := dk_2 (dk_at dksX6_byteAt_0 21 rfl rfl)
theorem dX6_byteAt_22 : decode cX6_byteAt 22 = .ok (.ireturn, 1) := dk_172 (dk_at dksX6_byteAt_0 22 rfl rfl)
abbrev cX6_isSmall : ByteArray := prog_16_method_22_code
def yX6_isSmall : MethodName := ⟨RX6, "isSmall", "(I)Z"⟩
def dkwX6_isSmall_0 : List UInt8 := [26, 16, 97, 161, 0, 13, 26, 16, 122, 163, 0, 7, 4, 167, 0, 4, 3, 172]
abbrev dktX6_isSmall_0 : List UInt8 := dkwX6_isSmall_0 ++ []
theorem dksX6_isSmall_0 : cX6_isSmall.data.toList.drop 0 = dktX6_isSmall_0 := by decide +kernel
theorem dX6_isSmall_0 : decode cX6_isSmall 0 = .ok (.iload_n 0, 1) := dk_26 (dk_at dksX6_isSmall_0 0 rfl rfl)
theorem dX6_isSmall_1 : decode cX6_isSmall 1 = .ok (.bipush 97, 2) := dk_16 97 (dk_at dksX6_isSmall_0 1 rfl rfl)
theorem dX6_isSmall_3 : decode cX6_isSmall 3 = .ok (.if_icmp .lt 13, 3) := dk_161 0 13 (dk_at dksX6_isSmall_0 3 rfl rfl)
theorem dX6_isSmall_6 : decode cX6_isSmall 6 = .ok (.iload_n 0, 1) := dk_26 (dk_at dksX6_isSmall_0 6 rfl rfl)
theorem dX6_isSmall_7 : decode cX6_isSmall 7 = .ok (.bipush 122, 2) := dk_16 122 (dk_at dksX6_isSmall_0 7 rfl rfl)
theorem dX6_isSmall_9 : decode cX6_isSmall 9 = .ok (.if_icmp .gt 7, 3) := dk_163 0 7 (dk_at dksX6_isSmall_0 9 rfl rfl)
theorem dX6_isSmall_12 : decode cX6_isSmall 12 = .ok (.iconst 1, 1) := dk_4 (dk_at dksX6_isSmall_0 12 rfl rfl)
theorem dX6_isSmall_13 : decode cX6_isSmall 13 = .ok (.goto 4, 3) := dk_167 0 4 (dk_at dksX6_isSmall_0 13 rfl rfl)
theorem dX6_isSmall_16 : decode cX6_isSmall 16 = .ok (.iconst 0, 1) := dk_3 (dk_at dksX6_isSmall_0 16 rfl rfl)
theorem dX6_isSmall_17 : decode cX6_isSmall 17 = .ok (.ireturn, 1) := dk_172 (dk_at dksX6_isSmall_0 17 rfl rfl)
abbrev cX6_isDigit : ByteArray := prog_16_method_23_code
def yX6_isDigit : MethodName := ⟨RX6, "isDigit", "(I)Z"⟩
def dkwX6_isDigit_0 : List UInt8 := [26, 16, 48, 161, 0, 13, 26, 16, 57, 163, 0, 7, 4, 167, 0, 4, 3, 172]
abbrev dktX6_isDigit_0 : List UInt8 := dkwX6_isDigit_0 ++ []
theorem dksX6_isDigit_0 : cX6_isDigit.data.toList.drop 0 = dktX6_isDigit_0 := by decide +kernel
theorem dX6_isDigit_0 : decode cX6_isDigit 0 = .ok (.iload_n 0, 1) := dk_26 (dk_at dksX6_isDigit_0 0 rfl rfl)
theorem dX6_isDigit_1 : decode cX6_isDigit 1 = .ok (.bipush 48, 2) := dk_16 48 (dk_at dksX6_isDigit_0 1 rfl rfl)
theorem dX6_isDigit_3 : decode cX6_isDigit 3 = .ok (.if_icmp .lt 13, 3) := dk_161 0 13 (dk_at dksX6_isDigit_0 3 rfl rfl)
theorem dX6_isDigit_6 : decode cX6_isDigit 6 = .ok (.iload_n 0, 1) := dk_26 (dk_at dksX6_isDigit_0 6 rfl rfl)
theorem dX6_isDigit_7 : decode cX6_isDigit 7 = .ok (.bipush 57, 2) := dk_16 57 (dk_at dksX6_isDigit_0 7 rfl rfl)
theorem dX6_isDigit_9 : decode cX6_isDigit 9 = .ok (.if_icmp .gt 7, 3) := dk_163 0 7 (dk_at dksX6_isDigit_0 9 rfl rfl)
theorem dX6_isDigit_12 : decode cX6_isDigit 12 = .ok (.iconst 1, 1) := dk_4 (dk_at dksX6_isDigit_0 12 rfl rfl)
theorem dX6_isDigit_13 : decode cX6_isDigit 13 = .ok (.goto 4, 3) := dk_167 0 4 (dk_at dksX6_isDigit_0 13 rfl rfl)
theorem dX6_isDigit_16 : decode cX6_isDigit 16 = .ok (.iconst 0, 1) := dk_3 (dk_at dksX6_isDigit_0 16 rfl rfl)
theorem dX6_isDigit_17 : decode cX6_isDigit 17 = .ok (.ireturn, 1) := dk_172 (dk_at dksX6_isDigit_0 17 rfl rfl)
abbrev cX6_refuse : ByteArray := prog_16_method_7_code
def yX6_refuse : MethodName := ⟨RX6, "refuse", "(I)I"⟩
def dkwX6_refuse_0 : List UInt8 := [42, 27, 181, 0, 85, 2, 172]
abbrev dktX6_refuse_0 : List UInt8 := dkwX6_refuse_0 ++ []
theorem dksX6_refuse_0 : cX6_refuse.data.toList.drop 0 = dktX6_refuse_0 := by decide +kernel
theorem dX6_refuse_0 : decode cX6_refuse 0 = .ok (.aload_n 0, 1) := dk_42 (dk_at dksX6_refuse_0 0 rfl rfl)
theorem dX6_refuse_1 : decode cX6_refuse 1 = .ok (.iload_n 1, 1) := dk_27 (dk_at dksX6_refuse_0 1 rfl rfl)
theorem dX6_refuse_2 : decode cX6_refuse 2 = .ok (.putfield 85, 3) := dk_181 0 85 (dk_at dksX6_refuse_0 2 rfl rfl)
theorem dX6_refuse_5 : decode cX6_refuse 5 = .ok (.iconst (-1), 1) := dk_2 (dk_at dksX6_refuse_0 5 rfl rfl)
theorem dX6_refuse_6 : decode cX6_refuse 6 = .ok (.ireturn, 1) := dk_172 (dk_at dksX6_refuse_0 6 rfl rfl)
abbrev cX6_courtPart : ByteArray := prog_16_method_52_code
def yX6_courtPart : MethodName := ⟨RX6, "courtPart", "()Z"⟩
def dkwX6_courtPart_4 : List UInt8 := [153, 0, 16, 42, 16, 59, 182, 0, 248, 153, 0, 7, 4, 167, 0, 4, 3, 172]
abbrev dktX6_courtPart_4 : List UInt8 := dkwX6_courtPart_4 ++ []
def dkwX6_courtPart_3 : List UInt8 := [42, 182, 0, 239, 61, 167, 0, 16, 42, 182, 0, 242, 61, 167, 0, 8, 42, 182, 0, 245, 61, 28]
abbrev dktX6_courtPart_3 : List UInt8 := dkwX6_courtPart_3 ++ dktX6_courtPart_4
def dkwX6_courtPart_2 : List UInt8 := [42, 182, 0, 230, 61, 167, 0, 40, 42, 182, 0, 233, 61, 167, 0, 32, 42, 182, 0, 236, 61, 167, 0, 24]
abbrev dktX6_courtPart_2 : List UInt8 := dkwX6_courtPart_2 ++ dktX6_courtPart_3
def dkwX6_courtPart_1 : List UInt8 := [170, 0, 0, 0, 73, 0, 0, 0, 0, 0, 0, 0, 4, 0, 0, 0, 33, 0, 0, 0, 41, 0, 0, 0, 49, 0, 0, 0, 57, 0, 0, 0, 65]
abbrev dktX6_courtPart_1 : List UInt8 := dkwX6_courtPart_1 ++ dktX6_courtPart_2
def dkwX6_courtPart_0 : List UInt8 := [42, 18, 184, 182, 0, 176, 60, 27, 155, 0, 8, 27, 8, 164, 0, 9, 42, 5, 182, 0, 173, 172, 27]
abbrev dktX6_courtPart_0 : List UInt8 := dkwX6_courtPart_0 ++ dktX6_courtPart_1
theorem dksX6_courtPart_0 : cX6_courtPart.data.toList.drop 0 = dktX6_courtPart_0 := by decide +kernel
theorem dksX6_courtPart_1 : cX6_courtPart.data.toList.drop 23 = dktX6_courtPart_1 := dk_seg dksX6_courtPart_0 23 rfl rfl
theorem dksX6_courtPart_2 : cX6_courtPart.data.toList.drop 56 = dktX6_courtPart_2 := dk_seg dksX6_courtPart_1 33 rfl rfl
theorem dksX6_courtPart_3 : cX6_courtPart.data.toList.drop 80 = dktX6_courtPart_3 := dk_seg dksX6_courtPart_2 24 rfl rfl
theorem dksX6_courtPart_4 : cX6_courtPart.data.toList.drop 102 = dktX6_courtPart_4 := dk_seg dksX6_courtPart_3 22 rfl rfl
theorem dX6_courtPart_0 : decode cX6_courtPart 0 = .ok (.aload_n 0, 1) := dk_42 (dk_at dksX6_courtPart_0 0 rfl rfl)
theorem dX6_courtPart_1 : decode cX6_courtPart 1 = .ok (.ldc 184, 2) := dk_18 184 (dk_at dksX6_courtPart_0 1 rfl rfl)
theorem dX6_courtPart_3 : decode cX6_courtPart 3 = .ok (.invokevirtual 176, 3) := dk_182 0 176 (dk_at dksX6_courtPart_0 3 rfl rfl)
theorem dX6_courtPart_6 : decode cX6_courtPart 6 = .ok (.istore_n 1, 1) := dk_60 (dk_at dksX6_courtPart_0 6 rfl rfl)
theorem dX6_courtPart_7 : decode cX6_courtPart 7 = .ok (.iload_n 1, 1) := dk_27 (dk_at dksX6_courtPart_0 7 rfl rfl)
theorem dX6_courtPart_8 : decode cX6_courtPart 8 = .ok (.ifCond .lt 8, 3) := dk_155 0 8 (dk_at dksX6_courtPart_0 8 rfl rfl)
theorem dX6_courtPart_11 : decode cX6_courtPart 11 = .ok (.iload_n 1, 1) := dk_27 (dk_at dksX6_courtPart_0 11 rfl rfl)
theorem dX6_courtPart_12 : decode cX6_courtPart 12 = .ok (.iconst 5, 1) := dk_8 (dk_at dksX6_courtPart_0 12 rfl rfl)
theorem dX6_courtPart_13 : decode cX6_courtPart 13 = .ok (.if_icmp .le 9, 3) := dk_164 0 9 (dk_at dksX6_courtPart_0 13 rfl rfl)
theorem dX6_courtPart_16 : decode cX6_courtPart 16 = .ok (.aload_n 0, 1) := dk_42 (dk_at dksX6_courtPart_0 16 rfl rfl)
theorem dX6_courtPart_17 : decode cX6_courtPart 17 = .ok (.iconst 2, 1) := dk_5 (dk_at dksX6_courtPart_0 17 rfl rfl)
theorem dX6_courtPart_18 : decode cX6_courtPart 18 = .ok (.invokevirtual 173, 3) := dk_182 0 173 (dk_at dksX6_courtPart_0 18 rfl rfl)
theorem dX6_courtPart_21 : decode cX6_courtPart 21 = .ok (.ireturn, 1) := dk_172 (dk_at dksX6_courtPart_0 21 rfl rfl)
theorem dX6_courtPart_22 : decode cX6_courtPart 22 = .ok (.iload_n 1, 1) := dk_27 (dk_at dksX6_courtPart_0 22 rfl rfl)
theorem dX6_courtPart_23 : decode cX6_courtPart 23 = .ok (.tableswitch 73 0 4 #[33, 41, 49, 57, 65], 33) := by decide +kernel
theorem dX6_courtPart_56 : decode cX6_courtPart 56 = .ok (.aload_n 0, 1) := dk_42 (dk_at dksX6_courtPart_2 0 rfl rfl)
theorem dX6_courtPart_57 : decode cX6_courtPart 57 = .ok (.invokevirtual 230, 3) := dk_182 0 230 (dk_at dksX6_courtPart_2 1 rfl rfl)
theorem dX6_courtPart_60 : decode cX6_courtPart 60 = .ok (.istore_n 2, 1) := dk_61 (dk_at dksX6_courtPart_2 4 rfl rfl)
theorem dX6_courtPart_61 : decode cX6_courtPart 61 = .ok (.goto 40, 3) := dk_167 0 40 (dk_at dksX6_courtPart_2 5 rfl rfl)
theorem dX6_courtPart_64 : decode cX6_courtPart 64 = .ok (.aload_n 0, 1) := dk_42 (dk_at dksX6_courtPart_2 8 rfl rfl)
theorem dX6_courtPart_65 : decode cX6_courtPart 65 = .ok (.invokevirtual 233, 3) := dk_182 0 233 (dk_at dksX6_courtPart_2 9 rfl rfl)
theorem dX6_courtPart_68 : decode cX6_courtPart 68 = .ok (.istore_n 2, 1) := dk_61 (dk_at dksX6_courtPart_2 12 rfl rfl)
theorem dX6_courtPart_69 : decode cX6_courtPart 69 = .ok (.goto 32, 3) := dk_167 0 32 (dk_at dksX6_courtPart_2 13 rfl rfl)
theorem dX6_courtPart_72 : decode cX6_courtPart 72 = .ok (.aload_n 0, 1) := dk_42 (dk_at dksX6_courtPart_2 16 rfl rfl)
theorem dX6_courtPart_73 : decode cX6_courtPart 73 = .ok (.invokevirtual 236, 3) := dk_182 0 236 (dk_at dksX6_courtPart_2 17 rfl rfl)
theorem dX6_courtPart_76 : decode cX6_courtPart 76 = .ok (.istore_n 2, 1) := dk_61 (dk_at dksX6_courtPart_2 20 rfl rfl)
theorem dX6_courtPart_77 : decode cX6_courtPart 77 = .ok (.goto 24, 3) := dk_167 0 24 (dk_at dksX6_courtPart_2 21 rfl rfl)
theorem dX6_courtPart_80 : decode cX6_courtPart 80 = .ok (.aload_n 0, 1) := dk_42 (dk_at dksX6_courtPart_3 0 rfl rfl)
theorem dX6_courtPart_81 : decode cX6_courtPart 81 = .ok (.invokevirtual 239, 3) := dk_182 0 239 (dk_at dksX6_courtPart_3 1 rfl rfl)
theorem dX6_courtPart_84 : decode cX6_courtPart 84 = .ok (.istore_n 2, 1) := dk_61 (dk_at dksX6_courtPart_3 4 rfl rfl)
theorem dX6_courtPart_85 : decode cX6_courtPart 85 = .ok (.goto 16, 3) := dk_167 0 16 (dk_at dksX6_courtPart_3 5 rfl rfl)
theorem dX6_courtPart_88 : decode cX6_courtPart 88 = .ok (.aload_n 0, 1) := dk_42 (dk_at dksX6_courtPart_3 8 rfl rfl)
theorem dX6_courtPart_89 : decode cX6_courtPart 89 = .ok (.invokevirtual 242, 3) := dk_182 0 242 (dk_at dksX6_courtPart_3 9 rfl rfl)
theorem dX6_courtPart_92 : decode cX6_courtPart 92 = .ok (.istore_n 2, 1) := dk_61 (dk_at dksX6_courtPart_3 12 rfl rfl)
theorem dX6_courtPart_93 : decode cX6_courtPart 93 = .ok (.goto 8, 3) := dk_167 0 8 (dk_at dksX6_courtPart_3 13 rfl rfl)
theorem dX6_courtPart_96 : decode cX6_courtPart 96 = .ok (.aload_n 0, 1) := dk_42 (dk_at dksX6_courtPart_3 16 rfl rfl)
theorem dX6_courtPart_97 : decode cX6_courtPart 97 = .ok (.invokevirtual 245, 3) := dk_182 0 245 (dk_at dksX6_courtPart_3 17 rfl rfl)
theorem dX6_courtPart_100 : decode cX6_courtPart 100 = .ok (.istore_n 2, 1) := dk_61 (dk_at dksX6_courtPart_3 20 rfl rfl)
theorem dX6_courtPart_101 : decode cX6_courtPart 101 = .ok (.iload_n 2, 1) := dk_28 (dk_at dksX6_courtPart_3 21 rfl rfl)
theorem dX6_courtPart_102 : decode cX6_courtPart 102 = .ok (.ifCond .eq 16, 3) := dk_153 0 16 (dk_at dksX6_courtPart_4 0 rfl rfl)
theorem dX6_courtPart_105 : decode cX6_courtPart 105 = .ok (.aload_n 0, 1) := dk_42 (dk_at dksX6_courtPart_4 3 rfl rfl)
theorem dX6_courtPart_106 : decode cX6_courtPart 106 = .ok (.bipush 59, 2) := dk_16 59 (dk_at dksX6_courtPart_4 4 rfl rfl)
theorem dX6_courtPart_108 : decode cX6_courtPart 108 = .ok (.invokevirtual 248, 3) := dk_182 0 248 (dk_at dksX6_courtPart_4 6 rfl rfl)
theorem dX6_courtPart_111 : decode cX6_courtPart 111 = .ok (.ifCond .eq 7, 3) := dk_153 0 7 (dk_at dksX6_courtPart_4 9 rfl rfl)
theorem dX6_courtPart_114 : decode cX6_courtPart 114 = .ok (.iconst 1, 1) := dk_4 (dk_at dksX6_courtPart_4 12 rfl rfl)
theorem dX6_courtPart_115 : decode cX6_courtPart 115 = .ok (.goto 4, 3) := dk_167 0 4 (dk_at dksX6_courtPart_4 13 rfl rfl)
theorem dX6_courtPart_118 : decode cX6_courtPart 118 = .ok (.iconst 0, 1) := dk_3 (dk_at dksX6_courtPart_4 16 rfl rfl)
theorem dX6_courtPart_119 : decode cX6_courtPart 119 = .ok (.ireturn, 1) := dk_172 (dk_at dksX6_courtPart_4 17 rfl rfl)
abbrev cX6_inWords : ByteArray := prog_16_method_26_code
def yX6_inWords : MethodName := ⟨RX6, "inWords", "(Ljava/lang/String;)I"⟩
def dkwX6_inWords_5 : List UInt8 := [153, 0, 5, 28, 172, 132, 2, 1, 21, 4, 4, 96, 62, 167, 255, 140, 2, 172]
abbrev dktX6_inWords_5 : List UInt8 := dkwX6_inWords_5 ++ []
def dkwX6_inWords_4 : List UInt8 := [29, 100, 182, 0, 127, 160, 0, 7, 4, 167, 0, 4, 3, 54, 5, 132, 6, 1, 167, 255, 212, 21, 5]
abbrev dktX6_inWords_4 : List UInt8 := dkwX6_inWords_4 ++ dktX6_inWords_5
def dkwX6_inWords_3 : List UInt8 := [21, 4, 162, 0, 43, 21, 5, 153, 0, 38, 43, 21, 6, 182, 0, 157, 42, 42, 180, 0, 130, 21, 6, 96]
abbrev dktX6_inWords_3 : List UInt8 := dkwX6_inWords_3 ++ dktX6_inWords_4
def dkwX6_inWords_2 : List UInt8 := [180, 0, 124, 42, 180, 0, 130, 100, 160, 0, 7, 4, 167, 0, 4, 3, 54, 5, 29, 54, 6, 21, 6]
abbrev dktX6_inWords_2 : List UInt8 := dkwX6_inWords_2 ++ dktX6_inWords_3
def dkwX6_inWords_1 : List UInt8 := [54, 4, 43, 21, 4, 182, 0, 157, 16, 32, 159, 0, 9, 132, 4, 1, 167, 255, 242, 21, 4, 29, 100, 42]
abbrev dktX6_inWords_1 : List UInt8 := dkwX6_inWords_1 ++ dktX6_inWords_2
def dkwX6_inWords_0 : List UInt8 := [42, 180, 0, 136, 5, 159, 0, 5, 2, 172, 3, 61, 4, 62, 29, 43, 182, 0, 151, 162, 0, 114, 29]
abbrev dktX6_inWords_0 : List UInt8 := dkwX6_inWords_0 ++ dktX6_inWords_1
theorem dksX6_inWords_0 : cX6_inWords.data.toList.drop 0 = dktX6_inWords_0 := by decide +kernel
theorem dksX6_inWords_1 : cX6_inWords.data.toList.drop 23 = dktX6_inWords_1 := dk_seg dksX6_inWords_0 23 rfl rfl
theorem dksX6_inWords_2 : cX6_inWords.data.toList.drop 47 = dktX6_inWords_2 := dk_seg dksX6_inWords_1 24 rfl rfl
theorem dksX6_inWords_3 : cX6_inWords.data.toList.drop 70 = dktX6_inWords_3 := dk_seg dksX6_inWords_2 23 rfl rfl
theorem dksX6_inWords_4 : cX6_inWords.data.toList.drop 94 = dktX6_inWords_4 := dk_seg dksX6_inWords_3 24 rfl rfl
theorem dksX6_inWords_5 : cX6_inWords.data.toList.drop 117 = dktX6_inWords_5 := dk_seg dksX6_inWords_4 23 rfl rfl
theorem dX6_inWords_0 : decode cX6_inWords 0 = .ok (.aload_n 0, 1) := dk_42 (dk_at dksX6_inWords_0 0 rfl rfl)
theorem dX6_inWords_1 : decode cX6_inWords 1 = .ok (.getfield 136, 3) := dk_180 0 136 (dk_at dksX6_inWords_0 1 rfl rfl)
theorem dX6_inWords_4 : decode cX6_inWords 4 = .ok (.iconst 2, 1) := dk_5 (dk_at dksX6_inWords_0 4 rfl rfl)
theorem dX6_inWords_5 : decode cX6_inWords 5 = .ok (.if_icmp .eq 5, 3) := dk_159 0 5 (dk_at dksX6_inWords_0 5 rfl rfl)
theorem dX6_inWords_8 : decode cX6_inWords 8 = .ok (.iconst (-1), 1) := dk_2 (dk_at dksX6_inWords_0 8 rfl rfl)
theorem dX6_inWords_9 : decode cX6_inWords 9 = .ok (.ireturn, 1) := dk_172 (dk_at dksX6_inWords_0 9 rfl rfl)
theorem dX6_inWords_10 : decode cX6_inWords 10 = .ok (.iconst 0, 1) := dk_3 (dk_at dksX6_inWords_0 10 rfl rfl)
theorem dX6_inWords_11 : decode cX6_inWords 11 = .ok (.istore_n 2, 1) := dk_61 (dk_at dksX6_inWords_0 11 rfl rfl)
theorem dX6_inWords_12 : decode cX6_inWords 12 = .ok (.iconst 1, 1) := dk_4 (dk_at dksX6_inWords_0 12 rfl rfl)
theorem dX6_inWords_13 : decode cX6_inWords 13 = .ok (.istore_n 3, 1) := dk_62 (dk_at dksX6_inWords_0 13 rfl rfl)
theorem dX6_inWords_14 : decode cX6_inWords 14 = .ok (.iload_n 3, 1) := dk_29 (dk_at dksX6_inWords_0 14 rfl rfl)
theorem dX6_inWords_15 : decode cX6_inWords 15 = .ok (.aload_n 1, 1) := dk_43 (dk_at dksX6_inWords_0 15 rfl rfl)
theorem dX6_inWords_16 : decode cX6_inWords 16 = .ok (.invokevirtual 151, 3) := dk_182 0 151 (dk_at dksX6_inWords_0 16 rfl rfl)
theorem dX6_inWords_19 : decode cX6_inWords 19 = .ok (.if_icmp .ge 114, 3) := dk_162 0 114 (dk_at dksX6_inWords_0 19 rfl rfl)
theorem dX6_inWords_22 : decode cX6_inWords 22 = .ok (.iload_n 3, 1) := dk_29 (dk_at dksX6_inWords_0 22 rfl rfl)
theorem dX6_inWords_23 : decode cX6_inWords 23 = .ok (.istore 4, 2) := dk_54 4 (dk_at dksX6_inWords_1 0 rfl rfl)
theorem dX6_inWords_25 : decode cX6_inWords 25 = .ok (.aload_n 1, 1) := dk_43 (dk_at dksX6_inWords_1 2 rfl rfl)
theorem dX6_inWords_26 : decode cX6_inWords 26 = .ok (.iload 4, 2) := dk_21 4 (dk_at dksX6_inWords_1 3 rfl rfl)
theorem dX6_inWords_28 : decode cX6_inWords 28 = .ok (.invokevirtual 157, 3) := dk_182 0 157 (dk_at dksX6_inWords_1 5 rfl rfl)
theorem dX6_inWords_31 : decode cX6_inWords 31 = .ok (.bipush 32, 2) := dk_16 32 (dk_at dksX6_inWords_1 8 rfl rfl)
theorem dX6_inWords_33 : decode cX6_inWords 33 = .ok (.if_icmp .eq 9, 3) := dk_159 0 9 (dk_at dksX6_inWords_1 10 rfl rfl)
theorem dX6_inWords_36 : decode cX6_inWords 36 = .ok (.iinc 4 1, 3) := dk_132 4 1 (dk_at dksX6_inWords_1 13 rfl rfl)
theorem dX6_inWords_39 : decode cX6_inWords 39 = .ok (.goto (-14), 3) := dk_167 255 242 (dk_at dksX6_inWords_1 16 rfl rfl)
theorem dX6_inWords_42 : decode cX6_inWords 42 = .ok (.iload 4, 2) := dk_21 4 (dk_at dksX6_inWords_1 19 rfl rfl)
theorem dX6_inWords_44 : decode cX6_inWords 44 = .ok (.iload_n 3, 1) := dk_29 (dk_at dksX6_inWords_1 21 rfl rfl)
theorem dX6_inWords_45 : decode cX6_inWords 45 = .ok (.isub, 1) := dk_100 (dk_at dksX6_inWords_1 22 rfl rfl)
theorem dX6_inWords_46 : decode cX6_inWords 46 = .ok (.aload_n 0, 1) := dk_42 (dk_at dksX6_inWords_1 23 rfl rfl)
theorem dX6_inWords_47 : decode cX6_inWords 47 = .ok (.getfield 124, 3) := dk_180 0 124 (dk_at dksX6_inWords_2 0 rfl rfl)
theorem dX6_inWords_50 : decode cX6_inWords 50 = .ok (.aload_n 0, 1) := dk_42 (dk_at dksX6_inWords_2 3 rfl rfl)
theorem dX6_inWords_51 : decode cX6_inWords 51 = .ok (.getfield 130, 3) := dk_180 0 130 (dk_at dksX6_inWords_2 4 rfl rfl)
theorem dX6_inWords_54 : decode cX6_inWords 54 = .ok (.isub, 1) := dk_100 (dk_at dksX6_inWords_2 7 rfl rfl)
theorem dX6_inWords_55 : decode cX6_inWords 55 = .ok (.if_icmp .ne 7, 3) := dk_160 0 7 (dk_at dksX6_inWords_2 8 rfl rfl)
theorem dX6_inWords_58 : decode cX6_inWords 58 = .ok (.iconst 1, 1) := dk_4 (dk_at dksX6_inWords_2 11 rfl rfl)
theorem dX6_inWords_59 : decode cX6_inWords 59 = .ok (.goto 4, 3) := dk_167 0 4 (dk_at dksX6_inWords_2 12 rfl rfl)
theorem dX6_inWords_62 : decode cX6_inWords 62 = .ok (.iconst 0, 1) := dk_3 (dk_at dksX6_inWords_2 15 rfl rfl)
theorem dX6_inWords_63 : decode cX6_inWords 63 = .ok (.istore 5, 2) := dk_54 5 (dk_at dksX6_inWords_2 16 rfl rfl)
theorem dX6_inWords_65 : decode cX6_inWords 65 = .ok (.iload_n 3, 1) := dk_29 (dk_at dksX6_inWords_2 18 rfl rfl)
theorem dX6_inWords_66 : decode cX6_inWords 66 = .ok (.istore 6, 2) := dk_54 6 (dk_at dksX6_inWords_2 19 rfl rfl)
theorem dX6_inWords_68 : decode cX6_inWords 68 = .ok (.iload 6, 2) := dk_21 6 (dk_at dksX6_inWords_2 21 rfl rfl)
theorem dX6_inWords_70 : decode cX6_inWords 70 = .ok (.iload 4, 2) := dk_21 4 (dk_at dksX6_inWords_3 0 rfl rfl)
theorem dX6_inWords_72 : decode cX6_inWords 72 = .ok (.if_icmp .ge 43, 3) := dk_162 0 43 (dk_at dksX6_inWords_3 2 rfl rfl)
theorem dX6_inWords_75 : decode cX6_inWords 75 = .ok (.iload 5, 2) := dk_21 5 (dk_at dksX6_inWords_3 5 rfl rfl)
theorem dX6_inWords_77 : decode cX6_inWords 77 = .ok (.ifCond .eq 38, 3) := dk_153 0 38 (dk_at dksX6_inWords_3 7 rfl rfl)
theorem dX6_inWords_80 : decode cX6_inWords 80 = .ok (.aload_n 1, 1) := dk_43 (dk_at dksX6_inWords_3 10 rfl rfl)
theorem dX6_inWords_81 : decode cX6_inWords 81 = .ok (.iload 6, 2) := dk_21 6 (dk_at dksX6_inWords_3 11 rfl rfl)
theorem dX6_inWords_83 : decode cX6_inWords 83 = .ok (.invokevirtual 157, 3) := dk_182 0 157 (dk_at dksX6_inWords_3 13 rfl rfl)
theorem dX6_inWords_86 : decode cX6_inWords 86 = .ok (.aload_n 0, 1) := dk_42 (dk_at dksX6_inWords_3 16 rfl rfl)
theorem dX6_inWords_87 : decode cX6_inWords 87 = .ok (.aload_n 0, 1) := dk_42 (dk_at dksX6_inWords_3 17 rfl rfl)
theorem dX6_inWords_88 : decode cX6_inWords 88 = .ok (.getfield 130, 3) := dk_180 0 130 (dk_at dksX6_inWords_3 18 rfl rfl)
theorem dX6_inWords_91 : decode cX6_inWords 91 = .ok (.iload 6, 2) := dk_21 6 (dk_at dksX6_inWords_3 21 rfl rfl)
theorem dX6_inWords_93 : decode cX6_inWords 93 = .ok (.iadd, 1) := dk_96 (dk_at dksX6_inWords_3 23 rfl rfl)
theorem dX6_inWords_94 : decode cX6_inWords 94 = .ok (.iload_n 3, 1) := dk_29 (dk_at dksX6_inWords_4 0 rfl rfl)
theorem dX6_inWords_95 : decode cX6_inWords 95 = .ok (.isub, 1) := dk_100 (dk_at dksX6_inWords_4 1 rfl rfl)
theorem dX6_inWords_96 : decode cX6_inWords 96 = .ok (.invokevirtual 127, 3) := dk_182 0 127 (dk_at dksX6_inWords_4 2 rfl rfl)
theorem dX6_inWords_99 : decode cX6_inWords 99 = .ok (.if_icmp .ne 7, 3) := dk_160 0 7 (dk_at dksX6_inWords_4 5 rfl rfl)
theorem dX6_inWords_102 : decode cX6_inWords 102 = .ok (.iconst 1, 1) := dk_4 (dk_at dksX6_inWords_4 8 rfl rfl)
theorem dX6_inWords_103 : decode cX6_inWords 103 = .ok (.goto 4, 3) := dk_167 0 4 (dk_at dksX6_inWords_4 9 rfl rfl)
theorem dX6_inWords_106 : decode cX6_inWords 106 = .ok (.iconst 0, 1) := dk_3 (dk_at dksX6_inWords_4 12 rfl rfl)
theorem dX6_inWords_107 : decode cX6_inWords 107 = .ok (.istore 5, 2) := dk_54 5 (dk_at dksX6_inWords_4 13 rfl rfl)
theorem dX6_inWords_109 : decode cX6_inWords 109 = .ok (.iinc 6 1, 3) := dk_132 6 1 (dk_at dksX6_inWords_4 15 rfl rfl)
theorem dX6_inWords_112 : decode cX6_inWords 112 = .ok (.goto (-44), 3) := dk_167 255 212 (dk_at dksX6_inWords_4 18 rfl rfl)
theorem dX6_inWords_115 : decode cX6_inWords 115 = .ok (.iload 5, 2) := dk_21 5 (dk_at dksX6_inWords_4 21 rfl rfl)
theorem dX6_inWords_117 : decode cX6_inWords 117 = .ok (.ifCond .eq 5, 3) := dk_153 0 5 (dk_at dksX6_inWords_5 0 rfl rfl)
theorem dX6_inWords_120 : decode cX6_inWords 120 = .ok (.iload_n 2, 1) := dk_28 (dk_at dksX6_inWords_5 3 rfl rfl)
theorem dX6_inWords_121 : decode cX6_inWords 121 = .ok (.ireturn, 1) := dk_172 (dk_at dksX6_inWords_5 4 rfl rfl)
theorem dX6_inWords_122 : decode cX6_inWords 122 = .ok (.iinc 2 1, 3) := dk_132 2 1 (dk_at dksX6_inWords_5 5 rfl rfl)
theorem dX6_inWords_125 : decode cX6_inWords 125 = .ok (.iload 4, 2) := dk_21 4 (dk_at dksX6_inWords_5 8 rfl rfl)
theorem dX6_inWords_127 : decode cX6_inWords 127 = .ok (.iconst 1, 1) := dk_4 (dk_at dksX6_inWords_5 10 rfl rfl)
theorem dX6_inWords_128 : decode cX6_inWords 128 = .ok (.iadd, 1) := dk_96 (dk_at dksX6_inWords_5 11 rfl rfl)
theorem dX6_inWords_129 : decode cX6_inWords 129 = .ok (.istore_n 3, 1) := dk_62 (dk_at dksX6_inWords_5 12 rfl rfl)
theorem dX6_inWords_130 : decode cX6_inWords 130 = .ok (.goto (-116), 3) := dk_167 255 140 (dk_at dksX6_inWords_5 13 rfl rfl)
theorem dX6_inWords_133 : decode cX6_inWords 133 = .ok (.iconst (-1), 1) := dk_2 (dk_at dksX6_inWords_5 16 rfl rfl)
theorem dX6_inWords_134 : decode cX6_inWords 134 = .ok (.ireturn, 1) := dk_172 (dk_at dksX6_inWords_5 17 rfl rfl)
abbrev cX6_fails : ByteArray := prog_16_method_27_code
def yX6_fails : MethodName := ⟨RX6, "fails", "(I)Z"⟩
def dkwX6_fails_1 : List UInt8 := [42, 42, 180, 0, 130, 181, 0, 41, 3, 172]
abbrev dktX6_fails_1 : List UInt8 := dkwX6_fails_1 ++ []
def dkwX6_fails_0 : List UInt8 := [42, 180, 0, 161, 154, 0, 28, 42, 42, 180, 0, 136, 4, 160, 0, 7, 4, 167, 0, 4, 27, 181, 0, 161]
abbrev dktX6_fails_0 : List UInt8 := dkwX6_fails_0 ++ dktX6_fails_1
theorem dksX6_fails_0 : cX6_fails.data.toList.drop 0 = dktX6_fails_0 := by decide +kernel
theorem dksX6_fails_1 : cX6_fails.data.toList.drop 24 = dktX6_fails_1 := dk_seg dksX6_fails_0 24 rfl rfl
theorem dX6_fails_0 : decode cX6_fails 0 = .ok (.aload_n 0, 1) := dk_42 (dk_at dksX6_fails_0 0 rfl rfl)
theorem dX6_fails_1 : decode cX6_fails 1 = .ok (.getfield 161, 3) := dk_180 0 161 (dk_at dksX6_fails_0 1 rfl rfl)
theorem dX6_fails_4 : decode cX6_fails 4 = .ok (.ifCond .ne 28, 3) := dk_154 0 28 (dk_at dksX6_fails_0 4 rfl rfl)
theorem dX6_fails_7 : decode cX6_fails 7 = .ok (.aload_n 0, 1) := dk_42 (dk_at dksX6_fails_0 7 rfl rfl)
theorem dX6_fails_8 : decode cX6_fails 8 = .ok (.aload_n 0, 1) := dk_42 (dk_at dksX6_fails_0 8 rfl rfl)
theorem dX6_fails_9 : decode cX6_fails 9 = .ok (.getfield 136, 3) := dk_180 0 136 (dk_at dksX6_fails_0 9 rfl rfl)
theorem dX6_fails_12 : decode cX6_fails 12 = .ok (.iconst 1, 1) := dk_4 (dk_at dksX6_fails_0 12 rfl rfl)
theorem dX6_fails_13 : decode cX6_fails 13 = .ok (.if_icmp .ne 7, 3) := dk_160 0 7 (dk_at dksX6_fails_0 13 rfl rfl)
theorem dX6_fails_16 : decode cX6_fails 16 = .ok (.iconst 1, 1) := dk_4 (dk_at dksX6_fails_0 16 rfl rfl)
theorem dX6_fails_17 : decode cX6_fails 17 = .ok (.goto 4, 3) := dk_167 0 4 (dk_at dksX6_fails_0 17 rfl rfl)
theorem dX6_fails_20 : decode cX6_fails 20 = .ok (.iload_n 1, 1) := dk_27 (dk_at dksX6_fails_0 20 rfl rfl)
theorem dX6_fails_21 : decode cX6_fails 21 = .ok (.putfield 161, 3) := dk_181 0 161 (dk_at dksX6_fails_0 21 rfl rfl)
theorem dX6_fails_24 : decode cX6_fails 24 = .ok (.aload_n 0, 1) := dk_42 (dk_at dksX6_fails_1 0 rfl rfl)
theorem dX6_fails_25 : decode cX6_fails 25 = .ok (.aload_n 0, 1) := dk_42 (dk_at dksX6_fails_1 1 rfl rfl)
theorem dX6_fails_26 : decode cX6_fails 26 = .ok (.getfield 130, 3) := dk_180 0 130 (dk_at dksX6_fails_1 2 rfl rfl)
theorem dX6_fails_29 : decode cX6_fails 29 = .ok (.putfield 41, 3) := dk_181 0 41 (dk_at dksX6_fails_1 5 rfl rfl)
theorem dX6_fails_32 : decode cX6_fails 32 = .ok (.iconst 0, 1) := dk_3 (dk_at dksX6_fails_1 8 rfl rfl)
theorem dX6_fails_33 : decode cX6_fails 33 = .ok (.ireturn, 1) := dk_172 (dk_at dksX6_fails_1 9 rfl rfl)
abbrev cX6_aSmell : ByteArray := prog_16_method_44_code
def yX6_aSmell : MethodName := ⟨RX6, "aSmell", "()Z"⟩
def dkwX6_aSmell_1 : List UInt8 := [4, 172]
abbrev dktX6_aSmell_1 : List UInt8 := dkwX6_aSmell_1 ++ []
def dkwX6_aSmell_0 : List UInt8 := [42, 3, 8, 3, 182, 0, 201, 154, 0, 5, 3, 172, 42, 180, 0, 7, 17, 7, 216, 92, 46, 4, 96, 79]
abbrev dktX6_aSmell_0 : List UInt8 := dkwX6_aSmell_0 ++ dktX6_aSmell_1
theorem dksX6_aSmell_0 : cX6_aSmell.data.toList.drop 0 = dktX6_aSmell_0 := by decide +kernel
theorem dksX6_aSmell_1 : cX6_aSmell.data.toList.drop 24 = dktX6_aSmell_1 := dk_seg dksX6_aSmell_0 24 rfl rfl
theorem dX6_aSmell_0 : decode cX6_aSmell 0 = .ok (.aload_n 0, 1) := dk_42 (dk_at dksX6_aSmell_0 0 rfl rfl)
theorem dX6_aSmell_1 : decode cX6_aSmell 1 = .ok (.iconst 0, 1) := dk_3 (dk_at dksX6_aSmell_0 1 rfl rfl)
theorem dX6_aSmell_2 : decode cX6_aSmell 2 = .ok (.iconst 5, 1) := dk_8 (dk_at dksX6_aSmell_0 2 rfl rfl)
theorem dX6_aSmell_3 : decode cX6_aSmell 3 = .ok (.iconst 0, 1) := dk_3 (dk_at dksX6_aSmell_0 3 rfl rfl)
theorem dX6_aSmell_4 : decode cX6_aSmell 4 = .ok (.invokevirtual 201, 3) := dk_182 0 201 (dk_at dksX6_aSmell_0 4 rfl rfl)
theorem dX6_aSmell_7 : decode cX6_aSmell 7 = .ok (.ifCond .ne 5, 3) := dk_154 0 5 (dk_at dksX6_aSmell_0 7 rfl rfl)
theorem dX6_aSmell_10 : decode cX6_aSmell 10 = .ok (.iconst 0, 1) := dk_3 (dk_at dksX6_aSmell_0 10 rfl rfl)
theorem dX6_aSmell_11 : decode cX6_aSmell 11 = .ok (.ireturn, 1) := dk_172 (dk_at dksX6_aSmell_0 11 rfl rfl)
theorem dX6_aSmell_12 : decode cX6_aSmell 12 = .ok (.aload_n 0, 1) := dk_42 (dk_at dksX6_aSmell_0 12 rfl rfl)
theorem dX6_aSmell_13 : decode cX6_aSmell 13 = .ok (.getfield 7, 3) := dk_180 0 7 (dk_at dksX6_aSmell_0 13 rfl rfl)
theorem dX6_aSmell_16 : decode cX6_aSmell 16 = .ok (.sipush 2008, 3) := dk_17 7 216 (dk_at dksX6_aSmell_0 16 rfl rfl)
theorem dX6_aSmell_19 : decode cX6_aSmell 19 = .ok (.dup2, 1) := dk_92 (dk_at dksX6_aSmell_0 19 rfl rfl)
theorem dX6_aSmell_20 : decode cX6_aSmell 20 = .ok (.iaload, 1) := dk_46 (dk_at dksX6_aSmell_0 20 rfl rfl)
theorem dX6_aSmell_21 : decode cX6_aSmell 21 = .ok (.iconst 1, 1) := dk_4 (dk_at dksX6_aSmell_0 21 rfl rfl)
theorem dX6_aSmell_22 : decode cX6_aSmell 22 = .ok (.iadd, 1) := dk_96 (dk_at dksX6_aSmell_0 22 rfl rfl)
theorem dX6_aSmell_23 : decode cX6_aSmell 23 = .ok (.iastore, 1) := dk_79 (dk_at dksX6_aSmell_0 23 rfl rfl)
theorem dX6_aSmell_24 : decode cX6_aSmell 24 = .ok (.iconst 1, 1) := dk_4 (dk_at dksX6_aSmell_1 0 rfl rfl)
theorem dX6_aSmell_25 : decode cX6_aSmell 25 = .ok (.ireturn, 1) := dk_172 (dk_at dksX6_aSmell_1 1 rfl rfl)
abbrev cX6_newOne : ByteArray := prog_16_method_42_code
def yX6_newOne : MethodName := ⟨RX6, "newOne", "(III)Z"⟩
def dkwX6_newOne_3 : List UInt8 := [80, 42, 182, 0, 167, 4, 172]
abbrev dktX6_newOne_3 : List UInt8 := dkwX6_newOne_3 ++ []
def dkwX6_newOne_2 : List UInt8 := [172, 42, 180, 0, 13, 16, 92, 29, 96, 42, 180, 0, 7, 17, 7, 216, 27, 96, 46, 96, 42, 182, 0, 180]
abbrev dktX6_newOne_2 : List UInt8 := dkwX6_newOne_2 ++ dktX6_newOne_3
def dkwX6_newOne_1 : List UInt8 := [182, 0, 193, 154, 0, 9, 42, 5, 182, 0, 173, 172, 42, 182, 0, 197, 153, 0, 9, 42, 6, 182, 0, 173]
abbrev dktX6_newOne_1 : List UInt8 := dkwX6_newOne_1 ++ dktX6_newOne_2
def dkwX6_newOne_0 : List UInt8 := [42, 27, 28, 182, 0, 189, 153, 0, 10, 42, 16, 6, 182, 0, 173, 172, 42, 182, 0, 167, 42, 18, 184]
abbrev dktX6_newOne_0 : List UInt8 := dkwX6_newOne_0 ++ dktX6_newOne_1
theorem dksX6_newOne_0 : cX6_newOne.data.toList.drop 0 = dktX6_newOne_0 := by decide +kernel
theorem dksX6_newOne_1 : cX6_newOne.data.toList.drop 23 = dktX6_newOne_1 := dk_seg dksX6_newOne_0 23 rfl rfl
theorem dksX6_newOne_2 : cX6_newOne.data.toList.drop 47 = dktX6_newOne_2 := dk_seg dksX6_newOne_1 24 rfl rfl
theorem dksX6_newOne_3 : cX6_newOne.data.toList.drop 71 = dktX6_newOne_3 := dk_seg dksX6_newOne_2 24 rfl rfl
theorem dX6_newOne_0 : decode cX6_newOne 0 = .ok (.aload_n 0, 1) := dk_42 (dk_at dksX6_newOne_0 0 rfl rfl)
theorem dX6_newOne_1 : decode cX6_newOne 1 = .ok (.iload_n 1, 1) := dk_27 (dk_at dksX6_newOne_0 1 rfl rfl)
theorem dX6_newOne_2 : decode cX6_newOne 2 = .ok (.iload_n 2, 1) := dk_28 (dk_at dksX6_newOne_0 2 rfl rfl)
theorem dX6_newOne_3 : decode cX6_newOne 3 = .ok (.invokevirtual 189, 3) := dk_182 0 189 (dk_at dksX6_newOne_0 3 rfl rfl)
theorem dX6_newOne_6 : decode cX6_newOne 6 = .ok (.ifCond .eq 10, 3) := dk_153 0 10 (dk_at dksX6_newOne_0 6 rfl rfl)
theorem dX6_newOne_9 : decode cX6_newOne 9 = .ok (.aload_n 0, 1) := dk_42 (dk_at dksX6_newOne_0 9 rfl rfl)
theorem dX6_newOne_10 : decode cX6_newOne 10 = .ok (.bipush 6, 2) := dk_16 6 (dk_at dksX6_newOne_0 10 rfl rfl)
theorem dX6_newOne_12 : decode cX6_newOne 12 = .ok (.invokevirtual 173, 3) := dk_182 0 173 (dk_at dksX6_newOne_0 12 rfl rfl)
theorem dX6_newOne_15 : decode cX6_newOne 15 = .ok (.ireturn, 1) := dk_172 (dk_at dksX6_newOne_0 15 rfl rfl)
theorem dX6_newOne_16 : decode cX6_newOne 16 = .ok (.aload_n 0, 1) := dk_42 (dk_at dksX6_newOne_0 16 rfl rfl)
theorem dX6_newOne_17 : decode cX6_newOne 17 = .ok (.invokevirtual 167, 3) := dk_182 0 167 (dk_at dksX6_newOne_0 17 rfl rfl)
theorem dX6_newOne_20 : decode cX6_newOne 20 = .ok (.aload_n 0, 1) := dk_42 (dk_at dksX6_newOne_0 20 rfl rfl)
theorem dX6_newOne_21 : decode cX6_newOne 21 = .ok (.ldc 184, 2) := dk_18 184 (dk_at dksX6_newOne_0 21 rfl rfl)
theorem dX6_newOne_23 : decode cX6_newOne 23 = .ok (.invokevirtual 193, 3) := dk_182 0 193 (dk_at dksX6_newOne_1 0 rfl rfl)
theorem dX6_newOne_26 : decode cX6_newOne 26 = .ok (.ifCond .ne 9, 3) := dk_154 0 9 (dk_at dksX6_newOne_1 3 rfl rfl)
theorem dX6_newOne_29 : decode cX6_newOne 29 = .ok (.aload_n 0, 1) := dk_42 (dk_at dksX6_newOne_1 6 rfl rfl)
theorem dX6_newOne_30 : decode cX6_newOne 30 = .ok (.iconst 2, 1) := dk_5 (dk_at dksX6_newOne_1 7 rfl rfl)
theorem dX6_newOne_31 : decode cX6_newOne 31 = .ok (.invokevirtual 173, 3) := dk_182 0 173 (dk_at dksX6_newOne_1 8 rfl rfl)
theorem dX6_newOne_34 : decode cX6_newOne 34 = .ok (.ireturn, 1) := dk_172 (dk_at dksX6_newOne_1 11 rfl rfl)
theorem dX6_newOne_35 : decode cX6_newOne 35 = .ok (.aload_n 0, 1) := dk_42 (dk_at dksX6_newOne_1 12 rfl rfl)
theorem dX6_newOne_36 : decode cX6_newOne 36 = .ok (.invokevirtual 197, 3) := dk_182 0 197 (dk_at dksX6_newOne_1 13 rfl rfl)
theorem dX6_newOne_39 : decode cX6_newOne 39 = .ok (.ifCond .eq 9, 3) := dk_153 0 9 (dk_at dksX6_newOne_1 16 rfl rfl)
theorem dX6_newOne_42 : decode cX6_newOne 42 = .ok (.aload_n 0, 1) := dk_42 (dk_at dksX6_newOne_1 19 rfl rfl)
theorem dX6_newOne_43 : decode cX6_newOne 43 = .ok (.iconst 3, 1) := dk_6 (dk_at dksX6_newOne_1 20 rfl rfl)
theorem dX6_newOne_44 : decode cX6_newOne 44 = .ok (.invokevirtual 173, 3) := dk_182 0 173 (dk_at dksX6_newOne_1 21 rfl rfl)
theorem dX6_newOne_47 : decode cX6_newOne 47 = .ok (.ireturn, 1) := dk_172 (dk_at dksX6_newOne_2 0 rfl rfl)
theorem dX6_newOne_48 : decode cX6_newOne 48 = .ok (.aload_n 0, 1) := dk_42 (dk_at dksX6_newOne_2 1 rfl rfl)
theorem dX6_newOne_49 : decode cX6_newOne 49 = .ok (.getfield 13, 3) := dk_180 0 13 (dk_at dksX6_newOne_2 2 rfl rfl)
theorem dX6_newOne_52 : decode cX6_newOne 52 = .ok (.bipush 92, 2) := dk_16 92 (dk_at dksX6_newOne_2 5 rfl rfl)
theorem dX6_newOne_54 : decode cX6_newOne 54 = .ok (.iload_n 3, 1) := dk_29 (dk_at dksX6_newOne_2 7 rfl rfl)
theorem dX6_newOne_55 : decode cX6_newOne 55 = .ok (.iadd, 1) := dk_96 (dk_at dksX6_newOne_2 8 rfl rfl)
theorem dX6_newOne_56 : decode cX6_newOne 56 = .ok (.aload_n 0, 1) := dk_42 (dk_at dksX6_newOne_2 9 rfl rfl)
theorem dX6_newOne_57 : decode cX6_newOne 57 = .ok (.getfield 7, 3) := dk_180 0 7 (dk_at dksX6_newOne_2 10 rfl rfl)
theorem dX6_newOne_60 : decode cX6_newOne 60 = .ok (.sipush 2008, 3) := dk_17 7 216 (dk_at dksX6_newOne_2 13 rfl rfl)
theorem dX6_newOne_63 : decode cX6_newOne 63 = .ok (.iload_n 1, 1) := dk_27 (dk_at dksX6_newOne_2 16 rfl rfl)
theorem dX6_newOne_64 : decode cX6_newOne 64 = .ok (.iadd, 1) := dk_96 (dk_at dksX6_newOne_2 17 rfl rfl)
theorem dX6_newOne_65 : decode cX6_newOne 65 = .ok (.iaload, 1) := dk_46 (dk_at dksX6_newOne_2 18 rfl rfl)
theorem dX6_newOne_66 : decode cX6_newOne 66 = .ok (.iadd, 1) := dk_96 (dk_at dksX6_newOne_2 19 rfl rfl)
theorem dX6_newOne_67 : decode cX6_newOne 67 = .ok (.aload_n 0, 1) := dk_42 (dk_at dksX6_newOne_2 20 rfl rfl)
theorem dX6_newOne_68 : decode cX6_newOne 68 = .ok (.invokevirtual 180, 3) := dk_182 0 180 (dk_at dksX6_newOne_2 21 rfl rfl)
theorem dX6_newOne_71 : decode cX6_newOne 71 = .ok (.lastore, 1) := dk_80 (dk_at dksX6_newOne_3 0 rfl rfl)
theorem dX6_newOne_72 : decode cX6_newOne 72 = .ok (.aload_n 0, 1) := dk_42 (dk_at dksX6_newOne_3 1 rfl rfl)
theorem dX6_newOne_73 : decode cX6_newOne 73 = .ok (.invokevirtual 167, 3) := dk_182 0 167 (dk_at dksX6_newOne_3 2 rfl rfl)
theorem dX6_newOne_76 : decode cX6_newOne 76 = .ok (.iconst 1, 1) := dk_4 (dk_at dksX6_newOne_3 5 rfl rfl)
theorem dX6_newOne_77 : decode cX6_newOne 77 = .ok (.ireturn, 1) := dk_172 (dk_at dksX6_newOne_3 6 rfl rfl)
abbrev cX6_isFull : ByteArray := prog_16_method_41_code
def yX6_isFull : MethodName := ⟨RX6, "isFull", "(II)Z"⟩
def dkwX6_isFull_0 : List UInt8 := [42, 180, 0, 7, 17, 7, 216, 27, 96, 46, 28, 160, 0, 7, 4, 167, 0, 4, 3, 172]
abbrev dktX6_isFull_0 : List UInt8 := dkwX6_isFull_0 ++ []
theorem dksX6_isFull_0 : cX6_isFull.data.toList.drop 0 = dktX6_isFull_0 := by decide +kernel
theorem dX6_isFull_0 : decode cX6_isFull 0 = .ok (.aload_n 0, 1) := dk_42 (dk_at dksX6_isFull_0 0 rfl rfl)
theorem dX6_isFull_1 : decode cX6_isFull 1 = .ok (.getfield 7, 3) := dk_180 0 7 (dk_at dksX6_isFull_0 1 rfl rfl)
theorem dX6_isFull_4 : decode cX6_isFull 4 = .ok (.sipush 2008, 3) := dk_17 7 216 (dk_at dksX6_isFull_0 4 rfl rfl)
theorem dX6_isFull_7 : decode cX6_isFull 7 = .ok (.iload_n 1, 1) := dk_27 (dk_at dksX6_isFull_0 7 rfl rfl)
theorem dX6_isFull_8 : decode cX6_isFull 8 = .ok (.iadd, 1) := dk_96 (dk_at dksX6_isFull_0 8 rfl rfl)
theorem dX6_isFull_9 : decode cX6_isFull 9 = .ok (.iaload, 1) := dk_46 (dk_at dksX6_isFull_0 9 rfl rfl)
theorem dX6_isFull_10 : decode cX6_isFull 10 = .ok (.iload_n 2, 1) := dk_28 (dk_at dksX6_isFull_0 10 rfl rfl)
theorem dX6_isFull_11 : decode cX6_isFull 11 = .ok (.if_icmp .ne 7, 3) := dk_160 0 7 (dk_at dksX6_isFull_0 11 rfl rfl)
theorem dX6_isFull_14 : decode cX6_isFull 14 = .ok (.iconst 1, 1) := dk_4 (dk_at dksX6_isFull_0 14 rfl rfl)
theorem dX6_isFull_15 : decode cX6_isFull 15 = .ok (.goto 4, 3) := dk_167 0 4 (dk_at dksX6_isFull_0 15 rfl rfl)
theorem dX6_isFull_18 : decode cX6_isFull 18 = .ok (.iconst 0, 1) := dk_3 (dk_at dksX6_isFull_0 18 rfl rfl)
theorem dX6_isFull_19 : decode cX6_isFull 19 = .ok (.ireturn, 1) := dk_172 (dk_at dksX6_isFull_0 19 rfl rfl)
abbrev cX6_isName : ByteArray := prog_16_method_32_code
def yX6_isName : MethodName := ⟨RX6, "isName", "(Ljava/lang/String;)Z"⟩
def dkwX6_isName_1 : List UInt8 := [182, 0, 176, 2, 160, 0, 7, 4, 167, 0, 4, 3, 172]
abbrev dktX6_isName_1 : List UInt8 := dkwX6_isName_1 ++ []
def dkwX6_isName_0 : List UInt8 := [42, 180, 0, 136, 5, 160, 0, 30, 42, 180, 0, 124, 42, 180, 0, 130, 100, 16, 8, 163, 0, 16, 42, 43]
abbrev dktX6_isName_0 : List UInt8 := dkwX6_isName_0 ++ dktX6_isName_1
theorem dksX6_isName_0 : cX6_isName.data.toList.drop 0 = dktX6_isName_0 := by decide +kernel
theorem dksX6_isName_1 : cX6_isName.data.toList.drop 24 = dktX6_isName_1 := dk_seg dksX6_isName_0 24 rfl rfl
theorem dX6_isName_0 : decode cX6_isName 0 = .ok (.aload_n 0, 1) := dk_42 (dk_at dksX6_isName_0 0 rfl rfl)
theorem dX6_isName_1 : decode cX6_isName 1 = .ok (.getfield 136, 3) := dk_180 0 136 (dk_at dksX6_isName_0 1 rfl rfl)
theorem dX6_isName_4 : decode cX6_isName 4 = .ok (.iconst 2, 1) := dk_5 (dk_at dksX6_isName_0 4 rfl rfl)
theorem dX6_isName_5 : decode cX6_isName 5 = .ok (.if_icmp .ne 30, 3) := dk_160 0 30 (dk_at dksX6_isName_0 5 rfl rfl)
theorem dX6_isName_8 : decode cX6_isName 8 = .ok (.aload_n 0, 1) := dk_42 (dk_at dksX6_isName_0 8 rfl rfl)
theorem dX6_isName_9 : decode cX6_isName 9 = .ok (.getfield 124, 3) := dk_180 0 124 (dk_at dksX6_isName_0 9 rfl rfl)
theorem dX6_isName_12 : decode cX6_isName 12 = .ok (.aload_n 0, 1) := dk_42 (dk_at dksX6_isName_0 12 rfl rfl)
theorem dX6_isName_13 : decode cX6_isName 13 = .ok (.getfield 130, 3) := dk_180 0 130 (dk_at dksX6_isName_0 13 rfl rfl)
theorem dX6_isName_16 : decode cX6_isName 16 = .ok (.isub, 1) := dk_100 (dk_at dksX6_isName_0 16 rfl rfl)
theorem dX6_isName_17 : decode cX6_isName 17 = .ok (.bipush 8, 2) := dk_16 8 (dk_at dksX6_isName_0 17 rfl rfl)
theorem dX6_isName_19 : decode cX6_isName 19 = .ok (.if_icmp .gt 16, 3) := dk_163 0 16 (dk_at dksX6_isName_0 19 rfl rfl)
theorem dX6_isName_22 : decode cX6_isName 22 = .ok (.aload_n 0, 1) := dk_42 (dk_at dksX6_isName_0 22 rfl rfl)
theorem dX6_isName_23 : decode cX6_isName 23 = .ok (.aload_n 1, 1) := dk_43 (dk_at dksX6_isName_0 23 rfl rfl)
theorem dX6_isName_24 : decode cX6_isName 24 = .ok (.invokevirtual 176, 3) := dk_182 0 176 (dk_at dksX6_isName_1 0 rfl rfl)
theorem dX6_isName_27 : decode cX6_isName 27 = .ok (.iconst (-1), 1) := dk_2 (dk_at dksX6_isName_1 3 rfl rfl)
theorem dX6_isName_28 : decode cX6_isName 28 = .ok (.if_icmp .ne 7, 3) := dk_160 0 7 (dk_at dksX6_isName_1 4 rfl rfl)
theorem dX6_isName_31 : decode cX6_isName 31 = .ok (.iconst 1, 1) := dk_4 (dk_at dksX6_isName_1 7 rfl rfl)
theorem dX6_isName_32 : decode cX6_isName 32 = .ok (.goto 4, 3) := dk_167 0 4 (dk_at dksX6_isName_1 8 rfl rfl)
theorem dX6_isName_35 : decode cX6_isName 35 = .ok (.iconst 0, 1) := dk_3 (dk_at dksX6_isName_1 11 rfl rfl)
theorem dX6_isName_36 : decode cX6_isName 36 = .ok (.ireturn, 1) := dk_172 (dk_at dksX6_isName_1 12 rfl rfl)
abbrev cX6_isTaken : ByteArray := prog_16_method_40_code
def yX6_isTaken : MethodName := ⟨RX6, "isTaken", "()Z"⟩
def dkwX6_isTaken_3 : List UInt8 := [182, 0, 186, 2, 159, 0, 7, 4, 167, 0, 4, 3, 172]
abbrev dktX6_isTaken_3 : List UInt8 := dkwX6_isTaken_3 ++ []
def dkwX6_isTaken_2 : List UInt8 := [17, 7, 219, 46, 182, 0, 186, 2, 160, 0, 21, 42, 16, 109, 42, 180, 0, 7, 17, 7, 220, 46]
abbrev dktX6_isTaken_2 : List UInt8 := dkwX6_isTaken_2 ++ dktX6_isTaken_3
def dkwX6_isTaken_1 : List UInt8 := [180, 0, 7, 17, 7, 217, 46, 182, 0, 186, 2, 159, 0, 5, 4, 172, 42, 16, 103, 42, 180, 0, 7]
abbrev dktX6_isTaken_1 : List UInt8 := dkwX6_isTaken_1 ++ dktX6_isTaken_2
def dkwX6_isTaken_0 : List UInt8 := [42, 16, 92, 42, 180, 0, 7, 17, 7, 216, 46, 182, 0, 186, 2, 160, 0, 21, 42, 16, 97, 42]
abbrev dktX6_isTaken_0 : List UInt8 := dkwX6_isTaken_0 ++ dktX6_isTaken_1
theorem dksX6_isTaken_0 : cX6_isTaken.data.toList.drop 0 = dktX6_isTaken_0 := by decide +kernel
theorem dksX6_isTaken_1 : cX6_isTaken.data.toList.drop 22 = dktX6_isTaken_1 := dk_seg dksX6_isTaken_0 22 rfl rfl
theorem dksX6_isTaken_2 : cX6_isTaken.data.toList.drop 45 = dktX6_isTaken_2 := dk_seg dksX6_isTaken_1 23 rfl rfl
theorem dksX6_isTaken_3 : cX6_isTaken.data.toList.drop 67 = dktX6_isTaken_3 := dk_seg dksX6_isTaken_2 22 rfl rfl
theorem dX6_isTaken_0 : decode cX6_isTaken 0 = .ok (.aload_n 0, 1) := dk_42 (dk_at dksX6_isTaken_0 0 rfl rfl)
theorem dX6_isTaken_1 : decode cX6_isTaken 1 = .ok (.bipush 92, 2) := dk_16 92 (dk_at dksX6_isTaken_0 1 rfl rfl)
theorem dX6_isTaken_3 : decode cX6_isTaken 3 = .ok (.aload_n 0, 1) := dk_42 (dk_at dksX6_isTaken_0 3 rfl rfl)
theorem dX6_isTaken_4 : decode cX6_isTaken 4 = .ok (.getfield 7, 3) := dk_180 0 7 (dk_at dksX6_isTaken_0 4 rfl rfl)
theorem dX6_isTaken_7 : decode cX6_isTaken 7 = .ok (.sipush 2008, 3) := dk_17 7 216 (dk_at dksX6_isTaken_0 7 rfl rfl)
theorem dX6_isTaken_10 : decode cX6_isTaken 10 = .ok (.iaload, 1) := dk_46 (dk_at dksX6_isTaken_0 10 rfl rfl)
theorem dX6_isTaken_11 : decode cX6_isTaken 11 = .ok (.invokevirtual 186, 3) := dk_182 0 186 (dk_at dksX6_isTaken_0 11 rfl rfl)
theorem dX6_isTaken_14 : decode cX6_isTaken 14 = .ok (.iconst (-1), 1) := dk_2 (dk_at dksX6_isTaken_0 14 rfl rfl)
theorem dX6_isTaken_15 : decode cX6_isTaken 15 = .ok (.if_icmp .ne 21, 3) := dk_160 0 21 (dk_at dksX6_isTaken_0 15 rfl rfl)
theorem dX6_isTaken_18 : decode cX6_isTaken 18 = .ok (.aload_n 0, 1) := dk_42 (dk_at dksX6_isTaken_0 18 rfl rfl)
theorem dX6_isTaken_19 : decode cX6_isTaken 19 = .ok (.bipush 97, 2) := dk_16 97 (dk_at dksX6_isTaken_0 19 rfl rfl)
theorem dX6_isTaken_21 : decode cX6_isTaken 21 = .ok (.aload_n 0, 1) := dk_42 (dk_at dksX6_isTaken_0 21 rfl rfl)
theorem dX6_isTaken_22 : decode cX6_isTaken 22 = .ok (.getfield 7, 3) := dk_180 0 7 (dk_at dksX6_isTaken_1 0 rfl rfl)
theorem dX6_isTaken_25 : decode cX6_isTaken 25 = .ok (.sipush 2009, 3) := dk_17 7 217 (dk_at dksX6_isTaken_1 3 rfl rfl)
theorem dX6_isTaken_28 : decode cX6_isTaken 28 = .ok (.iaload, 1) := dk_46 (dk_at dksX6_isTaken_1 6 rfl rfl)
theorem dX6_isTaken_29 : decode cX6_isTaken 29 = .ok (.invokevirtual 186, 3) := dk_182 0 186 (dk_at dksX6_isTaken_1 7 rfl rfl)
theorem dX6_isTaken_32 : decode cX6_isTaken 32 = .ok (.iconst (-1), 1) := dk_2 (dk_at dksX6_isTaken_1 10 rfl rfl)
theorem dX6_isTaken_33 : decode cX6_isTaken 33 = .ok (.if_icmp .eq 5, 3) := dk_159 0 5 (dk_at dksX6_isTaken_1 11 rfl rfl)
theorem dX6_isTaken_36 : decode cX6_isTaken 36 = .ok (.iconst 1, 1) := dk_4 (dk_at dksX6_isTaken_1 14 rfl rfl)
theorem dX6_isTaken_37 : decode cX6_isTaken 37 = .ok (.ireturn, 1) := dk_172 (dk_at dksX6_isTaken_1 15 rfl rfl)
theorem dX6_isTaken_38 : decode cX6_isTaken 38 = .ok (.aload_n 0, 1) := dk_42 (dk_at dksX6_isTaken_1 16 rfl rfl)
theorem dX6_isTaken_39 : decode cX6_isTaken 39 = .ok (.bipush 103, 2) := dk_16 103 (dk_at dksX6_isTaken_1 17 rfl rfl)
theorem dX6_isTaken_41 : decode cX6_isTaken 41 = .ok (.aload_n 0, 1) := dk_42 (dk_at dksX6_isTaken_1 19 rfl rfl)
theorem dX6_isTaken_42 : decode cX6_isTaken 42 = .ok (.getfield 7, 3) := dk_180 0 7 (dk_at dksX6_isTaken_1 20 rfl rfl)
theorem dX6_isTaken_45 : decode cX6_isTaken 45 = .ok (.sipush 2011, 3) := dk_17 7 219 (dk_at dksX6_isTaken_2 0 rfl rfl)
theorem dX6_isTaken_48 : decode cX6_isTaken 48 = .ok (.iaload, 1) := dk_46 (dk_at dksX6_isTaken_2 3 rfl rfl)
theorem dX6_isTaken_49 : decode cX6_isTaken 49 = .ok (.invokevirtual 186, 3) := dk_182 0 186 (dk_at dksX6_isTaken_2 4 rfl rfl)
theorem dX6_isTaken_52 : decode cX6_isTaken 52 = .ok (.iconst (-1), 1) := dk_2 (dk_at dksX6_isTaken_2 7 rfl rfl)
theorem dX6_isTaken_53 : decode cX6_isTaken 53 = .ok (.if_icmp .ne 21, 3) := dk_160 0 21 (dk_at dksX6_isTaken_2 8 rfl rfl)
theorem dX6_isTaken_56 : decode cX6_isTaken 56 = .ok (.aload_n 0, 1) := dk_42 (dk_at dksX6_isTaken_2 11 rfl rfl)
theorem dX6_isTaken_57 : decode cX6_isTaken 57 = .ok (.bipush 109, 2) := dk_16 109 (dk_at dksX6_isTaken_2 12 rfl rfl)
theorem dX6_isTaken_59 : decode cX6_isTaken 59 = .ok (.aload_n 0, 1) := dk_42 (dk_at dksX6_isTaken_2 14 rfl rfl)
theorem dX6_isTaken_60 : decode cX6_isTaken 60 = .ok (.getfield 7, 3) := dk_180 0 7 (dk_at dksX6_isTaken_2 15 rfl rfl)
theorem dX6_isTaken_63 : decode cX6_isTaken 63 = .ok (.sipush 2012, 3) := dk_17 7 220 (dk_at dksX6_isTaken_2 18 rfl rfl)
theorem dX6_isTaken_66 : decode cX6_isTaken 66 = .ok (.iaload, 1) := dk_46 (dk_at dksX6_isTaken_2 21 rfl rfl)
theorem dX6_isTaken_67 : decode cX6_isTaken 67 = .ok (.invokevirtual 186, 3) := dk_182 0 186 (dk_at dksX6_isTaken_3 0 rfl rfl)
theorem dX6_isTaken_70 : decode cX6_isTaken 70 = .ok (.iconst (-1), 1) := dk_2 (dk_at dksX6_isTaken_3 3 rfl rfl)
theorem dX6_isTaken_71 : decode cX6_isTaken 71 = .ok (.if_icmp .eq 7, 3) := dk_159 0 7 (dk_at dksX6_isTaken_3 4 rfl rfl)
theorem dX6_isTaken_74 : decode cX6_isTaken 74 = .ok (.iconst 1, 1) := dk_4 (dk_at dksX6_isTaken_3 7 rfl rfl)
theorem dX6_isTaken_75 : decode cX6_isTaken 75 = .ok (.goto 4, 3) := dk_167 0 4 (dk_at dksX6_isTaken_3 8 rfl rfl)
theorem dX6_isTaken_78 : decode cX6_isTaken 78 = .ok (.iconst 0, 1) := dk_3 (dk_at dksX6_isTaken_3 11 rfl rfl)
theorem dX6_isTaken_79 : decode cX6_isTaken 79 = .ok (.ireturn, 1) := dk_172 (dk_at dksX6_isTaken_3 12 rfl rfl)
abbrev cX6_findHere : ByteArray := prog_16_method_34_code
def yX6_findHere : MethodName := ⟨RX6, "findHere", "(II)I"⟩
def dkwX6_findHere_1 : List UInt8 := [172, 132, 3, 1, 167, 255, 230, 2, 172]
abbrev dktX6_findHere_1 : List UInt8 := dkwX6_findHere_1 ++ []
def dkwX6_findHere_0 : List UInt8 := [3, 62, 29, 28, 162, 0, 27, 42, 180, 0, 13, 27, 29, 96, 47, 42, 182, 0, 180, 148, 154, 0, 5, 29]
abbrev dktX6_findHere_0 : List UInt8 := dkwX6_findHere_0 ++ dktX6_findHere_1
theorem dksX6_findHere_0 : cX6_findHere.data.toList.drop 0 = dktX6_findHere_0 := by decide +kernel
theorem dksX6_findHere_1 : cX6_findHere.data.toList.drop 24 = dktX6_findHere_1 := dk_seg dksX6_findHere_0 24 rfl rfl
theorem dX6_findHere_0 : decode cX6_findHere 0 = .ok (.iconst 0, 1) := dk_3 (dk_at dksX6_findHere_0 0 rfl rfl)
theorem dX6_findHere_1 : decode cX6_findHere 1 = .ok (.istore_n 3, 1) := dk_62 (dk_at dksX6_findHere_0 1 rfl rfl)
theorem dX6_findHere_2 : decode cX6_findHere 2 = .ok (.iload_n 3, 1) := dk_29 (dk_at dksX6_findHere_0 2 rfl rfl)
theorem dX6_findHere_3 : decode cX6_findHere 3 = .ok (.iload_n 2, 1) := dk_28 (dk_at dksX6_findHere_0 3 rfl rfl)
theorem dX6_findHere_4 : decode cX6_findHere 4 = .ok (.if_icmp .ge 27, 3) := dk_162 0 27 (dk_at dksX6_findHere_0 4 rfl rfl)
theorem dX6_findHere_7 : decode cX6_findHere 7 = .ok (.aload_n 0, 1) := dk_42 (dk_at dksX6_findHere_0 7 rfl rfl)
theorem dX6_findHere_8 : decode cX6_findHere 8 = .ok (.getfield 13, 3) := dk_180 0 13 (dk_at dksX6_findHere_0 8 rfl rfl)
theorem dX6_findHere_11 : decode cX6_findHere 11 = .ok (.iload_n 1, 1) := dk_27 (dk_at dksX6_findHere_0 11 rfl rfl)
theorem dX6_findHere_12 : decode cX6_findHere 12 = .ok (.iload_n 3, 1) := dk_29 (dk_at dksX6_findHere_0 12 rfl rfl)
theorem dX6_findHere_13 : decode cX6_findHere 13 = .ok (.iadd, 1) := dk_96 (dk_at dksX6_findHere_0 13 rfl rfl)
theorem dX6_findHere_14 : decode cX6_findHere 14 = .ok (.laload, 1) := dk_47 (dk_at dksX6_findHere_0 14 rfl rfl)
theorem dX6_findHere_15 : decode cX6_findHere 15 = .ok (.aload_n 0, 1) := dk_42 (dk_at dksX6_findHere_0 15 rfl rfl)
theorem dX6_findHere_16 : decode cX6_findHere 16 = .ok (.invokevirtual 180, 3) := dk_182 0 180 (dk_at dksX6_findHere_0 16 rfl rfl)
theorem dX6_findHere_19 : decode cX6_findHere 19 = .ok (.lcmp, 1) := dk_148 (dk_at dksX6_findHere_0 19 rfl rfl)
theorem dX6_findHere_20 : decode cX6_findHere 20 = .ok (.ifCond .ne 5, 3) := dk_154 0 5 (dk_at dksX6_findHere_0 20 rfl rfl)
theorem dX6_findHere_23 : decode cX6_findHere 23 = .ok (.iload_n 3, 1) := dk_29 (dk_at dksX6_findHere_0 23 rfl rfl)
theorem dX6_findHere_24 : decode cX6_findHere 24 = .ok (.ireturn, 1) := dk_172 (dk_at dksX6_findHere_1 0 rfl rfl)
theorem dX6_findHere_25 : decode cX6_findHere 25 = .ok (.iinc 3 1, 3) := dk_132 3 1 (dk_at dksX6_findHere_1 1 rfl rfl)
theorem dX6_findHere_28 : decode cX6_findHere 28 = .ok (.goto (-26), 3) := dk_167 255 230 (dk_at dksX6_findHere_1 4 rfl rfl)
theorem dX6_findHere_31 : decode cX6_findHere 31 = .ok (.iconst (-1), 1) := dk_2 (dk_at dksX6_findHere_1 7 rfl rfl)
theorem dX6_findHere_32 : decode cX6_findHere 32 = .ok (.ireturn, 1) := dk_172 (dk_at dksX6_findHere_1 8 rfl rfl)
abbrev cX6_nameHere : ByteArray := prog_16_method_33_code
def yX6_nameHere : MethodName := ⟨RX6, "nameHere", "()J"⟩
def dkwX6_nameHere_1 : List UInt8 := [133, 129, 64, 132, 3, 1, 167, 255, 233, 31, 173]
abbrev dktX6_nameHere_1 : List UInt8 := dkwX6_nameHere_1 ++ []
def dkwX6_nameHere_0 : List UInt8 := [9, 64, 42, 180, 0, 130, 62, 29, 42, 180, 0, 124, 162, 0, 21, 31, 16, 8, 121, 42, 29, 182, 0, 127]
abbrev dktX6_nameHere_0 : List UInt8 := dkwX6_nameHere_0 ++ dktX6_nameHere_1
theorem dksX6_nameHere_0 : cX6_nameHere.data.toList.drop 0 = dktX6_nameHere_0 := by decide +kernel
theorem dksX6_nameHere_1 : cX6_nameHere.data.toList.drop 24 = dktX6_nameHere_1 := dk_seg dksX6_nameHere_0 24 rfl rfl
theorem dX6_nameHere_0 : decode cX6_nameHere 0 = .ok (.lconst 0, 1) := dk_9 (dk_at dksX6_nameHere_0 0 rfl rfl)
theorem dX6_nameHere_1 : decode cX6_nameHere 1 = .ok (.lstore_n 1, 1) := dk_64 (dk_at dksX6_nameHere_0 1 rfl rfl)
theorem dX6_nameHere_2 : decode cX6_nameHere 2 = .ok (.aload_n 0, 1) := dk_42 (dk_at dksX6_nameHere_0 2 rfl rfl)
theorem dX6_nameHere_3 : decode cX6_nameHere 3 = .ok (.getfield 130, 3) := dk_180 0 130 (dk_at dksX6_nameHere_0 3 rfl rfl)
theorem dX6_nameHere_6 : decode cX6_nameHere 6 = .ok (.istore_n 3, 1) := dk_62 (dk_at dksX6_nameHere_0 6 rfl rfl)
theorem dX6_nameHere_7 : decode cX6_nameHere 7 = .ok (.iload_n 3, 1) := dk_29 (dk_at dksX6_nameHere_0 7 rfl rfl)
theorem dX6_nameHere_8 : decode cX6_nameHere 8 = .ok (.aload_n 0, 1) := dk_42 (dk_at dksX6_nameHere_0 8 rfl rfl)
theorem dX6_nameHere_9 : decode cX6_nameHere 9 = .ok (.getfield 124, 3) := dk_180 0 124 (dk_at dksX6_nameHere_0 9 rfl rfl)
theorem dX6_nameHere_12 : decode cX6_nameHere 12 = .ok (.if_icmp .ge 21, 3) := dk_162 0 21 (dk_at dksX6_nameHere_0 12 rfl rfl)
theorem dX6_nameHere_15 : decode cX6_nameHere 15 = .ok (.lload_n 1, 1) := dk_31 (dk_at dksX6_nameHere_0 15 rfl rfl)
theorem dX6_nameHere_16 : decode cX6_nameHere 16 = .ok (.bipush 8, 2) := dk_16 8 (dk_at dksX6_nameHere_0 16 rfl rfl)
theorem dX6_nameHere_18 : decode cX6_nameHere 18 = .ok (.lshl, 1) := dk_121 (dk_at dksX6_nameHere_0 18 rfl rfl)
theorem dX6_nameHere_19 : decode cX6_nameHere 19 = .ok (.aload_n 0, 1) := dk_42 (dk_at dksX6_nameHere_0 19 rfl rfl)
theorem dX6_nameHere_20 : decode cX6_nameHere 20 = .ok (.iload_n 3, 1) := dk_29 (dk_at dksX6_nameHere_0 20 rfl rfl)
theorem dX6_nameHere_21 : decode cX6_nameHere 21 = .ok (.invokevirtual 127, 3) := dk_182 0 127 (dk_at dksX6_nameHere_0 21 rfl rfl)
theorem dX6_nameHere_24 : decode cX6_nameHere 24 = .ok (.i2l, 1) := dk_133 (dk_at dksX6_nameHere_1 0 rfl rfl)
theorem dX6_nameHere_25 : decode cX6_nameHere 25 = .ok (.lor, 1) := dk_129 (dk_at dksX6_nameHere_1 1 rfl rfl)
theorem dX6_nameHere_26 : decode cX6_nameHere 26 = .ok (.lstore_n 1, 1) := dk_64 (dk_at dksX6_nameHere_1 2 rfl rfl)
theorem dX6_nameHere_27 : decode cX6_nameHere 27 = .ok (.iinc 3 1, 3) := dk_132 3 1 (dk_at dksX6_nameHere_1 3 rfl rfl)
theorem dX6_nameHere_30 : decode cX6_nameHere 30 = .ok (.goto (-23), 3) := dk_167 255 233 (dk_at dksX6_nameHere_1 6 rfl rfl)
theorem dX6_nameHere_33 : decode cX6_nameHere 33 = .ok (.lload_n 1, 1) := dk_31 (dk_at dksX6_nameHere_1 9 rfl rfl)
theorem dX6_nameHere_34 : decode cX6_nameHere 34 = .ok (.lreturn, 1) := dk_173 (dk_at dksX6_nameHere_1 10 rfl rfl)
abbrev cX6_aCue : ByteArray := prog_16_method_45_code
def yX6_aCue : MethodName := ⟨RX6, "aCue", "()Z"⟩
def dkwX6_aCue_3 : List UInt8 := [182, 0, 167, 42, 180, 0, 7, 17, 7, 217, 92, 46, 4, 96, 79, 4, 172]
abbrev dktX6_aCue_3 : List UInt8 := dkwX6_aCue_3 ++ []
def dkwX6_aCue_2 : List UInt8 := [172, 42, 180, 0, 7, 17, 7, 226, 42, 180, 0, 7, 17, 7, 217, 46, 96, 27, 16, 7, 100, 79, 42]
abbrev dktX6_aCue_2 : List UInt8 := dkwX6_aCue_2 ++ dktX6_aCue_3
def dkwX6_aCue_1 : List UInt8 := [42, 18, 184, 182, 0, 176, 60, 27, 16, 7, 161, 0, 9, 27, 16, 9, 164, 0, 9, 42, 5, 182, 0, 173]
abbrev dktX6_aCue_1 : List UInt8 := dkwX6_aCue_1 ++ dktX6_aCue_2
def dkwX6_aCue_0 : List UInt8 := [42, 4, 16, 6, 8, 182, 0, 201, 153, 0, 14, 42, 18, 184, 16, 6, 182, 0, 205, 154, 0, 5, 3, 172]
abbrev dktX6_aCue_0 : List UInt8 := dkwX6_aCue_0 ++ dktX6_aCue_1
theorem dksX6_aCue_0 : cX6_aCue.data.toList.drop 0 = dktX6_aCue_0 := by decide +kernel
theorem dksX6_aCue_1 : cX6_aCue.data.toList.drop 24 = dktX6_aCue_1 := dk_seg dksX6_aCue_0 24 rfl rfl
theorem dksX6_aCue_2 : cX6_aCue.data.toList.drop 48 = dktX6_aCue_2 := dk_seg dksX6_aCue_1 24 rfl rfl
theorem dksX6_aCue_3 : cX6_aCue.data.toList.drop 71 = dktX6_aCue_3 := dk_seg dksX6_aCue_2 23 rfl rfl
theorem dX6_aCue_0 : decode cX6_aCue 0 = .ok (.aload_n 0, 1) := dk_42 (dk_at dksX6_aCue_0 0 rfl rfl)
theorem dX6_aCue_1 : decode cX6_aCue 1 = .ok (.iconst 1, 1) := dk_4 (dk_at dksX6_aCue_0 1 rfl rfl)
theorem dX6_aCue_2 : decode cX6_aCue 2 = .ok (.bipush 6, 2) := dk_16 6 (dk_at dksX6_aCue_0 2 rfl rfl)
theorem dX6_aCue_4 : decode cX6_aCue 4 = .ok (.iconst 5, 1) := dk_8 (dk_at dksX6_aCue_0 4 rfl rfl)
theorem dX6_aCue_5 : decode cX6_aCue 5 = .ok (.invokevirtual 201, 3) := dk_182 0 201 (dk_at dksX6_aCue_0 5 rfl rfl)
theorem dX6_aCue_8 : decode cX6_aCue 8 = .ok (.ifCond .eq 14, 3) := dk_153 0 14 (dk_at dksX6_aCue_0 8 rfl rfl)
theorem dX6_aCue_11 : decode cX6_aCue 11 = .ok (.aload_n 0, 1) := dk_42 (dk_at dksX6_aCue_0 11 rfl rfl)
theorem dX6_aCue_12 : decode cX6_aCue 12 = .ok (.ldc 184, 2) := dk_18 184 (dk_at dksX6_aCue_0 12 rfl rfl)
theorem dX6_aCue_14 : decode cX6_aCue 14 = .ok (.bipush 6, 2) := dk_16 6 (dk_at dksX6_aCue_0 14 rfl rfl)
theorem dX6_aCue_16 : decode cX6_aCue 16 = .ok (.invokevirtual 205, 3) := dk_182 0 205 (dk_at dksX6_aCue_0 16 rfl rfl)
theorem dX6_aCue_19 : decode cX6_aCue 19 = .ok (.ifCond .ne 5, 3) := dk_154 0 5 (dk_at dksX6_aCue_0 19 rfl rfl)
theorem dX6_aCue_22 : decode cX6_aCue 22 = .ok (.iconst 0, 1) := dk_3 (dk_at dksX6_aCue_0 22 rfl rfl)
theorem dX6_aCue_23 : decode cX6_aCue 23 = .ok (.ireturn, 1) := dk_172 (dk_at dksX6_aCue_0 23 rfl rfl)
theorem dX6_aCue_24 : decode cX6_aCue 24 = .ok (.aload_n 0, 1) := dk_42 (dk_at dksX6_aCue_1 0 rfl rfl)
theorem dX6_aCue_25 : decode cX6_aCue 25 = .ok (.ldc 184, 2) := dk_18 184 (dk_at dksX6_aCue_1 1 rfl rfl)
theorem dX6_aCue_27 : decode cX6_aCue 27 = .ok (.invokevirtual 176, 3) := dk_182 0 176 (dk_at dksX6_aCue_1 3 rfl rfl)
theorem dX6_aCue_30 : decode cX6_aCue 30 = .ok (.istore_n 1, 1) := dk_60 (dk_at dksX6_aCue_1 6 rfl rfl)
theorem dX6_aCue_31 : decode cX6_aCue 31 = .ok (.iload_n 1, 1) := dk_27 (dk_at dksX6_aCue_1 7 rfl rfl)
theorem dX6_aCue_32 : decode cX6_aCue 32 = .ok (.bipush 7, 2) := dk_16 7 (dk_at dksX6_aCue_1 8 rfl rfl)
theorem dX6_aCue_34 : decode cX6_aCue 34 = .ok (.if_icmp .lt 9, 3) := dk_161 0 9 (dk_at dksX6_aCue_1 10 rfl rfl)
theorem dX6_aCue_37 : decode cX6_aCue 37 = .ok (.iload_n 1, 1) := dk_27 (dk_at dksX6_aCue_1 13 rfl rfl)
theorem dX6_aCue_38 : decode cX6_aCue 38 = .ok (.bipush 9, 2) := dk_16 9 (dk_at dksX6_aCue_1 14 rfl rfl)
theorem dX6_aCue_40 : decode cX6_aCue 40 = .ok (.if_icmp .le 9, 3) := dk_164 0 9 (dk_at dksX6_aCue_1 16 rfl rfl)
theorem dX6_aCue_43 : decode cX6_aCue 43 = .ok (.aload_n 0, 1) := dk_42 (dk_at dksX6_aCue_1 19 rfl rfl)
theorem dX6_aCue_44 : decode cX6_aCue 44 = .ok (.iconst 2, 1) := dk_5 (dk_at dksX6_aCue_1 20 rfl rfl)
theorem dX6_aCue_45 : decode cX6_aCue 45 = .ok (.invokevirtual 173, 3) := dk_182 0 173 (dk_at dksX6_aCue_1 21 rfl rfl)
theorem dX6_aCue_48 : decode cX6_aCue 48 = .ok (.ireturn, 1) := dk_172 (dk_at dksX6_aCue_2 0 rfl rfl)
theorem dX6_aCue_49 : decode cX6_aCue 49 = .ok (.aload_n 0, 1) := dk_42 (dk_at dksX6_aCue_2 1 rfl rfl)
theorem dX6_aCue_50 : decode cX6_aCue 50 = .ok (.getfield 7, 3) := dk_180 0 7 (dk_at dksX6_aCue_2 2 rfl rfl)
theorem dX6_aCue_53 : decode cX6_aCue 53 = .ok (.sipush 2018, 3) := dk_17 7 226 (dk_at dksX6_aCue_2 5 rfl rfl)
theorem dX6_aCue_56 : decode cX6_aCue 56 = .ok (.aload_n 0, 1) := dk_42 (dk_at dksX6_aCue_2 8 rfl rfl)
theorem dX6_aCue_57 : decode cX6_aCue 57 = .ok (.getfield 7, 3) := dk_180 0 7 (dk_at dksX6_aCue_2 9 rfl rfl)
theorem dX6_aCue_60 : decode cX6_aCue 60 = .ok (.sipush 2009, 3) := dk_17 7 217 (dk_at dksX6_aCue_2 12 rfl rfl)
theorem dX6_aCue_63 : decode cX6_aCue 63 = .ok (.iaload, 1) := dk_46 (dk_at dksX6_aCue_2 15 rfl rfl)
theorem dX6_aCue_64 : decode cX6_aCue 64 = .ok (.iadd, 1) := dk_96 (dk_at dksX6_aCue_2 16 rfl rfl)
theorem dX6_aCue_65 : decode cX6_aCue 65 = .ok (.iload_n 1, 1) := dk_27 (dk_at dksX6_aCue_2 17 rfl rfl)
theorem dX6_aCue_66 : decode cX6_aCue 66 = .ok (.bipush 7, 2) := dk_16 7 (dk_at dksX6_aCue_2 18 rfl rfl)
theorem dX6_aCue_68 : decode cX6_aCue 68 = .ok (.isub, 1) := dk_100 (dk_at dksX6_aCue_2 20 rfl rfl)
theorem dX6_aCue_69 : decode cX6_aCue 69 = .ok (.iastore, 1) := dk_79 (dk_at dksX6_aCue_2 21 rfl rfl)
theorem dX6_aCue_70 : decode cX6_aCue 70 = .ok (.aload_n 0, 1) := dk_42 (dk_at dksX6_aCue_2 22 rfl rfl)
theorem dX6_aCue_71 : decode cX6_aCue 71 = .ok (.invokevirtual 167, 3) := dk_182 0 167 (dk_at dksX6_aCue_3 0 rfl rfl)
theorem dX6_aCue_74 : decode cX6_aCue 74 = .ok (.aload_n 0, 1) := dk_42 (dk_at dksX6_aCue_3 3 rfl rfl)
theorem dX6_aCue_75 : decode cX6_aCue 75 = .ok (.getfield 7, 3) := dk_180 0 7 (dk_at dksX6_aCue_3 4 rfl rfl)
theorem dX6_aCue_78 : decode cX6_aCue 78 = .ok (.sipush 2009, 3) := dk_17 7 217 (dk_at dksX6_aCue_3 7 rfl rfl)
theorem dX6_aCue_81 : decode cX6_aCue 81 = .ok (.dup2, 1) := dk_92 (dk_at dksX6_aCue_3 10 rfl rfl)
theorem dX6_aCue_82 : decode cX6_aCue 82 = .ok (.iaload, 1) := dk_46 (dk_at dksX6_aCue_3 11 rfl rfl)
theorem dX6_aCue_83 : decode cX6_aCue 83 = .ok (.iconst 1, 1) := dk_4 (dk_at dksX6_aCue_3 12 rfl rfl)
theorem dX6_aCue_84 : decode cX6_aCue 84 = .ok (.iadd, 1) := dk_96 (dk_at dksX6_aCue_3 13 rfl rfl)
theorem dX6_aCue_85 : decode cX6_aCue 85 = .ok (.iastore, 1) := dk_79 (dk_at dksX6_aCue_3 14 rfl rfl)
theorem dX6_aCue_86 : decode cX6_aCue 86 = .ok (.iconst 1, 1) := dk_4 (dk_at dksX6_aCue_3 15 rfl rfl)
theorem dX6_aCue_87 : decode cX6_aCue 87 = .ok (.ireturn, 1) := dk_172 (dk_at dksX6_aCue_3 16 rfl rfl)
abbrev cX6_wantWord : ByteArray := prog_16_method_30_code
def yX6_wantWord : MethodName := ⟨RX6, "wantWord", "(Ljava/lang/String;I)Z"⟩
def dkwX6_wantWord_0 : List UInt8 := [42, 43, 182, 0, 176, 28, 159, 0, 9, 42, 5, 182, 0, 173, 172, 42, 182, 0, 167, 4, 172]
abbrev dktX6_wantWord_0 : List UInt8 := dkwX6_wantWord_0 ++ []
theorem dksX6_wantWord_0 : cX6_wantWord.data.toList.drop 0 = dktX6_wantWord_0 := by decide +kernel
theorem dX6_wantWord_0 : decode cX6_wantWord 0 = .ok (.aload_n 0, 1) := dk_42 (dk_at dksX6_wantWord_0 0 rfl rfl)
theorem dX6_wantWord_1 : decode cX6_wantWord 1 = .ok (.aload_n 1, 1) := dk_43 (dk_at dksX6_wantWord_0 1 rfl rfl)
theorem dX6_wantWord_2 : decode cX6_wantWord 2 = .ok (.invokevirtual 176, 3) := dk_182 0 176 (dk_at dksX6_wantWord_0 2 rfl rfl)
theorem dX6_wantWord_5 : decode cX6_wantWord 5 = .ok (.iload_n 2, 1) := dk_28 (dk_at dksX6_wantWord_0 5 rfl rfl)
theorem dX6_wantWord_6 : decode cX6_wantWord 6 = .ok (.if_icmp .eq 9, 3) := dk_159 0 9 (dk_at dksX6_wantWord_0 6 rfl rfl)
theorem dX6_wantWord_9 : decode cX6_wantWord 9 = .ok (.aload_n 0, 1) := dk_42 (dk_at dksX6_wantWord_0 9 rfl rfl)
theorem dX6_wantWord_10 : decode cX6_wantWord 10 = .ok (.iconst 2, 1) := dk_5 (dk_at dksX6_wantWord_0 10 rfl rfl)
theorem dX6_wantWord_11 : decode cX6_wantWord 11 = .ok (.invokevirtual 173, 3) := dk_182 0 173 (dk_at dksX6_wantWord_0 11 rfl rfl)
theorem dX6_wantWord_14 : decode cX6_wantWord 14 = .ok (.ireturn, 1) := dk_172 (dk_at dksX6_wantWord_0 14 rfl rfl)
theorem dX6_wantWord_15 : decode cX6_wantWord 15 = .ok (.aload_n 0, 1) := dk_42 (dk_at dksX6_wantWord_0 15 rfl rfl)
theorem dX6_wantWord_16 : decode cX6_wantWord 16 = .ok (.invokevirtual 167, 3) := dk_182 0 167 (dk_at dksX6_wantWord_0 16 rfl rfl)
theorem dX6_wantWord_19 : decode cX6_wantWord 19 = .ok (.iconst 1, 1) := dk_4 (dk_at dksX6_wantWord_0 19 rfl rfl)
theorem dX6_wantWord_20 : decode cX6_wantWord 20 = .ok (.ireturn, 1) := dk_172 (dk_at dksX6_wantWord_0 20 rfl rfl)
abbrev cX6_aRule : ByteArray := prog_16_method_47_code
def yX6_aRule : MethodName := ⟨RX6, "aRule", "()Z"⟩
def dkwX6_aRule_8 : List UInt8 := [17, 7, 218, 92, 46, 4, 96, 79, 4, 172]
abbrev dktX6_aRule_8 : List UInt8 := dkwX6_aRule_8 ++ []
def dkwX6_aRule_7 : List UInt8 := [180, 0, 7, 17, 7, 216, 46, 27, 16, 6, 96, 182, 0, 218, 154, 0, 5, 3, 172, 42, 180, 0, 7]
abbrev dktX6_aRule_7 : List UInt8 := dkwX6_aRule_7 ++ dktX6_aRule_8
def dkwX6_aRule_6 : List UInt8 := [180, 0, 7, 27, 16, 6, 96, 2, 79, 42, 16, 12, 182, 0, 209, 153, 0, 26, 42, 16, 92, 42]
abbrev dktX6_aRule_6 : List UInt8 := dkwX6_aRule_6 ++ dktX6_aRule_7
def dkwX6_aRule_5 : List UInt8 := [182, 0, 221, 153, 0, 17, 42, 16, 11, 27, 7, 96, 16, 9, 182, 0, 221, 154, 0, 5, 3, 172, 42]
abbrev dktX6_aRule_5 : List UInt8 := dkwX6_aRule_5 ++ dktX6_aRule_6
def dkwX6_aRule_4 : List UInt8 := [180, 0, 7, 27, 4, 96, 46, 158, 0, 7, 42, 182, 0, 167, 42, 16, 10, 27, 5, 96, 16, 99]
abbrev dktX6_aRule_4 : List UInt8 := dkwX6_aRule_4 ++ dktX6_aRule_5
def dkwX6_aRule_3 : List UInt8 := [16, 8, 160, 0, 7, 4, 167, 0, 14, 28, 16, 9, 160, 0, 7, 5, 167, 0, 4, 3, 79, 42]
abbrev dktX6_aRule_3 : List UInt8 := dkwX6_aRule_3 ++ dktX6_aRule_4
def dkwX6_aRule_2 : List UInt8 := [27, 182, 0, 218, 154, 0, 5, 3, 172, 42, 18, 184, 182, 0, 176, 61, 42, 180, 0, 7, 27, 4, 96, 28]
abbrev dktX6_aRule_2 : List UInt8 := dkwX6_aRule_2 ++ dktX6_aRule_3
def dkwX6_aRule_1 : List UInt8 := [17, 7, 218, 46, 184, 0, 215, 96, 60, 42, 182, 0, 167, 42, 16, 97, 42, 180, 0, 7, 17, 7, 217, 46]
abbrev dktX6_aRule_1 : List UInt8 := dkwX6_aRule_1 ++ dktX6_aRule_2
def dkwX6_aRule_0 : List UInt8 := [42, 5, 16, 8, 182, 0, 189, 153, 0, 10, 42, 16, 6, 182, 0, 173, 172, 17, 7, 216, 42, 180, 0, 7]
abbrev dktX6_aRule_0 : List UInt8 := dkwX6_aRule_0 ++ dktX6_aRule_1
theorem dksX6_aRule_0 : cX6_aRule.data.toList.drop 0 = dktX6_aRule_0 := by decide +kernel
theorem dksX6_aRule_1 : cX6_aRule.data.toList.drop 24 = dktX6_aRule_1 := dk_seg dksX6_aRule_0 24 rfl rfl
theorem dksX6_aRule_2 : cX6_aRule.data.toList.drop 48 = dktX6_aRule_2 := dk_seg dksX6_aRule_1 24 rfl rfl
theorem dksX6_aRule_3 : cX6_aRule.data.toList.drop 72 = dktX6_aRule_3 := dk_seg dksX6_aRule_2 24 rfl rfl
theorem dksX6_aRule_4 : cX6_aRule.data.toList.drop 94 = dktX6_aRule_4 := dk_seg dksX6_aRule_3 22 rfl rfl
theorem dksX6_aRule_5 : cX6_aRule.data.toList.drop 116 = dktX6_aRule_5 := dk_seg dksX6_aRule_4 22 rfl rfl
theorem dksX6_aRule_6 : cX6_aRule.data.toList.drop 139 = dktX6_aRule_6 := dk_seg dksX6_aRule_5 23 rfl rfl
theorem dksX6_aRule_7 : cX6_aRule.data.toList.drop 161 = dktX6_aRule_7 := dk_seg dksX6_aRule_6 22 rfl rfl
theorem dksX6_aRule_8 : cX6_aRule.data.toList.drop 184 = dktX6_aRule_8 := dk_seg dksX6_aRule_7 23 rfl rfl
theorem dX6_aRule_0 : decode cX6_aRule 0 = .ok (.aload_n 0, 1) := dk_42 (dk_at dksX6_aRule_0 0 rfl rfl)
theorem dX6_aRule_1 : decode cX6_aRule 1 = .ok (.iconst 2, 1) := dk_5 (dk_at dksX6_aRule_0 1 rfl rfl)
theorem dX6_aRule_2 : decode cX6_aRule 2 = .ok (.bipush 8, 2) := dk_16 8 (dk_at dksX6_aRule_0 2 rfl rfl)
theorem dX6_aRule_4 : decode cX6_aRule 4 = .ok (.invokevirtual 189, 3) := dk_182 0 189 (dk_at dksX6_aRule_0 4 rfl rfl)
theorem dX6_aRule_7 : decode cX6_aRule 7 = .ok (.ifCond .eq 10, 3) := dk_153 0 10 (dk_at dksX6_aRule_0 7 rfl rfl)
theorem dX6_aRule_10 : decode cX6_aRule 10 = .ok (.aload_n 0, 1) := dk_42 (dk_at dksX6_aRule_0 10 rfl rfl)
theorem dX6_aRule_11 : decode cX6_aRule 11 = .ok (.bipush 6, 2) := dk_16 6 (dk_at dksX6_aRule_0 11 rfl rfl)
theorem dX6_aRule_13 : decode cX6_aRule 13 = .ok (.invokevirtual 173, 3) := dk_182 0 173 (dk_at dksX6_aRule_0 13 rfl rfl)
theorem dX6_aRule_16 : decode cX6_aRule 16 = .ok (.ireturn, 1) := dk_172 (dk_at dksX6_aRule_0 16 rfl rfl)
theorem dX6_aRule_17 : decode cX6_aRule 17 = .ok (.sipush 2008, 3) := dk_17 7 216 (dk_at dksX6_aRule_0 17 rfl rfl)
theorem dX6_aRule_20 : decode cX6_aRule 20 = .ok (.aload_n 0, 1) := dk_42 (dk_at dksX6_aRule_0 20 rfl rfl)
theorem dX6_aRule_21 : decode cX6_aRule 21 = .ok (.getfield 7, 3) := dk_180 0 7 (dk_at dksX6_aRule_0 21 rfl rfl)
theorem dX6_aRule_24 : decode cX6_aRule 24 = .ok (.sipush 2010, 3) := dk_17 7 218 (dk_at dksX6_aRule_1 0 rfl rfl)
theorem dX6_aRule_27 : decode cX6_aRule 27 = .ok (.iaload, 1) := dk_46 (dk_at dksX6_aRule_1 3 rfl rfl)
theorem dX6_aRule_28 : decode cX6_aRule 28 = .ok (.invokestatic 215, 3) := dk_184 0 215 (dk_at dksX6_aRule_1 4 rfl rfl)
theorem dX6_aRule_31 : decode cX6_aRule 31 = .ok (.iadd, 1) := dk_96 (dk_at dksX6_aRule_1 7 rfl rfl)
theorem dX6_aRule_32 : decode cX6_aRule 32 = .ok (.istore_n 1, 1) := dk_60 (dk_at dksX6_aRule_1 8 rfl rfl)
theorem dX6_aRule_33 : decode cX6_aRule 33 = .ok (.aload_n 0, 1) := dk_42 (dk_at dksX6_aRule_1 9 rfl rfl)
theorem dX6_aRule_34 : decode cX6_aRule 34 = .ok (.invokevirtual 167, 3) := dk_182 0 167 (dk_at dksX6_aRule_1 10 rfl rfl)
theorem dX6_aRule_37 : decode cX6_aRule 37 = .ok (.aload_n 0, 1) := dk_42 (dk_at dksX6_aRule_1 13 rfl rfl)
theorem dX6_aRule_38 : decode cX6_aRule 38 = .ok (.bipush 97, 2) := dk_16 97 (dk_at dksX6_aRule_1 14 rfl rfl)
theorem dX6_aRule_40 : decode cX6_aRule 40 = .ok (.aload_n 0, 1) := dk_42 (dk_at dksX6_aRule_1 16 rfl rfl)
theorem dX6_aRule_41 : decode cX6_aRule 41 = .ok (.getfield 7, 3) := dk_180 0 7 (dk_at dksX6_aRule_1 17 rfl rfl)
theorem dX6_aRule_44 : decode cX6_aRule 44 = .ok (.sipush 2009, 3) := dk_17 7 217 (dk_at dksX6_aRule_1 20 rfl rfl)
theorem dX6_aRule_47 : decode cX6_aRule 47 = .ok (.iaload, 1) := dk_46 (dk_at dksX6_aRule_1 23 rfl rfl)
theorem dX6_aRule_48 : decode cX6_aRule 48 = .ok (.iload_n 1, 1) := dk_27 (dk_at dksX6_aRule_2 0 rfl rfl)
theorem dX6_aRule_49 : decode cX6_aRule 49 = .ok (.invokevirtual 218, 3) := dk_182 0 218 (dk_at dksX6_aRule_2 1 rfl rfl)
theorem dX6_aRule_52 : decode cX6_aRule 52 = .ok (.ifCond .ne 5, 3) := dk_154 0 5 (dk_at dksX6_aRule_2 4 rfl rfl)
theorem dX6_aRule_55 : decode cX6_aRule 55 = .ok (.iconst 0, 1) := dk_3 (dk_at dksX6_aRule_2 7 rfl rfl)
theorem dX6_aRule_56 : decode cX6_aRule 56 = .ok (.ireturn, 1) := dk_172 (dk_at dksX6_aRule_2 8 rfl rfl)
theorem dX6_aRule_57 : decode cX6_aRule 57 = .ok (.aload_n 0, 1) := dk_42 (dk_at dksX6_aRule_2 9 rfl rfl)
theorem dX6_aRule_58 : decode cX6_aRule 58 = .ok (.ldc 184, 2) := dk_18 184 (dk_at dksX6_aRule_2 10 rfl rfl)
theorem dX6_aRule_60 : decode cX6_aRule 60 = .ok (.invokevirtual 176, 3) := dk_182 0 176 (dk_at dksX6_aRule_2 12 rfl rfl)
theorem dX6_aRule_63 : decode cX6_aRule 63 = .ok (.istore_n 2, 1) := dk_61 (dk_at dksX6_aRule_2 15 rfl rfl)
theorem dX6_aRule_64 : decode cX6_aRule 64 = .ok (.aload_n 0, 1) := dk_42 (dk_at dksX6_aRule_2 16 rfl rfl)
theorem dX6_aRule_65 : decode cX6_aRule 65 = .ok (.getfield 7, 3) := dk_180 0 7 (dk_at dksX6_aRule_2 17 rfl rfl)
theorem dX6_aRule_68 : decode cX6_aRule 68 = .ok (.iload_n 1, 1) := dk_27 (dk_at dksX6_aRule_2 20 rfl rfl)
theorem dX6_aRule_69 : decode cX6_aRule 69 = .ok (.iconst 1, 1) := dk_4 (dk_at dksX6_aRule_2 21 rfl rfl)
theorem dX6_aRule_70 : decode cX6_aRule 70 = .ok (.iadd, 1) := dk_96 (dk_at dksX6_aRule_2 22 rfl rfl)
theorem dX6_aRule_71 : decode cX6_aRule 71 = .ok (.iload_n 2, 1) := dk_28 (dk_at dksX6_aRule_2 23 rfl rfl)
theorem dX6_aRule_72 : decode cX6_aRule 72 = .ok (.bipush 8, 2) := dk_16 8 (dk_at dksX6_aRule_3 0 rfl rfl)
theorem dX6_aRule_74 : decode cX6_aRule 74 = .ok (.if_icmp .ne 7, 3) := dk_160 0 7 (dk_at dksX6_aRule_3 2 rfl rfl)
theorem dX6_aRule_77 : decode cX6_aRule 77 = .ok (.iconst 1, 1) := dk_4 (dk_at dksX6_aRule_3 5 rfl rfl)
theorem dX6_aRule_78 : decode cX6_aRule 78 = .ok (.goto 14, 3) := dk_167 0 14 (dk_at dksX6_aRule_3 6 rfl rfl)
theorem dX6_aRule_81 : decode cX6_aRule 81 = .ok (.iload_n 2, 1) := dk_28 (dk_at dksX6_aRule_3 9 rfl rfl)
theorem dX6_aRule_82 : decode cX6_aRule 82 = .ok (.bipush 9, 2) := dk_16 9 (dk_at dksX6_aRule_3 10 rfl rfl)
theorem dX6_aRule_84 : decode cX6_aRule 84 = .ok (.if_icmp .ne 7, 3) := dk_160 0 7 (dk_at dksX6_aRule_3 12 rfl rfl)
theorem dX6_aRule_87 : decode cX6_aRule 87 = .ok (.iconst 2, 1) := dk_5 (dk_at dksX6_aRule_3 15 rfl rfl)
theorem dX6_aRule_88 : decode cX6_aRule 88 = .ok (.goto 4, 3) := dk_167 0 4 (dk_at dksX6_aRule_3 16 rfl rfl)
theorem dX6_aRule_91 : decode cX6_aRule 91 = .ok (.iconst 0, 1) := dk_3 (dk_at dksX6_aRule_3 19 rfl rfl)
theorem dX6_aRule_92 : decode cX6_aRule 92 = .ok (.iastore, 1) := dk_79 (dk_at dksX6_aRule_3 20 rfl rfl)
theorem dX6_aRule_93 : decode cX6_aRule 93 = .ok (.aload_n 0, 1) := dk_42 (dk_at dksX6_aRule_3 21 rfl rfl)
theorem dX6_aRule_94 : decode cX6_aRule 94 = .ok (.getfield 7, 3) := dk_180 0 7 (dk_at dksX6_aRule_4 0 rfl rfl)
theorem dX6_aRule_97 : decode cX6_aRule 97 = .ok (.iload_n 1, 1) := dk_27 (dk_at dksX6_aRule_4 3 rfl rfl)
theorem dX6_aRule_98 : decode cX6_aRule 98 = .ok (.iconst 1, 1) := dk_4 (dk_at dksX6_aRule_4 4 rfl rfl)
theorem dX6_aRule_99 : decode cX6_aRule 99 = .ok (.iadd, 1) := dk_96 (dk_at dksX6_aRule_4 5 rfl rfl)
theorem dX6_aRule_100 : decode cX6_aRule 100 = .ok (.iaload, 1) := dk_46 (dk_at dksX6_aRule_4 6 rfl rfl)
theorem dX6_aRule_101 : decode cX6_aRule 101 = .ok (.ifCond .le 7, 3) := dk_158 0 7 (dk_at dksX6_aRule_4 7 rfl rfl)
theorem dX6_aRule_104 : decode cX6_aRule 104 = .ok (.aload_n 0, 1) := dk_42 (dk_at dksX6_aRule_4 10 rfl rfl)
theorem dX6_aRule_105 : decode cX6_aRule 105 = .ok (.invokevirtual 167, 3) := dk_182 0 167 (dk_at dksX6_aRule_4 11 rfl rfl)
theorem dX6_aRule_108 : decode cX6_aRule 108 = .ok (.aload_n 0, 1) := dk_42 (dk_at dksX6_aRule_4 14 rfl rfl)
theorem dX6_aRule_109 : decode cX6_aRule 109 = .ok (.bipush 10, 2) := dk_16 10 (dk_at dksX6_aRule_4 15 rfl rfl)
theorem dX6_aRule_111 : decode cX6_aRule 111 = .ok (.iload_n 1, 1) := dk_27 (dk_at dksX6_aRule_4 17 rfl rfl)
theorem dX6_aRule_112 : decode cX6_aRule 112 = .ok (.iconst 2, 1) := dk_5 (dk_at dksX6_aRule_4 18 rfl rfl)
theorem dX6_aRule_113 : decode cX6_aRule 113 = .ok (.iadd, 1) := dk_96 (dk_at dksX6_aRule_4 19 rfl rfl)
theorem dX6_aRule_114 : decode cX6_aRule 114 = .ok (.bipush 99, 2) := dk_16 99 (dk_at dksX6_aRule_4 20 rfl rfl)
theorem dX6_aRule_116 : decode cX6_aRule 116 = .ok (.invokevirtual 221, 3) := dk_182 0 221 (dk_at dksX6_aRule_5 0 rfl rfl)
theorem dX6_aRule_119 : decode cX6_aRule 119 = .ok (.ifCond .eq 17, 3) := dk_153 0 17 (dk_at dksX6_aRule_5 3 rfl rfl)
theorem dX6_aRule_122 : decode cX6_aRule 122 = .ok (.aload_n 0, 1) := dk_42 (dk_at dksX6_aRule_5 6 rfl rfl)
theorem dX6_aRule_123 : decode cX6_aRule 123 = .ok (.bipush 11, 2) := dk_16 11 (dk_at dksX6_aRule_5 7 rfl rfl)
theorem dX6_aRule_125 : decode cX6_aRule 125 = .ok (.iload_n 1, 1) := dk_27 (dk_at dksX6_aRule_5 9 rfl rfl)
theorem dX6_aRule_126 : decode cX6_aRule 126 = .ok (.iconst 4, 1) := dk_7 (dk_at dksX6_aRule_5 10 rfl rfl)
theorem dX6_aRule_127 : decode cX6_aRule 127 = .ok (.iadd, 1) := dk_96 (dk_at dksX6_aRule_5 11 rfl rfl)
theorem dX6_aRule_128 : decode cX6_aRule 128 = .ok (.bipush 9, 2) := dk_16 9 (dk_at dksX6_aRule_5 12 rfl rfl)
theorem dX6_aRule_130 : decode cX6_aRule 130 = .ok (.invokevirtual 221, 3) := dk_182 0 221 (dk_at dksX6_aRule_5 14 rfl rfl)
theorem dX6_aRule_133 : decode cX6_aRule 133 = .ok (.ifCond .ne 5, 3) := dk_154 0 5 (dk_at dksX6_aRule_5 17 rfl rfl)
theorem dX6_aRule_136 : decode cX6_aRule 136 = .ok (.iconst 0, 1) := dk_3 (dk_at dksX6_aRule_5 20 rfl rfl)
theorem dX6_aRule_137 : decode cX6_aRule 137 = .ok (.ireturn, 1) := dk_172 (dk_at dksX6_aRule_5 21 rfl rfl)
theorem dX6_aRule_138 : decode cX6_aRule 138 = .ok (.aload_n 0, 1) := dk_42 (dk_at dksX6_aRule_5 22 rfl rfl)
theorem dX6_aRule_139 : decode cX6_aRule 139 = .ok (.getfield 7, 3) := dk_180 0 7 (dk_at dksX6_aRule_6 0 rfl rfl)
theorem dX6_aRule_142 : decode cX6_aRule 142 = .ok (.iload_n 1, 1) := dk_27 (dk_at dksX6_aRule_6 3 rfl rfl)
theorem dX6_aRule_143 : decode cX6_aRule 143 = .ok (.bipush 6, 2) := dk_16 6 (dk_at dksX6_aRule_6 4 rfl rfl)
theorem dX6_aRule_145 : decode cX6_aRule 145 = .ok (.iadd, 1) := dk_96 (dk_at dksX6_aRule_6 6 rfl rfl)
theorem dX6_aRule_146 : decode cX6_aRule 146 = .ok (.iconst (-1), 1) := dk_2 (dk_at dksX6_aRule_6 7 rfl rfl)
theorem dX6_aRule_147 : decode cX6_aRule 147 = .ok (.iastore, 1) := dk_79 (dk_at dksX6_aRule_6 8 rfl rfl)
theorem dX6_aRule_148 : decode cX6_aRule 148 = .ok (.aload_n 0, 1) := dk_42 (dk_at dksX6_aRule_6 9 rfl rfl)
theorem dX6_aRule_149 : decode cX6_aRule 149 = .ok (.bipush 12, 2) := dk_16 12 (dk_at dksX6_aRule_6 10 rfl rfl)
theorem dX6_aRule_151 : decode cX6_aRule 151 = .ok (.invokevirtual 209, 3) := dk_182 0 209 (dk_at dksX6_aRule_6 12 rfl rfl)
theorem dX6_aRule_154 : decode cX6_aRule 154 = .ok (.ifCond .eq 26, 3) := dk_153 0 26 (dk_at dksX6_aRule_6 15 rfl rfl)
theorem dX6_aRule_157 : decode cX6_aRule 157 = .ok (.aload_n 0, 1) := dk_42 (dk_at dksX6_aRule_6 18 rfl rfl)
theorem dX6_aRule_158 : decode cX6_aRule 158 = .ok (.bipush 92, 2) := dk_16 92 (dk_at dksX6_aRule_6 19 rfl rfl)
theorem dX6_aRule_160 : decode cX6_aRule 160 = .ok (.aload_n 0, 1) := dk_42 (dk_at dksX6_aRule_6 21 rfl rfl)
theorem dX6_aRule_161 : decode cX6_aRule 161 = .ok (.getfield 7, 3) := dk_180 0 7 (dk_at dksX6_aRule_7 0 rfl rfl)
theorem dX6_aRule_164 : decode cX6_aRule 164 = .ok (.sipush 2008, 3) := dk_17 7 216 (dk_at dksX6_aRule_7 3 rfl rfl)
theorem dX6_aRule_167 : decode cX6_aRule 167 = .ok (.iaload, 1) := dk_46 (dk_at dksX6_aRule_7 6 rfl rfl)
theorem dX6_aRule_168 : decode cX6_aRule 168 = .ok (.iload_n 1, 1) := dk_27 (dk_at dksX6_aRule_7 7 rfl rfl)
theorem dX6_aRule_169 : decode cX6_aRule 169 = .ok (.bipush 6, 2) := dk_16 6 (dk_at dksX6_aRule_7 8 rfl rfl)
theorem dX6_aRule_171 : decode cX6_aRule 171 = .ok (.iadd, 1) := dk_96 (dk_at dksX6_aRule_7 10 rfl rfl)
theorem dX6_aRule_172 : decode cX6_aRule 172 = .ok (.invokevirtual 218, 3) := dk_182 0 218 (dk_at dksX6_aRule_7 11 rfl rfl)
theorem dX6_aRule_175 : decode cX6_aRule 175 = .ok (.ifCond .ne 5, 3) := dk_154 0 5 (dk_at dksX6_aRule_7 14 rfl rfl)
theorem dX6_aRule_178 : decode cX6_aRule 178 = .ok (.iconst 0, 1) := dk_3 (dk_at dksX6_aRule_7 17 rfl rfl)
theorem dX6_aRule_179 : decode cX6_aRule 179 = .ok (.ireturn, 1) := dk_172 (dk_at dksX6_aRule_7 18 rfl rfl)
theorem dX6_aRule_180 : decode cX6_aRule 180 = .ok (.aload_n 0, 1) := dk_42 (dk_at dksX6_aRule_7 19 rfl rfl)
theorem dX6_aRule_181 : decode cX6_aRule 181 = .ok (.getfield 7, 3) := dk_180 0 7 (dk_at dksX6_aRule_7 20 rfl rfl)
theorem dX6_aRule_184 : decode cX6_aRule 184 = .ok (.sipush 2010, 3) := dk_17 7 218 (dk_at dksX6_aRule_8 0 rfl rfl)
theorem dX6_aRule_187 : decode cX6_aRule 187 = .ok (.dup2, 1) := dk_92 (dk_at dksX6_aRule_8 3 rfl rfl)
theorem dX6_aRule_188 : decode cX6_aRule 188 = .ok (.iaload, 1) := dk_46 (dk_at dksX6_aRule_8 4 rfl rfl)
theorem dX6_aRule_189 : decode cX6_aRule 189 = .ok (.iconst 1, 1) := dk_4 (dk_at dksX6_aRule_8 5 rfl rfl)
theorem dX6_aRule_190 : decode cX6_aRule 190 = .ok (.iadd, 1) := dk_96 (dk_at dksX6_aRule_8 6 rfl rfl)
theorem dX6_aRule_191 : decode cX6_aRule 191 = .ok (.iastore, 1) := dk_79 (dk_at dksX6_aRule_8 7 rfl rfl)
theorem dX6_aRule_192 : decode cX6_aRule 192 = .ok (.iconst 1, 1) := dk_4 (dk_at dksX6_aRule_8 8 rfl rfl)
theorem dX6_aRule_193 : decode cX6_aRule 193 = .ok (.ireturn, 1) := dk_172 (dk_at dksX6_aRule_8 9 rfl rfl)
abbrev cX6_ruleRow : ByteArray := prog_16_method_37_code
def yX6_ruleRow : MethodName := ⟨RX6, "ruleRow", "(I)I"⟩
def dkwX6_ruleRow_0 : List UInt8 := [16, 16, 16, 7, 26, 104, 96, 172]
abbrev dktX6_ruleRow_0 : List UInt8 := dkwX6_ruleRow_0 ++ []
theorem dksX6_ruleRow_0 : cX6_ruleRow.data.toList.drop 0 = dktX6_ruleRow_0 := by decide +kernel
theorem dX6_ruleRow_0 : decode cX6_ruleRow 0 = .ok (.bipush 16, 2) := dk_16 16 (dk_at dksX6_ruleRow_0 0 rfl rfl)
theorem dX6_ruleRow_2 : decode cX6_ruleRow 2 = .ok (.bipush 7, 2) := dk_16 7 (dk_at dksX6_ruleRow_0 2 rfl rfl)
theorem dX6_ruleRow_4 : decode cX6_ruleRow 4 = .ok (.iload_n 0, 1) := dk_26 (dk_at dksX6_ruleRow_0 4 rfl rfl)
theorem dX6_ruleRow_5 : decode cX6_ruleRow 5 = .ok (.imul, 1) := dk_104 (dk_at dksX6_ruleRow_0 5 rfl rfl)
theorem dX6_ruleRow_6 : decode cX6_ruleRow 6 = .ok (.iadd, 1) := dk_96 (dk_at dksX6_ruleRow_0 6 rfl rfl)
theorem dX6_ruleRow_7 : decode cX6_ruleRow 7 = .ok (.ireturn, 1) := dk_172 (dk_at dksX6_ruleRow_0 7 rfl rfl)
abbrev cX6_oldOne : ByteArray := prog_16_method_43_code
def yX6_oldOne : MethodName := ⟨RX6, "oldOne", "(III)Z"⟩
def dkwX6_oldOne_2 : List UInt8 := [4, 172]
abbrev dktX6_oldOne_2 : List UInt8 := dkwX6_oldOne_2 ++ []
def dkwX6_oldOne_1 : List UInt8 := [182, 0, 186, 79, 42, 180, 0, 7, 29, 46, 2, 160, 0, 9, 42, 6, 182, 0, 173, 172, 42, 182, 0, 167]
abbrev dktX6_oldOne_1 : List UInt8 := dkwX6_oldOne_1 ++ dktX6_oldOne_2
def dkwX6_oldOne_0 : List UInt8 := [42, 18, 184, 182, 0, 193, 154, 0, 9, 42, 5, 182, 0, 173, 172, 42, 180, 0, 7, 29, 42, 27, 28]
abbrev dktX6_oldOne_0 : List UInt8 := dkwX6_oldOne_0 ++ dktX6_oldOne_1
theorem dksX6_oldOne_0 : cX6_oldOne.data.toList.drop 0 = dktX6_oldOne_0 := by decide +kernel
theorem dksX6_oldOne_1 : cX6_oldOne.data.toList.drop 23 = dktX6_oldOne_1 := dk_seg dksX6_oldOne_0 23 rfl rfl
theorem dksX6_oldOne_2 : cX6_oldOne.data.toList.drop 47 = dktX6_oldOne_2 := dk_seg dksX6_oldOne_1 24 rfl rfl
theorem dX6_oldOne_0 : decode cX6_oldOne 0 = .ok (.aload_n 0, 1) := dk_42 (dk_at dksX6_oldOne_0 0 rfl rfl)
theorem dX6_oldOne_1 : decode cX6_oldOne 1 = .ok (.ldc 184, 2) := dk_18 184 (dk_at dksX6_oldOne_0 1 rfl rfl)
theorem dX6_oldOne_3 : decode cX6_oldOne 3 = .ok (.invokevirtual 193, 3) := dk_182 0 193 (dk_at dksX6_oldOne_0 3 rfl rfl)
theorem dX6_oldOne_6 : decode cX6_oldOne 6 = .ok (.ifCond .ne 9, 3) := dk_154 0 9 (dk_at dksX6_oldOne_0 6 rfl rfl)
theorem dX6_oldOne_9 : decode cX6_oldOne 9 = .ok (.aload_n 0, 1) := dk_42 (dk_at dksX6_oldOne_0 9 rfl rfl)
theorem dX6_oldOne_10 : decode cX6_oldOne 10 = .ok (.iconst 2, 1) := dk_5 (dk_at dksX6_oldOne_0 10 rfl rfl)
theorem dX6_oldOne_11 : decode cX6_oldOne 11 = .ok (.invokevirtual 173, 3) := dk_182 0 173 (dk_at dksX6_oldOne_0 11 rfl rfl)
theorem dX6_oldOne_14 : decode cX6_oldOne 14 = .ok (.ireturn, 1) := dk_172 (dk_at dksX6_oldOne_0 14 rfl rfl)
theorem dX6_oldOne_15 : decode cX6_oldOne 15 = .ok (.aload_n 0, 1) := dk_42 (dk_at dksX6_oldOne_0 15 rfl rfl)
theorem dX6_oldOne_16 : decode cX6_oldOne 16 = .ok (.getfield 7, 3) := dk_180 0 7 (dk_at dksX6_oldOne_0 16 rfl rfl)
theorem dX6_oldOne_19 : decode cX6_oldOne 19 = .ok (.iload_n 3, 1) := dk_29 (dk_at dksX6_oldOne_0 19 rfl rfl)
theorem dX6_oldOne_20 : decode cX6_oldOne 20 = .ok (.aload_n 0, 1) := dk_42 (dk_at dksX6_oldOne_0 20 rfl rfl)
theorem dX6_oldOne_21 : decode cX6_oldOne 21 = .ok (.iload_n 1, 1) := dk_27 (dk_at dksX6_oldOne_0 21 rfl rfl)
theorem dX6_oldOne_22 : decode cX6_oldOne 22 = .ok (.iload_n 2, 1) := dk_28 (dk_at dksX6_oldOne_0 22 rfl rfl)
theorem dX6_oldOne_23 : decode cX6_oldOne 23 = .ok (.invokevirtual 186, 3) := dk_182 0 186 (dk_at dksX6_oldOne_1 0 rfl rfl)
theorem dX6_oldOne_26 : decode cX6_oldOne 26 = .ok (.iastore, 1) := dk_79 (dk_at dksX6_oldOne_1 3 rfl rfl)
theorem dX6_oldOne_27 : decode cX6_oldOne 27 = .ok (.aload_n 0, 1) := dk_42 (dk_at dksX6_oldOne_1 4 rfl rfl)
theorem dX6_oldOne_28 : decode cX6_oldOne 28 = .ok (.getfield 7, 3) := dk_180 0 7 (dk_at dksX6_oldOne_1 5 rfl rfl)
theorem dX6_oldOne_31 : decode cX6_oldOne 31 = .ok (.iload_n 3, 1) := dk_29 (dk_at dksX6_oldOne_1 8 rfl rfl)
theorem dX6_oldOne_32 : decode cX6_oldOne 32 = .ok (.iaload, 1) := dk_46 (dk_at dksX6_oldOne_1 9 rfl rfl)
theorem dX6_oldOne_33 : decode cX6_oldOne 33 = .ok (.iconst (-1), 1) := dk_2 (dk_at dksX6_oldOne_1 10 rfl rfl)
theorem dX6_oldOne_34 : decode cX6_oldOne 34 = .ok (.if_icmp .ne 9, 3) := dk_160 0 9 (dk_at dksX6_oldOne_1 11 rfl rfl)
theorem dX6_oldOne_37 : decode cX6_oldOne 37 = .ok (.aload_n 0, 1) := dk_42 (dk_at dksX6_oldOne_1 14 rfl rfl)
theorem dX6_oldOne_38 : decode cX6_oldOne 38 = .ok (.iconst 3, 1) := dk_6 (dk_at dksX6_oldOne_1 15 rfl rfl)
theorem dX6_oldOne_39 : decode cX6_oldOne 39 = .ok (.invokevirtual 173, 3) := dk_182 0 173 (dk_at dksX6_oldOne_1 16 rfl rfl)
theorem dX6_oldOne_42 : decode cX6_oldOne 42 = .ok (.ireturn, 1) := dk_172 (dk_at dksX6_oldOne_1 19 rfl rfl)
theorem dX6_oldOne_43 : decode cX6_oldOne 43 = .ok (.aload_n 0, 1) := dk_42 (dk_at dksX6_oldOne_1 20 rfl rfl)
theorem dX6_oldOne_44 : decode cX6_oldOne 44 = .ok (.invokevirtual 167, 3) := dk_182 0 167 (dk_at dksX6_oldOne_1 21 rfl rfl)
theorem dX6_oldOne_47 : decode cX6_oldOne 47 = .ok (.iconst 1, 1) := dk_4 (dk_at dksX6_oldOne_2 0 rfl rfl)
theorem dX6_oldOne_48 : decode cX6_oldOne 48 = .ok (.ireturn, 1) := dk_172 (dk_at dksX6_oldOne_2 1 rfl rfl)
abbrev cX6_against : ByteArray := prog_16_method_46_code
def yX6_against : MethodName := ⟨RX6, "against", "(III)Z"⟩
def dkwX6_against_3 : List UInt8 := [182, 0, 212, 172]
abbrev dktX6_against_3 : List UInt8 := dkwX6_against_3 ++ []
def dkwX6_against_2 : List UInt8 := [182, 0, 173, 172, 42, 180, 0, 7, 28, 42, 180, 0, 133, 79, 42, 182, 0, 167, 42, 28, 4, 96, 3, 29]
abbrev dktX6_against_2 : List UInt8 := dkwX6_against_2 ++ dktX6_against_3
def dkwX6_against_1 : List UInt8 := [154, 0, 27, 42, 16, 62, 182, 0, 170, 154, 0, 18, 42, 16, 61, 182, 0, 170, 154, 0, 9, 42, 5]
abbrev dktX6_against_1 : List UInt8 := dkwX6_against_1 ++ dktX6_against_2
def dkwX6_against_0 : List UInt8 := [42, 180, 0, 7, 28, 3, 79, 42, 27, 182, 0, 209, 154, 0, 5, 4, 172, 42, 16, 60, 182, 0, 170]
abbrev dktX6_against_0 : List UInt8 := dkwX6_against_0 ++ dktX6_against_1
theorem dksX6_against_0 : cX6_against.data.toList.drop 0 = dktX6_against_0 := by decide +kernel
theorem dksX6_against_1 : cX6_against.data.toList.drop 23 = dktX6_against_1 := dk_seg dksX6_against_0 23 rfl rfl
theorem dksX6_against_2 : cX6_against.data.toList.drop 46 = dktX6_against_2 := dk_seg dksX6_against_1 23 rfl rfl
theorem dksX6_against_3 : cX6_against.data.toList.drop 70 = dktX6_against_3 := dk_seg dksX6_against_2 24 rfl rfl
theorem dX6_against_0 : decode cX6_against 0 = .ok (.aload_n 0, 1) := dk_42 (dk_at dksX6_against_0 0 rfl rfl)
theorem dX6_against_1 : decode cX6_against 1 = .ok (.getfield 7, 3) := dk_180 0 7 (dk_at dksX6_against_0 1 rfl rfl)
theorem dX6_against_4 : decode cX6_against 4 = .ok (.iload_n 2, 1) := dk_28 (dk_at dksX6_against_0 4 rfl rfl)
theorem dX6_against_5 : decode cX6_against 5 = .ok (.iconst 0, 1) := dk_3 (dk_at dksX6_against_0 5 rfl rfl)
theorem dX6_against_6 : decode cX6_against 6 = .ok (.iastore, 1) := dk_79 (dk_at dksX6_against_0 6 rfl rfl)
theorem dX6_against_7 : decode cX6_against 7 = .ok (.aload_n 0, 1) := dk_42 (dk_at dksX6_against_0 7 rfl rfl)
theorem dX6_against_8 : decode cX6_against 8 = .ok (.iload_n 1, 1) := dk_27 (dk_at dksX6_against_0 8 rfl rfl)
theorem dX6_against_9 : decode cX6_against 9 = .ok (.invokevirtual 209, 3) := dk_182 0 209 (dk_at dksX6_against_0 9 rfl rfl)
theorem dX6_against_12 : decode cX6_against 12 = .ok (.ifCond .ne 5, 3) := dk_154 0 5 (dk_at dksX6_against_0 12 rfl rfl)
theorem dX6_against_15 : decode cX6_against 15 = .ok (.iconst 1, 1) := dk_4 (dk_at dksX6_against_0 15 rfl rfl)
theorem dX6_against_16 : decode cX6_against 16 = .ok (.ireturn, 1) := dk_172 (dk_at dksX6_against_0 16 rfl rfl)
theorem dX6_against_17 : decode cX6_against 17 = .ok (.aload_n 0, 1) := dk_42 (dk_at dksX6_against_0 17 rfl rfl)
theorem dX6_against_18 : decode cX6_against 18 = .ok (.bipush 60, 2) := dk_16 60 (dk_at dksX6_against_0 18 rfl rfl)
theorem dX6_against_20 : decode cX6_against 20 = .ok (.invokevirtual 170, 3) := dk_182 0 170 (dk_at dksX6_against_0 20 rfl rfl)
theorem dX6_against_23 : decode cX6_against 23 = .ok (.ifCond .ne 27, 3) := dk_154 0 27 (dk_at dksX6_against_1 0 rfl rfl)
theorem dX6_against_26 : decode cX6_against 26 = .ok (.aload_n 0, 1) := dk_42 (dk_at dksX6_against_1 3 rfl rfl)
theorem dX6_against_27 : decode cX6_against 27 = .ok (.bipush 62, 2) := dk_16 62 (dk_at dksX6_against_1 4 rfl rfl)
theorem dX6_against_29 : decode cX6_against 29 = .ok (.invokevirtual 170, 3) := dk_182 0 170 (dk_at dksX6_against_1 6 rfl rfl)
theorem dX6_against_32 : decode cX6_against 32 = .ok (.ifCond .ne 18, 3) := dk_154 0 18 (dk_at dksX6_against_1 9 rfl rfl)
theorem dX6_against_35 : decode cX6_against 35 = .ok (.aload_n 0, 1) := dk_42 (dk_at dksX6_against_1 12 rfl rfl)
theorem dX6_against_36 : decode cX6_against 36 = .ok (.bipush 61, 2) := dk_16 61 (dk_at dksX6_against_1 13 rfl rfl)
theorem dX6_against_38 : decode cX6_against 38 = .ok (.invokevirtual 170, 3) := dk_182 0 170 (dk_at dksX6_against_1 15 rfl rfl)
theorem dX6_against_41 : decode cX6_against 41 = .ok (.ifCond .ne 9, 3) := dk_154 0 9 (dk_at dksX6_against_1 18 rfl rfl)
theorem dX6_against_44 : decode cX6_against 44 = .ok (.aload_n 0, 1) := dk_42 (dk_at dksX6_against_1 21 rfl rfl)
theorem dX6_against_45 : decode cX6_against 45 = .ok (.iconst 2, 1) := dk_5 (dk_at dksX6_against_1 22 rfl rfl)
theorem dX6_against_46 : decode cX6_against 46 = .ok (.invokevirtual 173, 3) := dk_182 0 173 (dk_at dksX6_against_2 0 rfl rfl)
theorem dX6_against_49 : decode cX6_against 49 = .ok (.ireturn, 1) := dk_172 (dk_at dksX6_against_2 3 rfl rfl)
theorem dX6_against_50 : decode cX6_against 50 = .ok (.aload_n 0, 1) := dk_42 (dk_at dksX6_against_2 4 rfl rfl)
theorem dX6_against_51 : decode cX6_against 51 = .ok (.getfield 7, 3) := dk_180 0 7 (dk_at dksX6_against_2 5 rfl rfl)
theorem dX6_against_54 : decode cX6_against 54 = .ok (.iload_n 2, 1) := dk_28 (dk_at dksX6_against_2 8 rfl rfl)
theorem dX6_against_55 : decode cX6_against 55 = .ok (.aload_n 0, 1) := dk_42 (dk_at dksX6_against_2 9 rfl rfl)
theorem dX6_against_56 : decode cX6_against 56 = .ok (.getfield 133, 3) := dk_180 0 133 (dk_at dksX6_against_2 10 rfl rfl)
theorem dX6_against_59 : decode cX6_against 59 = .ok (.iastore, 1) := dk_79 (dk_at dksX6_against_2 13 rfl rfl)
theorem dX6_against_60 : decode cX6_against 60 = .ok (.aload_n 0, 1) := dk_42 (dk_at dksX6_against_2 14 rfl rfl)
theorem dX6_against_61 : decode cX6_against 61 = .ok (.invokevirtual 167, 3) := dk_182 0 167 (dk_at dksX6_against_2 15 rfl rfl)
theorem dX6_against_64 : decode cX6_against 64 = .ok (.aload_n 0, 1) := dk_42 (dk_at dksX6_against_2 18 rfl rfl)
theorem dX6_against_65 : decode cX6_against 65 = .ok (.iload_n 2, 1) := dk_28 (dk_at dksX6_against_2 19 rfl rfl)
theorem dX6_against_66 : decode cX6_against 66 = .ok (.iconst 1, 1) := dk_4 (dk_at dksX6_against_2 20 rfl rfl)
theorem dX6_against_67 : decode cX6_against 67 = .ok (.iadd, 1) := dk_96 (dk_at dksX6_against_2 21 rfl rfl)
theorem dX6_against_68 : decode cX6_against 68 = .ok (.iconst 0, 1) := dk_3 (dk_at dksX6_against_2 22 rfl rfl)
theorem dX6_against_69 : decode cX6_against 69 = .ok (.iload_n 3, 1) := dk_29 (dk_at dksX6_against_2 23 rfl rfl)
theorem dX6_against_70 : decode cX6_against 70 = .ok (.invokevirtual 212, 3) := dk_182 0 212 (dk_at dksX6_against_3 0 rfl rfl)
theorem dX6_against_73 : decode cX6_against 73 = .ok (.ireturn, 1) := dk_172 (dk_at dksX6_against_3 3 rfl rfl)
abbrev cX6_isThere : ByteArray := prog_16_method_39_code
def yX6_isThere : MethodName := ⟨RX6, "isThere", "(I)Z"⟩
def dkwX6_isThere_0 : List UInt8 := [42, 18, 184, 182, 0, 176, 27, 159, 0, 5, 3, 172, 42, 182, 0, 167, 4, 172]
abbrev dktX6_isThere_0 : List UInt8 := dkwX6_isThere_0 ++ []
theorem dksX6_isThere_0 : cX6_isThere.data.toList.drop 0 = dktX6_isThere_0 := by decide +kernel
theorem dX6_isThere_0 : decode cX6_isThere 0 = .ok (.aload_n 0, 1) := dk_42 (dk_at dksX6_isThere_0 0 rfl rfl)
theorem dX6_isThere_1 : decode cX6_isThere 1 = .ok (.ldc 184, 2) := dk_18 184 (dk_at dksX6_isThere_0 1 rfl rfl)
theorem dX6_isThere_3 : decode cX6_isThere 3 = .ok (.invokevirtual 176, 3) := dk_182 0 176 (dk_at dksX6_isThere_0 3 rfl rfl)
theorem dX6_isThere_6 : decode cX6_isThere 6 = .ok (.iload_n 1, 1) := dk_27 (dk_at dksX6_isThere_0 6 rfl rfl)
theorem dX6_isThere_7 : decode cX6_isThere 7 = .ok (.if_icmp .eq 5, 3) := dk_159 0 5 (dk_at dksX6_isThere_0 7 rfl rfl)
theorem dX6_isThere_10 : decode cX6_isThere 10 = .ok (.iconst 0, 1) := dk_3 (dk_at dksX6_isThere_0 10 rfl rfl)
theorem dX6_isThere_11 : decode cX6_isThere 11 = .ok (.ireturn, 1) := dk_172 (dk_at dksX6_isThere_0 11 rfl rfl)
theorem dX6_isThere_12 : decode cX6_isThere 12 = .ok (.aload_n 0, 1) := dk_42 (dk_at dksX6_isThere_0 12 rfl rfl)
theorem dX6_isThere_13 : decode cX6_isThere 13 = .ok (.invokevirtual 167, 3) := dk_182 0 167 (dk_at dksX6_isThere_0 13 rfl rfl)
theorem dX6_isThere_16 : decode cX6_isThere 16 = .ok (.iconst 1, 1) := dk_4 (dk_at dksX6_isThere_0 16 rfl rfl)
theorem dX6_isThere_17 : decode cX6_isThere 17 = .ok (.ireturn, 1) := dk_172 (dk_at dksX6_isThere_0 17 rfl rfl)
abbrev cX6_isSign : ByteArray := prog_16_method_25_code
def yX6_isSign : MethodName := ⟨RX6, "isSign", "(I)Z"⟩
def dkwX6_isSign_0 : List UInt8 := [42, 180, 0, 136, 7, 160, 0, 15, 42, 180, 0, 133, 27, 160, 0, 7, 4, 167, 0, 4, 3, 172]
abbrev dktX6_isSign_0 : List UInt8 := dkwX6_isSign_0 ++ []
theorem dksX6_isSign_0 : cX6_isSign.data.toList.drop 0 = dktX6_isSign_0 := by decide +kernel
theorem dX6_isSign_0 : decode cX6_isSign 0 = .ok (.aload_n 0, 1) := dk_42 (dk_at dksX6_isSign_0 0 rfl rfl)
theorem dX6_isSign_1 : decode cX6_isSign 1 = .ok (.getfield 136, 3) := dk_180 0 136 (dk_at dksX6_isSign_0 1 rfl rfl)
theorem dX6_isSign_4 : decode cX6_isSign 4 = .ok (.iconst 4, 1) := dk_7 (dk_at dksX6_isSign_0 4 rfl rfl)
theorem dX6_isSign_5 : decode cX6_isSign 5 = .ok (.if_icmp .ne 15, 3) := dk_160 0 15 (dk_at dksX6_isSign_0 5 rfl rfl)
theorem dX6_isSign_8 : decode cX6_isSign 8 = .ok (.aload_n 0, 1) := dk_42 (dk_at dksX6_isSign_0 8 rfl rfl)
theorem dX6_isSign_9 : decode cX6_isSign 9 = .ok (.getfield 133, 3) := dk_180 0 133 (dk_at dksX6_isSign_0 9 rfl rfl)
theorem dX6_isSign_12 : decode cX6_isSign 12 = .ok (.iload_n 1, 1) := dk_27 (dk_at dksX6_isSign_0 12 rfl rfl)
theorem dX6_isSign_13 : decode cX6_isSign 13 = .ok (.if_icmp .ne 7, 3) := dk_160 0 7 (dk_at dksX6_isSign_0 13 rfl rfl)
theorem dX6_isSign_16 : decode cX6_isSign 16 = .ok (.iconst 1, 1) := dk_4 (dk_at dksX6_isSign_0 16 rfl rfl)
theorem dX6_isSign_17 : decode cX6_isSign 17 = .ok (.goto 4, 3) := dk_167 0 4 (dk_at dksX6_isSign_0 17 rfl rfl)
theorem dX6_isSign_20 : decode cX6_isSign 20 = .ok (.iconst 0, 1) := dk_3 (dk_at dksX6_isSign_0 20 rfl rfl)
theorem dX6_isSign_21 : decode cX6_isSign 21 = .ok (.ireturn, 1) := dk_172 (dk_at dksX6_isSign_0 21 rfl rfl)
abbrev cX6_number : ByteArray := prog_16_method_31_code
def yX6_number : MethodName := ⟨RX6, "number", "(III)Z"⟩
def dkwX6_number_2 : List UInt8 := [182, 0, 167, 4, 172]
abbrev dktX6_number_2 : List UInt8 := dkwX6_number_2 ++ []
def dkwX6_number_1 : List UInt8 := [180, 0, 133, 29, 164, 0, 9, 42, 7, 182, 0, 173, 172, 42, 180, 0, 7, 27, 42, 180, 0, 133, 79, 42]
abbrev dktX6_number_1 : List UInt8 := dkwX6_number_1 ++ dktX6_number_2
def dkwX6_number_0 : List UInt8 := [42, 180, 0, 136, 6, 159, 0, 9, 42, 5, 182, 0, 173, 172, 42, 180, 0, 133, 28, 161, 0, 11, 42]
abbrev dktX6_number_0 : List UInt8 := dkwX6_number_0 ++ dktX6_number_1
theorem dksX6_number_0 : cX6_number.data.toList.drop 0 = dktX6_number_0 := by decide +kernel
theorem dksX6_number_1 : cX6_number.data.toList.drop 23 = dktX6_number_1 := dk_seg dksX6_number_0 23 rfl rfl
theorem dksX6_number_2 : cX6_number.data.toList.drop 47 = dktX6_number_2 := dk_seg dksX6_number_1 24 rfl rfl
theorem dX6_number_0 : decode cX6_number 0 = .ok (.aload_n 0, 1) := dk_42 (dk_at dksX6_number_0 0 rfl rfl)
theorem dX6_number_1 : decode cX6_number 1 = .ok (.getfield 136, 3) := dk_180 0 136 (dk_at dksX6_number_0 1 rfl rfl)
theorem dX6_number_4 : decode cX6_number 4 = .ok (.iconst 3, 1) := dk_6 (dk_at dksX6_number_0 4 rfl rfl)
theorem dX6_number_5 : decode cX6_number 5 = .ok (.if_icmp .eq 9, 3) := dk_159 0 9 (dk_at dksX6_number_0 5 rfl rfl)
theorem dX6_number_8 : decode cX6_number 8 = .ok (.aload_n 0, 1) := dk_42 (dk_at dksX6_number_0 8 rfl rfl)
theorem dX6_number_9 : decode cX6_number 9 = .ok (.iconst 2, 1) := dk_5 (dk_at dksX6_number_0 9 rfl rfl)
theorem dX6_number_10 : decode cX6_number 10 = .ok (.invokevirtual 173, 3) := dk_182 0 173 (dk_at dksX6_number_0 10 rfl rfl)
theorem dX6_number_13 : decode cX6_number 13 = .ok (.ireturn, 1) := dk_172 (dk_at dksX6_number_0 13 rfl rfl)
theorem dX6_number_14 : decode cX6_number 14 = .ok (.aload_n 0, 1) := dk_42 (dk_at dksX6_number_0 14 rfl rfl)
theorem dX6_number_15 : decode cX6_number 15 = .ok (.getfield 133, 3) := dk_180 0 133 (dk_at dksX6_number_0 15 rfl rfl)
theorem dX6_number_18 : decode cX6_number 18 = .ok (.iload_n 2, 1) := dk_28 (dk_at dksX6_number_0 18 rfl rfl)
theorem dX6_number_19 : decode cX6_number 19 = .ok (.if_icmp .lt 11, 3) := dk_161 0 11 (dk_at dksX6_number_0 19 rfl rfl)
theorem dX6_number_22 : decode cX6_number 22 = .ok (.aload_n 0, 1) := dk_42 (dk_at dksX6_number_0 22 rfl rfl)
theorem dX6_number_23 : decode cX6_number 23 = .ok (.getfield 133, 3) := dk_180 0 133 (dk_at dksX6_number_1 0 rfl rfl)
theorem dX6_number_26 : decode cX6_number 26 = .ok (.iload_n 3, 1) := dk_29 (dk_at dksX6_number_1 3 rfl rfl)
theorem dX6_number_27 : decode cX6_number 27 = .ok (.if_icmp .le 9, 3) := dk_164 0 9 (dk_at dksX6_number_1 4 rfl rfl)
theorem dX6_number_30 : decode cX6_number 30 = .ok (.aload_n 0, 1) := dk_42 (dk_at dksX6_number_1 7 rfl rfl)
theorem dX6_number_31 : decode cX6_number 31 = .ok (.iconst 4, 1) := dk_7 (dk_at dksX6_number_1 8 rfl rfl)
theorem dX6_number_32 : decode cX6_number 32 = .ok (.invokevirtual 173, 3) := dk_182 0 173 (dk_at dksX6_number_1 9 rfl rfl)
theorem dX6_number_35 : decode cX6_number 35 = .ok (.ireturn, 1) := dk_172 (dk_at dksX6_number_1 12 rfl rfl)
theorem dX6_number_36 : decode cX6_number 36 = .ok (.aload_n 0, 1) := dk_42 (dk_at dksX6_number_1 13 rfl rfl)
theorem dX6_number_37 : decode cX6_number 37 = .ok (.getfield 7, 3) := dk_180 0 7 (dk_at dksX6_number_1 14 rfl rfl)
theorem dX6_number_40 : decode cX6_number 40 = .ok (.iload_n 1, 1) := dk_27 (dk_at dksX6_number_1 17 rfl rfl)
theorem dX6_number_41 : decode cX6_number 41 = .ok (.aload_n 0, 1) := dk_42 (dk_at dksX6_number_1 18 rfl rfl)
theorem dX6_number_42 : decode cX6_number 42 = .ok (.getfield 133, 3) := dk_180 0 133 (dk_at dksX6_number_1 19 rfl rfl)
theorem dX6_number_45 : decode cX6_number 45 = .ok (.iastore, 1) := dk_79 (dk_at dksX6_number_1 22 rfl rfl)
theorem dX6_number_46 : decode cX6_number 46 = .ok (.aload_n 0, 1) := dk_42 (dk_at dksX6_number_1 23 rfl rfl)
theorem dX6_number_47 : decode cX6_number 47 = .ok (.invokevirtual 167, 3) := dk_182 0 167 (dk_at dksX6_number_2 0 rfl rfl)
theorem dX6_number_50 : decode cX6_number 50 = .ok (.iconst 1, 1) := dk_4 (dk_at dksX6_number_2 3 rfl rfl)
theorem dX6_number_51 : decode cX6_number 51 = .ok (.ireturn, 1) := dk_172 (dk_at dksX6_number_2 4 rfl rfl)
abbrev cX6_aPerson : ByteArray := prog_16_method_49_code
def yX6_aPerson : MethodName := ⟨RX6, "aPerson", "()Z"⟩
def dkwX6_aPerson_4 : List UInt8 := [3, 172, 42, 180, 0, 7, 17, 7, 219, 92, 46, 4, 96, 79, 4, 172]
abbrev dktX6_aPerson_4 : List UInt8 := dkwX6_aPerson_4 ++ []
def dkwX6_aPerson_3 : List UInt8 := [154, 0, 5, 3, 172, 42, 16, 12, 182, 0, 209, 153, 0, 15, 42, 27, 4, 96, 182, 0, 227, 154, 0, 5]
abbrev dktX6_aPerson_3 : List UInt8 := dkwX6_aPerson_3 ++ dktX6_aPerson_4
def dkwX6_aPerson_2 : List UInt8 := [4, 167, 0, 4, 3, 79, 42, 16, 10, 182, 0, 209, 153, 0, 16, 42, 27, 3, 16, 99, 182, 0, 212]
abbrev dktX6_aPerson_2 : List UInt8 := dkwX6_aPerson_2 ++ dktX6_aPerson_3
def dkwX6_aPerson_1 : List UInt8 := [182, 0, 201, 154, 0, 5, 3, 172, 42, 180, 0, 7, 27, 6, 96, 42, 16, 8, 182, 0, 209, 153, 0, 7]
abbrev dktX6_aPerson_1 : List UInt8 := dkwX6_aPerson_1 ++ dktX6_aPerson_2
def dkwX6_aPerson_0 : List UInt8 := [17, 7, 216, 42, 180, 0, 7, 17, 7, 219, 46, 184, 0, 224, 96, 60, 42, 6, 16, 6, 16, 11]
abbrev dktX6_aPerson_0 : List UInt8 := dkwX6_aPerson_0 ++ dktX6_aPerson_1
theorem dksX6_aPerson_0 : cX6_aPerson.data.toList.drop 0 = dktX6_aPerson_0 := by decide +kernel
theorem dksX6_aPerson_1 : cX6_aPerson.data.toList.drop 22 = dktX6_aPerson_1 := dk_seg dksX6_aPerson_0 22 rfl rfl
theorem dksX6_aPerson_2 : cX6_aPerson.data.toList.drop 46 = dktX6_aPerson_2 := dk_seg dksX6_aPerson_1 24 rfl rfl
theorem dksX6_aPerson_3 : cX6_aPerson.data.toList.drop 69 = dktX6_aPerson_3 := dk_seg dksX6_aPerson_2 23 rfl rfl
theorem dksX6_aPerson_4 : cX6_aPerson.data.toList.drop 93 = dktX6_aPerson_4 := dk_seg dksX6_aPerson_3 24 rfl rfl
theorem dX6_aPerson_0 : decode cX6_aPerson 0 = .ok (.sipush 2008, 3) := dk_17 7 216 (dk_at dksX6_aPerson_0 0 rfl rfl)
theorem dX6_aPerson_3 : decode cX6_aPerson 3 = .ok (.aload_n 0, 1) := dk_42 (dk_at dksX6_aPerson_0 3 rfl rfl)
theorem dX6_aPerson_4 : decode cX6_aPerson 4 = .ok (.getfield 7, 3) := dk_180 0 7 (dk_at dksX6_aPerson_0 4 rfl rfl)
theorem dX6_aPerson_7 : decode cX6_aPerson 7 = .ok (.sipush 2011, 3) := dk_17 7 219 (dk_at dksX6_aPerson_0 7 rfl rfl)
theorem dX6_aPerson_10 : decode cX6_aPerson 10 = .ok (.iaload, 1) := dk_46 (dk_at dksX6_aPerson_0 10 rfl rfl)
theorem dX6_aPerson_11 : decode cX6_aPerson 11 = .ok (.invokestatic 224, 3) := dk_184 0 224 (dk_at dksX6_aPerson_0 11 rfl rfl)
theorem dX6_aPerson_14 : decode cX6_aPerson 14 = .ok (.iadd, 1) := dk_96 (dk_at dksX6_aPerson_0 14 rfl rfl)
theorem dX6_aPerson_15 : decode cX6_aPerson 15 = .ok (.istore_n 1, 1) := dk_60 (dk_at dksX6_aPerson_0 15 rfl rfl)
theorem dX6_aPerson_16 : decode cX6_aPerson 16 = .ok (.aload_n 0, 1) := dk_42 (dk_at dksX6_aPerson_0 16 rfl rfl)
theorem dX6_aPerson_17 : decode cX6_aPerson 17 = .ok (.iconst 3, 1) := dk_6 (dk_at dksX6_aPerson_0 17 rfl rfl)
theorem dX6_aPerson_18 : decode cX6_aPerson 18 = .ok (.bipush 6, 2) := dk_16 6 (dk_at dksX6_aPerson_0 18 rfl rfl)
theorem dX6_aPerson_20 : decode cX6_aPerson 20 = .ok (.bipush 11, 2) := dk_16 11 (dk_at dksX6_aPerson_0 20 rfl rfl)
theorem dX6_aPerson_22 : decode cX6_aPerson 22 = .ok (.invokevirtual 201, 3) := dk_182 0 201 (dk_at dksX6_aPerson_1 0 rfl rfl)
theorem dX6_aPerson_25 : decode cX6_aPerson 25 = .ok (.ifCond .ne 5, 3) := dk_154 0 5 (dk_at dksX6_aPerson_1 3 rfl rfl)
theorem dX6_aPerson_28 : decode cX6_aPerson 28 = .ok (.iconst 0, 1) := dk_3 (dk_at dksX6_aPerson_1 6 rfl rfl)
theorem dX6_aPerson_29 : decode cX6_aPerson 29 = .ok (.ireturn, 1) := dk_172 (dk_at dksX6_aPerson_1 7 rfl rfl)
theorem dX6_aPerson_30 : decode cX6_aPerson 30 = .ok (.aload_n 0, 1) := dk_42 (dk_at dksX6_aPerson_1 8 rfl rfl)
theorem dX6_aPerson_31 : decode cX6_aPerson 31 = .ok (.getfield 7, 3) := dk_180 0 7 (dk_at dksX6_aPerson_1 9 rfl rfl)
theorem dX6_aPerson_34 : decode cX6_aPerson 34 = .ok (.iload_n 1, 1) := dk_27 (dk_at dksX6_aPerson_1 12 rfl rfl)
theorem dX6_aPerson_35 : decode cX6_aPerson 35 = .ok (.iconst 3, 1) := dk_6 (dk_at dksX6_aPerson_1 13 rfl rfl)
theorem dX6_aPerson_36 : decode cX6_aPerson 36 = .ok (.iadd, 1) := dk_96 (dk_at dksX6_aPerson_1 14 rfl rfl)
theorem dX6_aPerson_37 : decode cX6_aPerson 37 = .ok (.aload_n 0, 1) := dk_42 (dk_at dksX6_aPerson_1 15 rfl rfl)
theorem dX6_aPerson_38 : decode cX6_aPerson 38 = .ok (.bipush 8, 2) := dk_16 8 (dk_at dksX6_aPerson_1 16 rfl rfl)
theorem dX6_aPerson_40 : decode cX6_aPerson 40 = .ok (.invokevirtual 209, 3) := dk_182 0 209 (dk_at dksX6_aPerson_1 18 rfl rfl)
theorem dX6_aPerson_43 : decode cX6_aPerson 43 = .ok (.ifCond .eq 7, 3) := dk_153 0 7 (dk_at dksX6_aPerson_1 21 rfl rfl)
theorem dX6_aPerson_46 : decode cX6_aPerson 46 = .ok (.iconst 1, 1) := dk_4 (dk_at dksX6_aPerson_2 0 rfl rfl)
theorem dX6_aPerson_47 : decode cX6_aPerson 47 = .ok (.goto 4, 3) := dk_167 0 4 (dk_at dksX6_aPerson_2 1 rfl rfl)
theorem dX6_aPerson_50 : decode cX6_aPerson 50 = .ok (.iconst 0, 1) := dk_3 (dk_at dksX6_aPerson_2 4 rfl rfl)
theorem dX6_aPerson_51 : decode cX6_aPerson 51 = .ok (.iastore, 1) := dk_79 (dk_at dksX6_aPerson_2 5 rfl rfl)
theorem dX6_aPerson_52 : decode cX6_aPerson 52 = .ok (.aload_n 0, 1) := dk_42 (dk_at dksX6_aPerson_2 6 rfl rfl)
theorem dX6_aPerson_53 : decode cX6_aPerson 53 = .ok (.bipush 10, 2) := dk_16 10 (dk_at dksX6_aPerson_2 7 rfl rfl)
theorem dX6_aPerson_55 : decode cX6_aPerson 55 = .ok (.invokevirtual 209, 3) := dk_182 0 209 (dk_at dksX6_aPerson_2 9 rfl rfl)
theorem dX6_aPerson_58 : decode cX6_aPerson 58 = .ok (.ifCond .eq 16, 3) := dk_153 0 16 (dk_at dksX6_aPerson_2 12 rfl rfl)
theorem dX6_aPerson_61 : decode cX6_aPerson 61 = .ok (.aload_n 0, 1) := dk_42 (dk_at dksX6_aPerson_2 15 rfl rfl)
theorem dX6_aPerson_62 : decode cX6_aPerson 62 = .ok (.iload_n 1, 1) := dk_27 (dk_at dksX6_aPerson_2 16 rfl rfl)
theorem dX6_aPerson_63 : decode cX6_aPerson 63 = .ok (.iconst 0, 1) := dk_3 (dk_at dksX6_aPerson_2 17 rfl rfl)
theorem dX6_aPerson_64 : decode cX6_aPerson 64 = .ok (.bipush 99, 2) := dk_16 99 (dk_at dksX6_aPerson_2 18 rfl rfl)
theorem dX6_aPerson_66 : decode cX6_aPerson 66 = .ok (.invokevirtual 212, 3) := dk_182 0 212 (dk_at dksX6_aPerson_2 20 rfl rfl)
theorem dX6_aPerson_69 : decode cX6_aPerson 69 = .ok (.ifCond .ne 5, 3) := dk_154 0 5 (dk_at dksX6_aPerson_3 0 rfl rfl)
theorem dX6_aPerson_72 : decode cX6_aPerson 72 = .ok (.iconst 0, 1) := dk_3 (dk_at dksX6_aPerson_3 3 rfl rfl)
theorem dX6_aPerson_73 : decode cX6_aPerson 73 = .ok (.ireturn, 1) := dk_172 (dk_at dksX6_aPerson_3 4 rfl rfl)
theorem dX6_aPerson_74 : decode cX6_aPerson 74 = .ok (.aload_n 0, 1) := dk_42 (dk_at dksX6_aPerson_3 5 rfl rfl)
theorem dX6_aPerson_75 : decode cX6_aPerson 75 = .ok (.bipush 12, 2) := dk_16 12 (dk_at dksX6_aPerson_3 6 rfl rfl)
theorem dX6_aPerson_77 : decode cX6_aPerson 77 = .ok (.invokevirtual 209, 3) := dk_182 0 209 (dk_at dksX6_aPerson_3 8 rfl rfl)
theorem dX6_aPerson_80 : decode cX6_aPerson 80 = .ok (.ifCond .eq 15, 3) := dk_153 0 15 (dk_at dksX6_aPerson_3 11 rfl rfl)
theorem dX6_aPerson_83 : decode cX6_aPerson 83 = .ok (.aload_n 0, 1) := dk_42 (dk_at dksX6_aPerson_3 14 rfl rfl)
theorem dX6_aPerson_84 : decode cX6_aPerson 84 = .ok (.iload_n 1, 1) := dk_27 (dk_at dksX6_aPerson_3 15 rfl rfl)
theorem dX6_aPerson_85 : decode cX6_aPerson 85 = .ok (.iconst 1, 1) := dk_4 (dk_at dksX6_aPerson_3 16 rfl rfl)
theorem dX6_aPerson_86 : decode cX6_aPerson 86 = .ok (.iadd, 1) := dk_96 (dk_at dksX6_aPerson_3 17 rfl rfl)
theorem dX6_aPerson_87 : decode cX6_aPerson 87 = .ok (.invokevirtual 227, 3) := dk_182 0 227 (dk_at dksX6_aPerson_3 18 rfl rfl)
theorem dX6_aPerson_90 : decode cX6_aPerson 90 = .ok (.ifCond .ne 5, 3) := dk_154 0 5 (dk_at dksX6_aPerson_3 21 rfl rfl)
theorem dX6_aPerson_93 : decode cX6_aPerson 93 = .ok (.iconst 0, 1) := dk_3 (dk_at dksX6_aPerson_4 0 rfl rfl)
theorem dX6_aPerson_94 : decode cX6_aPerson 94 = .ok (.ireturn, 1) := dk_172 (dk_at dksX6_aPerson_4 1 rfl rfl)
theorem dX6_aPerson_95 : decode cX6_aPerson 95 = .ok (.aload_n 0, 1) := dk_42 (dk_at dksX6_aPerson_4 2 rfl rfl)
theorem dX6_aPerson_96 : decode cX6_aPerson 96 = .ok (.getfield 7, 3) := dk_180 0 7 (dk_at dksX6_aPerson_4 3 rfl rfl)
theorem dX6_aPerson_99 : decode cX6_aPerson 99 = .ok (.sipush 2011, 3) := dk_17 7 219 (dk_at dksX6_aPerson_4 6 rfl rfl)
theorem dX6_aPerson_102 : decode cX6_aPerson 102 = .ok (.dup2, 1) := dk_92 (dk_at dksX6_aPerson_4 9 rfl rfl)
theorem dX6_aPerson_103 : decode cX6_aPerson 103 = .ok (.iaload, 1) := dk_46 (dk_at dksX6_aPerson_4 10 rfl rfl)
theorem dX6_aPerson_104 : decode cX6_aPerson 104 = .ok (.iconst 1, 1) := dk_4 (dk_at dksX6_aPerson_4 11 rfl rfl)
theorem dX6_aPerson_105 : decode cX6_aPerson 105 = .ok (.iadd, 1) := dk_96 (dk_at dksX6_aPerson_4 12 rfl rfl)
theorem dX6_aPerson_106 : decode cX6_aPerson 106 = .ok (.iastore, 1) := dk_79 (dk_at dksX6_aPerson_4 13 rfl rfl)
theorem dX6_aPerson_107 : decode cX6_aPerson 107 = .ok (.iconst 1, 1) := dk_4 (dk_at dksX6_aPerson_4 14 rfl rfl)
theorem dX6_aPerson_108 : decode cX6_aPerson 108 = .ok (.ireturn, 1) := dk_172 (dk_at dksX6_aPerson_4 15 rfl rfl)
abbrev cX6_personRow : ByteArray := prog_16_method_38_code
def yX6_personRow : MethodName := ⟨RX6, "personRow", "(I)I"⟩
def dkwX6_personRow_0 : List UInt8 := [16, 72, 8, 26, 104, 96, 172]
abbrev dktX6_personRow_0 : List UInt8 := dkwX6_personRow_0 ++ []
theorem dksX6_personRow_0 : cX6_personRow.data.toList.drop 0 = dktX6_personRow_0 := by decide +kernel
theorem dX6_personRow_0 : decode cX6_personRow 0 = .ok (.bipush 72, 2) := dk_16 72 (dk_at dksX6_personRow_0 0 rfl rfl)
theorem dX6_personRow_2 : decode cX6_personRow 2 = .ok (.iconst 5, 1) := dk_8 (dk_at dksX6_personRow_0 2 rfl rfl)
theorem dX6_personRow_3 : decode cX6_personRow 3 = .ok (.iload_n 0, 1) := dk_26 (dk_at dksX6_personRow_0 3 rfl rfl)
theorem dX6_personRow_4 : decode cX6_personRow 4 = .ok (.imul, 1) := dk_104 (dk_at dksX6_personRow_0 4 rfl rfl)
theorem dX6_personRow_5 : decode cX6_personRow 5 = .ok (.iadd, 1) := dk_96 (dk_at dksX6_personRow_0 5 rfl rfl)
theorem dX6_personRow_6 : decode cX6_personRow 6 = .ok (.ireturn, 1) := dk_172 (dk_at dksX6_personRow_0 6 rfl rfl)
abbrev cX6_smellsTo : ByteArray := prog_16_method_48_code
def yX6_smellsTo : MethodName := ⟨RX6, "smellsTo", "(I)Z"⟩
def dkwX6_smellsTo_3 : List UInt8 := [28, 79, 4, 172]
abbrev dktX6_smellsTo_3 : List UInt8 := dkwX6_smellsTo_3 ++ []
def dkwX6_smellsTo_2 : List UInt8 := [42, 8, 182, 0, 173, 172, 28, 4, 29, 120, 128, 61, 42, 182, 0, 167, 167, 255, 196, 42, 180, 0, 7, 27]
abbrev dktX6_smellsTo_2 : List UInt8 := dkwX6_smellsTo_2 ++ dktX6_smellsTo_3
def dkwX6_smellsTo_1 : List UInt8 := [182, 0, 186, 62, 29, 2, 160, 0, 9, 42, 6, 182, 0, 173, 172, 28, 29, 122, 4, 126, 4, 160, 0, 9]
abbrev dktX6_smellsTo_1 : List UInt8 := dkwX6_smellsTo_1 ++ dktX6_smellsTo_2
def dkwX6_smellsTo_0 : List UInt8 := [3, 61, 42, 18, 184, 182, 0, 193, 153, 0, 57, 42, 16, 92, 42, 180, 0, 7, 17, 7, 216, 46]
abbrev dktX6_smellsTo_0 : List UInt8 := dkwX6_smellsTo_0 ++ dktX6_smellsTo_1
theorem dksX6_smellsTo_0 : cX6_smellsTo.data.toList.drop 0 = dktX6_smellsTo_0 := by decide +kernel
theorem dksX6_smellsTo_1 : cX6_smellsTo.data.toList.drop 22 = dktX6_smellsTo_1 := dk_seg dksX6_smellsTo_0 22 rfl rfl
theorem dksX6_smellsTo_2 : cX6_smellsTo.data.toList.drop 46 = dktX6_smellsTo_2 := dk_seg dksX6_smellsTo_1 24 rfl rfl
theorem dksX6_smellsTo_3 : cX6_smellsTo.data.toList.drop 70 = dktX6_smellsTo_3 := dk_seg dksX6_smellsTo_2 24 rfl rfl
theorem dX6_smellsTo_0 : decode cX6_smellsTo 0 = .ok (.iconst 0, 1) := dk_3 (dk_at dksX6_smellsTo_0 0 rfl rfl)
theorem dX6_smellsTo_1 : decode cX6_smellsTo 1 = .ok (.istore_n 2, 1) := dk_61 (dk_at dksX6_smellsTo_0 1 rfl rfl)
theorem dX6_smellsTo_2 : decode cX6_smellsTo 2 = .ok (.aload_n 0, 1) := dk_42 (dk_at dksX6_smellsTo_0 2 rfl rfl)
theorem dX6_smellsTo_3 : decode cX6_smellsTo 3 = .ok (.ldc 184, 2) := dk_18 184 (dk_at dksX6_smellsTo_0 3 rfl rfl)
theorem dX6_smellsTo_5 : decode cX6_smellsTo 5 = .ok (.invokevirtual 193, 3) := dk_182 0 193 (dk_at dksX6_smellsTo_0 5 rfl rfl)
theorem dX6_smellsTo_8 : decode cX6_smellsTo 8 = .ok (.ifCond .eq 57, 3) := dk_153 0 57 (dk_at dksX6_smellsTo_0 8 rfl rfl)
theorem dX6_smellsTo_11 : decode cX6_smellsTo 11 = .ok (.aload_n 0, 1) := dk_42 (dk_at dksX6_smellsTo_0 11 rfl rfl)
theorem dX6_smellsTo_12 : decode cX6_smellsTo 12 = .ok (.bipush 92, 2) := dk_16 92 (dk_at dksX6_smellsTo_0 12 rfl rfl)
theorem dX6_smellsTo_14 : decode cX6_smellsTo 14 = .ok (.aload_n 0, 1) := dk_42 (dk_at dksX6_smellsTo_0 14 rfl rfl)
theorem dX6_smellsTo_15 : decode cX6_smellsTo 15 = .ok (.getfield 7, 3) := dk_180 0 7 (dk_at dksX6_smellsTo_0 15 rfl rfl)
theorem dX6_smellsTo_18 : decode cX6_smellsTo 18 = .ok (.sipush 2008, 3) := dk_17 7 216 (dk_at dksX6_smellsTo_0 18 rfl rfl)
theorem dX6_smellsTo_21 : decode cX6_smellsTo 21 = .ok (.iaload, 1) := dk_46 (dk_at dksX6_smellsTo_0 21 rfl rfl)
theorem dX6_smellsTo_22 : decode cX6_smellsTo 22 = .ok (.invokevirtual 186, 3) := dk_182 0 186 (dk_at dksX6_smellsTo_1 0 rfl rfl)
theorem dX6_smellsTo_25 : decode cX6_smellsTo 25 = .ok (.istore_n 3, 1) := dk_62 (dk_at dksX6_smellsTo_1 3 rfl rfl)
theorem dX6_smellsTo_26 : decode cX6_smellsTo 26 = .ok (.iload_n 3, 1) := dk_29 (dk_at dksX6_smellsTo_1 4 rfl rfl)
theorem dX6_smellsTo_27 : decode cX6_smellsTo 27 = .ok (.iconst (-1), 1) := dk_2 (dk_at dksX6_smellsTo_1 5 rfl rfl)
theorem dX6_smellsTo_28 : decode cX6_smellsTo 28 = .ok (.if_icmp .ne 9, 3) := dk_160 0 9 (dk_at dksX6_smellsTo_1 6 rfl rfl)
theorem dX6_smellsTo_31 : decode cX6_smellsTo 31 = .ok (.aload_n 0, 1) := dk_42 (dk_at dksX6_smellsTo_1 9 rfl rfl)
theorem dX6_smellsTo_32 : decode cX6_smellsTo 32 = .ok (.iconst 3, 1) := dk_6 (dk_at dksX6_smellsTo_1 10 rfl rfl)
theorem dX6_smellsTo_33 : decode cX6_smellsTo 33 = .ok (.invokevirtual 173, 3) := dk_182 0 173 (dk_at dksX6_smellsTo_1 11 rfl rfl)
theorem dX6_smellsTo_36 : decode cX6_smellsTo 36 = .ok (.ireturn, 1) := dk_172 (dk_at dksX6_smellsTo_1 14 rfl rfl)
theorem dX6_smellsTo_37 : decode cX6_smellsTo 37 = .ok (.iload_n 2, 1) := dk_28 (dk_at dksX6_smellsTo_1 15 rfl rfl)
theorem dX6_smellsTo_38 : decode cX6_smellsTo 38 = .ok (.iload_n 3, 1) := dk_29 (dk_at dksX6_smellsTo_1 16 rfl rfl)
theorem dX6_smellsTo_39 : decode cX6_smellsTo 39 = .ok (.ishr, 1) := dk_122 (dk_at dksX6_smellsTo_1 17 rfl rfl)
theorem dX6_smellsTo_40 : decode cX6_smellsTo 40 = .ok (.iconst 1, 1) := dk_4 (dk_at dksX6_smellsTo_1 18 rfl rfl)
theorem dX6_smellsTo_41 : decode cX6_smellsTo 41 = .ok (.iand, 1) := dk_126 (dk_at dksX6_smellsTo_1 19 rfl rfl)
theorem dX6_smellsTo_42 : decode cX6_smellsTo 42 = .ok (.iconst 1, 1) := dk_4 (dk_at dksX6_smellsTo_1 20 rfl rfl)
theorem dX6_smellsTo_43 : decode cX6_smellsTo 43 = .ok (.if_icmp .ne 9, 3) := dk_160 0 9 (dk_at dksX6_smellsTo_1 21 rfl rfl)
theorem dX6_smellsTo_46 : decode cX6_smellsTo 46 = .ok (.aload_n 0, 1) := dk_42 (dk_at dksX6_smellsTo_2 0 rfl rfl)
theorem dX6_smellsTo_47 : decode cX6_smellsTo 47 = .ok (.iconst 5, 1) := dk_8 (dk_at dksX6_smellsTo_2 1 rfl rfl)
theorem dX6_smellsTo_48 : decode cX6_smellsTo 48 = .ok (.invokevirtual 173, 3) := dk_182 0 173 (dk_at dksX6_smellsTo_2 2 rfl rfl)
theorem dX6_smellsTo_51 : decode cX6_smellsTo 51 = .ok (.ireturn, 1) := dk_172 (dk_at dksX6_smellsTo_2 5 rfl rfl)
theorem dX6_smellsTo_52 : decode cX6_smellsTo 52 = .ok (.iload_n 2, 1) := dk_28 (dk_at dksX6_smellsTo_2 6 rfl rfl)
theorem dX6_smellsTo_53 : decode cX6_smellsTo 53 = .ok (.iconst 1, 1) := dk_4 (dk_at dksX6_smellsTo_2 7 rfl rfl)
theorem dX6_smellsTo_54 : decode cX6_smellsTo 54 = .ok (.iload_n 3, 1) := dk_29 (dk_at dksX6_smellsTo_2 8 rfl rfl)
theorem dX6_smellsTo_55 : decode cX6_smellsTo 55 = .ok (.ishl, 1) := dk_120 (dk_at dksX6_smellsTo_2 9 rfl rfl)
theorem dX6_smellsTo_56 : decode cX6_smellsTo 56 = .ok (.ior, 1) := dk_128 (dk_at dksX6_smellsTo_2 10 rfl rfl)
theorem dX6_smellsTo_57 : decode cX6_smellsTo 57 = .ok (.istore_n 2, 1) := dk_61 (dk_at dksX6_smellsTo_2 11 rfl rfl)
theorem dX6_smellsTo_58 : decode cX6_smellsTo 58 = .ok (.aload_n 0, 1) := dk_42 (dk_at dksX6_smellsTo_2 12 rfl rfl)
theorem dX6_smellsTo_59 : decode cX6_smellsTo 59 = .ok (.invokevirtual 167, 3) := dk_182 0 167 (dk_at dksX6_smellsTo_2 13 rfl rfl)
theorem dX6_smellsTo_62 : decode cX6_smellsTo 62 = .ok (.goto (-60), 3) := dk_167 255 196 (dk_at dksX6_smellsTo_2 16 rfl rfl)
theorem dX6_smellsTo_65 : decode cX6_smellsTo 65 = .ok (.aload_n 0, 1) := dk_42 (dk_at dksX6_smellsTo_2 19 rfl rfl)
theorem dX6_smellsTo_66 : decode cX6_smellsTo 66 = .ok (.getfield 7, 3) := dk_180 0 7 (dk_at dksX6_smellsTo_2 20 rfl rfl)
theorem dX6_smellsTo_69 : decode cX6_smellsTo 69 = .ok (.iload_n 1, 1) := dk_27 (dk_at dksX6_smellsTo_2 23 rfl rfl)
theorem dX6_smellsTo_70 : decode cX6_smellsTo 70 = .ok (.iload_n 2, 1) := dk_28 (dk_at dksX6_smellsTo_3 0 rfl rfl)
theorem dX6_smellsTo_71 : decode cX6_smellsTo 71 = .ok (.iastore, 1) := dk_79 (dk_at dksX6_smellsTo_3 1 rfl rfl)
theorem dX6_smellsTo_72 : decode cX6_smellsTo 72 = .ok (.iconst 1, 1) := dk_4 (dk_at dksX6_smellsTo_3 2 rfl rfl)
theorem dX6_smellsTo_73 : decode cX6_smellsTo 73 = .ok (.ireturn, 1) := dk_172 (dk_at dksX6_smellsTo_3 3 rfl rfl)
abbrev cX6_aReader : ByteArray := prog_16_method_50_code
def yX6_aReader : MethodName := ⟨RX6, "aReader", "()Z"⟩
def dkwX6_aReader_3 : List UInt8 := [154, 0, 5, 3, 172, 42, 180, 0, 7, 17, 7, 220, 92, 46, 4, 96, 79, 4, 172]
abbrev dktX6_aReader_3 : List UInt8 := dkwX6_aReader_3 ++ []
def dkwX6_aReader_2 : List UInt8 := [153, 0, 27, 42, 18, 184, 16, 14, 182, 0, 205, 153, 0, 16, 42, 27, 4, 96, 4, 16, 9, 182, 0, 212]
abbrev dktX6_aReader_2 : List UInt8 := dkwX6_aReader_2 ++ dktX6_aReader_3
def dkwX6_aReader_1 : List UInt8 := [153, 0, 49, 42, 18, 184, 16, 13, 182, 0, 205, 153, 0, 38, 42, 27, 3, 16, 16, 182, 0, 212]
abbrev dktX6_aReader_1 : List UInt8 := dkwX6_aReader_1 ++ dktX6_aReader_2
def dkwX6_aReader_0 : List UInt8 := [17, 8, 62, 5, 42, 180, 0, 7, 17, 7, 220, 46, 104, 96, 60, 42, 7, 16, 6, 16, 17, 182, 0, 201]
abbrev dktX6_aReader_0 : List UInt8 := dkwX6_aReader_0 ++ dktX6_aReader_1
theorem dksX6_aReader_0 : cX6_aReader.data.toList.drop 0 = dktX6_aReader_0 := by decide +kernel
theorem dksX6_aReader_1 : cX6_aReader.data.toList.drop 24 = dktX6_aReader_1 := dk_seg dksX6_aReader_0 24 rfl rfl
theorem dksX6_aReader_2 : cX6_aReader.data.toList.drop 46 = dktX6_aReader_2 := dk_seg dksX6_aReader_1 22 rfl rfl
theorem dksX6_aReader_3 : cX6_aReader.data.toList.drop 70 = dktX6_aReader_3 := dk_seg dksX6_aReader_2 24 rfl rfl
theorem dX6_aReader_0 : decode cX6_aReader 0 = .ok (.sipush 2110, 3) := dk_17 8 62 (dk_at dksX6_aReader_0 0 rfl rfl)
theorem dX6_aReader_3 : decode cX6_aReader 3 = .ok (.iconst 2, 1) := dk_5 (dk_at dksX6_aReader_0 3 rfl rfl)
theorem dX6_aReader_4 : decode cX6_aReader 4 = .ok (.aload_n 0, 1) := dk_42 (dk_at dksX6_aReader_0 4 rfl rfl)
theorem dX6_aReader_5 : decode cX6_aReader 5 = .ok (.getfield 7, 3) := dk_180 0 7 (dk_at dksX6_aReader_0 5 rfl rfl)
theorem dX6_aReader_8 : decode cX6_aReader 8 = .ok (.sipush 2012, 3) := dk_17 7 220 (dk_at dksX6_aReader_0 8 rfl rfl)
theorem dX6_aReader_11 : decode cX6_aReader 11 = .ok (.iaload, 1) := dk_46 (dk_at dksX6_aReader_0 11 rfl rfl)
theorem dX6_aReader_12 : decode cX6_aReader 12 = .ok (.imul, 1) := dk_104 (dk_at dksX6_aReader_0 12 rfl rfl)
theorem dX6_aReader_13 : decode cX6_aReader 13 = .ok (.iadd, 1) := dk_96 (dk_at dksX6_aReader_0 13 rfl rfl)
theorem dX6_aReader_14 : decode cX6_aReader 14 = .ok (.istore_n 1, 1) := dk_60 (dk_at dksX6_aReader_0 14 rfl rfl)
theorem dX6_aReader_15 : decode cX6_aReader 15 = .ok (.aload_n 0, 1) := dk_42 (dk_at dksX6_aReader_0 15 rfl rfl)
theorem dX6_aReader_16 : decode cX6_aReader 16 = .ok (.iconst 4, 1) := dk_7 (dk_at dksX6_aReader_0 16 rfl rfl)
theorem dX6_aReader_17 : decode cX6_aReader 17 = .ok (.bipush 6, 2) := dk_16 6 (dk_at dksX6_aReader_0 17 rfl rfl)
theorem dX6_aReader_19 : decode cX6_aReader 19 = .ok (.bipush 17, 2) := dk_16 17 (dk_at dksX6_aReader_0 19 rfl rfl)
theorem dX6_aReader_21 : decode cX6_aReader 21 = .ok (.invokevirtual 201, 3) := dk_182 0 201 (dk_at dksX6_aReader_0 21 rfl rfl)
theorem dX6_aReader_24 : decode cX6_aReader 24 = .ok (.ifCond .eq 49, 3) := dk_153 0 49 (dk_at dksX6_aReader_1 0 rfl rfl)
theorem dX6_aReader_27 : decode cX6_aReader 27 = .ok (.aload_n 0, 1) := dk_42 (dk_at dksX6_aReader_1 3 rfl rfl)
theorem dX6_aReader_28 : decode cX6_aReader 28 = .ok (.ldc 184, 2) := dk_18 184 (dk_at dksX6_aReader_1 4 rfl rfl)
theorem dX6_aReader_30 : decode cX6_aReader 30 = .ok (.bipush 13, 2) := dk_16 13 (dk_at dksX6_aReader_1 6 rfl rfl)
theorem dX6_aReader_32 : decode cX6_aReader 32 = .ok (.invokevirtual 205, 3) := dk_182 0 205 (dk_at dksX6_aReader_1 8 rfl rfl)
theorem dX6_aReader_35 : decode cX6_aReader 35 = .ok (.ifCond .eq 38, 3) := dk_153 0 38 (dk_at dksX6_aReader_1 11 rfl rfl)
theorem dX6_aReader_38 : decode cX6_aReader 38 = .ok (.aload_n 0, 1) := dk_42 (dk_at dksX6_aReader_1 14 rfl rfl)
theorem dX6_aReader_39 : decode cX6_aReader 39 = .ok (.iload_n 1, 1) := dk_27 (dk_at dksX6_aReader_1 15 rfl rfl)
theorem dX6_aReader_40 : decode cX6_aReader 40 = .ok (.iconst 0, 1) := dk_3 (dk_at dksX6_aReader_1 16 rfl rfl)
theorem dX6_aReader_41 : decode cX6_aReader 41 = .ok (.bipush 16, 2) := dk_16 16 (dk_at dksX6_aReader_1 17 rfl rfl)
theorem dX6_aReader_43 : decode cX6_aReader 43 = .ok (.invokevirtual 212, 3) := dk_182 0 212 (dk_at dksX6_aReader_1 19 rfl rfl)
theorem dX6_aReader_46 : decode cX6_aReader 46 = .ok (.ifCond .eq 27, 3) := dk_153 0 27 (dk_at dksX6_aReader_2 0 rfl rfl)
theorem dX6_aReader_49 : decode cX6_aReader 49 = .ok (.aload_n 0, 1) := dk_42 (dk_at dksX6_aReader_2 3 rfl rfl)
theorem dX6_aReader_50 : decode cX6_aReader 50 = .ok (.ldc 184, 2) := dk_18 184 (dk_at dksX6_aReader_2 4 rfl rfl)
theorem dX6_aReader_52 : decode cX6_aReader 52 = .ok (.bipush 14, 2) := dk_16 14 (dk_at dksX6_aReader_2 6 rfl rfl)
theorem dX6_aReader_54 : decode cX6_aReader 54 = .ok (.invokevirtual 205, 3) := dk_182 0 205 (dk_at dksX6_aReader_2 8 rfl rfl)
theorem dX6_aReader_57 : decode cX6_aReader 57 = .ok (.ifCond .eq 16, 3) := dk_153 0 16 (dk_at dksX6_aReader_2 11 rfl rfl)
theorem dX6_aReader_60 : decode cX6_aReader 60 = .ok (.aload_n 0, 1) := dk_42 (dk_at dksX6_aReader_2 14 rfl rfl)
theorem dX6_aReader_61 : decode cX6_aReader 61 = .ok (.iload_n 1, 1) := dk_27 (dk_at dksX6_aReader_2 15 rfl rfl)
theorem dX6_aReader_62 : decode cX6_aReader 62 = .ok (.iconst 1, 1) := dk_4 (dk_at dksX6_aReader_2 16 rfl rfl)
theorem dX6_aReader_63 : decode cX6_aReader 63 = .ok (.iadd, 1) := dk_96 (dk_at dksX6_aReader_2 17 rfl rfl)
theorem dX6_aReader_64 : decode cX6_aReader 64 = .ok (.iconst 1, 1) := dk_4 (dk_at dksX6_aReader_2 18 rfl rfl)
theorem dX6_aReader_65 : decode cX6_aReader 65 = .ok (.bipush 9, 2) := dk_16 9 (dk_at dksX6_aReader_2 19 rfl rfl)
theorem dX6_aReader_67 : decode cX6_aReader 67 = .ok (.invokevirtual 212, 3) := dk_182 0 212 (dk_at dksX6_aReader_2 21 rfl rfl)
theorem dX6_aReader_70 : decode cX6_aReader 70 = .ok (.ifCond .ne 5, 3) := dk_154 0 5 (dk_at dksX6_aReader_3 0 rfl rfl)
theorem dX6_aReader_73 : decode cX6_aReader 73 = .ok (.iconst 0, 1) := dk_3 (dk_at dksX6_aReader_3 3 rfl rfl)
theorem dX6_aReader_74 : decode cX6_aReader 74 = .ok (.ireturn, 1) := dk_172 (dk_at dksX6_aReader_3 4 rfl rfl)
theorem dX6_aReader_75 : decode cX6_aReader 75 = .ok (.aload_n 0, 1) := dk_42 (dk_at dksX6_aReader_3 5 rfl rfl)
theorem dX6_aReader_76 : decode cX6_aReader 76 = .ok (.getfield 7, 3) := dk_180 0 7 (dk_at dksX6_aReader_3 6 rfl rfl)
theorem dX6_aReader_79 : decode cX6_aReader 79 = .ok (.sipush 2012, 3) := dk_17 7 220 (dk_at dksX6_aReader_3 9 rfl rfl)
theorem dX6_aReader_82 : decode cX6_aReader 82 = .ok (.dup2, 1) := dk_92 (dk_at dksX6_aReader_3 12 rfl rfl)
theorem dX6_aReader_83 : decode cX6_aReader 83 = .ok (.iaload, 1) := dk_46 (dk_at dksX6_aReader_3 13 rfl rfl)
theorem dX6_aReader_84 : decode cX6_aReader 84 = .ok (.iconst 1, 1) := dk_4 (dk_at dksX6_aReader_3 14 rfl rfl)
theorem dX6_aReader_85 : decode cX6_aReader 85 = .ok (.iadd, 1) := dk_96 (dk_at dksX6_aReader_3 15 rfl rfl)
theorem dX6_aReader_86 : decode cX6_aReader 86 = .ok (.iastore, 1) := dk_79 (dk_at dksX6_aReader_3 16 rfl rfl)
theorem dX6_aReader_87 : decode cX6_aReader 87 = .ok (.iconst 1, 1) := dk_4 (dk_at dksX6_aReader_3 17 rfl rfl)
theorem dX6_aReader_88 : decode cX6_aReader 88 = .ok (.ireturn, 1) := dk_172 (dk_at dksX6_aReader_3 18 rfl rfl)
abbrev cX6_aWord : ByteArray := prog_16_method_51_code
def yX6_aWord : MethodName := ⟨RX6, "aWord", "()Z"⟩
def dkwX6_aWord_4 : List UInt8 := [182, 0, 167, 42, 180, 0, 7, 17, 7, 221, 92, 46, 4, 96, 79, 4, 172]
abbrev dktX6_aWord_4 : List UInt8 := dkwX6_aWord_4 ++ []
def dkwX6_aWord_3 : List UInt8 := [16, 9, 159, 0, 9, 42, 5, 182, 0, 173, 172, 42, 180, 0, 7, 27, 4, 96, 28, 16, 7, 100, 79, 42]
abbrev dktX6_aWord_3 : List UInt8 := dkwX6_aWord_3 ++ dktX6_aWord_4
def dkwX6_aWord_2 : List UInt8 := [46, 27, 182, 0, 218, 154, 0, 5, 3, 172, 42, 18, 184, 182, 0, 176, 61, 28, 16, 8, 159, 0, 15, 28]
abbrev dktX6_aWord_2 : List UInt8 := dkwX6_aWord_2 ++ dktX6_aWord_3
def dkwX6_aWord_1 : List UInt8 := [180, 0, 7, 17, 7, 221, 46, 104, 96, 60, 42, 182, 0, 167, 42, 16, 103, 42, 180, 0, 7, 17, 7, 219]
abbrev dktX6_aWord_1 : List UInt8 := dkwX6_aWord_1 ++ dktX6_aWord_2
def dkwX6_aWord_0 : List UInt8 := [42, 8, 16, 10, 182, 0, 189, 153, 0, 10, 42, 16, 6, 182, 0, 173, 172, 17, 8, 74, 5, 42]
abbrev dktX6_aWord_0 : List UInt8 := dkwX6_aWord_0 ++ dktX6_aWord_1
theorem dksX6_aWord_0 : cX6_aWord.data.toList.drop 0 = dktX6_aWord_0 := by decide +kernel
theorem dksX6_aWord_1 : cX6_aWord.data.toList.drop 22 = dktX6_aWord_1 := dk_seg dksX6_aWord_0 22 rfl rfl
theorem dksX6_aWord_2 : cX6_aWord.data.toList.drop 46 = dktX6_aWord_2 := dk_seg dksX6_aWord_1 24 rfl rfl
theorem dksX6_aWord_3 : cX6_aWord.data.toList.drop 70 = dktX6_aWord_3 := dk_seg dksX6_aWord_2 24 rfl rfl
theorem dksX6_aWord_4 : cX6_aWord.data.toList.drop 94 = dktX6_aWord_4 := dk_seg dksX6_aWord_3 24 rfl rfl
theorem dX6_aWord_0 : decode cX6_aWord 0 = .ok (.aload_n 0, 1) := dk_42 (dk_at dksX6_aWord_0 0 rfl rfl)
theorem dX6_aWord_1 : decode cX6_aWord 1 = .ok (.iconst 5, 1) := dk_8 (dk_at dksX6_aWord_0 1 rfl rfl)
theorem dX6_aWord_2 : decode cX6_aWord 2 = .ok (.bipush 10, 2) := dk_16 10 (dk_at dksX6_aWord_0 2 rfl rfl)
theorem dX6_aWord_4 : decode cX6_aWord 4 = .ok (.invokevirtual 189, 3) := dk_182 0 189 (dk_at dksX6_aWord_0 4 rfl rfl)
theorem dX6_aWord_7 : decode cX6_aWord 7 = .ok (.ifCond .eq 10, 3) := dk_153 0 10 (dk_at dksX6_aWord_0 7 rfl rfl)
theorem dX6_aWord_10 : decode cX6_aWord 10 = .ok (.aload_n 0, 1) := dk_42 (dk_at dksX6_aWord_0 10 rfl rfl)
theorem dX6_aWord_11 : decode cX6_aWord 11 = .ok (.bipush 6, 2) := dk_16 6 (dk_at dksX6_aWord_0 11 rfl rfl)
theorem dX6_aWord_13 : decode cX6_aWord 13 = .ok (.invokevirtual 173, 3) := dk_182 0 173 (dk_at dksX6_aWord_0 13 rfl rfl)
theorem dX6_aWord_16 : decode cX6_aWord 16 = .ok (.ireturn, 1) := dk_172 (dk_at dksX6_aWord_0 16 rfl rfl)
theorem dX6_aWord_17 : decode cX6_aWord 17 = .ok (.sipush 2122, 3) := dk_17 8 74 (dk_at dksX6_aWord_0 17 rfl rfl)
theorem dX6_aWord_20 : decode cX6_aWord 20 = .ok (.iconst 2, 1) := dk_5 (dk_at dksX6_aWord_0 20 rfl rfl)
theorem dX6_aWord_21 : decode cX6_aWord 21 = .ok (.aload_n 0, 1) := dk_42 (dk_at dksX6_aWord_0 21 rfl rfl)
theorem dX6_aWord_22 : decode cX6_aWord 22 = .ok (.getfield 7, 3) := dk_180 0 7 (dk_at dksX6_aWord_1 0 rfl rfl)
theorem dX6_aWord_25 : decode cX6_aWord 25 = .ok (.sipush 2013, 3) := dk_17 7 221 (dk_at dksX6_aWord_1 3 rfl rfl)
theorem dX6_aWord_28 : decode cX6_aWord 28 = .ok (.iaload, 1) := dk_46 (dk_at dksX6_aWord_1 6 rfl rfl)
theorem dX6_aWord_29 : decode cX6_aWord 29 = .ok (.imul, 1) := dk_104 (dk_at dksX6_aWord_1 7 rfl rfl)
theorem dX6_aWord_30 : decode cX6_aWord 30 = .ok (.iadd, 1) := dk_96 (dk_at dksX6_aWord_1 8 rfl rfl)
theorem dX6_aWord_31 : decode cX6_aWord 31 = .ok (.istore_n 1, 1) := dk_60 (dk_at dksX6_aWord_1 9 rfl rfl)
theorem dX6_aWord_32 : decode cX6_aWord 32 = .ok (.aload_n 0, 1) := dk_42 (dk_at dksX6_aWord_1 10 rfl rfl)
theorem dX6_aWord_33 : decode cX6_aWord 33 = .ok (.invokevirtual 167, 3) := dk_182 0 167 (dk_at dksX6_aWord_1 11 rfl rfl)
theorem dX6_aWord_36 : decode cX6_aWord 36 = .ok (.aload_n 0, 1) := dk_42 (dk_at dksX6_aWord_1 14 rfl rfl)
theorem dX6_aWord_37 : decode cX6_aWord 37 = .ok (.bipush 103, 2) := dk_16 103 (dk_at dksX6_aWord_1 15 rfl rfl)
theorem dX6_aWord_39 : decode cX6_aWord 39 = .ok (.aload_n 0, 1) := dk_42 (dk_at dksX6_aWord_1 17 rfl rfl)
theorem dX6_aWord_40 : decode cX6_aWord 40 = .ok (.getfield 7, 3) := dk_180 0 7 (dk_at dksX6_aWord_1 18 rfl rfl)
theorem dX6_aWord_43 : decode cX6_aWord 43 = .ok (.sipush 2011, 3) := dk_17 7 219 (dk_at dksX6_aWord_1 21 rfl rfl)
theorem dX6_aWord_46 : decode cX6_aWord 46 = .ok (.iaload, 1) := dk_46 (dk_at dksX6_aWord_2 0 rfl rfl)
theorem dX6_aWord_47 : decode cX6_aWord 47 = .ok (.iload_n 1, 1) := dk_27 (dk_at dksX6_aWord_2 1 rfl rfl)
theorem dX6_aWord_48 : decode cX6_aWord 48 = .ok (.invokevirtual 218, 3) := dk_182 0 218 (dk_at dksX6_aWord_2 2 rfl rfl)
theorem dX6_aWord_51 : decode cX6_aWord 51 = .ok (.ifCond .ne 5, 3) := dk_154 0 5 (dk_at dksX6_aWord_2 5 rfl rfl)
theorem dX6_aWord_54 : decode cX6_aWord 54 = .ok (.iconst 0, 1) := dk_3 (dk_at dksX6_aWord_2 8 rfl rfl)
theorem dX6_aWord_55 : decode cX6_aWord 55 = .ok (.ireturn, 1) := dk_172 (dk_at dksX6_aWord_2 9 rfl rfl)
theorem dX6_aWord_56 : decode cX6_aWord 56 = .ok (.aload_n 0, 1) := dk_42 (dk_at dksX6_aWord_2 10 rfl rfl)
theorem dX6_aWord_57 : decode cX6_aWord 57 = .ok (.ldc 184, 2) := dk_18 184 (dk_at dksX6_aWord_2 11 rfl rfl)
theorem dX6_aWord_59 : decode cX6_aWord 59 = .ok (.invokevirtual 176, 3) := dk_182 0 176 (dk_at dksX6_aWord_2 13 rfl rfl)
theorem dX6_aWord_62 : decode cX6_aWord 62 = .ok (.istore_n 2, 1) := dk_61 (dk_at dksX6_aWord_2 16 rfl rfl)
theorem dX6_aWord_63 : decode cX6_aWord 63 = .ok (.iload_n 2, 1) := dk_28 (dk_at dksX6_aWord_2 17 rfl rfl)
theorem dX6_aWord_64 : decode cX6_aWord 64 = .ok (.bipush 8, 2) := dk_16 8 (dk_at dksX6_aWord_2 18 rfl rfl)
theorem dX6_aWord_66 : decode cX6_aWord 66 = .ok (.if_icmp .eq 15, 3) := dk_159 0 15 (dk_at dksX6_aWord_2 20 rfl rfl)
theorem dX6_aWord_69 : decode cX6_aWord 69 = .ok (.iload_n 2, 1) := dk_28 (dk_at dksX6_aWord_2 23 rfl rfl)
theorem dX6_aWord_70 : decode cX6_aWord 70 = .ok (.bipush 9, 2) := dk_16 9 (dk_at dksX6_aWord_3 0 rfl rfl)
theorem dX6_aWord_72 : decode cX6_aWord 72 = .ok (.if_icmp .eq 9, 3) := dk_159 0 9 (dk_at dksX6_aWord_3 2 rfl rfl)
theorem dX6_aWord_75 : decode cX6_aWord 75 = .ok (.aload_n 0, 1) := dk_42 (dk_at dksX6_aWord_3 5 rfl rfl)
theorem dX6_aWord_76 : decode cX6_aWord 76 = .ok (.iconst 2, 1) := dk_5 (dk_at dksX6_aWord_3 6 rfl rfl)
theorem dX6_aWord_77 : decode cX6_aWord 77 = .ok (.invokevirtual 173, 3) := dk_182 0 173 (dk_at dksX6_aWord_3 7 rfl rfl)
theorem dX6_aWord_80 : decode cX6_aWord 80 = .ok (.ireturn, 1) := dk_172 (dk_at dksX6_aWord_3 10 rfl rfl)
theorem dX6_aWord_81 : decode cX6_aWord 81 = .ok (.aload_n 0, 1) := dk_42 (dk_at dksX6_aWord_3 11 rfl rfl)
theorem dX6_aWord_82 : decode cX6_aWord 82 = .ok (.getfield 7, 3) := dk_180 0 7 (dk_at dksX6_aWord_3 12 rfl rfl)
theorem dX6_aWord_85 : decode cX6_aWord 85 = .ok (.iload_n 1, 1) := dk_27 (dk_at dksX6_aWord_3 15 rfl rfl)
theorem dX6_aWord_86 : decode cX6_aWord 86 = .ok (.iconst 1, 1) := dk_4 (dk_at dksX6_aWord_3 16 rfl rfl)
theorem dX6_aWord_87 : decode cX6_aWord 87 = .ok (.iadd, 1) := dk_96 (dk_at dksX6_aWord_3 17 rfl rfl)
theorem dX6_aWord_88 : decode cX6_aWord 88 = .ok (.iload_n 2, 1) := dk_28 (dk_at dksX6_aWord_3 18 rfl rfl)
theorem dX6_aWord_89 : decode cX6_aWord 89 = .ok (.bipush 7, 2) := dk_16 7 (dk_at dksX6_aWord_3 19 rfl rfl)
theorem dX6_aWord_91 : decode cX6_aWord 91 = .ok (.isub, 1) := dk_100 (dk_at dksX6_aWord_3 21 rfl rfl)
theorem dX6_aWord_92 : decode cX6_aWord 92 = .ok (.iastore, 1) := dk_79 (dk_at dksX6_aWord_3 22 rfl rfl)
theorem dX6_aWord_93 : decode cX6_aWord 93 = .ok (.aload_n 0, 1) := dk_42 (dk_at dksX6_aWord_3 23 rfl rfl)
theorem dX6_aWord_94 : decode cX6_aWord 94 = .ok (.invokevirtual 167, 3) := dk_182 0 167 (dk_at dksX6_aWord_4 0 rfl rfl)
theorem dX6_aWord_97 : decode cX6_aWord 97 = .ok (.aload_n 0, 1) := dk_42 (dk_at dksX6_aWord_4 3 rfl rfl)
theorem dX6_aWord_98 : decode cX6_aWord 98 = .ok (.getfield 7, 3) := dk_180 0 7 (dk_at dksX6_aWord_4 4 rfl rfl)
theorem dX6_aWord_101 : decode cX6_aWord 101 = .ok (.sipush 2013, 3) := dk_17 7 221 (dk_at dksX6_aWord_4 7 rfl rfl)
theorem dX6_aWord_104 : decode cX6_aWord 104 = .ok (.dup2, 1) := dk_92 (dk_at dksX6_aWord_4 10 rfl rfl)
theorem dX6_aWord_105 : decode cX6_aWord 105 = .ok (.iaload, 1) := dk_46 (dk_at dksX6_aWord_4 11 rfl rfl)
theorem dX6_aWord_106 : decode cX6_aWord 106 = .ok (.iconst 1, 1) := dk_4 (dk_at dksX6_aWord_4 12 rfl rfl)
theorem dX6_aWord_107 : decode cX6_aWord 107 = .ok (.iadd, 1) := dk_96 (dk_at dksX6_aWord_4 13 rfl rfl)
theorem dX6_aWord_108 : decode cX6_aWord 108 = .ok (.iastore, 1) := dk_79 (dk_at dksX6_aWord_4 14 rfl rfl)
theorem dX6_aWord_109 : decode cX6_aWord 109 = .ok (.iconst 1, 1) := dk_4 (dk_at dksX6_aWord_4 15 rfl rfl)
theorem dX6_aWord_110 : decode cX6_aWord 110 = .ok (.ireturn, 1) := dk_172 (dk_at dksX6_aWord_4 16 rfl rfl)
abbrev cX6_wantSign : ByteArray := prog_16_method_29_code
def yX6_wantSign : MethodName := ⟨RX6, "wantSign", "(I)Z"⟩
def dkwX6_wantSign_0 : List UInt8 := [42, 27, 182, 0, 170, 154, 0, 9, 42, 5, 182, 0, 173, 172, 42, 182, 0, 167, 4, 172]
abbrev dktX6_wantSign_0 : List UInt8 := dkwX6_wantSign_0 ++ []
theorem dksX6_wantSign_0 : cX6_wantSign.data.toList.drop 0 = dktX6_wantSign_0 := by decide +kernel
theorem dX6_wantSign_0 : decode cX6_wantSign 0 = .ok (.aload_n 0, 1) := dk_42 (dk_at dksX6_wantSign_0 0 rfl rfl)
theorem dX6_wantSign_1 : decode cX6_wantSign 1 = .ok (.iload_n 1, 1) := dk_27 (dk_at dksX6_wantSign_0 1 rfl rfl)
theorem dX6_wantSign_2 : decode cX6_wantSign 2 = .ok (.invokevirtual 170, 3) := dk_182 0 170 (dk_at dksX6_wantSign_0 2 rfl rfl)
theorem dX6_wantSign_5 : decode cX6_wantSign 5 = .ok (.ifCond .ne 9, 3) := dk_154 0 9 (dk_at dksX6_wantSign_0 5 rfl rfl)
theorem dX6_wantSign_8 : decode cX6_wantSign 8 = .ok (.aload_n 0, 1) := dk_42 (dk_at dksX6_wantSign_0 8 rfl rfl)
theorem dX6_wantSign_9 : decode cX6_wantSign 9 = .ok (.iconst 2, 1) := dk_5 (dk_at dksX6_wantSign_0 9 rfl rfl)
theorem dX6_wantSign_10 : decode cX6_wantSign 10 = .ok (.invokevirtual 173, 3) := dk_182 0 173 (dk_at dksX6_wantSign_0 10 rfl rfl)
theorem dX6_wantSign_13 : decode cX6_wantSign 13 = .ok (.ireturn, 1) := dk_172 (dk_at dksX6_wantSign_0 13 rfl rfl)
theorem dX6_wantSign_14 : decode cX6_wantSign 14 = .ok (.aload_n 0, 1) := dk_42 (dk_at dksX6_wantSign_0 14 rfl rfl)
theorem dX6_wantSign_15 : decode cX6_wantSign 15 = .ok (.invokevirtual 167, 3) := dk_182 0 167 (dk_at dksX6_wantSign_0 15 rfl rfl)
theorem dX6_wantSign_18 : decode cX6_wantSign 18 = .ok (.iconst 1, 1) := dk_4 (dk_at dksX6_wantSign_0 18 rfl rfl)
theorem dX6_wantSign_19 : decode cX6_wantSign 19 = .ok (.ireturn, 1) := dk_172 (dk_at dksX6_wantSign_0 19 rfl rfl)
abbrev cX6_taken : ByteArray := prog_16_method_36_code
def yX6_taken : MethodName := ⟨RX6, "taken", "(I)I"⟩
def dkwX6_taken_1 : List UInt8 := [42, 27, 182, 0, 95, 172]
abbrev dktX6_taken_1 : List UInt8 := dkwX6_taken_1 ++ []
def dkwX6_taken_0 : List UInt8 := [42, 42, 180, 0, 161, 181, 0, 37, 42, 180, 0, 161, 158, 0, 12, 42, 16, 9, 182, 0, 91, 167, 0, 8]
abbrev dktX6_taken_0 : List UInt8 := dkwX6_taken_0 ++ dktX6_taken_1
theorem dksX6_taken_0 : cX6_taken.data.toList.drop 0 = dktX6_taken_0 := by decide +kernel
theorem dksX6_taken_1 : cX6_taken.data.toList.drop 24 = dktX6_taken_1 := dk_seg dksX6_taken_0 24 rfl rfl
theorem dX6_taken_0 : decode cX6_taken 0 = .ok (.aload_n 0, 1) := dk_42 (dk_at dksX6_taken_0 0 rfl rfl)
theorem dX6_taken_1 : decode cX6_taken 1 = .ok (.aload_n 0, 1) := dk_42 (dk_at dksX6_taken_0 1 rfl rfl)
theorem dX6_taken_2 : decode cX6_taken 2 = .ok (.getfield 161, 3) := dk_180 0 161 (dk_at dksX6_taken_0 2 rfl rfl)
theorem dX6_taken_5 : decode cX6_taken 5 = .ok (.putfield 37, 3) := dk_181 0 37 (dk_at dksX6_taken_0 5 rfl rfl)
theorem dX6_taken_8 : decode cX6_taken 8 = .ok (.aload_n 0, 1) := dk_42 (dk_at dksX6_taken_0 8 rfl rfl)
theorem dX6_taken_9 : decode cX6_taken 9 = .ok (.getfield 161, 3) := dk_180 0 161 (dk_at dksX6_taken_0 9 rfl rfl)
theorem dX6_taken_12 : decode cX6_taken 12 = .ok (.ifCond .le 12, 3) := dk_158 0 12 (dk_at dksX6_taken_0 12 rfl rfl)
theorem dX6_taken_15 : decode cX6_taken 15 = .ok (.aload_n 0, 1) := dk_42 (dk_at dksX6_taken_0 15 rfl rfl)
theorem dX6_taken_16 : decode cX6_taken 16 = .ok (.bipush 9, 2) := dk_16 9 (dk_at dksX6_taken_0 16 rfl rfl)
theorem dX6_taken_18 : decode cX6_taken 18 = .ok (.invokevirtual 91, 3) := dk_182 0 91 (dk_at dksX6_taken_0 18 rfl rfl)
theorem dX6_taken_21 : decode cX6_taken 21 = .ok (.goto 8, 3) := dk_167 0 8 (dk_at dksX6_taken_0 21 rfl rfl)
theorem dX6_taken_24 : decode cX6_taken 24 = .ok (.aload_n 0, 1) := dk_42 (dk_at dksX6_taken_1 0 rfl rfl)
theorem dX6_taken_25 : decode cX6_taken 25 = .ok (.iload_n 1, 1) := dk_27 (dk_at dksX6_taken_1 1 rfl rfl)
theorem dX6_taken_26 : decode cX6_taken 26 = .ok (.invokevirtual 95, 3) := dk_182 0 95 (dk_at dksX6_taken_1 2 rfl rfl)
theorem dX6_taken_29 : decode cX6_taken 29 = .ok (.ireturn, 1) := dk_172 (dk_at dksX6_taken_1 5 rfl rfl)
abbrev cX6_gives : ByteArray := prog_16_method_8_code
def yX6_gives : MethodName := ⟨RX6, "gives", "(I)I"⟩
def dkwX6_gives_0 : List UInt8 := [42, 3, 181, 0, 85, 27, 172]
abbrev dktX6_gives_0 : List UInt8 := dkwX6_gives_0 ++ []
theorem dksX6_gives_0 : cX6_gives.data.toList.drop 0 = dktX6_gives_0 := by decide +kernel
theorem dX6_gives_0 : decode cX6_gives 0 = .ok (.aload_n 0, 1) := dk_42 (dk_at dksX6_gives_0 0 rfl rfl)
theorem dX6_gives_1 : decode cX6_gives 1 = .ok (.iconst 0, 1) := dk_3 (dk_at dksX6_gives_0 1 rfl rfl)
theorem dX6_gives_2 : decode cX6_gives 2 = .ok (.putfield 85, 3) := dk_181 0 85 (dk_at dksX6_gives_0 2 rfl rfl)
theorem dX6_gives_5 : decode cX6_gives 5 = .ok (.iload_n 1, 1) := dk_27 (dk_at dksX6_gives_0 5 rfl rfl)
theorem dX6_gives_6 : decode cX6_gives 6 = .ok (.ireturn, 1) := dk_172 (dk_at dksX6_gives_0 6 rfl rfl)
abbrev cX6_weeks : ByteArray := prog_16_method_59_code
def yX6_weeks : MethodName := ⟨RX6, "weeks", "(I)I"⟩
def dkwX6_weeks_6 : List UInt8 := [182, 1, 1, 172]
abbrev dktX6_weeks_6 : List UInt8 := dkwX6_weeks_6 ++ []
def dkwX6_weeks_5 : List UInt8 := [42, 180, 0, 7, 17, 7, 216, 29, 96, 46, 79, 132, 3, 1, 167, 255, 230, 42, 42, 180, 1, 16]
abbrev dktX6_weeks_5 : List UInt8 := dkwX6_weeks_5 ++ dktX6_weeks_6
def dkwX6_weeks_4 : List UInt8 := [180, 0, 7, 17, 7, 224, 46, 79, 17, 0, 134, 62, 29, 17, 1, 238, 162, 0, 25, 42, 180, 0, 7, 29]
abbrev dktX6_weeks_4 : List UInt8 := dkwX6_weeks_4 ++ dktX6_weeks_5
def dkwX6_weeks_3 : List UInt8 := [158, 0, 9, 42, 5, 182, 0, 173, 87, 42, 180, 0, 161, 154, 0, 51, 42, 180, 0, 7, 16, 8, 42]
abbrev dktX6_weeks_3 : List UInt8 := dkwX6_weeks_3 ++ dktX6_weeks_4
def dkwX6_weeks_2 : List UInt8 := [153, 0, 11, 42, 182, 1, 22, 61, 167, 255, 240, 42, 180, 0, 161, 154, 0, 16, 42, 180, 1, 13]
abbrev dktX6_weeks_2 : List UInt8 := dkwX6_weeks_2 ++ dktX6_weeks_3
def dkwX6_weeks_1 : List UInt8 := [3, 79, 42, 3, 181, 1, 13, 42, 3, 181, 1, 16, 4, 61, 28, 153, 0, 18, 42, 180, 0, 136]
abbrev dktX6_weeks_1 : List UInt8 := dkwX6_weeks_1 ++ dktX6_weeks_2
def dkwX6_weeks_0 : List UInt8 := [42, 27, 17, 1, 44, 182, 0, 251, 154, 0, 9, 42, 4, 182, 0, 91, 172, 42, 180, 0, 7, 17, 7, 224]
abbrev dktX6_weeks_0 : List UInt8 := dkwX6_weeks_0 ++ dktX6_weeks_1
theorem dksX6_weeks_0 : cX6_weeks.data.toList.drop 0 = dktX6_weeks_0 := by decide +kernel
theorem dksX6_weeks_1 : cX6_weeks.data.toList.drop 24 = dktX6_weeks_1 := dk_seg dksX6_weeks_0 24 rfl rfl
theorem dksX6_weeks_2 : cX6_weeks.data.toList.drop 46 = dktX6_weeks_2 := dk_seg dksX6_weeks_1 22 rfl rfl
theorem dksX6_weeks_3 : cX6_weeks.data.toList.drop 68 = dktX6_weeks_3 := dk_seg dksX6_weeks_2 22 rfl rfl
theorem dksX6_weeks_4 : cX6_weeks.data.toList.drop 91 = dktX6_weeks_4 := dk_seg dksX6_weeks_3 23 rfl rfl
theorem dksX6_weeks_5 : cX6_weeks.data.toList.drop 115 = dktX6_weeks_5 := dk_seg dksX6_weeks_4 24 rfl rfl
theorem dksX6_weeks_6 : cX6_weeks.data.toList.drop 137 = dktX6_weeks_6 := dk_seg dksX6_weeks_5 22 rfl rfl
theorem dX6_weeks_0 : decode cX6_weeks 0 = .ok (.aload_n 0, 1) := dk_42 (dk_at dksX6_weeks_0 0 rfl rfl)
theorem dX6_weeks_1 : decode cX6_weeks 1 = .ok (.iload_n 1, 1) := dk_27 (dk_at dksX6_weeks_0 1 rfl rfl)
theorem dX6_weeks_2 : decode cX6_weeks 2 = .ok (.sipush 300, 3) := dk_17 1 44 (dk_at dksX6_weeks_0 2 rfl rfl)
theorem dX6_weeks_5 : decode cX6_weeks 5 = .ok (.invokevirtual 251, 3) := dk_182 0 251 (dk_at dksX6_weeks_0 5 rfl rfl)
theorem dX6_weeks_8 : decode cX6_weeks 8 = .ok (.ifCond .ne 9, 3) := dk_154 0 9 (dk_at dksX6_weeks_0 8 rfl rfl)
theorem dX6_weeks_11 : decode cX6_weeks 11 = .ok (.aload_n 0, 1) := dk_42 (dk_at dksX6_weeks_0 11 rfl rfl)
theorem dX6_weeks_12 : decode cX6_weeks 12 = .ok (.iconst 1, 1) := dk_4 (dk_at dksX6_weeks_0 12 rfl rfl)
theorem dX6_weeks_13 : decode cX6_weeks 13 = .ok (.invokevirtual 91, 3) := dk_182 0 91 (dk_at dksX6_weeks_0 13 rfl rfl)
theorem dX6_weeks_16 : decode cX6_weeks 16 = .ok (.ireturn, 1) := dk_172 (dk_at dksX6_weeks_0 16 rfl rfl)
theorem dX6_weeks_17 : decode cX6_weeks 17 = .ok (.aload_n 0, 1) := dk_42 (dk_at dksX6_weeks_0 17 rfl rfl)
theorem dX6_weeks_18 : decode cX6_weeks 18 = .ok (.getfield 7, 3) := dk_180 0 7 (dk_at dksX6_weeks_0 18 rfl rfl)
theorem dX6_weeks_21 : decode cX6_weeks 21 = .ok (.sipush 2016, 3) := dk_17 7 224 (dk_at dksX6_weeks_0 21 rfl rfl)
theorem dX6_weeks_24 : decode cX6_weeks 24 = .ok (.iconst 0, 1) := dk_3 (dk_at dksX6_weeks_1 0 rfl rfl)
theorem dX6_weeks_25 : decode cX6_weeks 25 = .ok (.iastore, 1) := dk_79 (dk_at dksX6_weeks_1 1 rfl rfl)
theorem dX6_weeks_26 : decode cX6_weeks 26 = .ok (.aload_n 0, 1) := dk_42 (dk_at dksX6_weeks_1 2 rfl rfl)
theorem dX6_weeks_27 : decode cX6_weeks 27 = .ok (.iconst 0, 1) := dk_3 (dk_at dksX6_weeks_1 3 rfl rfl)
theorem dX6_weeks_28 : decode cX6_weeks 28 = .ok (.putfield 269, 3) := dk_181 1 13 (dk_at dksX6_weeks_1 4 rfl rfl)
theorem dX6_weeks_31 : decode cX6_weeks 31 = .ok (.aload_n 0, 1) := dk_42 (dk_at dksX6_weeks_1 7 rfl rfl)
theorem dX6_weeks_32 : decode cX6_weeks 32 = .ok (.iconst 0, 1) := dk_3 (dk_at dksX6_weeks_1 8 rfl rfl)
theorem dX6_weeks_33 : decode cX6_weeks 33 = .ok (.putfield 272, 3) := dk_181 1 16 (dk_at dksX6_weeks_1 9 rfl rfl)
theorem dX6_weeks_36 : decode cX6_weeks 36 = .ok (.iconst 1, 1) := dk_4 (dk_at dksX6_weeks_1 12 rfl rfl)
theorem dX6_weeks_37 : decode cX6_weeks 37 = .ok (.istore_n 2, 1) := dk_61 (dk_at dksX6_weeks_1 13 rfl rfl)
theorem dX6_weeks_38 : decode cX6_weeks 38 = .ok (.iload_n 2, 1) := dk_28 (dk_at dksX6_weeks_1 14 rfl rfl)
theorem dX6_weeks_39 : decode cX6_weeks 39 = .ok (.ifCond .eq 18, 3) := dk_153 0 18 (dk_at dksX6_weeks_1 15 rfl rfl)
theorem dX6_weeks_42 : decode cX6_weeks 42 = .ok (.aload_n 0, 1) := dk_42 (dk_at dksX6_weeks_1 18 rfl rfl)
theorem dX6_weeks_43 : decode cX6_weeks 43 = .ok (.getfield 136, 3) := dk_180 0 136 (dk_at dksX6_weeks_1 19 rfl rfl)
theorem dX6_weeks_46 : decode cX6_weeks 46 = .ok (.ifCond .eq 11, 3) := dk_153 0 11 (dk_at dksX6_weeks_2 0 rfl rfl)
theorem dX6_weeks_49 : decode cX6_weeks 49 = .ok (.aload_n 0, 1) := dk_42 (dk_at dksX6_weeks_2 3 rfl rfl)
theorem dX6_weeks_50 : decode cX6_weeks 50 = .ok (.invokevirtual 278, 3) := dk_182 1 22 (dk_at dksX6_weeks_2 4 rfl rfl)
theorem dX6_weeks_53 : decode cX6_weeks 53 = .ok (.istore_n 2, 1) := dk_61 (dk_at dksX6_weeks_2 7 rfl rfl)
theorem dX6_weeks_54 : decode cX6_weeks 54 = .ok (.goto (-16), 3) := dk_167 255 240 (dk_at dksX6_weeks_2 8 rfl rfl)
theorem dX6_weeks_57 : decode cX6_weeks 57 = .ok (.aload_n 0, 1) := dk_42 (dk_at dksX6_weeks_2 11 rfl rfl)
theorem dX6_weeks_58 : decode cX6_weeks 58 = .ok (.getfield 161, 3) := dk_180 0 161 (dk_at dksX6_weeks_2 12 rfl rfl)
theorem dX6_weeks_61 : decode cX6_weeks 61 = .ok (.ifCond .ne 16, 3) := dk_154 0 16 (dk_at dksX6_weeks_2 15 rfl rfl)
theorem dX6_weeks_64 : decode cX6_weeks 64 = .ok (.aload_n 0, 1) := dk_42 (dk_at dksX6_weeks_2 18 rfl rfl)
theorem dX6_weeks_65 : decode cX6_weeks 65 = .ok (.getfield 269, 3) := dk_180 1 13 (dk_at dksX6_weeks_2 19 rfl rfl)
theorem dX6_weeks_68 : decode cX6_weeks 68 = .ok (.ifCond .le 9, 3) := dk_158 0 9 (dk_at dksX6_weeks_3 0 rfl rfl)
theorem dX6_weeks_71 : decode cX6_weeks 71 = .ok (.aload_n 0, 1) := dk_42 (dk_at dksX6_weeks_3 3 rfl rfl)
theorem dX6_weeks_72 : decode cX6_weeks 72 = .ok (.iconst 2, 1) := dk_5 (dk_at dksX6_weeks_3 4 rfl rfl)
theorem dX6_weeks_73 : decode cX6_weeks 73 = .ok (.invokevirtual 173, 3) := dk_182 0 173 (dk_at dksX6_weeks_3 5 rfl rfl)
theorem dX6_weeks_76 : decode cX6_weeks 76 = .ok (.pop, 1) := dk_87 (dk_at dksX6_weeks_3 8 rfl rfl)
theorem dX6_weeks_77 : decode cX6_weeks 77 = .ok (.aload_n 0, 1) := dk_42 (dk_at dksX6_weeks_3 9 rfl rfl)
theorem dX6_weeks_78 : decode cX6_weeks 78 = .ok (.getfield 161, 3) := dk_180 0 161 (dk_at dksX6_weeks_3 10 rfl rfl)
theorem dX6_weeks_81 : decode cX6_weeks 81 = .ok (.ifCond .ne 51, 3) := dk_154 0 51 (dk_at dksX6_weeks_3 13 rfl rfl)
theorem dX6_weeks_84 : decode cX6_weeks 84 = .ok (.aload_n 0, 1) := dk_42 (dk_at dksX6_weeks_3 16 rfl rfl)
theorem dX6_weeks_85 : decode cX6_weeks 85 = .ok (.getfield 7, 3) := dk_180 0 7 (dk_at dksX6_weeks_3 17 rfl rfl)
theorem dX6_weeks_88 : decode cX6_weeks 88 = .ok (.bipush 8, 2) := dk_16 8 (dk_at dksX6_weeks_3 20 rfl rfl)
theorem dX6_weeks_90 : decode cX6_weeks 90 = .ok (.aload_n 0, 1) := dk_42 (dk_at dksX6_weeks_3 22 rfl rfl)
theorem dX6_weeks_91 : decode cX6_weeks 91 = .ok (.getfield 7, 3) := dk_180 0 7 (dk_at dksX6_weeks_4 0 rfl rfl)
theorem dX6_weeks_94 : decode cX6_weeks 94 = .ok (.sipush 2016, 3) := dk_17 7 224 (dk_at dksX6_weeks_4 3 rfl rfl)
theorem dX6_weeks_97 : decode cX6_weeks 97 = .ok (.iaload, 1) := dk_46 (dk_at dksX6_weeks_4 6 rfl rfl)
theorem dX6_weeks_98 : decode cX6_weeks 98 = .ok (.iastore, 1) := dk_79 (dk_at dksX6_weeks_4 7 rfl rfl)
theorem dX6_weeks_99 : decode cX6_weeks 99 = .ok (.sipush 134, 3) := dk_17 0 134 (dk_at dksX6_weeks_4 8 rfl rfl)
theorem dX6_weeks_102 : decode cX6_weeks 102 = .ok (.istore_n 3, 1) := dk_62 (dk_at dksX6_weeks_4 11 rfl rfl)
theorem dX6_weeks_103 : decode cX6_weeks 103 = .ok (.iload_n 3, 1) := dk_29 (dk_at dksX6_weeks_4 12 rfl rfl)
theorem dX6_weeks_104 : decode cX6_weeks 104 = .ok (.sipush 494, 3) := dk_17 1 238 (dk_at dksX6_weeks_4 13 rfl rfl)
theorem dX6_weeks_107 : decode cX6_weeks 107 = .ok (.if_icmp .ge 25, 3) := dk_162 0 25 (dk_at dksX6_weeks_4 16 rfl rfl)
theorem dX6_weeks_110 : decode cX6_weeks 110 = .ok (.aload_n 0, 1) := dk_42 (dk_at dksX6_weeks_4 19 rfl rfl)
theorem dX6_weeks_111 : decode cX6_weeks 111 = .ok (.getfield 7, 3) := dk_180 0 7 (dk_at dksX6_weeks_4 20 rfl rfl)
theorem dX6_weeks_114 : decode cX6_weeks 114 = .ok (.iload_n 3, 1) := dk_29 (dk_at dksX6_weeks_4 23 rfl rfl)
theorem dX6_weeks_115 : decode cX6_weeks 115 = .ok (.aload_n 0, 1) := dk_42 (dk_at dksX6_weeks_5 0 rfl rfl)
theorem dX6_weeks_116 : decode cX6_weeks 116 = .ok (.getfield 7, 3) := dk_180 0 7 (dk_at dksX6_weeks_5 1 rfl rfl)
theorem dX6_weeks_119 : decode cX6_weeks 119 = .ok (.sipush 2008, 3) := dk_17 7 216 (dk_at dksX6_weeks_5 4 rfl rfl)
theorem dX6_weeks_122 : decode cX6_weeks 122 = .ok (.iload_n 3, 1) := dk_29 (dk_at dksX6_weeks_5 7 rfl rfl)
theorem dX6_weeks_123 : decode cX6_weeks 123 = .ok (.iadd, 1) := dk_96 (dk_at dksX6_weeks_5 8 rfl rfl)
theorem dX6_weeks_124 : decode cX6_weeks 124 = .ok (.iaload, 1) := dk_46 (dk_at dksX6_weeks_5 9 rfl rfl)
theorem dX6_weeks_125 : decode cX6_weeks 125 = .ok (.iastore, 1) := dk_79 (dk_at dksX6_weeks_5 10 rfl rfl)
theorem dX6_weeks_126 : decode cX6_weeks 126 = .ok (.iinc 3 1, 3) := dk_132 3 1 (dk_at dksX6_weeks_5 11 rfl rfl)
theorem dX6_weeks_129 : decode cX6_weeks 129 = .ok (.goto (-26), 3) := dk_167 255 230 (dk_at dksX6_weeks_5 14 rfl rfl)
theorem dX6_weeks_132 : decode cX6_weeks 132 = .ok (.aload_n 0, 1) := dk_42 (dk_at dksX6_weeks_5 17 rfl rfl)
theorem dX6_weeks_133 : decode cX6_weeks 133 = .ok (.aload_n 0, 1) := dk_42 (dk_at dksX6_weeks_5 18 rfl rfl)
theorem dX6_weeks_134 : decode cX6_weeks 134 = .ok (.getfield 272, 3) := dk_180 1 16 (dk_at dksX6_weeks_5 19 rfl rfl)
theorem dX6_weeks_137 : decode cX6_weeks 137 = .ok (.invokevirtual 257, 3) := dk_182 1 1 (dk_at dksX6_weeks_6 0 rfl rfl)
theorem dX6_weeks_140 : decode cX6_weeks 140 = .ok (.ireturn, 1) := dk_172 (dk_at dksX6_weeks_6 3 rfl rfl)
abbrev cX6_weekStep : ByteArray := prog_16_method_58_code
def yX6_weekStep : MethodName := ⟨RX6, "weekStep", "()Z"⟩
def dkwX6_weekStep_12 : List UInt8 := [182, 0, 248, 172]
abbrev dktX6_weekStep_12 : List UInt8 := dkwX6_weekStep_12 ++ []
def dkwX6_weekStep_11 : List UInt8 := [17, 8, 94, 16, 6, 42, 180, 0, 44, 42, 180, 1, 13, 46, 104, 96, 7, 96, 28, 79, 42, 16, 59]
abbrev dktX6_weekStep_11 : List UInt8 := dkwX6_weekStep_11 ++ dktX6_weekStep_12
def dkwX6_weekStep_10 : List UInt8 := [181, 1, 13, 42, 180, 0, 7, 29, 7, 96, 42, 180, 0, 44, 42, 180, 1, 13, 46, 79, 42, 180, 0, 7]
abbrev dktX6_weekStep_10 : List UInt8 := dkwX6_weekStep_10 ++ dktX6_weekStep_11
def dkwX6_weekStep_9 : List UInt8 := [42, 89, 180, 1, 13, 4, 96, 181, 1, 13, 27, 16, 24, 160, 0, 54, 42, 89, 180, 1, 13, 4, 100]
abbrev dktX6_weekStep_9 : List UInt8 := dkwX6_weekStep_9 ++ dktX6_weekStep_10
def dkwX6_weekStep_8 : List UInt8 := [29, 182, 1, 19, 154, 0, 5, 3, 172, 21, 4, 153, 0, 23, 42, 180, 0, 44, 42, 180, 1, 13, 28, 79]
abbrev dktX6_weekStep_8 : List UInt8 := dkwX6_weekStep_8 ++ dktX6_weekStep_9
def dkwX6_weekStep_7 : List UInt8 := [132, 5, 1, 167, 255, 236, 42, 180, 0, 7, 17, 7, 224, 92, 46, 4, 96, 79, 42, 182, 0, 167, 42, 27]
abbrev dktX6_weekStep_7 : List UInt8 := dkwX6_weekStep_7 ++ dktX6_weekStep_8
def dkwX6_weekStep_6 : List UInt8 := [29, 27, 79, 4, 54, 5, 21, 5, 16, 6, 162, 0, 19, 42, 180, 0, 7, 29, 21, 5, 96, 3, 79]
abbrev dktX6_weekStep_6 : List UInt8 := dkwX6_weekStep_6 ++ dktX6_weekStep_7
def dkwX6_weekStep_5 : List UInt8 := [42, 89, 180, 1, 16, 27, 16, 24, 160, 0, 7, 3, 167, 0, 4, 4, 96, 181, 1, 16, 42, 180, 0, 7]
abbrev dktX6_weekStep_5 : List UInt8 := dkwX6_weekStep_5 ++ dktX6_weekStep_6
def dkwX6_weekStep_4 : List UInt8 := [182, 0, 173, 172, 21, 4, 153, 0, 18, 42, 180, 1, 13, 6, 160, 0, 10, 42, 16, 7, 182, 0, 173, 172]
abbrev dktX6_weekStep_4 : List UInt8 := dkwX6_weekStep_4 ++ dktX6_weekStep_5
def dkwX6_weekStep_3 : List UInt8 := [182, 0, 173, 172, 27, 16, 24, 159, 0, 19, 42, 180, 1, 16, 16, 30, 160, 0, 10, 42, 16, 6]
abbrev dktX6_weekStep_3 : List UInt8 := dkwX6_weekStep_3 ++ dktX6_weekStep_4
def dkwX6_weekStep_2 : List UInt8 := [161, 0, 22, 27, 16, 25, 163, 0, 16, 27, 16, 24, 160, 0, 16, 42, 180, 1, 13, 154, 0, 9, 42, 5]
abbrev dktX6_weekStep_2 : List UInt8 := dkwX6_weekStep_2 ++ dktX6_weekStep_3
def dkwX6_weekStep_1 : List UInt8 := [62, 27, 16, 22, 159, 0, 9, 27, 16, 23, 160, 0, 7, 4, 167, 0, 4, 3, 54, 4, 27, 16, 15]
abbrev dktX6_weekStep_1 : List UInt8 := dkwX6_weekStep_1 ++ dktX6_weekStep_2
def dkwX6_weekStep_0 : List UInt8 := [42, 18, 184, 182, 0, 176, 60, 42, 180, 0, 7, 17, 7, 224, 46, 61, 17, 8, 94, 16, 6, 28, 104, 96]
abbrev dktX6_weekStep_0 : List UInt8 := dkwX6_weekStep_0 ++ dktX6_weekStep_1
theorem dksX6_weekStep_0 : cX6_weekStep.data.toList.drop 0 = dktX6_weekStep_0 := by decide +kernel
theorem dksX6_weekStep_1 : cX6_weekStep.data.toList.drop 24 = dktX6_weekStep_1 := dk_seg dksX6_weekStep_0 24 rfl rfl
theorem dksX6_weekStep_2 : cX6_weekStep.data.toList.drop 47 = dktX6_weekStep_2 := dk_seg dksX6_weekStep_1 23 rfl rfl
theorem dksX6_weekStep_3 : cX6_weekStep.data.toList.drop 71 = dktX6_weekStep_3 := dk_seg dksX6_weekStep_2 24 rfl rfl
theorem dksX6_weekStep_4 : cX6_weekStep.data.toList.drop 93 = dktX6_weekStep_4 := dk_seg dksX6_weekStep_3 22 rfl rfl
theorem dksX6_weekStep_5 : cX6_weekStep.data.toList.drop 117 = dktX6_weekStep_5 := dk_seg dksX6_weekStep_4 24 rfl rfl
theorem dksX6_weekStep_6 : cX6_weekStep.data.toList.drop 141 = dktX6_weekStep_6 := dk_seg dksX6_weekStep_5 24 rfl rfl
theorem dksX6_weekStep_7 : cX6_weekStep.data.toList.drop 164 = dktX6_weekStep_7 := dk_seg dksX6_weekStep_6 23 rfl rfl
theorem dksX6_weekStep_8 : cX6_weekStep.data.toList.drop 188 = dktX6_weekStep_8 := dk_seg dksX6_weekStep_7 24 rfl rfl
theorem dksX6_weekStep_9 : cX6_weekStep.data.toList.drop 212 = dktX6_weekStep_9 := dk_seg dksX6_weekStep_8 24 rfl rfl
theorem dksX6_weekStep_10 : cX6_weekStep.data.toList.drop 235 = dktX6_weekStep_10 := dk_seg dksX6_weekStep_9 23 rfl rfl
theorem dksX6_weekStep_11 : cX6_weekStep.data.toList.drop 259 = dktX6_weekStep_11 := dk_seg dksX6_weekStep_10 24 rfl rfl
theorem dksX6_weekStep_12 : cX6_weekStep.data.toList.drop 282 = dktX6_weekStep_12 := dk_seg dksX6_weekStep_11 23 rfl rfl
theorem dX6_weekStep_0 : decode cX6_weekStep 0 = .ok (.aload_n 0, 1) := dk_42 (dk_at dksX6_weekStep_0 0 rfl rfl)
theorem dX6_weekStep_1 : decode cX6_weekStep 1 = .ok (.ldc 184, 2) := dk_18 184 (dk_at dksX6_weekStep_0 1 rfl rfl)
theorem dX6_weekStep_3 : decode cX6_weekStep 3 = .ok (.invokevirtual 176, 3) := dk_182 0 176 (dk_at dksX6_weekStep_0 3 rfl rfl)
theorem dX6_weekStep_6 : decode cX6_weekStep 6 = .ok (.istore_n 1, 1) := dk_60 (dk_at dksX6_weekStep_0 6 rfl rfl)
theorem dX6_weekStep_7 : decode cX6_weekStep 7 = .ok (.aload_n 0, 1) := dk_42 (dk_at dksX6_weekStep_0 7 rfl rfl)
theorem dX6_weekStep_8 : decode cX6_weekStep 8 = .ok (.getfield 7, 3) := dk_180 0 7 (dk_at dksX6_weekStep_0 8 rfl rfl)
theorem dX6_weekStep_11 : decode cX6_weekStep 11 = .ok (.sipush 2016, 3) := dk_17 7 224 (dk_at dksX6_weekStep_0 11 rfl rfl)
theorem dX6_weekStep_14 : decode cX6_weekStep 14 = .ok (.iaload, 1) := dk_46 (dk_at dksX6_weekStep_0 14 rfl rfl)
theorem dX6_weekStep_15 : decode cX6_weekStep 15 = .ok (.istore_n 2, 1) := dk_61 (dk_at dksX6_weekStep_0 15 rfl rfl)
theorem dX6_weekStep_16 : decode cX6_weekStep 16 = .ok (.sipush 2142, 3) := dk_17 8 94 (dk_at dksX6_weekStep_0 16 rfl rfl)
theorem dX6_weekStep_19 : decode cX6_weekStep 19 = .ok (.bipush 6, 2) := dk_16 6 (dk_at dksX6_weekStep_0 19 rfl rfl)
theorem dX6_weekStep_21 : decode cX6_weekStep 21 = .ok (.iload_n 2, 1) := dk_28 (dk_at dksX6_weekStep_0 21 rfl rfl)
theorem dX6_weekStep_22 : decode cX6_weekStep 22 = .ok (.imul, 1) := dk_104 (dk_at dksX6_weekStep_0 22 rfl rfl)
theorem dX6_weekStep_23 : decode cX6_weekStep 23 = .ok (.iadd, 1) := dk_96 (dk_at dksX6_weekStep_0 23 rfl rfl)
theorem dX6_weekStep_24 : decode cX6_weekStep 24 = .ok (.istore_n 3, 1) := dk_62 (dk_at dksX6_weekStep_1 0 rfl rfl)
theorem dX6_weekStep_25 : decode cX6_weekStep 25 = .ok (.iload_n 1, 1) := dk_27 (dk_at dksX6_weekStep_1 1 rfl rfl)
theorem dX6_weekStep_26 : decode cX6_weekStep 26 = .ok (.bipush 22, 2) := dk_16 22 (dk_at dksX6_weekStep_1 2 rfl rfl)
theorem dX6_weekStep_28 : decode cX6_weekStep 28 = .ok (.if_icmp .eq 9, 3) := dk_159 0 9 (dk_at dksX6_weekStep_1 4 rfl rfl)
theorem dX6_weekStep_31 : decode cX6_weekStep 31 = .ok (.iload_n 1, 1) := dk_27 (dk_at dksX6_weekStep_1 7 rfl rfl)
theorem dX6_weekStep_32 : decode cX6_weekStep 32 = .ok (.bipush 23, 2) := dk_16 23 (dk_at dksX6_weekStep_1 8 rfl rfl)
theorem dX6_weekStep_34 : decode cX6_weekStep 34 = .ok (.if_icmp .ne 7, 3) := dk_160 0 7 (dk_at dksX6_weekStep_1 10 rfl rfl)
theorem dX6_weekStep_37 : decode cX6_weekStep 37 = .ok (.iconst 1, 1) := dk_4 (dk_at dksX6_weekStep_1 13 rfl rfl)
theorem dX6_weekStep_38 : decode cX6_weekStep 38 = .ok (.goto 4, 3) := dk_167 0 4 (dk_at dksX6_weekStep_1 14 rfl rfl)
theorem dX6_weekStep_41 : decode cX6_weekStep 41 = .ok (.iconst 0, 1) := dk_3 (dk_at dksX6_weekStep_1 17 rfl rfl)
theorem dX6_weekStep_42 : decode cX6_weekStep 42 = .ok (.istore 4, 2) := dk_54 4 (dk_at dksX6_weekStep_1 18 rfl rfl)
theorem dX6_weekStep_44 : decode cX6_weekStep 44 = .ok (.iload_n 1, 1) := dk_27 (dk_at dksX6_weekStep_1 20 rfl rfl)
theorem dX6_weekStep_45 : decode cX6_weekStep 45 = .ok (.bipush 15, 2) := dk_16 15 (dk_at dksX6_weekStep_1 21 rfl rfl)
theorem dX6_weekStep_47 : decode cX6_weekStep 47 = .ok (.if_icmp .lt 22, 3) := dk_161 0 22 (dk_at dksX6_weekStep_2 0 rfl rfl)
theorem dX6_weekStep_50 : decode cX6_weekStep 50 = .ok (.iload_n 1, 1) := dk_27 (dk_at dksX6_weekStep_2 3 rfl rfl)
theorem dX6_weekStep_51 : decode cX6_weekStep 51 = .ok (.bipush 25, 2) := dk_16 25 (dk_at dksX6_weekStep_2 4 rfl rfl)
theorem dX6_weekStep_53 : decode cX6_weekStep 53 = .ok (.if_icmp .gt 16, 3) := dk_163 0 16 (dk_at dksX6_weekStep_2 6 rfl rfl)
theorem dX6_weekStep_56 : decode cX6_weekStep 56 = .ok (.iload_n 1, 1) := dk_27 (dk_at dksX6_weekStep_2 9 rfl rfl)
theorem dX6_weekStep_57 : decode cX6_weekStep 57 = .ok (.bipush 24, 2) := dk_16 24 (dk_at dksX6_weekStep_2 10 rfl rfl)
theorem dX6_weekStep_59 : decode cX6_weekStep 59 = .ok (.if_icmp .ne 16, 3) := dk_160 0 16 (dk_at dksX6_weekStep_2 12 rfl rfl)
theorem dX6_weekStep_62 : decode cX6_weekStep 62 = .ok (.aload_n 0, 1) := dk_42 (dk_at dksX6_weekStep_2 15 rfl rfl)
theorem dX6_weekStep_63 : decode cX6_weekStep 63 = .ok (.getfield 269, 3) := dk_180 1 13 (dk_at dksX6_weekStep_2 16 rfl rfl)
theorem dX6_weekStep_66 : decode cX6_weekStep 66 = .ok (.ifCond .ne 9, 3) := dk_154 0 9 (dk_at dksX6_weekStep_2 19 rfl rfl)
theorem dX6_weekStep_69 : decode cX6_weekStep 69 = .ok (.aload_n 0, 1) := dk_42 (dk_at dksX6_weekStep_2 22 rfl rfl)
theorem dX6_weekStep_70 : decode cX6_weekStep 70 = .ok (.iconst 2, 1) := dk_5 (dk_at dksX6_weekStep_2 23 rfl rfl)
theorem dX6_weekStep_71 : decode cX6_weekStep 71 = .ok (.invokevirtual 173, 3) := dk_182 0 173 (dk_at dksX6_weekStep_3 0 rfl rfl)
theorem dX6_weekStep_74 : decode cX6_weekStep 74 = .ok (.ireturn, 1) := dk_172 (dk_at dksX6_weekStep_3 3 rfl rfl)
theorem dX6_weekStep_75 : decode cX6_weekStep 75 = .ok (.iload_n 1, 1) := dk_27 (dk_at dksX6_weekStep_3 4 rfl rfl)
theorem dX6_weekStep_76 : decode cX6_weekStep 76 = .ok (.bipush 24, 2) := dk_16 24 (dk_at dksX6_weekStep_3 5 rfl rfl)
theorem dX6_weekStep_78 : decode cX6_weekStep 78 = .ok (.if_icmp .eq 19, 3) := dk_159 0 19 (dk_at dksX6_weekStep_3 7 rfl rfl)
theorem dX6_weekStep_81 : decode cX6_weekStep 81 = .ok (.aload_n 0, 1) := dk_42 (dk_at dksX6_weekStep_3 10 rfl rfl)
theorem dX6_weekStep_82 : decode cX6_weekStep 82 = .ok (.getfield 272, 3) := dk_180 1 16 (dk_at dksX6_weekStep_3 11 rfl rfl)
theorem dX6_weekStep_85 : decode cX6_weekStep 85 = .ok (.bipush 30, 2) := dk_16 30 (dk_at dksX6_weekStep_3 14 rfl rfl)
theorem dX6_weekStep_87 : decode cX6_weekStep 87 = .ok (.if_icmp .ne 10, 3) := dk_160 0 10 (dk_at dksX6_weekStep_3 16 rfl rfl)
theorem dX6_weekStep_90 : decode cX6_weekStep 90 = .ok (.aload_n 0, 1) := dk_42 (dk_at dksX6_weekStep_3 19 rfl rfl)
theorem dX6_weekStep_91 : decode cX6_weekStep 91 = .ok (.bipush 6, 2) := dk_16 6 (dk_at dksX6_weekStep_3 20 rfl rfl)
theorem dX6_weekStep_93 : decode cX6_weekStep 93 = .ok (.invokevirtual 173, 3) := dk_182 0 173 (dk_at dksX6_weekStep_4 0 rfl rfl)
theorem dX6_weekStep_96 : decode cX6_weekStep 96 = .ok (.ireturn, 1) := dk_172 (dk_at dksX6_weekStep_4 3 rfl rfl)
theorem dX6_weekStep_97 : decode cX6_weekStep 97 = .ok (.iload 4, 2) := dk_21 4 (dk_at dksX6_weekStep_4 4 rfl rfl)
theorem dX6_weekStep_99 : decode cX6_weekStep 99 = .ok (.ifCond .eq 18, 3) := dk_153 0 18 (dk_at dksX6_weekStep_4 6 rfl rfl)
theorem dX6_weekStep_102 : decode cX6_weekStep 102 = .ok (.aload_n 0, 1) := dk_42 (dk_at dksX6_weekStep_4 9 rfl rfl)
theorem dX6_weekStep_103 : decode cX6_weekStep 103 = .ok (.getfield 269, 3) := dk_180 1 13 (dk_at dksX6_weekStep_4 10 rfl rfl)
theorem dX6_weekStep_106 : decode cX6_weekStep 106 = .ok (.iconst 3, 1) := dk_6 (dk_at dksX6_weekStep_4 13 rfl rfl)
theorem dX6_weekStep_107 : decode cX6_weekStep 107 = .ok (.if_icmp .ne 10, 3) := dk_160 0 10 (dk_at dksX6_weekStep_4 14 rfl rfl)
theorem dX6_weekStep_110 : decode cX6_weekStep 110 = .ok (.aload_n 0, 1) := dk_42 (dk_at dksX6_weekStep_4 17 rfl rfl)
theorem dX6_weekStep_111 : decode cX6_weekStep 111 = .ok (.bipush 7, 2) := dk_16 7 (dk_at dksX6_weekStep_4 18 rfl rfl)
theorem dX6_weekStep_113 : decode cX6_weekStep 113 = .ok (.invokevirtual 173, 3) := dk_182 0 173 (dk_at dksX6_weekStep_4 20 rfl rfl)
theorem dX6_weekStep_116 : decode cX6_weekStep 116 = .ok (.ireturn, 1) := dk_172 (dk_at dksX6_weekStep_4 23 rfl rfl)
theorem dX6_weekStep_117 : decode cX6_weekStep 117 = .ok (.aload_n 0, 1) := dk_42 (dk_at dksX6_weekStep_5 0 rfl rfl)
theorem dX6_weekStep_118 : decode cX6_weekStep 118 = .ok (.dup, 1) := dk_89 (dk_at dksX6_weekStep_5 1 rfl rfl)
theorem dX6_weekStep_119 : decode cX6_weekStep 119 = .ok (.getfield 272, 3) := dk_180 1 16 (dk_at dksX6_weekStep_5 2 rfl rfl)
theorem dX6_weekStep_122 : decode cX6_weekStep 122 = .ok (.iload_n 1, 1) := dk_27 (dk_at dksX6_weekStep_5 5 rfl rfl)
theorem dX6_weekStep_123 : decode cX6_weekStep 123 = .ok (.bipush 24, 2) := dk_16 24 (dk_at dksX6_weekStep_5 6 rfl rfl)
theorem dX6_weekStep_125 : decode cX6_weekStep 125 = .ok (.if_icmp .ne 7, 3) := dk_160 0 7 (dk_at dksX6_weekStep_5 8 rfl rfl)
theorem dX6_weekStep_128 : decode cX6_weekStep 128 = .ok (.iconst 0, 1) := dk_3 (dk_at dksX6_weekStep_5 11 rfl rfl)
theorem dX6_weekStep_129 : decode cX6_weekStep 129 = .ok (.goto 4, 3) := dk_167 0 4 (dk_at dksX6_weekStep_5 12 rfl rfl)
theorem dX6_weekStep_132 : decode cX6_weekStep 132 = .ok (.iconst 1, 1) := dk_4 (dk_at dksX6_weekStep_5 15 rfl rfl)
theorem dX6_weekStep_133 : decode cX6_weekStep 133 = .ok (.iadd, 1) := dk_96 (dk_at dksX6_weekStep_5 16 rfl rfl)
theorem dX6_weekStep_134 : decode cX6_weekStep 134 = .ok (.putfield 272, 3) := dk_181 1 16 (dk_at dksX6_weekStep_5 17 rfl rfl)
theorem dX6_weekStep_137 : decode cX6_weekStep 137 = .ok (.aload_n 0, 1) := dk_42 (dk_at dksX6_weekStep_5 20 rfl rfl)
theorem dX6_weekStep_138 : decode cX6_weekStep 138 = .ok (.getfield 7, 3) := dk_180 0 7 (dk_at dksX6_weekStep_5 21 rfl rfl)
theorem dX6_weekStep_141 : decode cX6_weekStep 141 = .ok (.iload_n 3, 1) := dk_29 (dk_at dksX6_weekStep_6 0 rfl rfl)
theorem dX6_weekStep_142 : decode cX6_weekStep 142 = .ok (.iload_n 1, 1) := dk_27 (dk_at dksX6_weekStep_6 1 rfl rfl)
theorem dX6_weekStep_143 : decode cX6_weekStep 143 = .ok (.iastore, 1) := dk_79 (dk_at dksX6_weekStep_6 2 rfl rfl)
theorem dX6_weekStep_144 : decode cX6_weekStep 144 = .ok (.iconst 1, 1) := dk_4 (dk_at dksX6_weekStep_6 3 rfl rfl)
theorem dX6_weekStep_145 : decode cX6_weekStep 145 = .ok (.istore 5, 2) := dk_54 5 (dk_at dksX6_weekStep_6 4 rfl rfl)
theorem dX6_weekStep_147 : decode cX6_weekStep 147 = .ok (.iload 5, 2) := dk_21 5 (dk_at dksX6_weekStep_6 6 rfl rfl)
theorem dX6_weekStep_149 : decode cX6_weekStep 149 = .ok (.bipush 6, 2) := dk_16 6 (dk_at dksX6_weekStep_6 8 rfl rfl)
theorem dX6_weekStep_151 : decode cX6_weekStep 151 = .ok (.if_icmp .ge 19, 3) := dk_162 0 19 (dk_at dksX6_weekStep_6 10 rfl rfl)
theorem dX6_weekStep_154 : decode cX6_weekStep 154 = .ok (.aload_n 0, 1) := dk_42 (dk_at dksX6_weekStep_6 13 rfl rfl)
theorem dX6_weekStep_155 : decode cX6_weekStep 155 = .ok (.getfield 7, 3) := dk_180 0 7 (dk_at dksX6_weekStep_6 14 rfl rfl)
theorem dX6_weekStep_158 : decode cX6_weekStep 158 = .ok (.iload_n 3, 1) := dk_29 (dk_at dksX6_weekStep_6 17 rfl rfl)
theorem dX6_weekStep_159 : decode cX6_weekStep 159 = .ok (.iload 5, 2) := dk_21 5 (dk_at dksX6_weekStep_6 18 rfl rfl)
theorem dX6_weekStep_161 : decode cX6_weekStep 161 = .ok (.iadd, 1) := dk_96 (dk_at dksX6_weekStep_6 20 rfl rfl)
theorem dX6_weekStep_162 : decode cX6_weekStep 162 = .ok (.iconst 0, 1) := dk_3 (dk_at dksX6_weekStep_6 21 rfl rfl)
theorem dX6_weekStep_163 : decode cX6_weekStep 163 = .ok (.iastore, 1) := dk_79 (dk_at dksX6_weekStep_6 22 rfl rfl)
theorem dX6_weekStep_164 : decode cX6_weekStep 164 = .ok (.iinc 5 1, 3) := dk_132 5 1 (dk_at dksX6_weekStep_7 0 rfl rfl)
theorem dX6_weekStep_167 : decode cX6_weekStep 167 = .ok (.goto (-20), 3) := dk_167 255 236 (dk_at dksX6_weekStep_7 3 rfl rfl)
theorem dX6_weekStep_170 : decode cX6_weekStep 170 = .ok (.aload_n 0, 1) := dk_42 (dk_at dksX6_weekStep_7 6 rfl rfl)
theorem dX6_weekStep_171 : decode cX6_weekStep 171 = .ok (.getfield 7, 3) := dk_180 0 7 (dk_at dksX6_weekStep_7 7 rfl rfl)
theorem dX6_weekStep_174 : decode cX6_weekStep 174 = .ok (.sipush 2016, 3) := dk_17 7 224 (dk_at dksX6_weekStep_7 10 rfl rfl)
theorem dX6_weekStep_177 : decode cX6_weekStep 177 = .ok (.dup2, 1) := dk_92 (dk_at dksX6_weekStep_7 13 rfl rfl)
theorem dX6_weekStep_178 : decode cX6_weekStep 178 = .ok (.iaload, 1) := dk_46 (dk_at dksX6_weekStep_7 14 rfl rfl)
theorem dX6_weekStep_179 : decode cX6_weekStep 179 = .ok (.iconst 1, 1) := dk_4 (dk_at dksX6_weekStep_7 15 rfl rfl)
theorem dX6_weekStep_180 : decode cX6_weekStep 180 = .ok (.iadd, 1) := dk_96 (dk_at dksX6_weekStep_7 16 rfl rfl)
theorem dX6_weekStep_181 : decode cX6_weekStep 181 = .ok (.iastore, 1) := dk_79 (dk_at dksX6_weekStep_7 17 rfl rfl)
theorem dX6_weekStep_182 : decode cX6_weekStep 182 = .ok (.aload_n 0, 1) := dk_42 (dk_at dksX6_weekStep_7 18 rfl rfl)
theorem dX6_weekStep_183 : decode cX6_weekStep 183 = .ok (.invokevirtual 167, 3) := dk_182 0 167 (dk_at dksX6_weekStep_7 19 rfl rfl)
theorem dX6_weekStep_186 : decode cX6_weekStep 186 = .ok (.aload_n 0, 1) := dk_42 (dk_at dksX6_weekStep_7 22 rfl rfl)
theorem dX6_weekStep_187 : decode cX6_weekStep 187 = .ok (.iload_n 1, 1) := dk_27 (dk_at dksX6_weekStep_7 23 rfl rfl)
theorem dX6_weekStep_188 : decode cX6_weekStep 188 = .ok (.iload_n 3, 1) := dk_29 (dk_at dksX6_weekStep_8 0 rfl rfl)
theorem dX6_weekStep_189 : decode cX6_weekStep 189 = .ok (.invokevirtual 275, 3) := dk_182 1 19 (dk_at dksX6_weekStep_8 1 rfl rfl)
theorem dX6_weekStep_192 : decode cX6_weekStep 192 = .ok (.ifCond .ne 5, 3) := dk_154 0 5 (dk_at dksX6_weekStep_8 4 rfl rfl)
theorem dX6_weekStep_195 : decode cX6_weekStep 195 = .ok (.iconst 0, 1) := dk_3 (dk_at dksX6_weekStep_8 7 rfl rfl)
theorem dX6_weekStep_196 : decode cX6_weekStep 196 = .ok (.ireturn, 1) := dk_172 (dk_at dksX6_weekStep_8 8 rfl rfl)
theorem dX6_weekStep_197 : decode cX6_weekStep 197 = .ok (.iload 4, 2) := dk_21 4 (dk_at dksX6_weekStep_8 9 rfl rfl)
theorem dX6_weekStep_199 : decode cX6_weekStep 199 = .ok (.ifCond .eq 23, 3) := dk_153 0 23 (dk_at dksX6_weekStep_8 11 rfl rfl)
theorem dX6_weekStep_202 : decode cX6_weekStep 202 = .ok (.aload_n 0, 1) := dk_42 (dk_at dksX6_weekStep_8 14 rfl rfl)
theorem dX6_weekStep_203 : decode cX6_weekStep 203 = .ok (.getfield 44, 3) := dk_180 0 44 (dk_at dksX6_weekStep_8 15 rfl rfl)
theorem dX6_weekStep_206 : decode cX6_weekStep 206 = .ok (.aload_n 0, 1) := dk_42 (dk_at dksX6_weekStep_8 18 rfl rfl)
theorem dX6_weekStep_207 : decode cX6_weekStep 207 = .ok (.getfield 269, 3) := dk_180 1 13 (dk_at dksX6_weekStep_8 19 rfl rfl)
theorem dX6_weekStep_210 : decode cX6_weekStep 210 = .ok (.iload_n 2, 1) := dk_28 (dk_at dksX6_weekStep_8 22 rfl rfl)
theorem dX6_weekStep_211 : decode cX6_weekStep 211 = .ok (.iastore, 1) := dk_79 (dk_at dksX6_weekStep_8 23 rfl rfl)
theorem dX6_weekStep_212 : decode cX6_weekStep 212 = .ok (.aload_n 0, 1) := dk_42 (dk_at dksX6_weekStep_9 0 rfl rfl)
theorem dX6_weekStep_213 : decode cX6_weekStep 213 = .ok (.dup, 1) := dk_89 (dk_at dksX6_weekStep_9 1 rfl rfl)
theorem dX6_weekStep_214 : decode cX6_weekStep 214 = .ok (.getfield 269, 3) := dk_180 1 13 (dk_at dksX6_weekStep_9 2 rfl rfl)
theorem dX6_weekStep_217 : decode cX6_weekStep 217 = .ok (.iconst 1, 1) := dk_4 (dk_at dksX6_weekStep_9 5 rfl rfl)
theorem dX6_weekStep_218 : decode cX6_weekStep 218 = .ok (.iadd, 1) := dk_96 (dk_at dksX6_weekStep_9 6 rfl rfl)
theorem dX6_weekStep_219 : decode cX6_weekStep 219 = .ok (.putfield 269, 3) := dk_181 1 13 (dk_at dksX6_weekStep_9 7 rfl rfl)
theorem dX6_weekStep_222 : decode cX6_weekStep 222 = .ok (.iload_n 1, 1) := dk_27 (dk_at dksX6_weekStep_9 10 rfl rfl)
theorem dX6_weekStep_223 : decode cX6_weekStep 223 = .ok (.bipush 24, 2) := dk_16 24 (dk_at dksX6_weekStep_9 11 rfl rfl)
theorem dX6_weekStep_225 : decode cX6_weekStep 225 = .ok (.if_icmp .ne 54, 3) := dk_160 0 54 (dk_at dksX6_weekStep_9 13 rfl rfl)
theorem dX6_weekStep_228 : decode cX6_weekStep 228 = .ok (.aload_n 0, 1) := dk_42 (dk_at dksX6_weekStep_9 16 rfl rfl)
theorem dX6_weekStep_229 : decode cX6_weekStep 229 = .ok (.dup, 1) := dk_89 (dk_at dksX6_weekStep_9 17 rfl rfl)
theorem dX6_weekStep_230 : decode cX6_weekStep 230 = .ok (.getfield 269, 3) := dk_180 1 13 (dk_at dksX6_weekStep_9 18 rfl rfl)
theorem dX6_weekStep_233 : decode cX6_weekStep 233 = .ok (.iconst 1, 1) := dk_4 (dk_at dksX6_weekStep_9 21 rfl rfl)
theorem dX6_weekStep_234 : decode cX6_weekStep 234 = .ok (.isub, 1) := dk_100 (dk_at dksX6_weekStep_9 22 rfl rfl)
theorem dX6_weekStep_235 : decode cX6_weekStep 235 = .ok (.putfield 269, 3) := dk_181 1 13 (dk_at dksX6_weekStep_10 0 rfl rfl)
theorem dX6_weekStep_238 : decode cX6_weekStep 238 = .ok (.aload_n 0, 1) := dk_42 (dk_at dksX6_weekStep_10 3 rfl rfl)
theorem dX6_weekStep_239 : decode cX6_weekStep 239 = .ok (.getfield 7, 3) := dk_180 0 7 (dk_at dksX6_weekStep_10 4 rfl rfl)
theorem dX6_weekStep_242 : decode cX6_weekStep 242 = .ok (.iload_n 3, 1) := dk_29 (dk_at dksX6_weekStep_10 7 rfl rfl)
theorem dX6_weekStep_243 : decode cX6_weekStep 243 = .ok (.iconst 4, 1) := dk_7 (dk_at dksX6_weekStep_10 8 rfl rfl)
theorem dX6_weekStep_244 : decode cX6_weekStep 244 = .ok (.iadd, 1) := dk_96 (dk_at dksX6_weekStep_10 9 rfl rfl)
theorem dX6_weekStep_245 : decode cX6_weekStep 245 = .ok (.aload_n 0, 1) := dk_42 (dk_at dksX6_weekStep_10 10 rfl rfl)
theorem dX6_weekStep_246 : decode cX6_weekStep 246 = .ok (.getfield 44, 3) := dk_180 0 44 (dk_at dksX6_weekStep_10 11 rfl rfl)
theorem dX6_weekStep_249 : decode cX6_weekStep 249 = .ok (.aload_n 0, 1) := dk_42 (dk_at dksX6_weekStep_10 14 rfl rfl)
theorem dX6_weekStep_250 : decode cX6_weekStep 250 = .ok (.getfield 269, 3) := dk_180 1 13 (dk_at dksX6_weekStep_10 15 rfl rfl)
theorem dX6_weekStep_253 : decode cX6_weekStep 253 = .ok (.iaload, 1) := dk_46 (dk_at dksX6_weekStep_10 18 rfl rfl)
theorem dX6_weekStep_254 : decode cX6_weekStep 254 = .ok (.iastore, 1) := dk_79 (dk_at dksX6_weekStep_10 19 rfl rfl)
theorem dX6_weekStep_255 : decode cX6_weekStep 255 = .ok (.aload_n 0, 1) := dk_42 (dk_at dksX6_weekStep_10 20 rfl rfl)
theorem dX6_weekStep_256 : decode cX6_weekStep 256 = .ok (.getfield 7, 3) := dk_180 0 7 (dk_at dksX6_weekStep_10 21 rfl rfl)
theorem dX6_weekStep_259 : decode cX6_weekStep 259 = .ok (.sipush 2142, 3) := dk_17 8 94 (dk_at dksX6_weekStep_11 0 rfl rfl)
theorem dX6_weekStep_262 : decode cX6_weekStep 262 = .ok (.bipush 6, 2) := dk_16 6 (dk_at dksX6_weekStep_11 3 rfl rfl)
theorem dX6_weekStep_264 : decode cX6_weekStep 264 = .ok (.aload_n 0, 1) := dk_42 (dk_at dksX6_weekStep_11 5 rfl rfl)
theorem dX6_weekStep_265 : decode cX6_weekStep 265 = .ok (.getfield 44, 3) := dk_180 0 44 (dk_at dksX6_weekStep_11 6 rfl rfl)
theorem dX6_weekStep_268 : decode cX6_weekStep 268 = .ok (.aload_n 0, 1) := dk_42 (dk_at dksX6_weekStep_11 9 rfl rfl)
theorem dX6_weekStep_269 : decode cX6_weekStep 269 = .ok (.getfield 269, 3) := dk_180 1 13 (dk_at dksX6_weekStep_11 10 rfl rfl)
theorem dX6_weekStep_272 : decode cX6_weekStep 272 = .ok (.iaload, 1) := dk_46 (dk_at dksX6_weekStep_11 13 rfl rfl)
theorem dX6_weekStep_273 : decode cX6_weekStep 273 = .ok (.imul, 1) := dk_104 (dk_at dksX6_weekStep_11 14 rfl rfl)
theorem dX6_weekStep_274 : decode cX6_weekStep 274 = .ok (.iadd, 1) := dk_96 (dk_at dksX6_weekStep_11 15 rfl rfl)
theorem dX6_weekStep_275 : decode cX6_weekStep 275 = .ok (.iconst 4, 1) := dk_7 (dk_at dksX6_weekStep_11 16 rfl rfl)
theorem dX6_weekStep_276 : decode cX6_weekStep 276 = .ok (.iadd, 1) := dk_96 (dk_at dksX6_weekStep_11 17 rfl rfl)
theorem dX6_weekStep_277 : decode cX6_weekStep 277 = .ok (.iload_n 2, 1) := dk_28 (dk_at dksX6_weekStep_11 18 rfl rfl)
theorem dX6_weekStep_278 : decode cX6_weekStep 278 = .ok (.iastore, 1) := dk_79 (dk_at dksX6_weekStep_11 19 rfl rfl)
theorem dX6_weekStep_279 : decode cX6_weekStep 279 = .ok (.aload_n 0, 1) := dk_42 (dk_at dksX6_weekStep_11 20 rfl rfl)
theorem dX6_weekStep_280 : decode cX6_weekStep 280 = .ok (.bipush 59, 2) := dk_16 59 (dk_at dksX6_weekStep_11 21 rfl rfl)
theorem dX6_weekStep_282 : decode cX6_weekStep 282 = .ok (.invokevirtual 248, 3) := dk_182 0 248 (dk_at dksX6_weekStep_12 0 rfl rfl)
theorem dX6_weekStep_285 : decode cX6_weekStep 285 = .ok (.ireturn, 1) := dk_172 (dk_at dksX6_weekStep_12 3 rfl rfl)
abbrev cX6_weekOrder : ByteArray := prog_16_method_57_code
def yX6_weekOrder : MethodName := ⟨RX6, "weekOrder", "(II)Z"⟩
def dkwX6_weekOrder_5 : List UInt8 := [182, 0, 212, 172, 42, 28, 182, 1, 10, 172, 4, 172]
abbrev dktX6_weekOrder_5 : List UInt8 := dkwX6_weekOrder_5 ++ []
def dkwX6_weekOrder_4 : List UInt8 := [42, 28, 5, 96, 182, 1, 7, 153, 0, 7, 4, 167, 0, 4, 3, 172, 42, 28, 4, 96, 4, 16, 99]
abbrev dktX6_weekOrder_4 : List UInt8 := dkwX6_weekOrder_4 ++ dktX6_weekOrder_5
def dkwX6_weekOrder_3 : List UInt8 := [16, 9, 182, 0, 212, 153, 0, 7, 4, 167, 0, 4, 3, 172, 42, 28, 4, 96, 182, 1, 4, 153, 0, 17]
abbrev dktX6_weekOrder_3 : List UInt8 := dkwX6_weekOrder_3 ++ dktX6_weekOrder_4
def dkwX6_weekOrder_2 : List UInt8 := [42, 28, 4, 96, 182, 1, 4, 172, 42, 28, 4, 96, 182, 1, 4, 153, 0, 20, 42, 28, 5, 96, 4]
abbrev dktX6_weekOrder_2 : List UInt8 := dkwX6_weekOrder_2 ++ dktX6_weekOrder_3
def dkwX6_weekOrder_1 : List UInt8 := [170, 0, 0, 0, 0, 0, 131, 0, 0, 0, 15, 0, 0, 0, 23, 0, 0, 0, 51, 0, 0, 0, 131, 0, 0, 0, 59, 0, 0, 0, 88, 0, 0, 0, 88, 0, 0, 0, 131, 0, 0, 0, 131, 0, 0, 0, 125, 0, 0, 0, 114]
abbrev dktX6_weekOrder_1 : List UInt8 := dkwX6_weekOrder_1 ++ dktX6_weekOrder_2
def dkwX6_weekOrder_0 : List UInt8 := [27]
abbrev dktX6_weekOrder_0 : List UInt8 := dkwX6_weekOrder_0 ++ dktX6_weekOrder_1
theorem dksX6_weekOrder_0 : cX6_weekOrder.data.toList.drop 0 = dktX6_weekOrder_0 := by decide +kernel
theorem dksX6_weekOrder_1 : cX6_weekOrder.data.toList.drop 1 = dktX6_weekOrder_1 := dk_seg dksX6_weekOrder_0 1 rfl rfl
theorem dksX6_weekOrder_2 : cX6_weekOrder.data.toList.drop 52 = dktX6_weekOrder_2 := dk_seg dksX6_weekOrder_1 51 rfl rfl
theorem dksX6_weekOrder_3 : cX6_weekOrder.data.toList.drop 75 = dktX6_weekOrder_3 := dk_seg dksX6_weekOrder_2 23 rfl rfl
theorem dksX6_weekOrder_4 : cX6_weekOrder.data.toList.drop 99 = dktX6_weekOrder_4 := dk_seg dksX6_weekOrder_3 24 rfl rfl
theorem dksX6_weekOrder_5 : cX6_weekOrder.data.toList.drop 122 = dktX6_weekOrder_5 := dk_seg dksX6_weekOrder_4 23 rfl rfl
theorem dX6_weekOrder_0 : decode cX6_weekOrder 0 = .ok (.iload_n 1, 1) := dk_27 (dk_at dksX6_weekOrder_0 0 rfl rfl)
theorem dX6_weekOrder_1 : decode cX6_weekOrder 1 = .ok (.tableswitch 131 15 23 #[51, 131, 59, 88, 88, 131, 131, 125, 114], 51) := by decide +kernel
theorem dX6_weekOrder_52 : decode cX6_weekOrder 52 = .ok (.aload_n 0, 1) := dk_42 (dk_at dksX6_weekOrder_2 0 rfl rfl)
theorem dX6_weekOrder_53 : decode cX6_weekOrder 53 = .ok (.iload_n 2, 1) := dk_28 (dk_at dksX6_weekOrder_2 1 rfl rfl)
theorem dX6_weekOrder_54 : decode cX6_weekOrder 54 = .ok (.iconst 1, 1) := dk_4 (dk_at dksX6_weekOrder_2 2 rfl rfl)
theorem dX6_weekOrder_55 : decode cX6_weekOrder 55 = .ok (.iadd, 1) := dk_96 (dk_at dksX6_weekOrder_2 3 rfl rfl)
theorem dX6_weekOrder_56 : decode cX6_weekOrder 56 = .ok (.invokevirtual 260, 3) := dk_182 1 4 (dk_at dksX6_weekOrder_2 4 rfl rfl)
theorem dX6_weekOrder_59 : decode cX6_weekOrder 59 = .ok (.ireturn, 1) := dk_172 (dk_at dksX6_weekOrder_2 7 rfl rfl)
theorem dX6_weekOrder_60 : decode cX6_weekOrder 60 = .ok (.aload_n 0, 1) := dk_42 (dk_at dksX6_weekOrder_2 8 rfl rfl)
theorem dX6_weekOrder_61 : decode cX6_weekOrder 61 = .ok (.iload_n 2, 1) := dk_28 (dk_at dksX6_weekOrder_2 9 rfl rfl)
theorem dX6_weekOrder_62 : decode cX6_weekOrder 62 = .ok (.iconst 1, 1) := dk_4 (dk_at dksX6_weekOrder_2 10 rfl rfl)
theorem dX6_weekOrder_63 : decode cX6_weekOrder 63 = .ok (.iadd, 1) := dk_96 (dk_at dksX6_weekOrder_2 11 rfl rfl)
theorem dX6_weekOrder_64 : decode cX6_weekOrder 64 = .ok (.invokevirtual 260, 3) := dk_182 1 4 (dk_at dksX6_weekOrder_2 12 rfl rfl)
theorem dX6_weekOrder_67 : decode cX6_weekOrder 67 = .ok (.ifCond .eq 20, 3) := dk_153 0 20 (dk_at dksX6_weekOrder_2 15 rfl rfl)
theorem dX6_weekOrder_70 : decode cX6_weekOrder 70 = .ok (.aload_n 0, 1) := dk_42 (dk_at dksX6_weekOrder_2 18 rfl rfl)
theorem dX6_weekOrder_71 : decode cX6_weekOrder 71 = .ok (.iload_n 2, 1) := dk_28 (dk_at dksX6_weekOrder_2 19 rfl rfl)
theorem dX6_weekOrder_72 : decode cX6_weekOrder 72 = .ok (.iconst 2, 1) := dk_5 (dk_at dksX6_weekOrder_2 20 rfl rfl)
theorem dX6_weekOrder_73 : decode cX6_weekOrder 73 = .ok (.iadd, 1) := dk_96 (dk_at dksX6_weekOrder_2 21 rfl rfl)
theorem dX6_weekOrder_74 : decode cX6_weekOrder 74 = .ok (.iconst 1, 1) := dk_4 (dk_at dksX6_weekOrder_2 22 rfl rfl)
theorem dX6_weekOrder_75 : decode cX6_weekOrder 75 = .ok (.bipush 9, 2) := dk_16 9 (dk_at dksX6_weekOrder_3 0 rfl rfl)
theorem dX6_weekOrder_77 : decode cX6_weekOrder 77 = .ok (.invokevirtual 212, 3) := dk_182 0 212 (dk_at dksX6_weekOrder_3 2 rfl rfl)
theorem dX6_weekOrder_80 : decode cX6_weekOrder 80 = .ok (.ifCond .eq 7, 3) := dk_153 0 7 (dk_at dksX6_weekOrder_3 5 rfl rfl)
theorem dX6_weekOrder_83 : decode cX6_weekOrder 83 = .ok (.iconst 1, 1) := dk_4 (dk_at dksX6_weekOrder_3 8 rfl rfl)
theorem dX6_weekOrder_84 : decode cX6_weekOrder 84 = .ok (.goto 4, 3) := dk_167 0 4 (dk_at dksX6_weekOrder_3 9 rfl rfl)
theorem dX6_weekOrder_87 : decode cX6_weekOrder 87 = .ok (.iconst 0, 1) := dk_3 (dk_at dksX6_weekOrder_3 12 rfl rfl)
theorem dX6_weekOrder_88 : decode cX6_weekOrder 88 = .ok (.ireturn, 1) := dk_172 (dk_at dksX6_weekOrder_3 13 rfl rfl)
theorem dX6_weekOrder_89 : decode cX6_weekOrder 89 = .ok (.aload_n 0, 1) := dk_42 (dk_at dksX6_weekOrder_3 14 rfl rfl)
theorem dX6_weekOrder_90 : decode cX6_weekOrder 90 = .ok (.iload_n 2, 1) := dk_28 (dk_at dksX6_weekOrder_3 15 rfl rfl)
theorem dX6_weekOrder_91 : decode cX6_weekOrder 91 = .ok (.iconst 1, 1) := dk_4 (dk_at dksX6_weekOrder_3 16 rfl rfl)
theorem dX6_weekOrder_92 : decode cX6_weekOrder 92 = .ok (.iadd, 1) := dk_96 (dk_at dksX6_weekOrder_3 17 rfl rfl)
theorem dX6_weekOrder_93 : decode cX6_weekOrder 93 = .ok (.invokevirtual 260, 3) := dk_182 1 4 (dk_at dksX6_weekOrder_3 18 rfl rfl)
theorem dX6_weekOrder_96 : decode cX6_weekOrder 96 = .ok (.ifCond .eq 17, 3) := dk_153 0 17 (dk_at dksX6_weekOrder_3 21 rfl rfl)
theorem dX6_weekOrder_99 : decode cX6_weekOrder 99 = .ok (.aload_n 0, 1) := dk_42 (dk_at dksX6_weekOrder_4 0 rfl rfl)
theorem dX6_weekOrder_100 : decode cX6_weekOrder 100 = .ok (.iload_n 2, 1) := dk_28 (dk_at dksX6_weekOrder_4 1 rfl rfl)
theorem dX6_weekOrder_101 : decode cX6_weekOrder 101 = .ok (.iconst 2, 1) := dk_5 (dk_at dksX6_weekOrder_4 2 rfl rfl)
theorem dX6_weekOrder_102 : decode cX6_weekOrder 102 = .ok (.iadd, 1) := dk_96 (dk_at dksX6_weekOrder_4 3 rfl rfl)
theorem dX6_weekOrder_103 : decode cX6_weekOrder 103 = .ok (.invokevirtual 263, 3) := dk_182 1 7 (dk_at dksX6_weekOrder_4 4 rfl rfl)
theorem dX6_weekOrder_106 : decode cX6_weekOrder 106 = .ok (.ifCond .eq 7, 3) := dk_153 0 7 (dk_at dksX6_weekOrder_4 7 rfl rfl)
theorem dX6_weekOrder_109 : decode cX6_weekOrder 109 = .ok (.iconst 1, 1) := dk_4 (dk_at dksX6_weekOrder_4 10 rfl rfl)
theorem dX6_weekOrder_110 : decode cX6_weekOrder 110 = .ok (.goto 4, 3) := dk_167 0 4 (dk_at dksX6_weekOrder_4 11 rfl rfl)
theorem dX6_weekOrder_113 : decode cX6_weekOrder 113 = .ok (.iconst 0, 1) := dk_3 (dk_at dksX6_weekOrder_4 14 rfl rfl)
theorem dX6_weekOrder_114 : decode cX6_weekOrder 114 = .ok (.ireturn, 1) := dk_172 (dk_at dksX6_weekOrder_4 15 rfl rfl)
theorem dX6_weekOrder_115 : decode cX6_weekOrder 115 = .ok (.aload_n 0, 1) := dk_42 (dk_at dksX6_weekOrder_4 16 rfl rfl)
theorem dX6_weekOrder_116 : decode cX6_weekOrder 116 = .ok (.iload_n 2, 1) := dk_28 (dk_at dksX6_weekOrder_4 17 rfl rfl)
theorem dX6_weekOrder_117 : decode cX6_weekOrder 117 = .ok (.iconst 1, 1) := dk_4 (dk_at dksX6_weekOrder_4 18 rfl rfl)
theorem dX6_weekOrder_118 : decode cX6_weekOrder 118 = .ok (.iadd, 1) := dk_96 (dk_at dksX6_weekOrder_4 19 rfl rfl)
theorem dX6_weekOrder_119 : decode cX6_weekOrder 119 = .ok (.iconst 1, 1) := dk_4 (dk_at dksX6_weekOrder_4 20 rfl rfl)
theorem dX6_weekOrder_120 : decode cX6_weekOrder 120 = .ok (.bipush 99, 2) := dk_16 99 (dk_at dksX6_weekOrder_4 21 rfl rfl)
theorem dX6_weekOrder_122 : decode cX6_weekOrder 122 = .ok (.invokevirtual 212, 3) := dk_182 0 212 (dk_at dksX6_weekOrder_5 0 rfl rfl)
theorem dX6_weekOrder_125 : decode cX6_weekOrder 125 = .ok (.ireturn, 1) := dk_172 (dk_at dksX6_weekOrder_5 3 rfl rfl)
theorem dX6_weekOrder_126 : decode cX6_weekOrder 126 = .ok (.aload_n 0, 1) := dk_42 (dk_at dksX6_weekOrder_5 4 rfl rfl)
theorem dX6_weekOrder_127 : decode cX6_weekOrder 127 = .ok (.iload_n 2, 1) := dk_28 (dk_at dksX6_weekOrder_5 5 rfl rfl)
theorem dX6_weekOrder_128 : decode cX6_weekOrder 128 = .ok (.invokevirtual 266, 3) := dk_182 1 10 (dk_at dksX6_weekOrder_5 6 rfl rfl)
theorem dX6_weekOrder_131 : decode cX6_weekOrder 131 = .ok (.ireturn, 1) := dk_172 (dk_at dksX6_weekOrder_5 9 rfl rfl)
theorem dX6_weekOrder_132 : decode cX6_weekOrder 132 = .ok (.iconst 1, 1) := dk_4 (dk_at dksX6_weekOrder_5 10 rfl rfl)
theorem dX6_weekOrder_133 : decode cX6_weekOrder 133 = .ok (.ireturn, 1) := dk_172 (dk_at dksX6_weekOrder_5 11 rfl rfl)
abbrev cX6_personTo : ByteArray := prog_16_method_54_code
def yX6_personTo : MethodName := ⟨RX6, "personTo", "(I)Z"⟩
def dkwX6_personTo_0 : List UInt8 := [42, 16, 11, 42, 180, 0, 7, 6, 46, 27, 182, 0, 218, 172]
abbrev dktX6_personTo_0 : List UInt8 := dkwX6_personTo_0 ++ []
theorem dksX6_personTo_0 : cX6_personTo.data.toList.drop 0 = dktX6_personTo_0 := by decide +kernel
theorem dX6_personTo_0 : decode cX6_personTo 0 = .ok (.aload_n 0, 1) := dk_42 (dk_at dksX6_personTo_0 0 rfl rfl)
theorem dX6_personTo_1 : decode cX6_personTo 1 = .ok (.bipush 11, 2) := dk_16 11 (dk_at dksX6_personTo_0 1 rfl rfl)
theorem dX6_personTo_3 : decode cX6_personTo 3 = .ok (.aload_n 0, 1) := dk_42 (dk_at dksX6_personTo_0 3 rfl rfl)
theorem dX6_personTo_4 : decode cX6_personTo 4 = .ok (.getfield 7, 3) := dk_180 0 7 (dk_at dksX6_personTo_0 4 rfl rfl)
theorem dX6_personTo_7 : decode cX6_personTo 7 = .ok (.iconst 3, 1) := dk_6 (dk_at dksX6_personTo_0 7 rfl rfl)
theorem dX6_personTo_8 : decode cX6_personTo 8 = .ok (.iaload, 1) := dk_46 (dk_at dksX6_personTo_0 8 rfl rfl)
theorem dX6_personTo_9 : decode cX6_personTo 9 = .ok (.iload_n 1, 1) := dk_27 (dk_at dksX6_personTo_0 9 rfl rfl)
theorem dX6_personTo_10 : decode cX6_personTo 10 = .ok (.invokevirtual 218, 3) := dk_182 0 218 (dk_at dksX6_personTo_0 10 rfl rfl)
theorem dX6_personTo_13 : decode cX6_personTo 13 = .ok (.ireturn, 1) := dk_172 (dk_at dksX6_personTo_0 13 rfl rfl)
abbrev cX6_smellTo : ByteArray := prog_16_method_55_code
def yX6_smellTo : MethodName := ⟨RX6, "smellTo", "(I)Z"⟩
def dkwX6_smellTo_0 : List UInt8 := [42, 3, 42, 180, 0, 7, 3, 46, 27, 182, 0, 218, 172]
abbrev dktX6_smellTo_0 : List UInt8 := dkwX6_smellTo_0 ++ []
theorem dksX6_smellTo_0 : cX6_smellTo.data.toList.drop 0 = dktX6_smellTo_0 := by decide +kernel
theorem dX6_smellTo_0 : decode cX6_smellTo 0 = .ok (.aload_n 0, 1) := dk_42 (dk_at dksX6_smellTo_0 0 rfl rfl)
theorem dX6_smellTo_1 : decode cX6_smellTo 1 = .ok (.iconst 0, 1) := dk_3 (dk_at dksX6_smellTo_0 1 rfl rfl)
theorem dX6_smellTo_2 : decode cX6_smellTo 2 = .ok (.aload_n 0, 1) := dk_42 (dk_at dksX6_smellTo_0 2 rfl rfl)
theorem dX6_smellTo_3 : decode cX6_smellTo 3 = .ok (.getfield 7, 3) := dk_180 0 7 (dk_at dksX6_smellTo_0 3 rfl rfl)
theorem dX6_smellTo_6 : decode cX6_smellTo 6 = .ok (.iconst 0, 1) := dk_3 (dk_at dksX6_smellTo_0 6 rfl rfl)
theorem dX6_smellTo_7 : decode cX6_smellTo 7 = .ok (.iaload, 1) := dk_46 (dk_at dksX6_smellTo_0 7 rfl rfl)
theorem dX6_smellTo_8 : decode cX6_smellTo 8 = .ok (.iload_n 1, 1) := dk_27 (dk_at dksX6_smellTo_0 8 rfl rfl)
theorem dX6_smellTo_9 : decode cX6_smellTo 9 = .ok (.invokevirtual 218, 3) := dk_182 0 218 (dk_at dksX6_smellTo_0 9 rfl rfl)
theorem dX6_smellTo_12 : decode cX6_smellTo 12 = .ok (.ireturn, 1) := dk_172 (dk_at dksX6_smellTo_0 12 rfl rfl)
abbrev cX6_test : ByteArray := prog_16_method_56_code
def yX6_test : MethodName := ⟨RX6, "test", "(I)Z"⟩
def dkwX6_test_6 : List UInt8 := [182, 0, 167, 42, 27, 5, 96, 3, 16, 9, 182, 0, 212, 172]
abbrev dktX6_test_6 : List UInt8 := dkwX6_test_6 ++ []
def dkwX6_test_5 : List UInt8 := [154, 0, 9, 42, 5, 182, 0, 173, 172, 42, 180, 0, 7, 27, 8, 96, 42, 180, 0, 133, 79, 42]
abbrev dktX6_test_5 : List UInt8 := dkwX6_test_5 ++ dktX6_test_6
def dkwX6_test_4 : List UInt8 := [16, 60, 182, 0, 170, 154, 0, 27, 42, 16, 62, 182, 0, 170, 154, 0, 18, 42, 16, 61, 182, 0, 170]
abbrev dktX6_test_4 : List UInt8 := dkwX6_test_4 ++ dktX6_test_5
def dkwX6_test_3 : List UInt8 := [153, 0, 7, 4, 167, 0, 4, 3, 172, 28, 16, 11, 159, 0, 11, 42, 27, 4, 96, 182, 1, 4, 172, 42]
abbrev dktX6_test_3 : List UInt8 := dkwX6_test_3 ++ dktX6_test_4
def dkwX6_test_2 : List UInt8 := [4, 96, 182, 1, 4, 153, 0, 24, 42, 8, 42, 180, 0, 7, 4, 46, 27, 5, 96, 182, 0, 218]
abbrev dktX6_test_2 : List UInt8 := dkwX6_test_2 ++ dktX6_test_3
def dkwX6_test_1 : List UInt8 := [172, 42, 180, 0, 7, 27, 17, 8, 152, 28, 96, 79, 42, 182, 0, 167, 28, 16, 26, 160, 0, 36, 42, 27]
abbrev dktX6_test_1 : List UInt8 := dkwX6_test_1 ++ dktX6_test_2
def dkwX6_test_0 : List UInt8 := [42, 18, 184, 182, 0, 176, 61, 28, 16, 11, 159, 0, 15, 28, 16, 26, 162, 0, 9, 42, 5, 182, 0, 173]
abbrev dktX6_test_0 : List UInt8 := dkwX6_test_0 ++ dktX6_test_1
theorem dksX6_test_0 : cX6_test.data.toList.drop 0 = dktX6_test_0 := by decide +kernel
theorem dksX6_test_1 : cX6_test.data.toList.drop 24 = dktX6_test_1 := dk_seg dksX6_test_0 24 rfl rfl
theorem dksX6_test_2 : cX6_test.data.toList.drop 48 = dktX6_test_2 := dk_seg dksX6_test_1 24 rfl rfl
theorem dksX6_test_3 : cX6_test.data.toList.drop 70 = dktX6_test_3 := dk_seg dksX6_test_2 22 rfl rfl
theorem dksX6_test_4 : cX6_test.data.toList.drop 94 = dktX6_test_4 := dk_seg dksX6_test_3 24 rfl rfl
theorem dksX6_test_5 : cX6_test.data.toList.drop 117 = dktX6_test_5 := dk_seg dksX6_test_4 23 rfl rfl
theorem dksX6_test_6 : cX6_test.data.toList.drop 139 = dktX6_test_6 := dk_seg dksX6_test_5 22 rfl rfl
theorem dX6_test_0 : decode cX6_test 0 = .ok (.aload_n 0, 1) := dk_42 (dk_at dksX6_test_0 0 rfl rfl)
theorem dX6_test_1 : decode cX6_test 1 = .ok (.ldc 184, 2) := dk_18 184 (dk_at dksX6_test_0 1 rfl rfl)
theorem dX6_test_3 : decode cX6_test 3 = .ok (.invokevirtual 176, 3) := dk_182 0 176 (dk_at dksX6_test_0 3 rfl rfl)
theorem dX6_test_6 : decode cX6_test 6 = .ok (.istore_n 2, 1) := dk_61 (dk_at dksX6_test_0 6 rfl rfl)
theorem dX6_test_7 : decode cX6_test 7 = .ok (.iload_n 2, 1) := dk_28 (dk_at dksX6_test_0 7 rfl rfl)
theorem dX6_test_8 : decode cX6_test 8 = .ok (.bipush 11, 2) := dk_16 11 (dk_at dksX6_test_0 8 rfl rfl)
theorem dX6_test_10 : decode cX6_test 10 = .ok (.if_icmp .eq 15, 3) := dk_159 0 15 (dk_at dksX6_test_0 10 rfl rfl)
theorem dX6_test_13 : decode cX6_test 13 = .ok (.iload_n 2, 1) := dk_28 (dk_at dksX6_test_0 13 rfl rfl)
theorem dX6_test_14 : decode cX6_test 14 = .ok (.bipush 26, 2) := dk_16 26 (dk_at dksX6_test_0 14 rfl rfl)
theorem dX6_test_16 : decode cX6_test 16 = .ok (.if_icmp .ge 9, 3) := dk_162 0 9 (dk_at dksX6_test_0 16 rfl rfl)
theorem dX6_test_19 : decode cX6_test 19 = .ok (.aload_n 0, 1) := dk_42 (dk_at dksX6_test_0 19 rfl rfl)
theorem dX6_test_20 : decode cX6_test 20 = .ok (.iconst 2, 1) := dk_5 (dk_at dksX6_test_0 20 rfl rfl)
theorem dX6_test_21 : decode cX6_test 21 = .ok (.invokevirtual 173, 3) := dk_182 0 173 (dk_at dksX6_test_0 21 rfl rfl)
theorem dX6_test_24 : decode cX6_test 24 = .ok (.ireturn, 1) := dk_172 (dk_at dksX6_test_1 0 rfl rfl)
theorem dX6_test_25 : decode cX6_test 25 = .ok (.aload_n 0, 1) := dk_42 (dk_at dksX6_test_1 1 rfl rfl)
theorem dX6_test_26 : decode cX6_test 26 = .ok (.getfield 7, 3) := dk_180 0 7 (dk_at dksX6_test_1 2 rfl rfl)
theorem dX6_test_29 : decode cX6_test 29 = .ok (.iload_n 1, 1) := dk_27 (dk_at dksX6_test_1 5 rfl rfl)
theorem dX6_test_30 : decode cX6_test 30 = .ok (.sipush 2200, 3) := dk_17 8 152 (dk_at dksX6_test_1 6 rfl rfl)
theorem dX6_test_33 : decode cX6_test 33 = .ok (.iload_n 2, 1) := dk_28 (dk_at dksX6_test_1 9 rfl rfl)
theorem dX6_test_34 : decode cX6_test 34 = .ok (.iadd, 1) := dk_96 (dk_at dksX6_test_1 10 rfl rfl)
theorem dX6_test_35 : decode cX6_test 35 = .ok (.iastore, 1) := dk_79 (dk_at dksX6_test_1 11 rfl rfl)
theorem dX6_test_36 : decode cX6_test 36 = .ok (.aload_n 0, 1) := dk_42 (dk_at dksX6_test_1 12 rfl rfl)
theorem dX6_test_37 : decode cX6_test 37 = .ok (.invokevirtual 167, 3) := dk_182 0 167 (dk_at dksX6_test_1 13 rfl rfl)
theorem dX6_test_40 : decode cX6_test 40 = .ok (.iload_n 2, 1) := dk_28 (dk_at dksX6_test_1 16 rfl rfl)
theorem dX6_test_41 : decode cX6_test 41 = .ok (.bipush 26, 2) := dk_16 26 (dk_at dksX6_test_1 17 rfl rfl)
theorem dX6_test_43 : decode cX6_test 43 = .ok (.if_icmp .ne 36, 3) := dk_160 0 36 (dk_at dksX6_test_1 19 rfl rfl)
theorem dX6_test_46 : decode cX6_test 46 = .ok (.aload_n 0, 1) := dk_42 (dk_at dksX6_test_1 22 rfl rfl)
theorem dX6_test_47 : decode cX6_test 47 = .ok (.iload_n 1, 1) := dk_27 (dk_at dksX6_test_1 23 rfl rfl)
theorem dX6_test_48 : decode cX6_test 48 = .ok (.iconst 1, 1) := dk_4 (dk_at dksX6_test_2 0 rfl rfl)
theorem dX6_test_49 : decode cX6_test 49 = .ok (.iadd, 1) := dk_96 (dk_at dksX6_test_2 1 rfl rfl)
theorem dX6_test_50 : decode cX6_test 50 = .ok (.invokevirtual 260, 3) := dk_182 1 4 (dk_at dksX6_test_2 2 rfl rfl)
theorem dX6_test_53 : decode cX6_test 53 = .ok (.ifCond .eq 24, 3) := dk_153 0 24 (dk_at dksX6_test_2 5 rfl rfl)
theorem dX6_test_56 : decode cX6_test 56 = .ok (.aload_n 0, 1) := dk_42 (dk_at dksX6_test_2 8 rfl rfl)
theorem dX6_test_57 : decode cX6_test 57 = .ok (.iconst 5, 1) := dk_8 (dk_at dksX6_test_2 9 rfl rfl)
theorem dX6_test_58 : decode cX6_test 58 = .ok (.aload_n 0, 1) := dk_42 (dk_at dksX6_test_2 10 rfl rfl)
theorem dX6_test_59 : decode cX6_test 59 = .ok (.getfield 7, 3) := dk_180 0 7 (dk_at dksX6_test_2 11 rfl rfl)
theorem dX6_test_62 : decode cX6_test 62 = .ok (.iconst 1, 1) := dk_4 (dk_at dksX6_test_2 14 rfl rfl)
theorem dX6_test_63 : decode cX6_test 63 = .ok (.iaload, 1) := dk_46 (dk_at dksX6_test_2 15 rfl rfl)
theorem dX6_test_64 : decode cX6_test 64 = .ok (.iload_n 1, 1) := dk_27 (dk_at dksX6_test_2 16 rfl rfl)
theorem dX6_test_65 : decode cX6_test 65 = .ok (.iconst 2, 1) := dk_5 (dk_at dksX6_test_2 17 rfl rfl)
theorem dX6_test_66 : decode cX6_test 66 = .ok (.iadd, 1) := dk_96 (dk_at dksX6_test_2 18 rfl rfl)
theorem dX6_test_67 : decode cX6_test 67 = .ok (.invokevirtual 218, 3) := dk_182 0 218 (dk_at dksX6_test_2 19 rfl rfl)
theorem dX6_test_70 : decode cX6_test 70 = .ok (.ifCond .eq 7, 3) := dk_153 0 7 (dk_at dksX6_test_3 0 rfl rfl)
theorem dX6_test_73 : decode cX6_test 73 = .ok (.iconst 1, 1) := dk_4 (dk_at dksX6_test_3 3 rfl rfl)
theorem dX6_test_74 : decode cX6_test 74 = .ok (.goto 4, 3) := dk_167 0 4 (dk_at dksX6_test_3 4 rfl rfl)
theorem dX6_test_77 : decode cX6_test 77 = .ok (.iconst 0, 1) := dk_3 (dk_at dksX6_test_3 7 rfl rfl)
theorem dX6_test_78 : decode cX6_test 78 = .ok (.ireturn, 1) := dk_172 (dk_at dksX6_test_3 8 rfl rfl)
theorem dX6_test_79 : decode cX6_test 79 = .ok (.iload_n 2, 1) := dk_28 (dk_at dksX6_test_3 9 rfl rfl)
theorem dX6_test_80 : decode cX6_test 80 = .ok (.bipush 11, 2) := dk_16 11 (dk_at dksX6_test_3 10 rfl rfl)
theorem dX6_test_82 : decode cX6_test 82 = .ok (.if_icmp .eq 11, 3) := dk_159 0 11 (dk_at dksX6_test_3 12 rfl rfl)
theorem dX6_test_85 : decode cX6_test 85 = .ok (.aload_n 0, 1) := dk_42 (dk_at dksX6_test_3 15 rfl rfl)
theorem dX6_test_86 : decode cX6_test 86 = .ok (.iload_n 1, 1) := dk_27 (dk_at dksX6_test_3 16 rfl rfl)
theorem dX6_test_87 : decode cX6_test 87 = .ok (.iconst 1, 1) := dk_4 (dk_at dksX6_test_3 17 rfl rfl)
theorem dX6_test_88 : decode cX6_test 88 = .ok (.iadd, 1) := dk_96 (dk_at dksX6_test_3 18 rfl rfl)
theorem dX6_test_89 : decode cX6_test 89 = .ok (.invokevirtual 260, 3) := dk_182 1 4 (dk_at dksX6_test_3 19 rfl rfl)
theorem dX6_test_92 : decode cX6_test 92 = .ok (.ireturn, 1) := dk_172 (dk_at dksX6_test_3 22 rfl rfl)
theorem dX6_test_93 : decode cX6_test 93 = .ok (.aload_n 0, 1) := dk_42 (dk_at dksX6_test_3 23 rfl rfl)
theorem dX6_test_94 : decode cX6_test 94 = .ok (.bipush 60, 2) := dk_16 60 (dk_at dksX6_test_4 0 rfl rfl)
theorem dX6_test_96 : decode cX6_test 96 = .ok (.invokevirtual 170, 3) := dk_182 0 170 (dk_at dksX6_test_4 2 rfl rfl)
theorem dX6_test_99 : decode cX6_test 99 = .ok (.ifCond .ne 27, 3) := dk_154 0 27 (dk_at dksX6_test_4 5 rfl rfl)
theorem dX6_test_102 : decode cX6_test 102 = .ok (.aload_n 0, 1) := dk_42 (dk_at dksX6_test_4 8 rfl rfl)
theorem dX6_test_103 : decode cX6_test 103 = .ok (.bipush 62, 2) := dk_16 62 (dk_at dksX6_test_4 9 rfl rfl)
theorem dX6_test_105 : decode cX6_test 105 = .ok (.invokevirtual 170, 3) := dk_182 0 170 (dk_at dksX6_test_4 11 rfl rfl)
theorem dX6_test_108 : decode cX6_test 108 = .ok (.ifCond .ne 18, 3) := dk_154 0 18 (dk_at dksX6_test_4 14 rfl rfl)
theorem dX6_test_111 : decode cX6_test 111 = .ok (.aload_n 0, 1) := dk_42 (dk_at dksX6_test_4 17 rfl rfl)
theorem dX6_test_112 : decode cX6_test 112 = .ok (.bipush 61, 2) := dk_16 61 (dk_at dksX6_test_4 18 rfl rfl)
theorem dX6_test_114 : decode cX6_test 114 = .ok (.invokevirtual 170, 3) := dk_182 0 170 (dk_at dksX6_test_4 20 rfl rfl)
theorem dX6_test_117 : decode cX6_test 117 = .ok (.ifCond .ne 9, 3) := dk_154 0 9 (dk_at dksX6_test_5 0 rfl rfl)
theorem dX6_test_120 : decode cX6_test 120 = .ok (.aload_n 0, 1) := dk_42 (dk_at dksX6_test_5 3 rfl rfl)
theorem dX6_test_121 : decode cX6_test 121 = .ok (.iconst 2, 1) := dk_5 (dk_at dksX6_test_5 4 rfl rfl)
theorem dX6_test_122 : decode cX6_test 122 = .ok (.invokevirtual 173, 3) := dk_182 0 173 (dk_at dksX6_test_5 5 rfl rfl)
theorem dX6_test_125 : decode cX6_test 125 = .ok (.ireturn, 1) := dk_172 (dk_at dksX6_test_5 8 rfl rfl)
theorem dX6_test_126 : decode cX6_test 126 = .ok (.aload_n 0, 1) := dk_42 (dk_at dksX6_test_5 9 rfl rfl)
theorem dX6_test_127 : decode cX6_test 127 = .ok (.getfield 7, 3) := dk_180 0 7 (dk_at dksX6_test_5 10 rfl rfl)
theorem dX6_test_130 : decode cX6_test 130 = .ok (.iload_n 1, 1) := dk_27 (dk_at dksX6_test_5 13 rfl rfl)
theorem dX6_test_131 : decode cX6_test 131 = .ok (.iconst 5, 1) := dk_8 (dk_at dksX6_test_5 14 rfl rfl)
theorem dX6_test_132 : decode cX6_test 132 = .ok (.iadd, 1) := dk_96 (dk_at dksX6_test_5 15 rfl rfl)
theorem dX6_test_133 : decode cX6_test 133 = .ok (.aload_n 0, 1) := dk_42 (dk_at dksX6_test_5 16 rfl rfl)
theorem dX6_test_134 : decode cX6_test 134 = .ok (.getfield 133, 3) := dk_180 0 133 (dk_at dksX6_test_5 17 rfl rfl)
theorem dX6_test_137 : decode cX6_test 137 = .ok (.iastore, 1) := dk_79 (dk_at dksX6_test_5 20 rfl rfl)
theorem dX6_test_138 : decode cX6_test 138 = .ok (.aload_n 0, 1) := dk_42 (dk_at dksX6_test_5 21 rfl rfl)
theorem dX6_test_139 : decode cX6_test 139 = .ok (.invokevirtual 167, 3) := dk_182 0 167 (dk_at dksX6_test_6 0 rfl rfl)
theorem dX6_test_142 : decode cX6_test 142 = .ok (.aload_n 0, 1) := dk_42 (dk_at dksX6_test_6 3 rfl rfl)
theorem dX6_test_143 : decode cX6_test 143 = .ok (.iload_n 1, 1) := dk_27 (dk_at dksX6_test_6 4 rfl rfl)
theorem dX6_test_144 : decode cX6_test 144 = .ok (.iconst 2, 1) := dk_5 (dk_at dksX6_test_6 5 rfl rfl)
theorem dX6_test_145 : decode cX6_test 145 = .ok (.iadd, 1) := dk_96 (dk_at dksX6_test_6 6 rfl rfl)
theorem dX6_test_146 : decode cX6_test 146 = .ok (.iconst 0, 1) := dk_3 (dk_at dksX6_test_6 7 rfl rfl)
theorem dX6_test_147 : decode cX6_test 147 = .ok (.bipush 9, 2) := dk_16 9 (dk_at dksX6_test_6 8 rfl rfl)
theorem dX6_test_149 : decode cX6_test 149 = .ok (.invokevirtual 212, 3) := dk_182 0 212 (dk_at dksX6_test_6 10 rfl rfl)
theorem dX6_test_152 : decode cX6_test 152 = .ok (.ireturn, 1) := dk_172 (dk_at dksX6_test_6 13 rfl rfl)
abbrev cX6_told : ByteArray := prog_16_method_73_code
def yX6_told : MethodName := ⟨RX6, "told", "(I)I"⟩
def dkwX6_told_2 : List UInt8 := [27, 16, 8, 100, 182, 1, 34, 182, 0, 95, 172]
abbrev dktX6_told_2 : List UInt8 := dkwX6_told_2 ++ []
def dkwX6_told_1 : List UInt8 := [180, 0, 7, 27, 46, 182, 0, 95, 172, 42, 27, 16, 12, 160, 0, 10, 42, 182, 1, 31, 167, 0, 11, 42]
abbrev dktX6_told_1 : List UInt8 := dkwX6_told_1 ++ dktX6_told_2
def dkwX6_told_0 : List UInt8 := [27, 155, 0, 9, 27, 16, 12, 164, 0, 9, 42, 4, 182, 0, 91, 172, 27, 16, 8, 162, 0, 14, 42, 42]
abbrev dktX6_told_0 : List UInt8 := dkwX6_told_0 ++ dktX6_told_1
theorem dksX6_told_0 : cX6_told.data.toList.drop 0 = dktX6_told_0 := by decide +kernel
theorem dksX6_told_1 : cX6_told.data.toList.drop 24 = dktX6_told_1 := dk_seg dksX6_told_0 24 rfl rfl
theorem dksX6_told_2 : cX6_told.data.toList.drop 48 = dktX6_told_2 := dk_seg dksX6_told_1 24 rfl rfl
theorem dX6_told_0 : decode cX6_told 0 = .ok (.iload_n 1, 1) := dk_27 (dk_at dksX6_told_0 0 rfl rfl)
theorem dX6_told_1 : decode cX6_told 1 = .ok (.ifCond .lt 9, 3) := dk_155 0 9 (dk_at dksX6_told_0 1 rfl rfl)
theorem dX6_told_4 : decode cX6_told 4 = .ok (.iload_n 1, 1) := dk_27 (dk_at dksX6_told_0 4 rfl rfl)
theorem dX6_told_5 : decode cX6_told 5 = .ok (.bipush 12, 2) := dk_16 12 (dk_at dksX6_told_0 5 rfl rfl)
theorem dX6_told_7 : decode cX6_told 7 = .ok (.if_icmp .le 9, 3) := dk_164 0 9 (dk_at dksX6_told_0 7 rfl rfl)
theorem dX6_told_10 : decode cX6_told 10 = .ok (.aload_n 0, 1) := dk_42 (dk_at dksX6_told_0 10 rfl rfl)
theorem dX6_told_11 : decode cX6_told 11 = .ok (.iconst 1, 1) := dk_4 (dk_at dksX6_told_0 11 rfl rfl)
theorem dX6_told_12 : decode cX6_told 12 = .ok (.invokevirtual 91, 3) := dk_182 0 91 (dk_at dksX6_told_0 12 rfl rfl)
theorem dX6_told_15 : decode cX6_told 15 = .ok (.ireturn, 1) := dk_172 (dk_at dksX6_told_0 15 rfl rfl)
theorem dX6_told_16 : decode cX6_told 16 = .ok (.iload_n 1, 1) := dk_27 (dk_at dksX6_told_0 16 rfl rfl)
theorem dX6_told_17 : decode cX6_told 17 = .ok (.bipush 8, 2) := dk_16 8 (dk_at dksX6_told_0 17 rfl rfl)
theorem dX6_told_19 : decode cX6_told 19 = .ok (.if_icmp .ge 14, 3) := dk_162 0 14 (dk_at dksX6_told_0 19 rfl rfl)
theorem dX6_told_22 : decode cX6_told 22 = .ok (.aload_n 0, 1) := dk_42 (dk_at dksX6_told_0 22 rfl rfl)
theorem dX6_told_23 : decode cX6_told 23 = .ok (.aload_n 0, 1) := dk_42 (dk_at dksX6_told_0 23 rfl rfl)
theorem dX6_told_24 : decode cX6_told 24 = .ok (.getfield 7, 3) := dk_180 0 7 (dk_at dksX6_told_1 0 rfl rfl)
theorem dX6_told_27 : decode cX6_told 27 = .ok (.iload_n 1, 1) := dk_27 (dk_at dksX6_told_1 3 rfl rfl)
theorem dX6_told_28 : decode cX6_told 28 = .ok (.iaload, 1) := dk_46 (dk_at dksX6_told_1 4 rfl rfl)
theorem dX6_told_29 : decode cX6_told 29 = .ok (.invokevirtual 95, 3) := dk_182 0 95 (dk_at dksX6_told_1 5 rfl rfl)
theorem dX6_told_32 : decode cX6_told 32 = .ok (.ireturn, 1) := dk_172 (dk_at dksX6_told_1 8 rfl rfl)
theorem dX6_told_33 : decode cX6_told 33 = .ok (.aload_n 0, 1) := dk_42 (dk_at dksX6_told_1 9 rfl rfl)
theorem dX6_told_34 : decode cX6_told 34 = .ok (.iload_n 1, 1) := dk_27 (dk_at dksX6_told_1 10 rfl rfl)
theorem dX6_told_35 : decode cX6_told 35 = .ok (.bipush 12, 2) := dk_16 12 (dk_at dksX6_told_1 11 rfl rfl)
theorem dX6_told_37 : decode cX6_told 37 = .ok (.if_icmp .ne 10, 3) := dk_160 0 10 (dk_at dksX6_told_1 13 rfl rfl)
theorem dX6_told_40 : decode cX6_told 40 = .ok (.aload_n 0, 1) := dk_42 (dk_at dksX6_told_1 16 rfl rfl)
theorem dX6_told_41 : decode cX6_told 41 = .ok (.invokevirtual 287, 3) := dk_182 1 31 (dk_at dksX6_told_1 17 rfl rfl)
theorem dX6_told_44 : decode cX6_told 44 = .ok (.goto 11, 3) := dk_167 0 11 (dk_at dksX6_told_1 20 rfl rfl)
theorem dX6_told_47 : decode cX6_told 47 = .ok (.aload_n 0, 1) := dk_42 (dk_at dksX6_told_1 23 rfl rfl)
theorem dX6_told_48 : decode cX6_told 48 = .ok (.iload_n 1, 1) := dk_27 (dk_at dksX6_told_2 0 rfl rfl)
theorem dX6_told_49 : decode cX6_told 49 = .ok (.bipush 8, 2) := dk_16 8 (dk_at dksX6_told_2 1 rfl rfl)
theorem dX6_told_51 : decode cX6_told 51 = .ok (.isub, 1) := dk_100 (dk_at dksX6_told_2 3 rfl rfl)
theorem dX6_told_52 : decode cX6_told 52 = .ok (.invokevirtual 290, 3) := dk_182 1 34 (dk_at dksX6_told_2 4 rfl rfl)
theorem dX6_told_55 : decode cX6_told 55 = .ok (.invokevirtual 95, 3) := dk_182 0 95 (dk_at dksX6_told_2 7 rfl rfl)
theorem dX6_told_58 : decode cX6_told 58 = .ok (.ireturn, 1) := dk_172 (dk_at dksX6_told_2 10 rfl rfl)
abbrev cX6_allVotes : ByteArray := prog_16_method_72_code
def yX6_allVotes : MethodName := ⟨RX6, "allVotes", "()I"⟩
def dkwX6_allVotes_1 : List UInt8 := [132, 2, 1, 167, 255, 235, 27, 172]
abbrev dktX6_allVotes_1 : List UInt8 := dkwX6_allVotes_1 ++ []
def dkwX6_allVotes_0 : List UInt8 := [3, 60, 3, 61, 28, 42, 180, 0, 7, 7, 46, 162, 0, 17, 27, 42, 28, 182, 1, 28, 96, 60]
abbrev dktX6_allVotes_0 : List UInt8 := dkwX6_allVotes_0 ++ dktX6_allVotes_1
theorem dksX6_allVotes_0 : cX6_allVotes.data.toList.drop 0 = dktX6_allVotes_0 := by decide +kernel
theorem dksX6_allVotes_1 : cX6_allVotes.data.toList.drop 22 = dktX6_allVotes_1 := dk_seg dksX6_allVotes_0 22 rfl rfl
theorem dX6_allVotes_0 : decode cX6_allVotes 0 = .ok (.iconst 0, 1) := dk_3 (dk_at dksX6_allVotes_0 0 rfl rfl)
theorem dX6_allVotes_1 : decode cX6_allVotes 1 = .ok (.istore_n 1, 1) := dk_60 (dk_at dksX6_allVotes_0 1 rfl rfl)
theorem dX6_allVotes_2 : decode cX6_allVotes 2 = .ok (.iconst 0, 1) := dk_3 (dk_at dksX6_allVotes_0 2 rfl rfl)
theorem dX6_allVotes_3 : decode cX6_allVotes 3 = .ok (.istore_n 2, 1) := dk_61 (dk_at dksX6_allVotes_0 3 rfl rfl)
theorem dX6_allVotes_4 : decode cX6_allVotes 4 = .ok (.iload_n 2, 1) := dk_28 (dk_at dksX6_allVotes_0 4 rfl rfl)
theorem dX6_allVotes_5 : decode cX6_allVotes 5 = .ok (.aload_n 0, 1) := dk_42 (dk_at dksX6_allVotes_0 5 rfl rfl)
theorem dX6_allVotes_6 : decode cX6_allVotes 6 = .ok (.getfield 7, 3) := dk_180 0 7 (dk_at dksX6_allVotes_0 6 rfl rfl)
theorem dX6_allVotes_9 : decode cX6_allVotes 9 = .ok (.iconst 4, 1) := dk_7 (dk_at dksX6_allVotes_0 9 rfl rfl)
theorem dX6_allVotes_10 : decode cX6_allVotes 10 = .ok (.iaload, 1) := dk_46 (dk_at dksX6_allVotes_0 10 rfl rfl)
theorem dX6_allVotes_11 : decode cX6_allVotes 11 = .ok (.if_icmp .ge 17, 3) := dk_162 0 17 (dk_at dksX6_allVotes_0 11 rfl rfl)
theorem dX6_allVotes_14 : decode cX6_allVotes 14 = .ok (.iload_n 1, 1) := dk_27 (dk_at dksX6_allVotes_0 14 rfl rfl)
theorem dX6_allVotes_15 : decode cX6_allVotes 15 = .ok (.aload_n 0, 1) := dk_42 (dk_at dksX6_allVotes_0 15 rfl rfl)
theorem dX6_allVotes_16 : decode cX6_allVotes 16 = .ok (.iload_n 2, 1) := dk_28 (dk_at dksX6_allVotes_0 16 rfl rfl)
theorem dX6_allVotes_17 : decode cX6_allVotes 17 = .ok (.invokevirtual 284, 3) := dk_182 1 28 (dk_at dksX6_allVotes_0 17 rfl rfl)
theorem dX6_allVotes_20 : decode cX6_allVotes 20 = .ok (.iadd, 1) := dk_96 (dk_at dksX6_allVotes_0 20 rfl rfl)
theorem dX6_allVotes_21 : decode cX6_allVotes 21 = .ok (.istore_n 1, 1) := dk_60 (dk_at dksX6_allVotes_0 21 rfl rfl)
theorem dX6_allVotes_22 : decode cX6_allVotes 22 = .ok (.iinc 2 1, 3) := dk_132 2 1 (dk_at dksX6_allVotes_1 0 rfl rfl)
theorem dX6_allVotes_25 : decode cX6_allVotes 25 = .ok (.goto (-21), 3) := dk_167 255 235 (dk_at dksX6_allVotes_1 3 rfl rfl)
theorem dX6_allVotes_28 : decode cX6_allVotes 28 = .ok (.iload_n 1, 1) := dk_27 (dk_at dksX6_allVotes_1 6 rfl rfl)
theorem dX6_allVotes_29 : decode cX6_allVotes 29 = .ok (.ireturn, 1) := dk_172 (dk_at dksX6_allVotes_1 7 rfl rfl)
abbrev cX6_votesOf : ByteArray := prog_16_method_69_code
def yX6_votesOf : MethodName := ⟨RX6, "votesOf", "(I)I"⟩
def dkwX6_votesOf_0 : List UInt8 := [42, 180, 0, 7, 16, 102, 5, 27, 104, 96, 4, 96, 46, 172]
abbrev dktX6_votesOf_0 : List UInt8 := dkwX6_votesOf_0 ++ []
theorem dksX6_votesOf_0 : cX6_votesOf.data.toList.drop 0 = dktX6_votesOf_0 := by decide +kernel
theorem dX6_votesOf_0 : decode cX6_votesOf 0 = .ok (.aload_n 0, 1) := dk_42 (dk_at dksX6_votesOf_0 0 rfl rfl)
theorem dX6_votesOf_1 : decode cX6_votesOf 1 = .ok (.getfield 7, 3) := dk_180 0 7 (dk_at dksX6_votesOf_0 1 rfl rfl)
theorem dX6_votesOf_4 : decode cX6_votesOf 4 = .ok (.bipush 102, 2) := dk_16 102 (dk_at dksX6_votesOf_0 4 rfl rfl)
theorem dX6_votesOf_6 : decode cX6_votesOf 6 = .ok (.iconst 2, 1) := dk_5 (dk_at dksX6_votesOf_0 6 rfl rfl)
theorem dX6_votesOf_7 : decode cX6_votesOf 7 = .ok (.iload_n 1, 1) := dk_27 (dk_at dksX6_votesOf_0 7 rfl rfl)
theorem dX6_votesOf_8 : decode cX6_votesOf 8 = .ok (.imul, 1) := dk_104 (dk_at dksX6_votesOf_0 8 rfl rfl)
theorem dX6_votesOf_9 : decode cX6_votesOf 9 = .ok (.iadd, 1) := dk_96 (dk_at dksX6_votesOf_0 9 rfl rfl)
theorem dX6_votesOf_10 : decode cX6_votesOf 10 = .ok (.iconst 1, 1) := dk_4 (dk_at dksX6_votesOf_0 10 rfl rfl)
theorem dX6_votesOf_11 : decode cX6_votesOf 11 = .ok (.iadd, 1) := dk_96 (dk_at dksX6_votesOf_0 11 rfl rfl)
theorem dX6_votesOf_12 : decode cX6_votesOf 12 = .ok (.iaload, 1) := dk_46 (dk_at dksX6_votesOf_0 12 rfl rfl)
theorem dX6_votesOf_13 : decode cX6_votesOf 13 = .ok (.ireturn, 1) := dk_172 (dk_at dksX6_votesOf_0 13 rfl rfl)
abbrev cX6_peopleThat : ByteArray := prog_16_method_71_code
def yX6_peopleThat : MethodName := ⟨RX6, "peopleThat", "(I)I"⟩
def dkwX6_peopleThat_3 : List UInt8 := [61, 132, 3, 1, 167, 255, 188, 28, 172]
abbrev dktX6_peopleThat_3 : List UInt8 := dkwX6_peopleThat_3 ++ []
def dkwX6_peopleThat_2 : List UInt8 := [160, 0, 7, 4, 167, 0, 4, 3, 54, 4, 28, 21, 4, 153, 0, 9, 4, 29, 120, 167, 0, 4, 3, 128]
abbrev dktX6_peopleThat_2 : List UInt8 := dkwX6_peopleThat_2 ++ dktX6_peopleThat_3
def dkwX6_peopleThat_1 : List UInt8 := [182, 1, 25, 4, 160, 0, 7, 4, 167, 0, 22, 3, 167, 0, 18, 42, 29, 5, 182, 1, 25, 27]
abbrev dktX6_peopleThat_1 : List UInt8 := dkwX6_peopleThat_1 ++ dktX6_peopleThat_2
def dkwX6_peopleThat_0 : List UInt8 := [3, 61, 3, 62, 29, 42, 180, 0, 7, 6, 46, 162, 0, 64, 27, 6, 160, 0, 21, 42, 29, 6]
abbrev dktX6_peopleThat_0 : List UInt8 := dkwX6_peopleThat_0 ++ dktX6_peopleThat_1
theorem dksX6_peopleThat_0 : cX6_peopleThat.data.toList.drop 0 = dktX6_peopleThat_0 := by decide +kernel
theorem dksX6_peopleThat_1 : cX6_peopleThat.data.toList.drop 22 = dktX6_peopleThat_1 := dk_seg dksX6_peopleThat_0 22 rfl rfl
theorem dksX6_peopleThat_2 : cX6_peopleThat.data.toList.drop 44 = dktX6_peopleThat_2 := dk_seg dksX6_peopleThat_1 22 rfl rfl
theorem dksX6_peopleThat_3 : cX6_peopleThat.data.toList.drop 68 = dktX6_peopleThat_3 := dk_seg dksX6_peopleThat_2 24 rfl rfl
theorem dX6_peopleThat_0 : decode cX6_peopleThat 0 = .ok (.iconst 0, 1) := dk_3 (dk_at dksX6_peopleThat_0 0 rfl rfl)
theorem dX6_peopleThat_1 : decode cX6_peopleThat 1 = .ok (.istore_n 2, 1) := dk_61 (dk_at dksX6_peopleThat_0 1 rfl rfl)
theorem dX6_peopleThat_2 : decode cX6_peopleThat 2 = .ok (.iconst 0, 1) := dk_3 (dk_at dksX6_peopleThat_0 2 rfl rfl)
theorem dX6_peopleThat_3 : decode cX6_peopleThat 3 = .ok (.istore_n 3, 1) := dk_62 (dk_at dksX6_peopleThat_0 3 rfl rfl)
theorem dX6_peopleThat_4 : decode cX6_peopleThat 4 = .ok (.iload_n 3, 1) := dk_29 (dk_at dksX6_peopleThat_0 4 rfl rfl)
theorem dX6_peopleThat_5 : decode cX6_peopleThat 5 = .ok (.aload_n 0, 1) := dk_42 (dk_at dksX6_peopleThat_0 5 rfl rfl)
theorem dX6_peopleThat_6 : decode cX6_peopleThat 6 = .ok (.getfield 7, 3) := dk_180 0 7 (dk_at dksX6_peopleThat_0 6 rfl rfl)
theorem dX6_peopleThat_9 : decode cX6_peopleThat 9 = .ok (.iconst 3, 1) := dk_6 (dk_at dksX6_peopleThat_0 9 rfl rfl)
theorem dX6_peopleThat_10 : decode cX6_peopleThat 10 = .ok (.iaload, 1) := dk_46 (dk_at dksX6_peopleThat_0 10 rfl rfl)
theorem dX6_peopleThat_11 : decode cX6_peopleThat 11 = .ok (.if_icmp .ge 64, 3) := dk_162 0 64 (dk_at dksX6_peopleThat_0 11 rfl rfl)
theorem dX6_peopleThat_14 : decode cX6_peopleThat 14 = .ok (.iload_n 1, 1) := dk_27 (dk_at dksX6_peopleThat_0 14 rfl rfl)
theorem dX6_peopleThat_15 : decode cX6_peopleThat 15 = .ok (.iconst 3, 1) := dk_6 (dk_at dksX6_peopleThat_0 15 rfl rfl)
theorem dX6_peopleThat_16 : decode cX6_peopleThat 16 = .ok (.if_icmp .ne 21, 3) := dk_160 0 21 (dk_at dksX6_peopleThat_0 16 rfl rfl)
theorem dX6_peopleThat_19 : decode cX6_peopleThat 19 = .ok (.aload_n 0, 1) := dk_42 (dk_at dksX6_peopleThat_0 19 rfl rfl)
theorem dX6_peopleThat_20 : decode cX6_peopleThat 20 = .ok (.iload_n 3, 1) := dk_29 (dk_at dksX6_peopleThat_0 20 rfl rfl)
theorem dX6_peopleThat_21 : decode cX6_peopleThat 21 = .ok (.iconst 3, 1) := dk_6 (dk_at dksX6_peopleThat_0 21 rfl rfl)
theorem dX6_peopleThat_22 : decode cX6_peopleThat 22 = .ok (.invokevirtual 281, 3) := dk_182 1 25 (dk_at dksX6_peopleThat_1 0 rfl rfl)
theorem dX6_peopleThat_25 : decode cX6_peopleThat 25 = .ok (.iconst 1, 1) := dk_4 (dk_at dksX6_peopleThat_1 3 rfl rfl)
theorem dX6_peopleThat_26 : decode cX6_peopleThat 26 = .ok (.if_icmp .ne 7, 3) := dk_160 0 7 (dk_at dksX6_peopleThat_1 4 rfl rfl)
theorem dX6_peopleThat_29 : decode cX6_peopleThat 29 = .ok (.iconst 1, 1) := dk_4 (dk_at dksX6_peopleThat_1 7 rfl rfl)
theorem dX6_peopleThat_30 : decode cX6_peopleThat 30 = .ok (.goto 22, 3) := dk_167 0 22 (dk_at dksX6_peopleThat_1 8 rfl rfl)
theorem dX6_peopleThat_33 : decode cX6_peopleThat 33 = .ok (.iconst 0, 1) := dk_3 (dk_at dksX6_peopleThat_1 11 rfl rfl)
theorem dX6_peopleThat_34 : decode cX6_peopleThat 34 = .ok (.goto 18, 3) := dk_167 0 18 (dk_at dksX6_peopleThat_1 12 rfl rfl)
theorem dX6_peopleThat_37 : decode cX6_peopleThat 37 = .ok (.aload_n 0, 1) := dk_42 (dk_at dksX6_peopleThat_1 15 rfl rfl)
theorem dX6_peopleThat_38 : decode cX6_peopleThat 38 = .ok (.iload_n 3, 1) := dk_29 (dk_at dksX6_peopleThat_1 16 rfl rfl)
theorem dX6_peopleThat_39 : decode cX6_peopleThat 39 = .ok (.iconst 2, 1) := dk_5 (dk_at dksX6_peopleThat_1 17 rfl rfl)
theorem dX6_peopleThat_40 : decode cX6_peopleThat 40 = .ok (.invokevirtual 281, 3) := dk_182 1 25 (dk_at dksX6_peopleThat_1 18 rfl rfl)
theorem dX6_peopleThat_43 : decode cX6_peopleThat 43 = .ok (.iload_n 1, 1) := dk_27 (dk_at dksX6_peopleThat_1 21 rfl rfl)
theorem dX6_peopleThat_44 : decode cX6_peopleThat 44 = .ok (.if_icmp .ne 7, 3) := dk_160 0 7 (dk_at dksX6_peopleThat_2 0 rfl rfl)
theorem dX6_peopleThat_47 : decode cX6_peopleThat 47 = .ok (.iconst 1, 1) := dk_4 (dk_at dksX6_peopleThat_2 3 rfl rfl)
theorem dX6_peopleThat_48 : decode cX6_peopleThat 48 = .ok (.goto 4, 3) := dk_167 0 4 (dk_at dksX6_peopleThat_2 4 rfl rfl)
theorem dX6_peopleThat_51 : decode cX6_peopleThat 51 = .ok (.iconst 0, 1) := dk_3 (dk_at dksX6_peopleThat_2 7 rfl rfl)
theorem dX6_peopleThat_52 : decode cX6_peopleThat 52 = .ok (.istore 4, 2) := dk_54 4 (dk_at dksX6_peopleThat_2 8 rfl rfl)
theorem dX6_peopleThat_54 : decode cX6_peopleThat 54 = .ok (.iload_n 2, 1) := dk_28 (dk_at dksX6_peopleThat_2 10 rfl rfl)
theorem dX6_peopleThat_55 : decode cX6_peopleThat 55 = .ok (.iload 4, 2) := dk_21 4 (dk_at dksX6_peopleThat_2 11 rfl rfl)
theorem dX6_peopleThat_57 : decode cX6_peopleThat 57 = .ok (.ifCond .eq 9, 3) := dk_153 0 9 (dk_at dksX6_peopleThat_2 13 rfl rfl)
theorem dX6_peopleThat_60 : decode cX6_peopleThat 60 = .ok (.iconst 1, 1) := dk_4 (dk_at dksX6_peopleThat_2 16 rfl rfl)
theorem dX6_peopleThat_61 : decode cX6_peopleThat 61 = .ok (.iload_n 3, 1) := dk_29 (dk_at dksX6_peopleThat_2 17 rfl rfl)
theorem dX6_peopleThat_62 : decode cX6_peopleThat 62 = .ok (.ishl, 1) := dk_120 (dk_at dksX6_peopleThat_2 18 rfl rfl)
theorem dX6_peopleThat_63 : decode cX6_peopleThat 63 = .ok (.goto 4, 3) := dk_167 0 4 (dk_at dksX6_peopleThat_2 19 rfl rfl)
theorem dX6_peopleThat_66 : decode cX6_peopleThat 66 = .ok (.iconst 0, 1) := dk_3 (dk_at dksX6_peopleThat_2 22 rfl rfl)
theorem dX6_peopleThat_67 : decode cX6_peopleThat 67 = .ok (.ior, 1) := dk_128 (dk_at dksX6_peopleThat_2 23 rfl rfl)
theorem dX6_peopleThat_68 : decode cX6_peopleThat 68 = .ok (.istore_n 2, 1) := dk_61 (dk_at dksX6_peopleThat_3 0 rfl rfl)
theorem dX6_peopleThat_69 : decode cX6_peopleThat 69 = .ok (.iinc 3 1, 3) := dk_132 3 1 (dk_at dksX6_peopleThat_3 1 rfl rfl)
theorem dX6_peopleThat_72 : decode cX6_peopleThat 72 = .ok (.goto (-68), 3) := dk_167 255 188 (dk_at dksX6_peopleThat_3 4 rfl rfl)
theorem dX6_peopleThat_75 : decode cX6_peopleThat 75 = .ok (.iload_n 2, 1) := dk_28 (dk_at dksX6_peopleThat_3 7 rfl rfl)
theorem dX6_peopleThat_76 : decode cX6_peopleThat 76 = .ok (.ireturn, 1) := dk_172 (dk_at dksX6_peopleThat_3 8 rfl rfl)
abbrev cX6_personOf : ByteArray := prog_16_method_67_code
def yX6_personOf : MethodName := ⟨RX6, "personOf", "(II)I"⟩
def dkwX6_personOf_0 : List UInt8 := [42, 180, 0, 7, 27, 184, 0, 224, 28, 96, 46, 172]
abbrev dktX6_personOf_0 : List UInt8 := dkwX6_personOf_0 ++ []
theorem dksX6_personOf_0 : cX6_personOf.data.toList.drop 0 = dktX6_personOf_0 := by decide +kernel
theorem dX6_personOf_0 : decode cX6_personOf 0 = .ok (.aload_n 0, 1) := dk_42 (dk_at dksX6_personOf_0 0 rfl rfl)
theorem dX6_personOf_1 : decode cX6_personOf 1 = .ok (.getfield 7, 3) := dk_180 0 7 (dk_at dksX6_personOf_0 1 rfl rfl)
theorem dX6_personOf_4 : decode cX6_personOf 4 = .ok (.iload_n 1, 1) := dk_27 (dk_at dksX6_personOf_0 4 rfl rfl)
theorem dX6_personOf_5 : decode cX6_personOf 5 = .ok (.invokestatic 224, 3) := dk_184 0 224 (dk_at dksX6_personOf_0 5 rfl rfl)
theorem dX6_personOf_8 : decode cX6_personOf 8 = .ok (.iload_n 2, 1) := dk_28 (dk_at dksX6_personOf_0 8 rfl rfl)
theorem dX6_personOf_9 : decode cX6_personOf 9 = .ok (.iadd, 1) := dk_96 (dk_at dksX6_personOf_0 9 rfl rfl)
theorem dX6_personOf_10 : decode cX6_personOf 10 = .ok (.iaload, 1) := dk_46 (dk_at dksX6_personOf_0 10 rfl rfl)
theorem dX6_personOf_11 : decode cX6_personOf 11 = .ok (.ireturn, 1) := dk_172 (dk_at dksX6_personOf_0 11 rfl rfl)
abbrev cX6_sense : ByteArray := prog_16_method_74_code
def yX6_sense : MethodName := ⟨RX6, "sense", "(I)I"⟩
def dkwX6_sense_1 : List UInt8 := [42, 4, 182, 0, 91, 172]
abbrev dktX6_sense_1 : List UInt8 := dkwX6_sense_1 ++ []
def dkwX6_sense_0 : List UInt8 := [42, 27, 182, 1, 37, 153, 0, 19, 42, 42, 180, 0, 7, 16, 10, 27, 96, 46, 182, 0, 95, 167, 0, 8]
abbrev dktX6_sense_0 : List UInt8 := dkwX6_sense_0 ++ dktX6_sense_1
theorem dksX6_sense_0 : cX6_sense.data.toList.drop 0 = dktX6_sense_0 := by decide +kernel
theorem dksX6_sense_1 : cX6_sense.data.toList.drop 24 = dktX6_sense_1 := dk_seg dksX6_sense_0 24 rfl rfl
theorem dX6_sense_0 : decode cX6_sense 0 = .ok (.aload_n 0, 1) := dk_42 (dk_at dksX6_sense_0 0 rfl rfl)
theorem dX6_sense_1 : decode cX6_sense 1 = .ok (.iload_n 1, 1) := dk_27 (dk_at dksX6_sense_0 1 rfl rfl)
theorem dX6_sense_2 : decode cX6_sense 2 = .ok (.invokevirtual 293, 3) := dk_182 1 37 (dk_at dksX6_sense_0 2 rfl rfl)
theorem dX6_sense_5 : decode cX6_sense 5 = .ok (.ifCond .eq 19, 3) := dk_153 0 19 (dk_at dksX6_sense_0 5 rfl rfl)
theorem dX6_sense_8 : decode cX6_sense 8 = .ok (.aload_n 0, 1) := dk_42 (dk_at dksX6_sense_0 8 rfl rfl)
theorem dX6_sense_9 : decode cX6_sense 9 = .ok (.aload_n 0, 1) := dk_42 (dk_at dksX6_sense_0 9 rfl rfl)
theorem dX6_sense_10 : decode cX6_sense 10 = .ok (.getfield 7, 3) := dk_180 0 7 (dk_at dksX6_sense_0 10 rfl rfl)
theorem dX6_sense_13 : decode cX6_sense 13 = .ok (.bipush 10, 2) := dk_16 10 (dk_at dksX6_sense_0 13 rfl rfl)
theorem dX6_sense_15 : decode cX6_sense 15 = .ok (.iload_n 1, 1) := dk_27 (dk_at dksX6_sense_0 15 rfl rfl)
theorem dX6_sense_16 : decode cX6_sense 16 = .ok (.iadd, 1) := dk_96 (dk_at dksX6_sense_0 16 rfl rfl)
theorem dX6_sense_17 : decode cX6_sense 17 = .ok (.iaload, 1) := dk_46 (dk_at dksX6_sense_0 17 rfl rfl)
theorem dX6_sense_18 : decode cX6_sense 18 = .ok (.invokevirtual 95, 3) := dk_182 0 95 (dk_at dksX6_sense_0 18 rfl rfl)
theorem dX6_sense_21 : decode cX6_sense 21 = .ok (.goto 8, 3) := dk_167 0 8 (dk_at dksX6_sense_0 21 rfl rfl)
theorem dX6_sense_24 : decode cX6_sense 24 = .ok (.aload_n 0, 1) := dk_42 (dk_at dksX6_sense_1 0 rfl rfl)
theorem dX6_sense_25 : decode cX6_sense 25 = .ok (.iconst 1, 1) := dk_4 (dk_at dksX6_sense_1 1 rfl rfl)
theorem dX6_sense_26 : decode cX6_sense 26 = .ok (.invokevirtual 91, 3) := dk_182 0 91 (dk_at dksX6_sense_1 2 rfl rfl)
theorem dX6_sense_29 : decode cX6_sense 29 = .ok (.ireturn, 1) := dk_172 (dk_at dksX6_sense_1 5 rfl rfl)
abbrev cX6_isCue : ByteArray := prog_16_method_61_code
def yX6_isCue : MethodName := ⟨RX6, "isCue", "(I)Z"⟩
def dkwX6_isCue_0 : List UInt8 := [27, 155, 0, 17, 27, 42, 180, 0, 7, 4, 46, 162, 0, 7, 4, 167, 0, 4, 3, 172]
abbrev dktX6_isCue_0 : List UInt8 := dkwX6_isCue_0 ++ []
theorem dksX6_isCue_0 : cX6_isCue.data.toList.drop 0 = dktX6_isCue_0 := by decide +kernel
theorem dX6_isCue_0 : decode cX6_isCue 0 = .ok (.iload_n 1, 1) := dk_27 (dk_at dksX6_isCue_0 0 rfl rfl)
theorem dX6_isCue_1 : decode cX6_isCue 1 = .ok (.ifCond .lt 17, 3) := dk_155 0 17 (dk_at dksX6_isCue_0 1 rfl rfl)
theorem dX6_isCue_4 : decode cX6_isCue 4 = .ok (.iload_n 1, 1) := dk_27 (dk_at dksX6_isCue_0 4 rfl rfl)
theorem dX6_isCue_5 : decode cX6_isCue 5 = .ok (.aload_n 0, 1) := dk_42 (dk_at dksX6_isCue_0 5 rfl rfl)
theorem dX6_isCue_6 : decode cX6_isCue 6 = .ok (.getfield 7, 3) := dk_180 0 7 (dk_at dksX6_isCue_0 6 rfl rfl)
theorem dX6_isCue_9 : decode cX6_isCue 9 = .ok (.iconst 1, 1) := dk_4 (dk_at dksX6_isCue_0 9 rfl rfl)
theorem dX6_isCue_10 : decode cX6_isCue 10 = .ok (.iaload, 1) := dk_46 (dk_at dksX6_isCue_0 10 rfl rfl)
theorem dX6_isCue_11 : decode cX6_isCue 11 = .ok (.if_icmp .ge 7, 3) := dk_162 0 7 (dk_at dksX6_isCue_0 11 rfl rfl)
theorem dX6_isCue_14 : decode cX6_isCue 14 = .ok (.iconst 1, 1) := dk_4 (dk_at dksX6_isCue_0 14 rfl rfl)
theorem dX6_isCue_15 : decode cX6_isCue 15 = .ok (.goto 4, 3) := dk_167 0 4 (dk_at dksX6_isCue_0 15 rfl rfl)
theorem dX6_isCue_18 : decode cX6_isCue 18 = .ok (.iconst 0, 1) := dk_3 (dk_at dksX6_isCue_0 18 rfl rfl)
theorem dX6_isCue_19 : decode cX6_isCue 19 = .ok (.ireturn, 1) := dk_172 (dk_at dksX6_isCue_0 19 rfl rfl)
abbrev cX6_rule : ByteArray := prog_16_method_75_code
def yX6_rule : MethodName := ⟨RX6, "rule", "(II)I"⟩
def dkwX6_rule_5 : List UInt8 := [42, 27, 16, 6, 182, 1, 43, 182, 1, 46, 172]
abbrev dktX6_rule_5 : List UInt8 := dkwX6_rule_5 ++ []
def dkwX6_rule_4 : List UInt8 := [154, 0, 12, 42, 16, 6, 182, 0, 91, 167, 0, 13, 42, 42, 27, 8, 182, 1, 43, 182, 0, 95, 172, 42]
abbrev dktX6_rule_4 : List UInt8 := dkwX6_rule_4 ++ dktX6_rule_5
def dkwX6_rule_3 : List UInt8 := [182, 0, 91, 167, 0, 13, 42, 42, 27, 6, 182, 1, 43, 182, 0, 95, 172, 42, 27, 7, 182, 1, 43]
abbrev dktX6_rule_3 : List UInt8 := dkwX6_rule_3 ++ dktX6_rule_4
def dkwX6_rule_2 : List UInt8 := [42, 42, 27, 28, 182, 1, 43, 182, 0, 95, 172, 42, 27, 5, 182, 1, 43, 154, 0, 12, 42, 16, 6]
abbrev dktX6_rule_2 : List UInt8 := dkwX6_rule_2 ++ dktX6_rule_3
def dkwX6_rule_1 : List UInt8 := [170, 0, 0, 0, 0, 0, 0, 101, 0, 0, 0, 0, 0, 0, 0, 3, 0, 0, 0, 32, 0, 0, 0, 32, 0, 0, 0, 43, 0, 0, 0, 72]
abbrev dktX6_rule_1 : List UInt8 := dkwX6_rule_1 ++ dktX6_rule_2
def dkwX6_rule_0 : List UInt8 := [42, 27, 182, 1, 40, 153, 0, 12, 28, 155, 0, 8, 28, 7, 164, 0, 9, 42, 4, 182, 0, 91, 172, 28]
abbrev dktX6_rule_0 : List UInt8 := dkwX6_rule_0 ++ dktX6_rule_1
theorem dksX6_rule_0 : cX6_rule.data.toList.drop 0 = dktX6_rule_0 := by decide +kernel
theorem dksX6_rule_1 : cX6_rule.data.toList.drop 24 = dktX6_rule_1 := dk_seg dksX6_rule_0 24 rfl rfl
theorem dksX6_rule_2 : cX6_rule.data.toList.drop 56 = dktX6_rule_2 := dk_seg dksX6_rule_1 32 rfl rfl
theorem dksX6_rule_3 : cX6_rule.data.toList.drop 79 = dktX6_rule_3 := dk_seg dksX6_rule_2 23 rfl rfl
theorem dksX6_rule_4 : cX6_rule.data.toList.drop 102 = dktX6_rule_4 := dk_seg dksX6_rule_3 23 rfl rfl
theorem dksX6_rule_5 : cX6_rule.data.toList.drop 126 = dktX6_rule_5 := dk_seg dksX6_rule_4 24 rfl rfl
theorem dX6_rule_0 : decode cX6_rule 0 = .ok (.aload_n 0, 1) := dk_42 (dk_at dksX6_rule_0 0 rfl rfl)
theorem dX6_rule_1 : decode cX6_rule 1 = .ok (.iload_n 1, 1) := dk_27 (dk_at dksX6_rule_0 1 rfl rfl)
theorem dX6_rule_2 : decode cX6_rule 2 = .ok (.invokevirtual 296, 3) := dk_182 1 40 (dk_at dksX6_rule_0 2 rfl rfl)
theorem dX6_rule_5 : decode cX6_rule 5 = .ok (.ifCond .eq 12, 3) := dk_153 0 12 (dk_at dksX6_rule_0 5 rfl rfl)
theorem dX6_rule_8 : decode cX6_rule 8 = .ok (.iload_n 2, 1) := dk_28 (dk_at dksX6_rule_0 8 rfl rfl)
theorem dX6_rule_9 : decode cX6_rule 9 = .ok (.ifCond .lt 8, 3) := dk_155 0 8 (dk_at dksX6_rule_0 9 rfl rfl)
theorem dX6_rule_12 : decode cX6_rule 12 = .ok (.iload_n 2, 1) := dk_28 (dk_at dksX6_rule_0 12 rfl rfl)
theorem dX6_rule_13 : decode cX6_rule 13 = .ok (.iconst 4, 1) := dk_7 (dk_at dksX6_rule_0 13 rfl rfl)
theorem dX6_rule_14 : decode cX6_rule 14 = .ok (.if_icmp .le 9, 3) := dk_164 0 9 (dk_at dksX6_rule_0 14 rfl rfl)
theorem dX6_rule_17 : decode cX6_rule 17 = .ok (.aload_n 0, 1) := dk_42 (dk_at dksX6_rule_0 17 rfl rfl)
theorem dX6_rule_18 : decode cX6_rule 18 = .ok (.iconst 1, 1) := dk_4 (dk_at dksX6_rule_0 18 rfl rfl)
theorem dX6_rule_19 : decode cX6_rule 19 = .ok (.invokevirtual 91, 3) := dk_182 0 91 (dk_at dksX6_rule_0 19 rfl rfl)
theorem dX6_rule_22 : decode cX6_rule 22 = .ok (.ireturn, 1) := dk_172 (dk_at dksX6_rule_0 22 rfl rfl)
theorem dX6_rule_23 : decode cX6_rule 23 = .ok (.iload_n 2, 1) := dk_28 (dk_at dksX6_rule_0 23 rfl rfl)
theorem dX6_rule_24 : decode cX6_rule 24 = .ok (.tableswitch 101 0 3 #[32, 32, 43, 72], 32) := by decide +kernel
theorem dX6_rule_56 : decode cX6_rule 56 = .ok (.aload_n 0, 1) := dk_42 (dk_at dksX6_rule_2 0 rfl rfl)
theorem dX6_rule_57 : decode cX6_rule 57 = .ok (.aload_n 0, 1) := dk_42 (dk_at dksX6_rule_2 1 rfl rfl)
theorem dX6_rule_58 : decode cX6_rule 58 = .ok (.iload_n 1, 1) := dk_27 (dk_at dksX6_rule_2 2 rfl rfl)
theorem dX6_rule_59 : decode cX6_rule 59 = .ok (.iload_n 2, 1) := dk_28 (dk_at dksX6_rule_2 3 rfl rfl)
theorem dX6_rule_60 : decode cX6_rule 60 = .ok (.invokevirtual 299, 3) := dk_182 1 43 (dk_at dksX6_rule_2 4 rfl rfl)
theorem dX6_rule_63 : decode cX6_rule 63 = .ok (.invokevirtual 95, 3) := dk_182 0 95 (dk_at dksX6_rule_2 7 rfl rfl)
theorem dX6_rule_66 : decode cX6_rule 66 = .ok (.ireturn, 1) := dk_172 (dk_at dksX6_rule_2 10 rfl rfl)
theorem dX6_rule_67 : decode cX6_rule 67 = .ok (.aload_n 0, 1) := dk_42 (dk_at dksX6_rule_2 11 rfl rfl)
theorem dX6_rule_68 : decode cX6_rule 68 = .ok (.iload_n 1, 1) := dk_27 (dk_at dksX6_rule_2 12 rfl rfl)
theorem dX6_rule_69 : decode cX6_rule 69 = .ok (.iconst 2, 1) := dk_5 (dk_at dksX6_rule_2 13 rfl rfl)
theorem dX6_rule_70 : decode cX6_rule 70 = .ok (.invokevirtual 299, 3) := dk_182 1 43 (dk_at dksX6_rule_2 14 rfl rfl)
theorem dX6_rule_73 : decode cX6_rule 73 = .ok (.ifCond .ne 12, 3) := dk_154 0 12 (dk_at dksX6_rule_2 17 rfl rfl)
theorem dX6_rule_76 : decode cX6_rule 76 = .ok (.aload_n 0, 1) := dk_42 (dk_at dksX6_rule_2 20 rfl rfl)
theorem dX6_rule_77 : decode cX6_rule 77 = .ok (.bipush 6, 2) := dk_16 6 (dk_at dksX6_rule_2 21 rfl rfl)
theorem dX6_rule_79 : decode cX6_rule 79 = .ok (.invokevirtual 91, 3) := dk_182 0 91 (dk_at dksX6_rule_3 0 rfl rfl)
theorem dX6_rule_82 : decode cX6_rule 82 = .ok (.goto 13, 3) := dk_167 0 13 (dk_at dksX6_rule_3 3 rfl rfl)
theorem dX6_rule_85 : decode cX6_rule 85 = .ok (.aload_n 0, 1) := dk_42 (dk_at dksX6_rule_3 6 rfl rfl)
theorem dX6_rule_86 : decode cX6_rule 86 = .ok (.aload_n 0, 1) := dk_42 (dk_at dksX6_rule_3 7 rfl rfl)
theorem dX6_rule_87 : decode cX6_rule 87 = .ok (.iload_n 1, 1) := dk_27 (dk_at dksX6_rule_3 8 rfl rfl)
theorem dX6_rule_88 : decode cX6_rule 88 = .ok (.iconst 3, 1) := dk_6 (dk_at dksX6_rule_3 9 rfl rfl)
theorem dX6_rule_89 : decode cX6_rule 89 = .ok (.invokevirtual 299, 3) := dk_182 1 43 (dk_at dksX6_rule_3 10 rfl rfl)
theorem dX6_rule_92 : decode cX6_rule 92 = .ok (.invokevirtual 95, 3) := dk_182 0 95 (dk_at dksX6_rule_3 13 rfl rfl)
theorem dX6_rule_95 : decode cX6_rule 95 = .ok (.ireturn, 1) := dk_172 (dk_at dksX6_rule_3 16 rfl rfl)
theorem dX6_rule_96 : decode cX6_rule 96 = .ok (.aload_n 0, 1) := dk_42 (dk_at dksX6_rule_3 17 rfl rfl)
theorem dX6_rule_97 : decode cX6_rule 97 = .ok (.iload_n 1, 1) := dk_27 (dk_at dksX6_rule_3 18 rfl rfl)
theorem dX6_rule_98 : decode cX6_rule 98 = .ok (.iconst 4, 1) := dk_7 (dk_at dksX6_rule_3 19 rfl rfl)
theorem dX6_rule_99 : decode cX6_rule 99 = .ok (.invokevirtual 299, 3) := dk_182 1 43 (dk_at dksX6_rule_3 20 rfl rfl)
theorem dX6_rule_102 : decode cX6_rule 102 = .ok (.ifCond .ne 12, 3) := dk_154 0 12 (dk_at dksX6_rule_4 0 rfl rfl)
theorem dX6_rule_105 : decode cX6_rule 105 = .ok (.aload_n 0, 1) := dk_42 (dk_at dksX6_rule_4 3 rfl rfl)
theorem dX6_rule_106 : decode cX6_rule 106 = .ok (.bipush 6, 2) := dk_16 6 (dk_at dksX6_rule_4 4 rfl rfl)
theorem dX6_rule_108 : decode cX6_rule 108 = .ok (.invokevirtual 91, 3) := dk_182 0 91 (dk_at dksX6_rule_4 6 rfl rfl)
theorem dX6_rule_111 : decode cX6_rule 111 = .ok (.goto 13, 3) := dk_167 0 13 (dk_at dksX6_rule_4 9 rfl rfl)
theorem dX6_rule_114 : decode cX6_rule 114 = .ok (.aload_n 0, 1) := dk_42 (dk_at dksX6_rule_4 12 rfl rfl)
theorem dX6_rule_115 : decode cX6_rule 115 = .ok (.aload_n 0, 1) := dk_42 (dk_at dksX6_rule_4 13 rfl rfl)
theorem dX6_rule_116 : decode cX6_rule 116 = .ok (.iload_n 1, 1) := dk_27 (dk_at dksX6_rule_4 14 rfl rfl)
theorem dX6_rule_117 : decode cX6_rule 117 = .ok (.iconst 5, 1) := dk_8 (dk_at dksX6_rule_4 15 rfl rfl)
theorem dX6_rule_118 : decode cX6_rule 118 = .ok (.invokevirtual 299, 3) := dk_182 1 43 (dk_at dksX6_rule_4 16 rfl rfl)
theorem dX6_rule_121 : decode cX6_rule 121 = .ok (.invokevirtual 95, 3) := dk_182 0 95 (dk_at dksX6_rule_4 19 rfl rfl)
theorem dX6_rule_124 : decode cX6_rule 124 = .ok (.ireturn, 1) := dk_172 (dk_at dksX6_rule_4 22 rfl rfl)
theorem dX6_rule_125 : decode cX6_rule 125 = .ok (.aload_n 0, 1) := dk_42 (dk_at dksX6_rule_4 23 rfl rfl)
theorem dX6_rule_126 : decode cX6_rule 126 = .ok (.aload_n 0, 1) := dk_42 (dk_at dksX6_rule_5 0 rfl rfl)
theorem dX6_rule_127 : decode cX6_rule 127 = .ok (.iload_n 1, 1) := dk_27 (dk_at dksX6_rule_5 1 rfl rfl)
theorem dX6_rule_128 : decode cX6_rule 128 = .ok (.bipush 6, 2) := dk_16 6 (dk_at dksX6_rule_5 2 rfl rfl)
theorem dX6_rule_130 : decode cX6_rule 130 = .ok (.invokevirtual 299, 3) := dk_182 1 43 (dk_at dksX6_rule_5 4 rfl rfl)
theorem dX6_rule_133 : decode cX6_rule 133 = .ok (.invokevirtual 302, 3) := dk_182 1 46 (dk_at dksX6_rule_5 7 rfl rfl)
theorem dX6_rule_136 : decode cX6_rule 136 = .ok (.ireturn, 1) := dk_172 (dk_at dksX6_rule_5 10 rfl rfl)
abbrev cX6_isRule : ByteArray := prog_16_method_62_code
def yX6_isRule : MethodName := ⟨RX6, "isRule", "(I)Z"⟩
def dkwX6_isRule_0 : List UInt8 := [27, 155, 0, 17, 27, 42, 180, 0, 7, 5, 46, 162, 0, 7, 4, 167, 0, 4, 3, 172]
abbrev dktX6_isRule_0 : List UInt8 := dkwX6_isRule_0 ++ []
theorem dksX6_isRule_0 : cX6_isRule.data.toList.drop 0 = dktX6_isRule_0 := by decide +kernel
theorem dX6_isRule_0 : decode cX6_isRule 0 = .ok (.iload_n 1, 1) := dk_27 (dk_at dksX6_isRule_0 0 rfl rfl)
theorem dX6_isRule_1 : decode cX6_isRule 1 = .ok (.ifCond .lt 17, 3) := dk_155 0 17 (dk_at dksX6_isRule_0 1 rfl rfl)
theorem dX6_isRule_4 : decode cX6_isRule 4 = .ok (.iload_n 1, 1) := dk_27 (dk_at dksX6_isRule_0 4 rfl rfl)
theorem dX6_isRule_5 : decode cX6_isRule 5 = .ok (.aload_n 0, 1) := dk_42 (dk_at dksX6_isRule_0 5 rfl rfl)
theorem dX6_isRule_6 : decode cX6_isRule 6 = .ok (.getfield 7, 3) := dk_180 0 7 (dk_at dksX6_isRule_0 6 rfl rfl)
theorem dX6_isRule_9 : decode cX6_isRule 9 = .ok (.iconst 2, 1) := dk_5 (dk_at dksX6_isRule_0 9 rfl rfl)
theorem dX6_isRule_10 : decode cX6_isRule 10 = .ok (.iaload, 1) := dk_46 (dk_at dksX6_isRule_0 10 rfl rfl)
theorem dX6_isRule_11 : decode cX6_isRule 11 = .ok (.if_icmp .ge 7, 3) := dk_162 0 7 (dk_at dksX6_isRule_0 11 rfl rfl)
theorem dX6_isRule_14 : decode cX6_isRule 14 = .ok (.iconst 1, 1) := dk_4 (dk_at dksX6_isRule_0 14 rfl rfl)
theorem dX6_isRule_15 : decode cX6_isRule 15 = .ok (.goto 4, 3) := dk_167 0 4 (dk_at dksX6_isRule_0 15 rfl rfl)
theorem dX6_isRule_18 : decode cX6_isRule 18 = .ok (.iconst 0, 1) := dk_3 (dk_at dksX6_isRule_0 18 rfl rfl)
theorem dX6_isRule_19 : decode cX6_isRule 19 = .ok (.ireturn, 1) := dk_172 (dk_at dksX6_isRule_0 19 rfl rfl)
abbrev cX6_ruleOf : ByteArray := prog_16_method_68_code
def yX6_ruleOf : MethodName := ⟨RX6, "ruleOf", "(II)I"⟩
def dkwX6_ruleOf_0 : List UInt8 := [42, 180, 0, 7, 27, 184, 0, 215, 28, 96, 46, 172]
abbrev dktX6_ruleOf_0 : List UInt8 := dkwX6_ruleOf_0 ++ []
theorem dksX6_ruleOf_0 : cX6_ruleOf.data.toList.drop 0 = dktX6_ruleOf_0 := by decide +kernel
theorem dX6_ruleOf_0 : decode cX6_ruleOf 0 = .ok (.aload_n 0, 1) := dk_42 (dk_at dksX6_ruleOf_0 0 rfl rfl)
theorem dX6_ruleOf_1 : decode cX6_ruleOf 1 = .ok (.getfield 7, 3) := dk_180 0 7 (dk_at dksX6_ruleOf_0 1 rfl rfl)
theorem dX6_ruleOf_4 : decode cX6_ruleOf 4 = .ok (.iload_n 1, 1) := dk_27 (dk_at dksX6_ruleOf_0 4 rfl rfl)
theorem dX6_ruleOf_5 : decode cX6_ruleOf 5 = .ok (.invokestatic 215, 3) := dk_184 0 215 (dk_at dksX6_ruleOf_0 5 rfl rfl)
theorem dX6_ruleOf_8 : decode cX6_ruleOf 8 = .ok (.iload_n 2, 1) := dk_28 (dk_at dksX6_ruleOf_0 8 rfl rfl)
theorem dX6_ruleOf_9 : decode cX6_ruleOf 9 = .ok (.iadd, 1) := dk_96 (dk_at dksX6_ruleOf_0 9 rfl rfl)
theorem dX6_ruleOf_10 : decode cX6_ruleOf 10 = .ok (.iaload, 1) := dk_46 (dk_at dksX6_ruleOf_0 10 rfl rfl)
theorem dX6_ruleOf_11 : decode cX6_ruleOf 11 = .ok (.ireturn, 1) := dk_172 (dk_at dksX6_ruleOf_0 11 rfl rfl)
abbrev cX6_orNone : ByteArray := prog_16_method_9_code
def yX6_orNone : MethodName := ⟨RX6, "orNone", "(I)I"⟩
def dkwX6_orNone_0 : List UInt8 := [27, 2, 160, 0, 12, 42, 16, 6, 182, 0, 91, 167, 0, 8, 42, 27, 182, 0, 95, 172]
abbrev dktX6_orNone_0 : List UInt8 := dkwX6_orNone_0 ++ []
theorem dksX6_orNone_0 : cX6_orNone.data.toList.drop 0 = dktX6_orNone_0 := by decide +kernel
theorem dX6_orNone_0 : decode cX6_orNone 0 = .ok (.iload_n 1, 1) := dk_27 (dk_at dksX6_orNone_0 0 rfl rfl)
theorem dX6_orNone_1 : decode cX6_orNone 1 = .ok (.iconst (-1), 1) := dk_2 (dk_at dksX6_orNone_0 1 rfl rfl)
theorem dX6_orNone_2 : decode cX6_orNone 2 = .ok (.if_icmp .ne 12, 3) := dk_160 0 12 (dk_at dksX6_orNone_0 2 rfl rfl)
theorem dX6_orNone_5 : decode cX6_orNone 5 = .ok (.aload_n 0, 1) := dk_42 (dk_at dksX6_orNone_0 5 rfl rfl)
theorem dX6_orNone_6 : decode cX6_orNone 6 = .ok (.bipush 6, 2) := dk_16 6 (dk_at dksX6_orNone_0 6 rfl rfl)
theorem dX6_orNone_8 : decode cX6_orNone 8 = .ok (.invokevirtual 91, 3) := dk_182 0 91 (dk_at dksX6_orNone_0 8 rfl rfl)
theorem dX6_orNone_11 : decode cX6_orNone 11 = .ok (.goto 8, 3) := dk_167 0 8 (dk_at dksX6_orNone_0 11 rfl rfl)
theorem dX6_orNone_14 : decode cX6_orNone 14 = .ok (.aload_n 0, 1) := dk_42 (dk_at dksX6_orNone_0 14 rfl rfl)
theorem dX6_orNone_15 : decode cX6_orNone 15 = .ok (.iload_n 1, 1) := dk_27 (dk_at dksX6_orNone_0 15 rfl rfl)
theorem dX6_orNone_16 : decode cX6_orNone 16 = .ok (.invokevirtual 95, 3) := dk_182 0 95 (dk_at dksX6_orNone_0 16 rfl rfl)
theorem dX6_orNone_19 : decode cX6_orNone 19 = .ok (.ireturn, 1) := dk_172 (dk_at dksX6_orNone_0 19 rfl rfl)
abbrev cX6_person : ByteArray := prog_16_method_76_code
def yX6_person : MethodName := ⟨RX6, "person", "(II)I"⟩
def dkwX6_person_1 : List UInt8 := [42, 42, 27, 28, 182, 1, 25, 182, 0, 95, 172]
abbrev dktX6_person_1 : List UInt8 := dkwX6_person_1 ++ []
def dkwX6_person_0 : List UInt8 := [42, 27, 133, 182, 1, 49, 153, 0, 12, 28, 155, 0, 8, 28, 7, 164, 0, 9, 42, 4, 182, 0, 91, 172]
abbrev dktX6_person_0 : List UInt8 := dkwX6_person_0 ++ dktX6_person_1
theorem dksX6_person_0 : cX6_person.data.toList.drop 0 = dktX6_person_0 := by decide +kernel
theorem dksX6_person_1 : cX6_person.data.toList.drop 24 = dktX6_person_1 := dk_seg dksX6_person_0 24 rfl rfl
theorem dX6_person_0 : decode cX6_person 0 = .ok (.aload_n 0, 1) := dk_42 (dk_at dksX6_person_0 0 rfl rfl)
theorem dX6_person_1 : decode cX6_person 1 = .ok (.iload_n 1, 1) := dk_27 (dk_at dksX6_person_0 1 rfl rfl)
theorem dX6_person_2 : decode cX6_person 2 = .ok (.i2l, 1) := dk_133 (dk_at dksX6_person_0 2 rfl rfl)
theorem dX6_person_3 : decode cX6_person 3 = .ok (.invokevirtual 305, 3) := dk_182 1 49 (dk_at dksX6_person_0 3 rfl rfl)
theorem dX6_person_6 : decode cX6_person 6 = .ok (.ifCond .eq 12, 3) := dk_153 0 12 (dk_at dksX6_person_0 6 rfl rfl)
theorem dX6_person_9 : decode cX6_person 9 = .ok (.iload_n 2, 1) := dk_28 (dk_at dksX6_person_0 9 rfl rfl)
theorem dX6_person_10 : decode cX6_person 10 = .ok (.ifCond .lt 8, 3) := dk_155 0 8 (dk_at dksX6_person_0 10 rfl rfl)
theorem dX6_person_13 : decode cX6_person 13 = .ok (.iload_n 2, 1) := dk_28 (dk_at dksX6_person_0 13 rfl rfl)
theorem dX6_person_14 : decode cX6_person 14 = .ok (.iconst 4, 1) := dk_7 (dk_at dksX6_person_0 14 rfl rfl)
theorem dX6_person_15 : decode cX6_person 15 = .ok (.if_icmp .le 9, 3) := dk_164 0 9 (dk_at dksX6_person_0 15 rfl rfl)
theorem dX6_person_18 : decode cX6_person 18 = .ok (.aload_n 0, 1) := dk_42 (dk_at dksX6_person_0 18 rfl rfl)
theorem dX6_person_19 : decode cX6_person 19 = .ok (.iconst 1, 1) := dk_4 (dk_at dksX6_person_0 19 rfl rfl)
theorem dX6_person_20 : decode cX6_person 20 = .ok (.invokevirtual 91, 3) := dk_182 0 91 (dk_at dksX6_person_0 20 rfl rfl)
theorem dX6_person_23 : decode cX6_person 23 = .ok (.ireturn, 1) := dk_172 (dk_at dksX6_person_0 23 rfl rfl)
theorem dX6_person_24 : decode cX6_person 24 = .ok (.aload_n 0, 1) := dk_42 (dk_at dksX6_person_1 0 rfl rfl)
theorem dX6_person_25 : decode cX6_person 25 = .ok (.aload_n 0, 1) := dk_42 (dk_at dksX6_person_1 1 rfl rfl)
theorem dX6_person_26 : decode cX6_person 26 = .ok (.iload_n 1, 1) := dk_27 (dk_at dksX6_person_1 2 rfl rfl)
theorem dX6_person_27 : decode cX6_person 27 = .ok (.iload_n 2, 1) := dk_28 (dk_at dksX6_person_1 3 rfl rfl)
theorem dX6_person_28 : decode cX6_person 28 = .ok (.invokevirtual 281, 3) := dk_182 1 25 (dk_at dksX6_person_1 4 rfl rfl)
theorem dX6_person_31 : decode cX6_person 31 = .ok (.invokevirtual 95, 3) := dk_182 0 95 (dk_at dksX6_person_1 7 rfl rfl)
theorem dX6_person_34 : decode cX6_person 34 = .ok (.ireturn, 1) := dk_172 (dk_at dksX6_person_1 10 rfl rfl)
abbrev cX6_isPerson : ByteArray := prog_16_method_63_code
def yX6_isPerson : MethodName := ⟨RX6, "isPerson", "(J)Z"⟩
def dkwX6_isPerson_0 : List UInt8 := [31, 9, 148, 155, 0, 19, 31, 42, 180, 0, 7, 6, 46, 133, 148, 156, 0, 7, 4, 167, 0, 4, 3, 172]
abbrev dktX6_isPerson_0 : List UInt8 := dkwX6_isPerson_0 ++ []
theorem dksX6_isPerson_0 : cX6_isPerson.data.toList.drop 0 = dktX6_isPerson_0 := by decide +kernel
theorem dX6_isPerson_0 : decode cX6_isPerson 0 = .ok (.lload_n 1, 1) := dk_31 (dk_at dksX6_isPerson_0 0 rfl rfl)
theorem dX6_isPerson_1 : decode cX6_isPerson 1 = .ok (.lconst 0, 1) := dk_9 (dk_at dksX6_isPerson_0 1 rfl rfl)
theorem dX6_isPerson_2 : decode cX6_isPerson 2 = .ok (.lcmp, 1) := dk_148 (dk_at dksX6_isPerson_0 2 rfl rfl)
theorem dX6_isPerson_3 : decode cX6_isPerson 3 = .ok (.ifCond .lt 19, 3) := dk_155 0 19 (dk_at dksX6_isPerson_0 3 rfl rfl)
theorem dX6_isPerson_6 : decode cX6_isPerson 6 = .ok (.lload_n 1, 1) := dk_31 (dk_at dksX6_isPerson_0 6 rfl rfl)
theorem dX6_isPerson_7 : decode cX6_isPerson 7 = .ok (.aload_n 0, 1) := dk_42 (dk_at dksX6_isPerson_0 7 rfl rfl)
theorem dX6_isPerson_8 : decode cX6_isPerson 8 = .ok (.getfield 7, 3) := dk_180 0 7 (dk_at dksX6_isPerson_0 8 rfl rfl)
theorem dX6_isPerson_11 : decode cX6_isPerson 11 = .ok (.iconst 3, 1) := dk_6 (dk_at dksX6_isPerson_0 11 rfl rfl)
theorem dX6_isPerson_12 : decode cX6_isPerson 12 = .ok (.iaload, 1) := dk_46 (dk_at dksX6_isPerson_0 12 rfl rfl)
theorem dX6_isPerson_13 : decode cX6_isPerson 13 = .ok (.i2l, 1) := dk_133 (dk_at dksX6_isPerson_0 13 rfl rfl)
theorem dX6_isPerson_14 : decode cX6_isPerson 14 = .ok (.lcmp, 1) := dk_148 (dk_at dksX6_isPerson_0 14 rfl rfl)
theorem dX6_isPerson_15 : decode cX6_isPerson 15 = .ok (.ifCond .ge 7, 3) := dk_156 0 7 (dk_at dksX6_isPerson_0 15 rfl rfl)
theorem dX6_isPerson_18 : decode cX6_isPerson 18 = .ok (.iconst 1, 1) := dk_4 (dk_at dksX6_isPerson_0 18 rfl rfl)
theorem dX6_isPerson_19 : decode cX6_isPerson 19 = .ok (.goto 4, 3) := dk_167 0 4 (dk_at dksX6_isPerson_0 19 rfl rfl)
theorem dX6_isPerson_22 : decode cX6_isPerson 22 = .ok (.iconst 0, 1) := dk_3 (dk_at dksX6_isPerson_0 22 rfl rfl)
theorem dX6_isPerson_23 : decode cX6_isPerson 23 = .ok (.ireturn, 1) := dk_172 (dk_at dksX6_isPerson_0 23 rfl rfl)
abbrev cX6_reader : ByteArray := prog_16_method_77_code
def yX6_reader : MethodName := ⟨RX6, "reader", "(II)I"⟩
def dkwX6_reader_1 : List UInt8 := [28, 154, 0, 11, 42, 27, 182, 1, 56, 167, 0, 8, 42, 27, 182, 1, 28, 182, 0, 95, 172]
abbrev dktX6_reader_1 : List UInt8 := dkwX6_reader_1 ++ []
def dkwX6_reader_0 : List UInt8 := [42, 27, 182, 1, 53, 153, 0, 12, 28, 155, 0, 8, 28, 4, 164, 0, 9, 42, 4, 182, 0, 91, 172, 42]
abbrev dktX6_reader_0 : List UInt8 := dkwX6_reader_0 ++ dktX6_reader_1
theorem dksX6_reader_0 : cX6_reader.data.toList.drop 0 = dktX6_reader_0 := by decide +kernel
theorem dksX6_reader_1 : cX6_reader.data.toList.drop 24 = dktX6_reader_1 := dk_seg dksX6_reader_0 24 rfl rfl
theorem dX6_reader_0 : decode cX6_reader 0 = .ok (.aload_n 0, 1) := dk_42 (dk_at dksX6_reader_0 0 rfl rfl)
theorem dX6_reader_1 : decode cX6_reader 1 = .ok (.iload_n 1, 1) := dk_27 (dk_at dksX6_reader_0 1 rfl rfl)
theorem dX6_reader_2 : decode cX6_reader 2 = .ok (.invokevirtual 309, 3) := dk_182 1 53 (dk_at dksX6_reader_0 2 rfl rfl)
theorem dX6_reader_5 : decode cX6_reader 5 = .ok (.ifCond .eq 12, 3) := dk_153 0 12 (dk_at dksX6_reader_0 5 rfl rfl)
theorem dX6_reader_8 : decode cX6_reader 8 = .ok (.iload_n 2, 1) := dk_28 (dk_at dksX6_reader_0 8 rfl rfl)
theorem dX6_reader_9 : decode cX6_reader 9 = .ok (.ifCond .lt 8, 3) := dk_155 0 8 (dk_at dksX6_reader_0 9 rfl rfl)
theorem dX6_reader_12 : decode cX6_reader 12 = .ok (.iload_n 2, 1) := dk_28 (dk_at dksX6_reader_0 12 rfl rfl)
theorem dX6_reader_13 : decode cX6_reader 13 = .ok (.iconst 1, 1) := dk_4 (dk_at dksX6_reader_0 13 rfl rfl)
theorem dX6_reader_14 : decode cX6_reader 14 = .ok (.if_icmp .le 9, 3) := dk_164 0 9 (dk_at dksX6_reader_0 14 rfl rfl)
theorem dX6_reader_17 : decode cX6_reader 17 = .ok (.aload_n 0, 1) := dk_42 (dk_at dksX6_reader_0 17 rfl rfl)
theorem dX6_reader_18 : decode cX6_reader 18 = .ok (.iconst 1, 1) := dk_4 (dk_at dksX6_reader_0 18 rfl rfl)
theorem dX6_reader_19 : decode cX6_reader 19 = .ok (.invokevirtual 91, 3) := dk_182 0 91 (dk_at dksX6_reader_0 19 rfl rfl)
theorem dX6_reader_22 : decode cX6_reader 22 = .ok (.ireturn, 1) := dk_172 (dk_at dksX6_reader_0 22 rfl rfl)
theorem dX6_reader_23 : decode cX6_reader 23 = .ok (.aload_n 0, 1) := dk_42 (dk_at dksX6_reader_0 23 rfl rfl)
theorem dX6_reader_24 : decode cX6_reader 24 = .ok (.iload_n 2, 1) := dk_28 (dk_at dksX6_reader_1 0 rfl rfl)
theorem dX6_reader_25 : decode cX6_reader 25 = .ok (.ifCond .ne 11, 3) := dk_154 0 11 (dk_at dksX6_reader_1 1 rfl rfl)
theorem dX6_reader_28 : decode cX6_reader 28 = .ok (.aload_n 0, 1) := dk_42 (dk_at dksX6_reader_1 4 rfl rfl)
theorem dX6_reader_29 : decode cX6_reader 29 = .ok (.iload_n 1, 1) := dk_27 (dk_at dksX6_reader_1 5 rfl rfl)
theorem dX6_reader_30 : decode cX6_reader 30 = .ok (.invokevirtual 312, 3) := dk_182 1 56 (dk_at dksX6_reader_1 6 rfl rfl)
theorem dX6_reader_33 : decode cX6_reader 33 = .ok (.goto 8, 3) := dk_167 0 8 (dk_at dksX6_reader_1 9 rfl rfl)
theorem dX6_reader_36 : decode cX6_reader 36 = .ok (.aload_n 0, 1) := dk_42 (dk_at dksX6_reader_1 12 rfl rfl)
theorem dX6_reader_37 : decode cX6_reader 37 = .ok (.iload_n 1, 1) := dk_27 (dk_at dksX6_reader_1 13 rfl rfl)
theorem dX6_reader_38 : decode cX6_reader 38 = .ok (.invokevirtual 284, 3) := dk_182 1 28 (dk_at dksX6_reader_1 14 rfl rfl)
theorem dX6_reader_41 : decode cX6_reader 41 = .ok (.invokevirtual 95, 3) := dk_182 0 95 (dk_at dksX6_reader_1 17 rfl rfl)
theorem dX6_reader_44 : decode cX6_reader 44 = .ok (.ireturn, 1) := dk_172 (dk_at dksX6_reader_1 20 rfl rfl)
abbrev cX6_isReader : ByteArray := prog_16_method_64_code
def yX6_isReader : MethodName := ⟨RX6, "isReader", "(I)Z"⟩
def dkwX6_isReader_0 : List UInt8 := [27, 155, 0, 17, 27, 42, 180, 0, 7, 7, 46, 162, 0, 7, 4, 167, 0, 4, 3, 172]
abbrev dktX6_isReader_0 : List UInt8 := dkwX6_isReader_0 ++ []
theorem dksX6_isReader_0 : cX6_isReader.data.toList.drop 0 = dktX6_isReader_0 := by decide +kernel
theorem dX6_isReader_0 : decode cX6_isReader 0 = .ok (.iload_n 1, 1) := dk_27 (dk_at dksX6_isReader_0 0 rfl rfl)
theorem dX6_isReader_1 : decode cX6_isReader 1 = .ok (.ifCond .lt 17, 3) := dk_155 0 17 (dk_at dksX6_isReader_0 1 rfl rfl)
theorem dX6_isReader_4 : decode cX6_isReader 4 = .ok (.iload_n 1, 1) := dk_27 (dk_at dksX6_isReader_0 4 rfl rfl)
theorem dX6_isReader_5 : decode cX6_isReader 5 = .ok (.aload_n 0, 1) := dk_42 (dk_at dksX6_isReader_0 5 rfl rfl)
theorem dX6_isReader_6 : decode cX6_isReader 6 = .ok (.getfield 7, 3) := dk_180 0 7 (dk_at dksX6_isReader_0 6 rfl rfl)
theorem dX6_isReader_9 : decode cX6_isReader 9 = .ok (.iconst 4, 1) := dk_7 (dk_at dksX6_isReader_0 9 rfl rfl)
theorem dX6_isReader_10 : decode cX6_isReader 10 = .ok (.iaload, 1) := dk_46 (dk_at dksX6_isReader_0 10 rfl rfl)
theorem dX6_isReader_11 : decode cX6_isReader 11 = .ok (.if_icmp .ge 7, 3) := dk_162 0 7 (dk_at dksX6_isReader_0 11 rfl rfl)
theorem dX6_isReader_14 : decode cX6_isReader 14 = .ok (.iconst 1, 1) := dk_4 (dk_at dksX6_isReader_0 14 rfl rfl)
theorem dX6_isReader_15 : decode cX6_isReader 15 = .ok (.goto 4, 3) := dk_167 0 4 (dk_at dksX6_isReader_0 15 rfl rfl)
theorem dX6_isReader_18 : decode cX6_isReader 18 = .ok (.iconst 0, 1) := dk_3 (dk_at dksX6_isReader_0 18 rfl rfl)
theorem dX6_isReader_19 : decode cX6_isReader 19 = .ok (.ireturn, 1) := dk_172 (dk_at dksX6_isReader_0 19 rfl rfl)
abbrev cX6_slipOf : ByteArray := prog_16_method_70_code
def yX6_slipOf : MethodName := ⟨RX6, "slipOf", "(I)I"⟩
def dkwX6_slipOf_0 : List UInt8 := [42, 180, 0, 7, 16, 102, 5, 27, 104, 96, 46, 172]
abbrev dktX6_slipOf_0 : List UInt8 := dkwX6_slipOf_0 ++ []
theorem dksX6_slipOf_0 : cX6_slipOf.data.toList.drop 0 = dktX6_slipOf_0 := by decide +kernel
theorem dX6_slipOf_0 : decode cX6_slipOf 0 = .ok (.aload_n 0, 1) := dk_42 (dk_at dksX6_slipOf_0 0 rfl rfl)
theorem dX6_slipOf_1 : decode cX6_slipOf 1 = .ok (.getfield 7, 3) := dk_180 0 7 (dk_at dksX6_slipOf_0 1 rfl rfl)
theorem dX6_slipOf_4 : decode cX6_slipOf 4 = .ok (.bipush 102, 2) := dk_16 102 (dk_at dksX6_slipOf_0 4 rfl rfl)
theorem dX6_slipOf_6 : decode cX6_slipOf 6 = .ok (.iconst 2, 1) := dk_5 (dk_at dksX6_slipOf_0 6 rfl rfl)
theorem dX6_slipOf_7 : decode cX6_slipOf 7 = .ok (.iload_n 1, 1) := dk_27 (dk_at dksX6_slipOf_0 7 rfl rfl)
theorem dX6_slipOf_8 : decode cX6_slipOf 8 = .ok (.imul, 1) := dk_104 (dk_at dksX6_slipOf_0 8 rfl rfl)
theorem dX6_slipOf_9 : decode cX6_slipOf 9 = .ok (.iadd, 1) := dk_96 (dk_at dksX6_slipOf_0 9 rfl rfl)
theorem dX6_slipOf_10 : decode cX6_slipOf 10 = .ok (.iaload, 1) := dk_46 (dk_at dksX6_slipOf_0 10 rfl rfl)
theorem dX6_slipOf_11 : decode cX6_slipOf 11 = .ok (.ireturn, 1) := dk_172 (dk_at dksX6_slipOf_0 11 rfl rfl)
abbrev cX6_word : ByteArray := prog_16_method_78_code
def yX6_word : MethodName := ⟨RX6, "word", "(II)I"⟩
def dkwX6_word_1 : List UInt8 := [4, 182, 0, 91, 172, 42, 42, 180, 0, 7, 16, 114, 5, 27, 104, 96, 28, 96, 46, 182, 0, 95, 172]
abbrev dktX6_word_1 : List UInt8 := dkwX6_word_1 ++ []
def dkwX6_word_0 : List UInt8 := [27, 155, 0, 22, 27, 42, 180, 0, 7, 8, 46, 162, 0, 12, 28, 155, 0, 8, 28, 4, 164, 0, 9, 42]
abbrev dktX6_word_0 : List UInt8 := dkwX6_word_0 ++ dktX6_word_1
theorem dksX6_word_0 : cX6_word.data.toList.drop 0 = dktX6_word_0 := by decide +kernel
theorem dksX6_word_1 : cX6_word.data.toList.drop 24 = dktX6_word_1 := dk_seg dksX6_word_0 24 rfl rfl
theorem dX6_word_0 : decode cX6_word 0 = .ok (.iload_n 1, 1) := dk_27 (dk_at dksX6_word_0 0 rfl rfl)
theorem dX6_word_1 : decode cX6_word 1 = .ok (.ifCond .lt 22, 3) := dk_155 0 22 (dk_at dksX6_word_0 1 rfl rfl)
theorem dX6_word_4 : decode cX6_word 4 = .ok (.iload_n 1, 1) := dk_27 (dk_at dksX6_word_0 4 rfl rfl)
theorem dX6_word_5 : decode cX6_word 5 = .ok (.aload_n 0, 1) := dk_42 (dk_at dksX6_word_0 5 rfl rfl)
theorem dX6_word_6 : decode cX6_word 6 = .ok (.getfield 7, 3) := dk_180 0 7 (dk_at dksX6_word_0 6 rfl rfl)
theorem dX6_word_9 : decode cX6_word 9 = .ok (.iconst 5, 1) := dk_8 (dk_at dksX6_word_0 9 rfl rfl)
theorem dX6_word_10 : decode cX6_word 10 = .ok (.iaload, 1) := dk_46 (dk_at dksX6_word_0 10 rfl rfl)
theorem dX6_word_11 : decode cX6_word 11 = .ok (.if_icmp .ge 12, 3) := dk_162 0 12 (dk_at dksX6_word_0 11 rfl rfl)
theorem dX6_word_14 : decode cX6_word 14 = .ok (.iload_n 2, 1) := dk_28 (dk_at dksX6_word_0 14 rfl rfl)
theorem dX6_word_15 : decode cX6_word 15 = .ok (.ifCond .lt 8, 3) := dk_155 0 8 (dk_at dksX6_word_0 15 rfl rfl)
theorem dX6_word_18 : decode cX6_word 18 = .ok (.iload_n 2, 1) := dk_28 (dk_at dksX6_word_0 18 rfl rfl)
theorem dX6_word_19 : decode cX6_word 19 = .ok (.iconst 1, 1) := dk_4 (dk_at dksX6_word_0 19 rfl rfl)
theorem dX6_word_20 : decode cX6_word 20 = .ok (.if_icmp .le 9, 3) := dk_164 0 9 (dk_at dksX6_word_0 20 rfl rfl)
theorem dX6_word_23 : decode cX6_word 23 = .ok (.aload_n 0, 1) := dk_42 (dk_at dksX6_word_0 23 rfl rfl)
theorem dX6_word_24 : decode cX6_word 24 = .ok (.iconst 1, 1) := dk_4 (dk_at dksX6_word_1 0 rfl rfl)
theorem dX6_word_25 : decode cX6_word 25 = .ok (.invokevirtual 91, 3) := dk_182 0 91 (dk_at dksX6_word_1 1 rfl rfl)
theorem dX6_word_28 : decode cX6_word 28 = .ok (.ireturn, 1) := dk_172 (dk_at dksX6_word_1 4 rfl rfl)
theorem dX6_word_29 : decode cX6_word 29 = .ok (.aload_n 0, 1) := dk_42 (dk_at dksX6_word_1 5 rfl rfl)
theorem dX6_word_30 : decode cX6_word 30 = .ok (.aload_n 0, 1) := dk_42 (dk_at dksX6_word_1 6 rfl rfl)
theorem dX6_word_31 : decode cX6_word 31 = .ok (.getfield 7, 3) := dk_180 0 7 (dk_at dksX6_word_1 7 rfl rfl)
theorem dX6_word_34 : decode cX6_word 34 = .ok (.bipush 114, 2) := dk_16 114 (dk_at dksX6_word_1 10 rfl rfl)
theorem dX6_word_36 : decode cX6_word 36 = .ok (.iconst 2, 1) := dk_5 (dk_at dksX6_word_1 12 rfl rfl)
theorem dX6_word_37 : decode cX6_word 37 = .ok (.iload_n 1, 1) := dk_27 (dk_at dksX6_word_1 13 rfl rfl)
theorem dX6_word_38 : decode cX6_word 38 = .ok (.imul, 1) := dk_104 (dk_at dksX6_word_1 14 rfl rfl)
theorem dX6_word_39 : decode cX6_word 39 = .ok (.iadd, 1) := dk_96 (dk_at dksX6_word_1 15 rfl rfl)
theorem dX6_word_40 : decode cX6_word 40 = .ok (.iload_n 2, 1) := dk_28 (dk_at dksX6_word_1 16 rfl rfl)
theorem dX6_word_41 : decode cX6_word 41 = .ok (.iadd, 1) := dk_96 (dk_at dksX6_word_1 17 rfl rfl)
theorem dX6_word_42 : decode cX6_word 42 = .ok (.iaload, 1) := dk_46 (dk_at dksX6_word_1 18 rfl rfl)
theorem dX6_word_43 : decode cX6_word 43 = .ok (.invokevirtual 95, 3) := dk_182 0 95 (dk_at dksX6_word_1 19 rfl rfl)
theorem dX6_word_46 : decode cX6_word 46 = .ok (.ireturn, 1) := dk_172 (dk_at dksX6_word_1 22 rfl rfl)
abbrev cX6_cue : ByteArray := prog_16_method_86_code
def yX6_cue : MethodName := ⟨RX6, "cue", "(I)I"⟩
def dkwX6_cue_1 : List UInt8 := [182, 1, 46, 167, 0, 8, 42, 4, 182, 0, 91, 172]
abbrev dktX6_cue_1 : List UInt8 := dkwX6_cue_1 ++ []
def dkwX6_cue_0 : List UInt8 := [42, 27, 133, 182, 1, 49, 153, 0, 22, 42, 42, 27, 42, 180, 0, 7, 16, 6, 46, 182, 1, 76]
abbrev dktX6_cue_0 : List UInt8 := dkwX6_cue_0 ++ dktX6_cue_1
theorem dksX6_cue_0 : cX6_cue.data.toList.drop 0 = dktX6_cue_0 := by decide +kernel
theorem dksX6_cue_1 : cX6_cue.data.toList.drop 22 = dktX6_cue_1 := dk_seg dksX6_cue_0 22 rfl rfl
theorem dX6_cue_0 : decode cX6_cue 0 = .ok (.aload_n 0, 1) := dk_42 (dk_at dksX6_cue_0 0 rfl rfl)
theorem dX6_cue_1 : decode cX6_cue 1 = .ok (.iload_n 1, 1) := dk_27 (dk_at dksX6_cue_0 1 rfl rfl)
theorem dX6_cue_2 : decode cX6_cue 2 = .ok (.i2l, 1) := dk_133 (dk_at dksX6_cue_0 2 rfl rfl)
theorem dX6_cue_3 : decode cX6_cue 3 = .ok (.invokevirtual 305, 3) := dk_182 1 49 (dk_at dksX6_cue_0 3 rfl rfl)
theorem dX6_cue_6 : decode cX6_cue 6 = .ok (.ifCond .eq 22, 3) := dk_153 0 22 (dk_at dksX6_cue_0 6 rfl rfl)
theorem dX6_cue_9 : decode cX6_cue 9 = .ok (.aload_n 0, 1) := dk_42 (dk_at dksX6_cue_0 9 rfl rfl)
theorem dX6_cue_10 : decode cX6_cue 10 = .ok (.aload_n 0, 1) := dk_42 (dk_at dksX6_cue_0 10 rfl rfl)
theorem dX6_cue_11 : decode cX6_cue 11 = .ok (.iload_n 1, 1) := dk_27 (dk_at dksX6_cue_0 11 rfl rfl)
theorem dX6_cue_12 : decode cX6_cue 12 = .ok (.aload_n 0, 1) := dk_42 (dk_at dksX6_cue_0 12 rfl rfl)
theorem dX6_cue_13 : decode cX6_cue 13 = .ok (.getfield 7, 3) := dk_180 0 7 (dk_at dksX6_cue_0 13 rfl rfl)
theorem dX6_cue_16 : decode cX6_cue 16 = .ok (.bipush 6, 2) := dk_16 6 (dk_at dksX6_cue_0 16 rfl rfl)
theorem dX6_cue_18 : decode cX6_cue 18 = .ok (.iaload, 1) := dk_46 (dk_at dksX6_cue_0 18 rfl rfl)
theorem dX6_cue_19 : decode cX6_cue 19 = .ok (.invokevirtual 332, 3) := dk_182 1 76 (dk_at dksX6_cue_0 19 rfl rfl)
theorem dX6_cue_22 : decode cX6_cue 22 = .ok (.invokevirtual 302, 3) := dk_182 1 46 (dk_at dksX6_cue_1 0 rfl rfl)
theorem dX6_cue_25 : decode cX6_cue 25 = .ok (.goto 8, 3) := dk_167 0 8 (dk_at dksX6_cue_1 3 rfl rfl)
theorem dX6_cue_28 : decode cX6_cue 28 = .ok (.aload_n 0, 1) := dk_42 (dk_at dksX6_cue_1 6 rfl rfl)
theorem dX6_cue_29 : decode cX6_cue 29 = .ok (.iconst 1, 1) := dk_4 (dk_at dksX6_cue_1 7 rfl rfl)
theorem dX6_cue_30 : decode cX6_cue 30 = .ok (.invokevirtual 91, 3) := dk_182 0 91 (dk_at dksX6_cue_1 8 rfl rfl)
theorem dX6_cue_33 : decode cX6_cue 33 = .ok (.ireturn, 1) := dk_172 (dk_at dksX6_cue_1 11 rfl rfl)
abbrev cX6_cueFor : ByteArray := prog_16_method_84_code
def yX6_cueFor : MethodName := ⟨RX6, "cueFor", "(II)I"⟩
def dkwX6_cueFor_0 : List UInt8 := [42, 27, 28, 182, 1, 73, 62, 29, 2, 160, 0, 7, 2, 167, 0, 9, 42, 29, 3, 182, 1, 43, 172]
abbrev dktX6_cueFor_0 : List UInt8 := dkwX6_cueFor_0 ++ []
theorem dksX6_cueFor_0 : cX6_cueFor.data.toList.drop 0 = dktX6_cueFor_0 := by decide +kernel
theorem dX6_cueFor_0 : decode cX6_cueFor 0 = .ok (.aload_n 0, 1) := dk_42 (dk_at dksX6_cueFor_0 0 rfl rfl)
theorem dX6_cueFor_1 : decode cX6_cueFor 1 = .ok (.iload_n 1, 1) := dk_27 (dk_at dksX6_cueFor_0 1 rfl rfl)
theorem dX6_cueFor_2 : decode cX6_cueFor 2 = .ok (.iload_n 2, 1) := dk_28 (dk_at dksX6_cueFor_0 2 rfl rfl)
theorem dX6_cueFor_3 : decode cX6_cueFor 3 = .ok (.invokevirtual 329, 3) := dk_182 1 73 (dk_at dksX6_cueFor_0 3 rfl rfl)
theorem dX6_cueFor_6 : decode cX6_cueFor 6 = .ok (.istore_n 3, 1) := dk_62 (dk_at dksX6_cueFor_0 6 rfl rfl)
theorem dX6_cueFor_7 : decode cX6_cueFor 7 = .ok (.iload_n 3, 1) := dk_29 (dk_at dksX6_cueFor_0 7 rfl rfl)
theorem dX6_cueFor_8 : decode cX6_cueFor 8 = .ok (.iconst (-1), 1) := dk_2 (dk_at dksX6_cueFor_0 8 rfl rfl)
theorem dX6_cueFor_9 : decode cX6_cueFor 9 = .ok (.if_icmp .ne 7, 3) := dk_160 0 7 (dk_at dksX6_cueFor_0 9 rfl rfl)
theorem dX6_cueFor_12 : decode cX6_cueFor 12 = .ok (.iconst (-1), 1) := dk_2 (dk_at dksX6_cueFor_0 12 rfl rfl)
theorem dX6_cueFor_13 : decode cX6_cueFor 13 = .ok (.goto 9, 3) := dk_167 0 9 (dk_at dksX6_cueFor_0 13 rfl rfl)
theorem dX6_cueFor_16 : decode cX6_cueFor 16 = .ok (.aload_n 0, 1) := dk_42 (dk_at dksX6_cueFor_0 16 rfl rfl)
theorem dX6_cueFor_17 : decode cX6_cueFor 17 = .ok (.iload_n 3, 1) := dk_29 (dk_at dksX6_cueFor_0 17 rfl rfl)
theorem dX6_cueFor_18 : decode cX6_cueFor 18 = .ok (.iconst 0, 1) := dk_3 (dk_at dksX6_cueFor_0 18 rfl rfl)
theorem dX6_cueFor_19 : decode cX6_cueFor 19 = .ok (.invokevirtual 299, 3) := dk_182 1 43 (dk_at dksX6_cueFor_0 19 rfl rfl)
theorem dX6_cueFor_22 : decode cX6_cueFor 22 = .ok (.ireturn, 1) := dk_172 (dk_at dksX6_cueFor_0 22 rfl rfl)
abbrev cX6_ruleFor : ByteArray := prog_16_method_83_code
def yX6_ruleFor : MethodName := ⟨RX6, "ruleFor", "(II)I"⟩
def dkwX6_ruleFor_0 : List UInt8 := [42, 42, 27, 6, 182, 1, 25, 42, 27, 3, 182, 1, 25, 28, 42, 27, 4, 182, 1, 25, 182, 1, 69, 172]
abbrev dktX6_ruleFor_0 : List UInt8 := dkwX6_ruleFor_0 ++ []
theorem dksX6_ruleFor_0 : cX6_ruleFor.data.toList.drop 0 = dktX6_ruleFor_0 := by decide +kernel
theorem dX6_ruleFor_0 : decode cX6_ruleFor 0 = .ok (.aload_n 0, 1) := dk_42 (dk_at dksX6_ruleFor_0 0 rfl rfl)
theorem dX6_ruleFor_1 : decode cX6_ruleFor 1 = .ok (.aload_n 0, 1) := dk_42 (dk_at dksX6_ruleFor_0 1 rfl rfl)
theorem dX6_ruleFor_2 : decode cX6_ruleFor 2 = .ok (.iload_n 1, 1) := dk_27 (dk_at dksX6_ruleFor_0 2 rfl rfl)
theorem dX6_ruleFor_3 : decode cX6_ruleFor 3 = .ok (.iconst 3, 1) := dk_6 (dk_at dksX6_ruleFor_0 3 rfl rfl)
theorem dX6_ruleFor_4 : decode cX6_ruleFor 4 = .ok (.invokevirtual 281, 3) := dk_182 1 25 (dk_at dksX6_ruleFor_0 4 rfl rfl)
theorem dX6_ruleFor_7 : decode cX6_ruleFor 7 = .ok (.aload_n 0, 1) := dk_42 (dk_at dksX6_ruleFor_0 7 rfl rfl)
theorem dX6_ruleFor_8 : decode cX6_ruleFor 8 = .ok (.iload_n 1, 1) := dk_27 (dk_at dksX6_ruleFor_0 8 rfl rfl)
theorem dX6_ruleFor_9 : decode cX6_ruleFor 9 = .ok (.iconst 0, 1) := dk_3 (dk_at dksX6_ruleFor_0 9 rfl rfl)
theorem dX6_ruleFor_10 : decode cX6_ruleFor 10 = .ok (.invokevirtual 281, 3) := dk_182 1 25 (dk_at dksX6_ruleFor_0 10 rfl rfl)
theorem dX6_ruleFor_13 : decode cX6_ruleFor 13 = .ok (.iload_n 2, 1) := dk_28 (dk_at dksX6_ruleFor_0 13 rfl rfl)
theorem dX6_ruleFor_14 : decode cX6_ruleFor 14 = .ok (.aload_n 0, 1) := dk_42 (dk_at dksX6_ruleFor_0 14 rfl rfl)
theorem dX6_ruleFor_15 : decode cX6_ruleFor 15 = .ok (.iload_n 1, 1) := dk_27 (dk_at dksX6_ruleFor_0 15 rfl rfl)
theorem dX6_ruleFor_16 : decode cX6_ruleFor 16 = .ok (.iconst 1, 1) := dk_4 (dk_at dksX6_ruleFor_0 16 rfl rfl)
theorem dX6_ruleFor_17 : decode cX6_ruleFor 17 = .ok (.invokevirtual 281, 3) := dk_182 1 25 (dk_at dksX6_ruleFor_0 17 rfl rfl)
theorem dX6_ruleFor_20 : decode cX6_ruleFor 20 = .ok (.invokevirtual 325, 3) := dk_182 1 69 (dk_at dksX6_ruleFor_0 20 rfl rfl)
theorem dX6_ruleFor_23 : decode cX6_ruleFor 23 = .ok (.ireturn, 1) := dk_172 (dk_at dksX6_ruleFor_0 23 rfl rfl)
abbrev cX6_firstOf : ByteArray := prog_16_method_81_code
def yX6_firstOf : MethodName := ⟨RX6, "firstOf", "(IIII)I"⟩
def dkwX6_firstOf_1 : List UInt8 := [182, 1, 65, 153, 0, 6, 21, 5, 172, 132, 5, 1, 167, 255, 225, 2, 172]
abbrev dktX6_firstOf_1 : List UInt8 := dkwX6_firstOf_1 ++ []
def dkwX6_firstOf_0 : List UInt8 := [3, 54, 5, 21, 5, 42, 180, 0, 7, 5, 46, 162, 0, 26, 42, 21, 5, 27, 28, 29, 21, 4]
abbrev dktX6_firstOf_0 : List UInt8 := dkwX6_firstOf_0 ++ dktX6_firstOf_1
theorem dksX6_firstOf_0 : cX6_firstOf.data.toList.drop 0 = dktX6_firstOf_0 := by decide +kernel
theorem dksX6_firstOf_1 : cX6_firstOf.data.toList.drop 22 = dktX6_firstOf_1 := dk_seg dksX6_firstOf_0 22 rfl rfl
theorem dX6_firstOf_0 : decode cX6_firstOf 0 = .ok (.iconst 0, 1) := dk_3 (dk_at dksX6_firstOf_0 0 rfl rfl)
theorem dX6_firstOf_1 : decode cX6_firstOf 1 = .ok (.istore 5, 2) := dk_54 5 (dk_at dksX6_firstOf_0 1 rfl rfl)
theorem dX6_firstOf_3 : decode cX6_firstOf 3 = .ok (.iload 5, 2) := dk_21 5 (dk_at dksX6_firstOf_0 3 rfl rfl)
theorem dX6_firstOf_5 : decode cX6_firstOf 5 = .ok (.aload_n 0, 1) := dk_42 (dk_at dksX6_firstOf_0 5 rfl rfl)
theorem dX6_firstOf_6 : decode cX6_firstOf 6 = .ok (.getfield 7, 3) := dk_180 0 7 (dk_at dksX6_firstOf_0 6 rfl rfl)
theorem dX6_firstOf_9 : decode cX6_firstOf 9 = .ok (.iconst 2, 1) := dk_5 (dk_at dksX6_firstOf_0 9 rfl rfl)
theorem dX6_firstOf_10 : decode cX6_firstOf 10 = .ok (.iaload, 1) := dk_46 (dk_at dksX6_firstOf_0 10 rfl rfl)
theorem dX6_firstOf_11 : decode cX6_firstOf 11 = .ok (.if_icmp .ge 26, 3) := dk_162 0 26 (dk_at dksX6_firstOf_0 11 rfl rfl)
theorem dX6_firstOf_14 : decode cX6_firstOf 14 = .ok (.aload_n 0, 1) := dk_42 (dk_at dksX6_firstOf_0 14 rfl rfl)
theorem dX6_firstOf_15 : decode cX6_firstOf 15 = .ok (.iload 5, 2) := dk_21 5 (dk_at dksX6_firstOf_0 15 rfl rfl)
theorem dX6_firstOf_17 : decode cX6_firstOf 17 = .ok (.iload_n 1, 1) := dk_27 (dk_at dksX6_firstOf_0 17 rfl rfl)
theorem dX6_firstOf_18 : decode cX6_firstOf 18 = .ok (.iload_n 2, 1) := dk_28 (dk_at dksX6_firstOf_0 18 rfl rfl)
theorem dX6_firstOf_19 : decode cX6_firstOf 19 = .ok (.iload_n 3, 1) := dk_29 (dk_at dksX6_firstOf_0 19 rfl rfl)
theorem dX6_firstOf_20 : decode cX6_firstOf 20 = .ok (.iload 4, 2) := dk_21 4 (dk_at dksX6_firstOf_0 20 rfl rfl)
theorem dX6_firstOf_22 : decode cX6_firstOf 22 = .ok (.invokevirtual 321, 3) := dk_182 1 65 (dk_at dksX6_firstOf_1 0 rfl rfl)
theorem dX6_firstOf_25 : decode cX6_firstOf 25 = .ok (.ifCond .eq 6, 3) := dk_153 0 6 (dk_at dksX6_firstOf_1 3 rfl rfl)
theorem dX6_firstOf_28 : decode cX6_firstOf 28 = .ok (.iload 5, 2) := dk_21 5 (dk_at dksX6_firstOf_1 6 rfl rfl)
theorem dX6_firstOf_30 : decode cX6_firstOf 30 = .ok (.ireturn, 1) := dk_172 (dk_at dksX6_firstOf_1 8 rfl rfl)
theorem dX6_firstOf_31 : decode cX6_firstOf 31 = .ok (.iinc 5 1, 3) := dk_132 5 1 (dk_at dksX6_firstOf_1 9 rfl rfl)
theorem dX6_firstOf_34 : decode cX6_firstOf 34 = .ok (.goto (-31), 3) := dk_167 255 225 (dk_at dksX6_firstOf_1 12 rfl rfl)
theorem dX6_firstOf_37 : decode cX6_firstOf 37 = .ok (.iconst (-1), 1) := dk_2 (dk_at dksX6_firstOf_1 15 rfl rfl)
theorem dX6_firstOf_38 : decode cX6_firstOf 38 = .ok (.ireturn, 1) := dk_172 (dk_at dksX6_firstOf_1 16 rfl rfl)
abbrev cX6_doesBear : ByteArray := prog_16_method_80_code
def yX6_doesBear : MethodName := ⟨RX6, "doesBear", "(IIIII)Z"⟩
def dkwX6_doesBear_4 : List UInt8 := [3, 172]
abbrev dktX6_doesBear_4 : List UInt8 := dkwX6_doesBear_4 ++ []
def dkwX6_doesBear_3 : List UInt8 := [42, 27, 7, 182, 1, 43, 21, 4, 42, 27, 8, 182, 1, 43, 184, 1, 62, 153, 0, 7, 4, 167, 0, 4]
abbrev dktX6_doesBear_3 : List UInt8 := dkwX6_doesBear_3 ++ dktX6_doesBear_4
def dkwX6_doesBear_2 : List UInt8 := [154, 0, 5, 3, 172, 42, 27, 5, 182, 1, 43, 29, 42, 27, 6, 182, 1, 43, 184, 1, 62, 153, 0, 27]
abbrev dktX6_doesBear_2 : List UInt8 := dkwX6_doesBear_2 ++ dktX6_doesBear_3
def dkwX6_doesBear_1 : List UInt8 := [5, 28, 100, 159, 0, 5, 3, 172, 21, 7, 2, 159, 0, 16, 42, 21, 5, 21, 7, 182, 1, 59]
abbrev dktX6_doesBear_1 : List UInt8 := dkwX6_doesBear_1 ++ dktX6_doesBear_2
def dkwX6_doesBear_0 : List UInt8 := [42, 27, 4, 182, 1, 43, 54, 6, 42, 27, 16, 6, 182, 1, 43, 54, 7, 21, 6, 153, 0, 13, 21, 6]
abbrev dktX6_doesBear_0 : List UInt8 := dkwX6_doesBear_0 ++ dktX6_doesBear_1
theorem dksX6_doesBear_0 : cX6_doesBear.data.toList.drop 0 = dktX6_doesBear_0 := by decide +kernel
theorem dksX6_doesBear_1 : cX6_doesBear.data.toList.drop 24 = dktX6_doesBear_1 := dk_seg dksX6_doesBear_0 24 rfl rfl
theorem dksX6_doesBear_2 : cX6_doesBear.data.toList.drop 46 = dktX6_doesBear_2 := dk_seg dksX6_doesBear_1 22 rfl rfl
theorem dksX6_doesBear_3 : cX6_doesBear.data.toList.drop 70 = dktX6_doesBear_3 := dk_seg dksX6_doesBear_2 24 rfl rfl
theorem dksX6_doesBear_4 : cX6_doesBear.data.toList.drop 94 = dktX6_doesBear_4 := dk_seg dksX6_doesBear_3 24 rfl rfl
theorem dX6_doesBear_0 : decode cX6_doesBear 0 = .ok (.aload_n 0, 1) := dk_42 (dk_at dksX6_doesBear_0 0 rfl rfl)
theorem dX6_doesBear_1 : decode cX6_doesBear 1 = .ok (.iload_n 1, 1) := dk_27 (dk_at dksX6_doesBear_0 1 rfl rfl)
theorem dX6_doesBear_2 : decode cX6_doesBear 2 = .ok (.iconst 1, 1) := dk_4 (dk_at dksX6_doesBear_0 2 rfl rfl)
theorem dX6_doesBear_3 : decode cX6_doesBear 3 = .ok (.invokevirtual 299, 3) := dk_182 1 43 (dk_at dksX6_doesBear_0 3 rfl rfl)
theorem dX6_doesBear_6 : decode cX6_doesBear 6 = .ok (.istore 6, 2) := dk_54 6 (dk_at dksX6_doesBear_0 6 rfl rfl)
theorem dX6_doesBear_8 : decode cX6_doesBear 8 = .ok (.aload_n 0, 1) := dk_42 (dk_at dksX6_doesBear_0 8 rfl rfl)
theorem dX6_doesBear_9 : decode cX6_doesBear 9 = .ok (.iload_n 1, 1) := dk_27 (dk_at dksX6_doesBear_0 9 rfl rfl)
theorem dX6_doesBear_10 : decode cX6_doesBear 10 = .ok (.bipush 6, 2) := dk_16 6 (dk_at dksX6_doesBear_0 10 rfl rfl)
theorem dX6_doesBear_12 : decode cX6_doesBear 12 = .ok (.invokevirtual 299, 3) := dk_182 1 43 (dk_at dksX6_doesBear_0 12 rfl rfl)
theorem dX6_doesBear_15 : decode cX6_doesBear 15 = .ok (.istore 7, 2) := dk_54 7 (dk_at dksX6_doesBear_0 15 rfl rfl)
theorem dX6_doesBear_17 : decode cX6_doesBear 17 = .ok (.iload 6, 2) := dk_21 6 (dk_at dksX6_doesBear_0 17 rfl rfl)
theorem dX6_doesBear_19 : decode cX6_doesBear 19 = .ok (.ifCond .eq 13, 3) := dk_153 0 13 (dk_at dksX6_doesBear_0 19 rfl rfl)
theorem dX6_doesBear_22 : decode cX6_doesBear 22 = .ok (.iload 6, 2) := dk_21 6 (dk_at dksX6_doesBear_0 22 rfl rfl)
theorem dX6_doesBear_24 : decode cX6_doesBear 24 = .ok (.iconst 2, 1) := dk_5 (dk_at dksX6_doesBear_1 0 rfl rfl)
theorem dX6_doesBear_25 : decode cX6_doesBear 25 = .ok (.iload_n 2, 1) := dk_28 (dk_at dksX6_doesBear_1 1 rfl rfl)
theorem dX6_doesBear_26 : decode cX6_doesBear 26 = .ok (.isub, 1) := dk_100 (dk_at dksX6_doesBear_1 2 rfl rfl)
theorem dX6_doesBear_27 : decode cX6_doesBear 27 = .ok (.if_icmp .eq 5, 3) := dk_159 0 5 (dk_at dksX6_doesBear_1 3 rfl rfl)
theorem dX6_doesBear_30 : decode cX6_doesBear 30 = .ok (.iconst 0, 1) := dk_3 (dk_at dksX6_doesBear_1 6 rfl rfl)
theorem dX6_doesBear_31 : decode cX6_doesBear 31 = .ok (.ireturn, 1) := dk_172 (dk_at dksX6_doesBear_1 7 rfl rfl)
theorem dX6_doesBear_32 : decode cX6_doesBear 32 = .ok (.iload 7, 2) := dk_21 7 (dk_at dksX6_doesBear_1 8 rfl rfl)
theorem dX6_doesBear_34 : decode cX6_doesBear 34 = .ok (.iconst (-1), 1) := dk_2 (dk_at dksX6_doesBear_1 10 rfl rfl)
theorem dX6_doesBear_35 : decode cX6_doesBear 35 = .ok (.if_icmp .eq 16, 3) := dk_159 0 16 (dk_at dksX6_doesBear_1 11 rfl rfl)
theorem dX6_doesBear_38 : decode cX6_doesBear 38 = .ok (.aload_n 0, 1) := dk_42 (dk_at dksX6_doesBear_1 14 rfl rfl)
theorem dX6_doesBear_39 : decode cX6_doesBear 39 = .ok (.iload 5, 2) := dk_21 5 (dk_at dksX6_doesBear_1 15 rfl rfl)
theorem dX6_doesBear_41 : decode cX6_doesBear 41 = .ok (.iload 7, 2) := dk_21 7 (dk_at dksX6_doesBear_1 17 rfl rfl)
theorem dX6_doesBear_43 : decode cX6_doesBear 43 = .ok (.invokevirtual 315, 3) := dk_182 1 59 (dk_at dksX6_doesBear_1 19 rfl rfl)
theorem dX6_doesBear_46 : decode cX6_doesBear 46 = .ok (.ifCond .ne 5, 3) := dk_154 0 5 (dk_at dksX6_doesBear_2 0 rfl rfl)
theorem dX6_doesBear_49 : decode cX6_doesBear 49 = .ok (.iconst 0, 1) := dk_3 (dk_at dksX6_doesBear_2 3 rfl rfl)
theorem dX6_doesBear_50 : decode cX6_doesBear 50 = .ok (.ireturn, 1) := dk_172 (dk_at dksX6_doesBear_2 4 rfl rfl)
theorem dX6_doesBear_51 : decode cX6_doesBear 51 = .ok (.aload_n 0, 1) := dk_42 (dk_at dksX6_doesBear_2 5 rfl rfl)
theorem dX6_doesBear_52 : decode cX6_doesBear 52 = .ok (.iload_n 1, 1) := dk_27 (dk_at dksX6_doesBear_2 6 rfl rfl)
theorem dX6_doesBear_53 : decode cX6_doesBear 53 = .ok (.iconst 2, 1) := dk_5 (dk_at dksX6_doesBear_2 7 rfl rfl)
theorem dX6_doesBear_54 : decode cX6_doesBear 54 = .ok (.invokevirtual 299, 3) := dk_182 1 43 (dk_at dksX6_doesBear_2 8 rfl rfl)
theorem dX6_doesBear_57 : decode cX6_doesBear 57 = .ok (.iload_n 3, 1) := dk_29 (dk_at dksX6_doesBear_2 11 rfl rfl)
theorem dX6_doesBear_58 : decode cX6_doesBear 58 = .ok (.aload_n 0, 1) := dk_42 (dk_at dksX6_doesBear_2 12 rfl rfl)
theorem dX6_doesBear_59 : decode cX6_doesBear 59 = .ok (.iload_n 1, 1) := dk_27 (dk_at dksX6_doesBear_2 13 rfl rfl)
theorem dX6_doesBear_60 : decode cX6_doesBear 60 = .ok (.iconst 3, 1) := dk_6 (dk_at dksX6_doesBear_2 14 rfl rfl)
theorem dX6_doesBear_61 : decode cX6_doesBear 61 = .ok (.invokevirtual 299, 3) := dk_182 1 43 (dk_at dksX6_doesBear_2 15 rfl rfl)
theorem dX6_doesBear_64 : decode cX6_doesBear 64 = .ok (.invokestatic 318, 3) := dk_184 1 62 (dk_at dksX6_doesBear_2 18 rfl rfl)
theorem dX6_doesBear_67 : decode cX6_doesBear 67 = .ok (.ifCond .eq 27, 3) := dk_153 0 27 (dk_at dksX6_doesBear_2 21 rfl rfl)
theorem dX6_doesBear_70 : decode cX6_doesBear 70 = .ok (.aload_n 0, 1) := dk_42 (dk_at dksX6_doesBear_3 0 rfl rfl)
theorem dX6_doesBear_71 : decode cX6_doesBear 71 = .ok (.iload_n 1, 1) := dk_27 (dk_at dksX6_doesBear_3 1 rfl rfl)
theorem dX6_doesBear_72 : decode cX6_doesBear 72 = .ok (.iconst 4, 1) := dk_7 (dk_at dksX6_doesBear_3 2 rfl rfl)
theorem dX6_doesBear_73 : decode cX6_doesBear 73 = .ok (.invokevirtual 299, 3) := dk_182 1 43 (dk_at dksX6_doesBear_3 3 rfl rfl)
theorem dX6_doesBear_76 : decode cX6_doesBear 76 = .ok (.iload 4, 2) := dk_21 4 (dk_at dksX6_doesBear_3 6 rfl rfl)
theorem dX6_doesBear_78 : decode cX6_doesBear 78 = .ok (.aload_n 0, 1) := dk_42 (dk_at dksX6_doesBear_3 8 rfl rfl)
theorem dX6_doesBear_79 : decode cX6_doesBear 79 = .ok (.iload_n 1, 1) := dk_27 (dk_at dksX6_doesBear_3 9 rfl rfl)
theorem dX6_doesBear_80 : decode cX6_doesBear 80 = .ok (.iconst 5, 1) := dk_8 (dk_at dksX6_doesBear_3 10 rfl rfl)
theorem dX6_doesBear_81 : decode cX6_doesBear 81 = .ok (.invokevirtual 299, 3) := dk_182 1 43 (dk_at dksX6_doesBear_3 11 rfl rfl)
theorem dX6_doesBear_84 : decode cX6_doesBear 84 = .ok (.invokestatic 318, 3) := dk_184 1 62 (dk_at dksX6_doesBear_3 14 rfl rfl)
theorem dX6_doesBear_87 : decode cX6_doesBear 87 = .ok (.ifCond .eq 7, 3) := dk_153 0 7 (dk_at dksX6_doesBear_3 17 rfl rfl)
theorem dX6_doesBear_90 : decode cX6_doesBear 90 = .ok (.iconst 1, 1) := dk_4 (dk_at dksX6_doesBear_3 20 rfl rfl)
theorem dX6_doesBear_91 : decode cX6_doesBear 91 = .ok (.goto 4, 3) := dk_167 0 4 (dk_at dksX6_doesBear_3 21 rfl rfl)
theorem dX6_doesBear_94 : decode cX6_doesBear 94 = .ok (.iconst 0, 1) := dk_3 (dk_at dksX6_doesBear_4 0 rfl rfl)
theorem dX6_doesBear_95 : decode cX6_doesBear 95 = .ok (.ireturn, 1) := dk_172 (dk_at dksX6_doesBear_4 1 rfl rfl)
abbrev cX6_isIn : ByteArray := prog_16_method_65_code
def yX6_isIn : MethodName := ⟨RX6, "isIn", "(II)Z"⟩
def dkwX6_isIn_0 : List UInt8 := [27, 28, 122, 4, 126, 4, 160, 0, 7, 4, 167, 0, 4, 3, 172]
abbrev dktX6_isIn_0 : List UInt8 := dkwX6_isIn_0 ++ []
theorem dksX6_isIn_0 : cX6_isIn.data.toList.drop 0 = dktX6_isIn_0 := by decide +kernel
theorem dX6_isIn_0 : decode cX6_isIn 0 = .ok (.iload_n 1, 1) := dk_27 (dk_at dksX6_isIn_0 0 rfl rfl)
theorem dX6_isIn_1 : decode cX6_isIn 1 = .ok (.iload_n 2, 1) := dk_28 (dk_at dksX6_isIn_0 1 rfl rfl)
theorem dX6_isIn_2 : decode cX6_isIn 2 = .ok (.ishr, 1) := dk_122 (dk_at dksX6_isIn_0 2 rfl rfl)
theorem dX6_isIn_3 : decode cX6_isIn 3 = .ok (.iconst 1, 1) := dk_4 (dk_at dksX6_isIn_0 3 rfl rfl)
theorem dX6_isIn_4 : decode cX6_isIn 4 = .ok (.iand, 1) := dk_126 (dk_at dksX6_isIn_0 4 rfl rfl)
theorem dX6_isIn_5 : decode cX6_isIn 5 = .ok (.iconst 1, 1) := dk_4 (dk_at dksX6_isIn_0 5 rfl rfl)
theorem dX6_isIn_6 : decode cX6_isIn 6 = .ok (.if_icmp .ne 7, 3) := dk_160 0 7 (dk_at dksX6_isIn_0 6 rfl rfl)
theorem dX6_isIn_9 : decode cX6_isIn 9 = .ok (.iconst 1, 1) := dk_4 (dk_at dksX6_isIn_0 9 rfl rfl)
theorem dX6_isIn_10 : decode cX6_isIn 10 = .ok (.goto 4, 3) := dk_167 0 4 (dk_at dksX6_isIn_0 10 rfl rfl)
theorem dX6_isIn_13 : decode cX6_isIn 13 = .ok (.iconst 0, 1) := dk_3 (dk_at dksX6_isIn_0 13 rfl rfl)
theorem dX6_isIn_14 : decode cX6_isIn 14 = .ok (.ireturn, 1) := dk_172 (dk_at dksX6_isIn_0 14 rfl rfl)
abbrev cX6_isSo : ByteArray := prog_16_method_79_code
def yX6_isSo : MethodName := ⟨RX6, "isSo", "(III)Z"⟩
def dkwX6_isSo_1 : List UInt8 := [27, 28, 164, 0, 15, 167, 0, 8, 27, 28, 160, 0, 7, 4, 167, 0, 4, 3, 172]
abbrev dktX6_isSo_1 : List UInt8 := dkwX6_isSo_1 ++ []
def dkwX6_isSo_0 : List UInt8 := [26, 153, 0, 36, 26, 16, 60, 160, 0, 11, 27, 28, 162, 0, 29, 167, 0, 22, 26, 16, 62, 160, 0, 11]
abbrev dktX6_isSo_0 : List UInt8 := dkwX6_isSo_0 ++ dktX6_isSo_1
theorem dksX6_isSo_0 : cX6_isSo.data.toList.drop 0 = dktX6_isSo_0 := by decide +kernel
theorem dksX6_isSo_1 : cX6_isSo.data.toList.drop 24 = dktX6_isSo_1 := dk_seg dksX6_isSo_0 24 rfl rfl
theorem dX6_isSo_0 : decode cX6_isSo 0 = .ok (.iload_n 0, 1) := dk_26 (dk_at dksX6_isSo_0 0 rfl rfl)
theorem dX6_isSo_1 : decode cX6_isSo 1 = .ok (.ifCond .eq 36, 3) := dk_153 0 36 (dk_at dksX6_isSo_0 1 rfl rfl)
theorem dX6_isSo_4 : decode cX6_isSo 4 = .ok (.iload_n 0, 1) := dk_26 (dk_at dksX6_isSo_0 4 rfl rfl)
theorem dX6_isSo_5 : decode cX6_isSo 5 = .ok (.bipush 60, 2) := dk_16 60 (dk_at dksX6_isSo_0 5 rfl rfl)
theorem dX6_isSo_7 : decode cX6_isSo 7 = .ok (.if_icmp .ne 11, 3) := dk_160 0 11 (dk_at dksX6_isSo_0 7 rfl rfl)
theorem dX6_isSo_10 : decode cX6_isSo 10 = .ok (.iload_n 1, 1) := dk_27 (dk_at dksX6_isSo_0 10 rfl rfl)
theorem dX6_isSo_11 : decode cX6_isSo 11 = .ok (.iload_n 2, 1) := dk_28 (dk_at dksX6_isSo_0 11 rfl rfl)
theorem dX6_isSo_12 : decode cX6_isSo 12 = .ok (.if_icmp .ge 29, 3) := dk_162 0 29 (dk_at dksX6_isSo_0 12 rfl rfl)
theorem dX6_isSo_15 : decode cX6_isSo 15 = .ok (.goto 22, 3) := dk_167 0 22 (dk_at dksX6_isSo_0 15 rfl rfl)
theorem dX6_isSo_18 : decode cX6_isSo 18 = .ok (.iload_n 0, 1) := dk_26 (dk_at dksX6_isSo_0 18 rfl rfl)
theorem dX6_isSo_19 : decode cX6_isSo 19 = .ok (.bipush 62, 2) := dk_16 62 (dk_at dksX6_isSo_0 19 rfl rfl)
theorem dX6_isSo_21 : decode cX6_isSo 21 = .ok (.if_icmp .ne 11, 3) := dk_160 0 11 (dk_at dksX6_isSo_0 21 rfl rfl)
theorem dX6_isSo_24 : decode cX6_isSo 24 = .ok (.iload_n 1, 1) := dk_27 (dk_at dksX6_isSo_1 0 rfl rfl)
theorem dX6_isSo_25 : decode cX6_isSo 25 = .ok (.iload_n 2, 1) := dk_28 (dk_at dksX6_isSo_1 1 rfl rfl)
theorem dX6_isSo_26 : decode cX6_isSo 26 = .ok (.if_icmp .le 15, 3) := dk_164 0 15 (dk_at dksX6_isSo_1 2 rfl rfl)
theorem dX6_isSo_29 : decode cX6_isSo 29 = .ok (.goto 8, 3) := dk_167 0 8 (dk_at dksX6_isSo_1 5 rfl rfl)
theorem dX6_isSo_32 : decode cX6_isSo 32 = .ok (.iload_n 1, 1) := dk_27 (dk_at dksX6_isSo_1 8 rfl rfl)
theorem dX6_isSo_33 : decode cX6_isSo 33 = .ok (.iload_n 2, 1) := dk_28 (dk_at dksX6_isSo_1 9 rfl rfl)
theorem dX6_isSo_34 : decode cX6_isSo 34 = .ok (.if_icmp .ne 7, 3) := dk_160 0 7 (dk_at dksX6_isSo_1 10 rfl rfl)
theorem dX6_isSo_37 : decode cX6_isSo 37 = .ok (.iconst 1, 1) := dk_4 (dk_at dksX6_isSo_1 13 rfl rfl)
theorem dX6_isSo_38 : decode cX6_isSo 38 = .ok (.goto 4, 3) := dk_167 0 4 (dk_at dksX6_isSo_1 14 rfl rfl)
theorem dX6_isSo_41 : decode cX6_isSo 41 = .ok (.iconst 0, 1) := dk_3 (dk_at dksX6_isSo_1 17 rfl rfl)
theorem dX6_isSo_42 : decode cX6_isSo 42 = .ok (.ireturn, 1) := dk_172 (dk_at dksX6_isSo_1 18 rfl rfl)
abbrev cX6_cueAt : ByteArray := prog_16_method_87_code
def yX6_cueAt : MethodName := ⟨RX6, "cueAt", "(II)I"⟩
def dkwX6_cueAt_1 : List UInt8 := [28, 182, 1, 76, 182, 1, 46, 167, 0, 8, 42, 4, 182, 0, 91, 172]
abbrev dktX6_cueAt_1 : List UInt8 := dkwX6_cueAt_1 ++ []
def dkwX6_cueAt_0 : List UInt8 := [42, 27, 133, 182, 1, 49, 153, 0, 28, 28, 133, 9, 20, 1, 79, 184, 1, 81, 153, 0, 16, 42, 42, 27]
abbrev dktX6_cueAt_0 : List UInt8 := dkwX6_cueAt_0 ++ dktX6_cueAt_1
theorem dksX6_cueAt_0 : cX6_cueAt.data.toList.drop 0 = dktX6_cueAt_0 := by decide +kernel
theorem dksX6_cueAt_1 : cX6_cueAt.data.toList.drop 24 = dktX6_cueAt_1 := dk_seg dksX6_cueAt_0 24 rfl rfl
theorem dX6_cueAt_0 : decode cX6_cueAt 0 = .ok (.aload_n 0, 1) := dk_42 (dk_at dksX6_cueAt_0 0 rfl rfl)
theorem dX6_cueAt_1 : decode cX6_cueAt 1 = .ok (.iload_n 1, 1) := dk_27 (dk_at dksX6_cueAt_0 1 rfl rfl)
theorem dX6_cueAt_2 : decode cX6_cueAt 2 = .ok (.i2l, 1) := dk_133 (dk_at dksX6_cueAt_0 2 rfl rfl)
theorem dX6_cueAt_3 : decode cX6_cueAt 3 = .ok (.invokevirtual 305, 3) := dk_182 1 49 (dk_at dksX6_cueAt_0 3 rfl rfl)
theorem dX6_cueAt_6 : decode cX6_cueAt 6 = .ok (.ifCond .eq 28, 3) := dk_153 0 28 (dk_at dksX6_cueAt_0 6 rfl rfl)
theorem dX6_cueAt_9 : decode cX6_cueAt 9 = .ok (.iload_n 2, 1) := dk_28 (dk_at dksX6_cueAt_0 9 rfl rfl)
theorem dX6_cueAt_10 : decode cX6_cueAt 10 = .ok (.i2l, 1) := dk_133 (dk_at dksX6_cueAt_0 10 rfl rfl)
theorem dX6_cueAt_11 : decode cX6_cueAt 11 = .ok (.lconst 0, 1) := dk_9 (dk_at dksX6_cueAt_0 11 rfl rfl)
theorem dX6_cueAt_12 : decode cX6_cueAt 12 = .ok (.ldc2_w 335, 3) := dk_20 1 79 (dk_at dksX6_cueAt_0 12 rfl rfl)
theorem dX6_cueAt_15 : decode cX6_cueAt 15 = .ok (.invokestatic 337, 3) := dk_184 1 81 (dk_at dksX6_cueAt_0 15 rfl rfl)
theorem dX6_cueAt_18 : decode cX6_cueAt 18 = .ok (.ifCond .eq 16, 3) := dk_153 0 16 (dk_at dksX6_cueAt_0 18 rfl rfl)
theorem dX6_cueAt_21 : decode cX6_cueAt 21 = .ok (.aload_n 0, 1) := dk_42 (dk_at dksX6_cueAt_0 21 rfl rfl)
theorem dX6_cueAt_22 : decode cX6_cueAt 22 = .ok (.aload_n 0, 1) := dk_42 (dk_at dksX6_cueAt_0 22 rfl rfl)
theorem dX6_cueAt_23 : decode cX6_cueAt 23 = .ok (.iload_n 1, 1) := dk_27 (dk_at dksX6_cueAt_0 23 rfl rfl)
theorem dX6_cueAt_24 : decode cX6_cueAt 24 = .ok (.iload_n 2, 1) := dk_28 (dk_at dksX6_cueAt_1 0 rfl rfl)
theorem dX6_cueAt_25 : decode cX6_cueAt 25 = .ok (.invokevirtual 332, 3) := dk_182 1 76 (dk_at dksX6_cueAt_1 1 rfl rfl)
theorem dX6_cueAt_28 : decode cX6_cueAt 28 = .ok (.invokevirtual 302, 3) := dk_182 1 46 (dk_at dksX6_cueAt_1 4 rfl rfl)
theorem dX6_cueAt_31 : decode cX6_cueAt 31 = .ok (.goto 8, 3) := dk_167 0 8 (dk_at dksX6_cueAt_1 7 rfl rfl)
theorem dX6_cueAt_34 : decode cX6_cueAt 34 = .ok (.aload_n 0, 1) := dk_42 (dk_at dksX6_cueAt_1 10 rfl rfl)
theorem dX6_cueAt_35 : decode cX6_cueAt 35 = .ok (.iconst 1, 1) := dk_4 (dk_at dksX6_cueAt_1 11 rfl rfl)
theorem dX6_cueAt_36 : decode cX6_cueAt 36 = .ok (.invokevirtual 91, 3) := dk_182 0 91 (dk_at dksX6_cueAt_1 12 rfl rfl)
theorem dX6_cueAt_39 : decode cX6_cueAt 39 = .ok (.ireturn, 1) := dk_172 (dk_at dksX6_cueAt_1 15 rfl rfl)
abbrev cX6_isFrom : ByteArray := prog_16_method_18_code
def yX6_isFrom : MethodName := ⟨RX6, "isFrom", "(JJJ)Z"⟩
def dkwX6_isFrom_0 : List UInt8 := [30, 32, 148, 155, 0, 14, 30, 22, 4, 148, 157, 0, 7, 4, 167, 0, 4, 3, 172]
abbrev dktX6_isFrom_0 : List UInt8 := dkwX6_isFrom_0 ++ []
theorem dksX6_isFrom_0 : cX6_isFrom.data.toList.drop 0 = dktX6_isFrom_0 := by decide +kernel
theorem dX6_isFrom_0 : decode cX6_isFrom 0 = .ok (.lload_n 0, 1) := dk_30 (dk_at dksX6_isFrom_0 0 rfl rfl)
theorem dX6_isFrom_1 : decode cX6_isFrom 1 = .ok (.lload_n 2, 1) := dk_32 (dk_at dksX6_isFrom_0 1 rfl rfl)
theorem dX6_isFrom_2 : decode cX6_isFrom 2 = .ok (.lcmp, 1) := dk_148 (dk_at dksX6_isFrom_0 2 rfl rfl)
theorem dX6_isFrom_3 : decode cX6_isFrom 3 = .ok (.ifCond .lt 14, 3) := dk_155 0 14 (dk_at dksX6_isFrom_0 3 rfl rfl)
theorem dX6_isFrom_6 : decode cX6_isFrom 6 = .ok (.lload_n 0, 1) := dk_30 (dk_at dksX6_isFrom_0 6 rfl rfl)
theorem dX6_isFrom_7 : decode cX6_isFrom 7 = .ok (.lload 4, 2) := dk_22 4 (dk_at dksX6_isFrom_0 7 rfl rfl)
theorem dX6_isFrom_9 : decode cX6_isFrom 9 = .ok (.lcmp, 1) := dk_148 (dk_at dksX6_isFrom_0 9 rfl rfl)
theorem dX6_isFrom_10 : decode cX6_isFrom 10 = .ok (.ifCond .gt 7, 3) := dk_157 0 7 (dk_at dksX6_isFrom_0 10 rfl rfl)
theorem dX6_isFrom_13 : decode cX6_isFrom 13 = .ok (.iconst 1, 1) := dk_4 (dk_at dksX6_isFrom_0 13 rfl rfl)
theorem dX6_isFrom_14 : decode cX6_isFrom 14 = .ok (.goto 4, 3) := dk_167 0 4 (dk_at dksX6_isFrom_0 14 rfl rfl)
theorem dX6_isFrom_17 : decode cX6_isFrom 17 = .ok (.iconst 0, 1) := dk_3 (dk_at dksX6_isFrom_0 17 rfl rfl)
theorem dX6_isFrom_18 : decode cX6_isFrom 18 = .ok (.ireturn, 1) := dk_172 (dk_at dksX6_isFrom_0 18 rfl rfl)
abbrev cX6_bears : ByteArray := prog_16_method_88_code
def yX6_bears : MethodName := ⟨RX6, "bears", "(I)I"⟩
def dkwX6_bears_1 : List UInt8 := [182, 1, 46, 167, 0, 8, 42, 4, 182, 0, 91, 172]
abbrev dktX6_bears_1 : List UInt8 := dkwX6_bears_1 ++ []
def dkwX6_bears_0 : List UInt8 := [42, 27, 133, 182, 1, 49, 153, 0, 22, 42, 42, 27, 42, 180, 0, 7, 16, 6, 46, 182, 1, 73]
abbrev dktX6_bears_0 : List UInt8 := dkwX6_bears_0 ++ dktX6_bears_1
theorem dksX6_bears_0 : cX6_bears.data.toList.drop 0 = dktX6_bears_0 := by decide +kernel
theorem dksX6_bears_1 : cX6_bears.data.toList.drop 22 = dktX6_bears_1 := dk_seg dksX6_bears_0 22 rfl rfl
theorem dX6_bears_0 : decode cX6_bears 0 = .ok (.aload_n 0, 1) := dk_42 (dk_at dksX6_bears_0 0 rfl rfl)
theorem dX6_bears_1 : decode cX6_bears 1 = .ok (.iload_n 1, 1) := dk_27 (dk_at dksX6_bears_0 1 rfl rfl)
theorem dX6_bears_2 : decode cX6_bears 2 = .ok (.i2l, 1) := dk_133 (dk_at dksX6_bears_0 2 rfl rfl)
theorem dX6_bears_3 : decode cX6_bears 3 = .ok (.invokevirtual 305, 3) := dk_182 1 49 (dk_at dksX6_bears_0 3 rfl rfl)
theorem dX6_bears_6 : decode cX6_bears 6 = .ok (.ifCond .eq 22, 3) := dk_153 0 22 (dk_at dksX6_bears_0 6 rfl rfl)
theorem dX6_bears_9 : decode cX6_bears 9 = .ok (.aload_n 0, 1) := dk_42 (dk_at dksX6_bears_0 9 rfl rfl)
theorem dX6_bears_10 : decode cX6_bears 10 = .ok (.aload_n 0, 1) := dk_42 (dk_at dksX6_bears_0 10 rfl rfl)
theorem dX6_bears_11 : decode cX6_bears 11 = .ok (.iload_n 1, 1) := dk_27 (dk_at dksX6_bears_0 11 rfl rfl)
theorem dX6_bears_12 : decode cX6_bears 12 = .ok (.aload_n 0, 1) := dk_42 (dk_at dksX6_bears_0 12 rfl rfl)
theorem dX6_bears_13 : decode cX6_bears 13 = .ok (.getfield 7, 3) := dk_180 0 7 (dk_at dksX6_bears_0 13 rfl rfl)
theorem dX6_bears_16 : decode cX6_bears 16 = .ok (.bipush 6, 2) := dk_16 6 (dk_at dksX6_bears_0 16 rfl rfl)
theorem dX6_bears_18 : decode cX6_bears 18 = .ok (.iaload, 1) := dk_46 (dk_at dksX6_bears_0 18 rfl rfl)
theorem dX6_bears_19 : decode cX6_bears 19 = .ok (.invokevirtual 329, 3) := dk_182 1 73 (dk_at dksX6_bears_0 19 rfl rfl)
theorem dX6_bears_22 : decode cX6_bears 22 = .ok (.invokevirtual 302, 3) := dk_182 1 46 (dk_at dksX6_bears_1 0 rfl rfl)
theorem dX6_bears_25 : decode cX6_bears 25 = .ok (.goto 8, 3) := dk_167 0 8 (dk_at dksX6_bears_1 3 rfl rfl)
theorem dX6_bears_28 : decode cX6_bears 28 = .ok (.aload_n 0, 1) := dk_42 (dk_at dksX6_bears_1 6 rfl rfl)
theorem dX6_bears_29 : decode cX6_bears 29 = .ok (.iconst 1, 1) := dk_4 (dk_at dksX6_bears_1 7 rfl rfl)
theorem dX6_bears_30 : decode cX6_bears 30 = .ok (.invokevirtual 91, 3) := dk_182 0 91 (dk_at dksX6_bears_1 8 rfl rfl)
theorem dX6_bears_33 : decode cX6_bears 33 = .ok (.ireturn, 1) := dk_172 (dk_at dksX6_bears_1 11 rfl rfl)
abbrev cX6_bearing : ByteArray := prog_16_method_89_code
def yX6_bearing : MethodName := ⟨RX6, "bearing", "(I)I"⟩
def dkwX6_bearing_3 : List UInt8 := [167, 255, 204, 42, 28, 182, 0, 95, 172]
abbrev dktX6_bearing_3 : List UInt8 := dkwX6_bearing_3 ++ []
def dkwX6_bearing_2 : List UInt8 := [16, 6, 46, 42, 27, 4, 182, 1, 25, 182, 1, 65, 153, 0, 9, 28, 4, 29, 120, 128, 61, 132, 3, 1]
abbrev dktX6_bearing_2 : List UInt8 := dkwX6_bearing_2 ++ dktX6_bearing_3
def dkwX6_bearing_1 : List UInt8 := [5, 46, 162, 0, 48, 42, 29, 42, 27, 6, 182, 1, 25, 42, 27, 3, 182, 1, 25, 42, 180, 0, 7]
abbrev dktX6_bearing_1 : List UInt8 := dkwX6_bearing_1 ++ dktX6_bearing_2
def dkwX6_bearing_0 : List UInt8 := [42, 27, 133, 182, 1, 49, 154, 0, 9, 42, 4, 182, 0, 91, 172, 3, 61, 3, 62, 29, 42, 180, 0, 7]
abbrev dktX6_bearing_0 : List UInt8 := dkwX6_bearing_0 ++ dktX6_bearing_1
theorem dksX6_bearing_0 : cX6_bearing.data.toList.drop 0 = dktX6_bearing_0 := by decide +kernel
theorem dksX6_bearing_1 : cX6_bearing.data.toList.drop 24 = dktX6_bearing_1 := dk_seg dksX6_bearing_0 24 rfl rfl
theorem dksX6_bearing_2 : cX6_bearing.data.toList.drop 47 = dktX6_bearing_2 := dk_seg dksX6_bearing_1 23 rfl rfl
theorem dksX6_bearing_3 : cX6_bearing.data.toList.drop 71 = dktX6_bearing_3 := dk_seg dksX6_bearing_2 24 rfl rfl
theorem dX6_bearing_0 : decode cX6_bearing 0 = .ok (.aload_n 0, 1) := dk_42 (dk_at dksX6_bearing_0 0 rfl rfl)
theorem dX6_bearing_1 : decode cX6_bearing 1 = .ok (.iload_n 1, 1) := dk_27 (dk_at dksX6_bearing_0 1 rfl rfl)
theorem dX6_bearing_2 : decode cX6_bearing 2 = .ok (.i2l, 1) := dk_133 (dk_at dksX6_bearing_0 2 rfl rfl)
theorem dX6_bearing_3 : decode cX6_bearing 3 = .ok (.invokevirtual 305, 3) := dk_182 1 49 (dk_at dksX6_bearing_0 3 rfl rfl)
theorem dX6_bearing_6 : decode cX6_bearing 6 = .ok (.ifCond .ne 9, 3) := dk_154 0 9 (dk_at dksX6_bearing_0 6 rfl rfl)
theorem dX6_bearing_9 : decode cX6_bearing 9 = .ok (.aload_n 0, 1) := dk_42 (dk_at dksX6_bearing_0 9 rfl rfl)
theorem dX6_bearing_10 : decode cX6_bearing 10 = .ok (.iconst 1, 1) := dk_4 (dk_at dksX6_bearing_0 10 rfl rfl)
theorem dX6_bearing_11 : decode cX6_bearing 11 = .ok (.invokevirtual 91, 3) := dk_182 0 91 (dk_at dksX6_bearing_0 11 rfl rfl)
theorem dX6_bearing_14 : decode cX6_bearing 14 = .ok (.ireturn, 1) := dk_172 (dk_at dksX6_bearing_0 14 rfl rfl)
theorem dX6_bearing_15 : decode cX6_bearing 15 = .ok (.iconst 0, 1) := dk_3 (dk_at dksX6_bearing_0 15 rfl rfl)
theorem dX6_bearing_16 : decode cX6_bearing 16 = .ok (.istore_n 2, 1) := dk_61 (dk_at dksX6_bearing_0 16 rfl rfl)
theorem dX6_bearing_17 : decode cX6_bearing 17 = .ok (.iconst 0, 1) := dk_3 (dk_at dksX6_bearing_0 17 rfl rfl)
theorem dX6_bearing_18 : decode cX6_bearing 18 = .ok (.istore_n 3, 1) := dk_62 (dk_at dksX6_bearing_0 18 rfl rfl)
theorem dX6_bearing_19 : decode cX6_bearing 19 = .ok (.iload_n 3, 1) := dk_29 (dk_at dksX6_bearing_0 19 rfl rfl)
theorem dX6_bearing_20 : decode cX6_bearing 20 = .ok (.aload_n 0, 1) := dk_42 (dk_at dksX6_bearing_0 20 rfl rfl)
theorem dX6_bearing_21 : decode cX6_bearing 21 = .ok (.getfield 7, 3) := dk_180 0 7 (dk_at dksX6_bearing_0 21 rfl rfl)
theorem dX6_bearing_24 : decode cX6_bearing 24 = .ok (.iconst 2, 1) := dk_5 (dk_at dksX6_bearing_1 0 rfl rfl)
theorem dX6_bearing_25 : decode cX6_bearing 25 = .ok (.iaload, 1) := dk_46 (dk_at dksX6_bearing_1 1 rfl rfl)
theorem dX6_bearing_26 : decode cX6_bearing 26 = .ok (.if_icmp .ge 48, 3) := dk_162 0 48 (dk_at dksX6_bearing_1 2 rfl rfl)
theorem dX6_bearing_29 : decode cX6_bearing 29 = .ok (.aload_n 0, 1) := dk_42 (dk_at dksX6_bearing_1 5 rfl rfl)
theorem dX6_bearing_30 : decode cX6_bearing 30 = .ok (.iload_n 3, 1) := dk_29 (dk_at dksX6_bearing_1 6 rfl rfl)
theorem dX6_bearing_31 : decode cX6_bearing 31 = .ok (.aload_n 0, 1) := dk_42 (dk_at dksX6_bearing_1 7 rfl rfl)
theorem dX6_bearing_32 : decode cX6_bearing 32 = .ok (.iload_n 1, 1) := dk_27 (dk_at dksX6_bearing_1 8 rfl rfl)
theorem dX6_bearing_33 : decode cX6_bearing 33 = .ok (.iconst 3, 1) := dk_6 (dk_at dksX6_bearing_1 9 rfl rfl)
theorem dX6_bearing_34 : decode cX6_bearing 34 = .ok (.invokevirtual 281, 3) := dk_182 1 25 (dk_at dksX6_bearing_1 10 rfl rfl)
theorem dX6_bearing_37 : decode cX6_bearing 37 = .ok (.aload_n 0, 1) := dk_42 (dk_at dksX6_bearing_1 13 rfl rfl)
theorem dX6_bearing_38 : decode cX6_bearing 38 = .ok (.iload_n 1, 1) := dk_27 (dk_at dksX6_bearing_1 14 rfl rfl)
theorem dX6_bearing_39 : decode cX6_bearing 39 = .ok (.iconst 0, 1) := dk_3 (dk_at dksX6_bearing_1 15 rfl rfl)
theorem dX6_bearing_40 : decode cX6_bearing 40 = .ok (.invokevirtual 281, 3) := dk_182 1 25 (dk_at dksX6_bearing_1 16 rfl rfl)
theorem dX6_bearing_43 : decode cX6_bearing 43 = .ok (.aload_n 0, 1) := dk_42 (dk_at dksX6_bearing_1 19 rfl rfl)
theorem dX6_bearing_44 : decode cX6_bearing 44 = .ok (.getfield 7, 3) := dk_180 0 7 (dk_at dksX6_bearing_1 20 rfl rfl)
theorem dX6_bearing_47 : decode cX6_bearing 47 = .ok (.bipush 6, 2) := dk_16 6 (dk_at dksX6_bearing_2 0 rfl rfl)
theorem dX6_bearing_49 : decode cX6_bearing 49 = .ok (.iaload, 1) := dk_46 (dk_at dksX6_bearing_2 2 rfl rfl)
theorem dX6_bearing_50 : decode cX6_bearing 50 = .ok (.aload_n 0, 1) := dk_42 (dk_at dksX6_bearing_2 3 rfl rfl)
theorem dX6_bearing_51 : decode cX6_bearing 51 = .ok (.iload_n 1, 1) := dk_27 (dk_at dksX6_bearing_2 4 rfl rfl)
theorem dX6_bearing_52 : decode cX6_bearing 52 = .ok (.iconst 1, 1) := dk_4 (dk_at dksX6_bearing_2 5 rfl rfl)
theorem dX6_bearing_53 : decode cX6_bearing 53 = .ok (.invokevirtual 281, 3) := dk_182 1 25 (dk_at dksX6_bearing_2 6 rfl rfl)
theorem dX6_bearing_56 : decode cX6_bearing 56 = .ok (.invokevirtual 321, 3) := dk_182 1 65 (dk_at dksX6_bearing_2 9 rfl rfl)
theorem dX6_bearing_59 : decode cX6_bearing 59 = .ok (.ifCond .eq 9, 3) := dk_153 0 9 (dk_at dksX6_bearing_2 12 rfl rfl)
theorem dX6_bearing_62 : decode cX6_bearing 62 = .ok (.iload_n 2, 1) := dk_28 (dk_at dksX6_bearing_2 15 rfl rfl)
theorem dX6_bearing_63 : decode cX6_bearing 63 = .ok (.iconst 1, 1) := dk_4 (dk_at dksX6_bearing_2 16 rfl rfl)
theorem dX6_bearing_64 : decode cX6_bearing 64 = .ok (.iload_n 3, 1) := dk_29 (dk_at dksX6_bearing_2 17 rfl rfl)
theorem dX6_bearing_65 : decode cX6_bearing 65 = .ok (.ishl, 1) := dk_120 (dk_at dksX6_bearing_2 18 rfl rfl)
theorem dX6_bearing_66 : decode cX6_bearing 66 = .ok (.ior, 1) := dk_128 (dk_at dksX6_bearing_2 19 rfl rfl)
theorem dX6_bearing_67 : decode cX6_bearing 67 = .ok (.istore_n 2, 1) := dk_61 (dk_at dksX6_bearing_2 20 rfl rfl)
theorem dX6_bearing_68 : decode cX6_bearing 68 = .ok (.iinc 3 1, 3) := dk_132 3 1 (dk_at dksX6_bearing_2 21 rfl rfl)
theorem dX6_bearing_71 : decode cX6_bearing 71 = .ok (.goto (-52), 3) := dk_167 255 204 (dk_at dksX6_bearing_3 0 rfl rfl)
theorem dX6_bearing_74 : decode cX6_bearing 74 = .ok (.aload_n 0, 1) := dk_42 (dk_at dksX6_bearing_3 3 rfl rfl)
theorem dX6_bearing_75 : decode cX6_bearing 75 = .ok (.iload_n 2, 1) := dk_28 (dk_at dksX6_bearing_3 4 rfl rfl)
theorem dX6_bearing_76 : decode cX6_bearing 76 = .ok (.invokevirtual 95, 3) := dk_182 0 95 (dk_at dksX6_bearing_3 5 rfl rfl)
theorem dX6_bearing_79 : decode cX6_bearing 79 = .ok (.ireturn, 1) := dk_172 (dk_at dksX6_bearing_3 8 rfl rfl)
abbrev cX6_shown : ByteArray := prog_16_method_90_code
def yX6_shown : MethodName := ⟨RX6, "shown", "(I)I"⟩
def dkwX6_shown_2 : List UInt8 := [167, 0, 4, 3, 128, 61, 132, 3, 1, 167, 255, 217, 42, 28, 182, 0, 95, 172]
abbrev dktX6_shown_2 : List UInt8 := dkwX6_shown_2 ++ []
def dkwX6_shown_1 : List UInt8 := [46, 162, 0, 35, 28, 42, 29, 42, 180, 0, 7, 16, 6, 46, 182, 1, 76, 27, 160, 0, 9, 4, 29, 120]
abbrev dktX6_shown_1 : List UInt8 := dkwX6_shown_1 ++ dktX6_shown_2
def dkwX6_shown_0 : List UInt8 := [42, 27, 182, 1, 37, 154, 0, 9, 42, 4, 182, 0, 91, 172, 3, 61, 3, 62, 29, 42, 180, 0, 7, 6]
abbrev dktX6_shown_0 : List UInt8 := dkwX6_shown_0 ++ dktX6_shown_1
theorem dksX6_shown_0 : cX6_shown.data.toList.drop 0 = dktX6_shown_0 := by decide +kernel
theorem dksX6_shown_1 : cX6_shown.data.toList.drop 24 = dktX6_shown_1 := dk_seg dksX6_shown_0 24 rfl rfl
theorem dksX6_shown_2 : cX6_shown.data.toList.drop 48 = dktX6_shown_2 := dk_seg dksX6_shown_1 24 rfl rfl
theorem dX6_shown_0 : decode cX6_shown 0 = .ok (.aload_n 0, 1) := dk_42 (dk_at dksX6_shown_0 0 rfl rfl)
theorem dX6_shown_1 : decode cX6_shown 1 = .ok (.iload_n 1, 1) := dk_27 (dk_at dksX6_shown_0 1 rfl rfl)
theorem dX6_shown_2 : decode cX6_shown 2 = .ok (.invokevirtual 293, 3) := dk_182 1 37 (dk_at dksX6_shown_0 2 rfl rfl)
theorem dX6_shown_5 : decode cX6_shown 5 = .ok (.ifCond .ne 9, 3) := dk_154 0 9 (dk_at dksX6_shown_0 5 rfl rfl)
theorem dX6_shown_8 : decode cX6_shown 8 = .ok (.aload_n 0, 1) := dk_42 (dk_at dksX6_shown_0 8 rfl rfl)
theorem dX6_shown_9 : decode cX6_shown 9 = .ok (.iconst 1, 1) := dk_4 (dk_at dksX6_shown_0 9 rfl rfl)
theorem dX6_shown_10 : decode cX6_shown 10 = .ok (.invokevirtual 91, 3) := dk_182 0 91 (dk_at dksX6_shown_0 10 rfl rfl)
theorem dX6_shown_13 : decode cX6_shown 13 = .ok (.ireturn, 1) := dk_172 (dk_at dksX6_shown_0 13 rfl rfl)
theorem dX6_shown_14 : decode cX6_shown 14 = .ok (.iconst 0, 1) := dk_3 (dk_at dksX6_shown_0 14 rfl rfl)
theorem dX6_shown_15 : decode cX6_shown 15 = .ok (.istore_n 2, 1) := dk_61 (dk_at dksX6_shown_0 15 rfl rfl)
theorem dX6_shown_16 : decode cX6_shown 16 = .ok (.iconst 0, 1) := dk_3 (dk_at dksX6_shown_0 16 rfl rfl)
theorem dX6_shown_17 : decode cX6_shown 17 = .ok (.istore_n 3, 1) := dk_62 (dk_at dksX6_shown_0 17 rfl rfl)
theorem dX6_shown_18 : decode cX6_shown 18 = .ok (.iload_n 3, 1) := dk_29 (dk_at dksX6_shown_0 18 rfl rfl)
theorem dX6_shown_19 : decode cX6_shown 19 = .ok (.aload_n 0, 1) := dk_42 (dk_at dksX6_shown_0 19 rfl rfl)
theorem dX6_shown_20 : decode cX6_shown 20 = .ok (.getfield 7, 3) := dk_180 0 7 (dk_at dksX6_shown_0 20 rfl rfl)
theorem dX6_shown_23 : decode cX6_shown 23 = .ok (.iconst 3, 1) := dk_6 (dk_at dksX6_shown_0 23 rfl rfl)
theorem dX6_shown_24 : decode cX6_shown 24 = .ok (.iaload, 1) := dk_46 (dk_at dksX6_shown_1 0 rfl rfl)
theorem dX6_shown_25 : decode cX6_shown 25 = .ok (.if_icmp .ge 35, 3) := dk_162 0 35 (dk_at dksX6_shown_1 1 rfl rfl)
theorem dX6_shown_28 : decode cX6_shown 28 = .ok (.iload_n 2, 1) := dk_28 (dk_at dksX6_shown_1 4 rfl rfl)
theorem dX6_shown_29 : decode cX6_shown 29 = .ok (.aload_n 0, 1) := dk_42 (dk_at dksX6_shown_1 5 rfl rfl)
theorem dX6_shown_30 : decode cX6_shown 30 = .ok (.iload_n 3, 1) := dk_29 (dk_at dksX6_shown_1 6 rfl rfl)
theorem dX6_shown_31 : decode cX6_shown 31 = .ok (.aload_n 0, 1) := dk_42 (dk_at dksX6_shown_1 7 rfl rfl)
theorem dX6_shown_32 : decode cX6_shown 32 = .ok (.getfield 7, 3) := dk_180 0 7 (dk_at dksX6_shown_1 8 rfl rfl)
theorem dX6_shown_35 : decode cX6_shown 35 = .ok (.bipush 6, 2) := dk_16 6 (dk_at dksX6_shown_1 11 rfl rfl)
theorem dX6_shown_37 : decode cX6_shown 37 = .ok (.iaload, 1) := dk_46 (dk_at dksX6_shown_1 13 rfl rfl)
theorem dX6_shown_38 : decode cX6_shown 38 = .ok (.invokevirtual 332, 3) := dk_182 1 76 (dk_at dksX6_shown_1 14 rfl rfl)
theorem dX6_shown_41 : decode cX6_shown 41 = .ok (.iload_n 1, 1) := dk_27 (dk_at dksX6_shown_1 17 rfl rfl)
theorem dX6_shown_42 : decode cX6_shown 42 = .ok (.if_icmp .ne 9, 3) := dk_160 0 9 (dk_at dksX6_shown_1 18 rfl rfl)
theorem dX6_shown_45 : decode cX6_shown 45 = .ok (.iconst 1, 1) := dk_4 (dk_at dksX6_shown_1 21 rfl rfl)
theorem dX6_shown_46 : decode cX6_shown 46 = .ok (.iload_n 3, 1) := dk_29 (dk_at dksX6_shown_1 22 rfl rfl)
theorem dX6_shown_47 : decode cX6_shown 47 = .ok (.ishl, 1) := dk_120 (dk_at dksX6_shown_1 23 rfl rfl)
theorem dX6_shown_48 : decode cX6_shown 48 = .ok (.goto 4, 3) := dk_167 0 4 (dk_at dksX6_shown_2 0 rfl rfl)
theorem dX6_shown_51 : decode cX6_shown 51 = .ok (.iconst 0, 1) := dk_3 (dk_at dksX6_shown_2 3 rfl rfl)
theorem dX6_shown_52 : decode cX6_shown 52 = .ok (.ior, 1) := dk_128 (dk_at dksX6_shown_2 4 rfl rfl)
theorem dX6_shown_53 : decode cX6_shown 53 = .ok (.istore_n 2, 1) := dk_61 (dk_at dksX6_shown_2 5 rfl rfl)
theorem dX6_shown_54 : decode cX6_shown 54 = .ok (.iinc 3 1, 3) := dk_132 3 1 (dk_at dksX6_shown_2 6 rfl rfl)
theorem dX6_shown_57 : decode cX6_shown 57 = .ok (.goto (-39), 3) := dk_167 255 217 (dk_at dksX6_shown_2 9 rfl rfl)
theorem dX6_shown_60 : decode cX6_shown 60 = .ok (.aload_n 0, 1) := dk_42 (dk_at dksX6_shown_2 12 rfl rfl)
theorem dX6_shown_61 : decode cX6_shown 61 = .ok (.iload_n 2, 1) := dk_28 (dk_at dksX6_shown_2 13 rfl rfl)
theorem dX6_shown_62 : decode cX6_shown 62 = .ok (.invokevirtual 95, 3) := dk_182 0 95 (dk_at dksX6_shown_2 14 rfl rfl)
theorem dX6_shown_65 : decode cX6_shown 65 = .ok (.ireturn, 1) := dk_172 (dk_at dksX6_shown_2 17 rfl rfl)
abbrev cX6_sit : ByteArray := prog_16_method_92_code
def yX6_sit : MethodName := ⟨RX6, "sit", "(I)I"⟩
def dkwX6_sit_2 : List UInt8 := [42, 180, 0, 7, 4, 46, 167, 0, 4, 28, 182, 0, 95, 172]
abbrev dktX6_sit_2 : List UInt8 := dkwX6_sit_2 ++ []
def dkwX6_sit_1 : List UInt8 := [17, 39, 15, 160, 0, 9, 42, 7, 182, 0, 91, 172, 42, 27, 182, 1, 85, 61, 42, 28, 2, 160, 0, 12]
abbrev dktX6_sit_1 : List UInt8 := dkwX6_sit_1 ++ dktX6_sit_2
def dkwX6_sit_0 : List UInt8 := [42, 27, 133, 182, 1, 49, 154, 0, 9, 42, 4, 182, 0, 91, 172, 42, 180, 0, 7, 16, 7, 46]
abbrev dktX6_sit_0 : List UInt8 := dkwX6_sit_0 ++ dktX6_sit_1
theorem dksX6_sit_0 : cX6_sit.data.toList.drop 0 = dktX6_sit_0 := by decide +kernel
theorem dksX6_sit_1 : cX6_sit.data.toList.drop 22 = dktX6_sit_1 := dk_seg dksX6_sit_0 22 rfl rfl
theorem dksX6_sit_2 : cX6_sit.data.toList.drop 46 = dktX6_sit_2 := dk_seg dksX6_sit_1 24 rfl rfl
theorem dX6_sit_0 : decode cX6_sit 0 = .ok (.aload_n 0, 1) := dk_42 (dk_at dksX6_sit_0 0 rfl rfl)
theorem dX6_sit_1 : decode cX6_sit 1 = .ok (.iload_n 1, 1) := dk_27 (dk_at dksX6_sit_0 1 rfl rfl)
theorem dX6_sit_2 : decode cX6_sit 2 = .ok (.i2l, 1) := dk_133 (dk_at dksX6_sit_0 2 rfl rfl)
theorem dX6_sit_3 : decode cX6_sit 3 = .ok (.invokevirtual 305, 3) := dk_182 1 49 (dk_at dksX6_sit_0 3 rfl rfl)
theorem dX6_sit_6 : decode cX6_sit 6 = .ok (.ifCond .ne 9, 3) := dk_154 0 9 (dk_at dksX6_sit_0 6 rfl rfl)
theorem dX6_sit_9 : decode cX6_sit 9 = .ok (.aload_n 0, 1) := dk_42 (dk_at dksX6_sit_0 9 rfl rfl)
theorem dX6_sit_10 : decode cX6_sit 10 = .ok (.iconst 1, 1) := dk_4 (dk_at dksX6_sit_0 10 rfl rfl)
theorem dX6_sit_11 : decode cX6_sit 11 = .ok (.invokevirtual 91, 3) := dk_182 0 91 (dk_at dksX6_sit_0 11 rfl rfl)
theorem dX6_sit_14 : decode cX6_sit 14 = .ok (.ireturn, 1) := dk_172 (dk_at dksX6_sit_0 14 rfl rfl)
theorem dX6_sit_15 : decode cX6_sit 15 = .ok (.aload_n 0, 1) := dk_42 (dk_at dksX6_sit_0 15 rfl rfl)
theorem dX6_sit_16 : decode cX6_sit 16 = .ok (.getfield 7, 3) := dk_180 0 7 (dk_at dksX6_sit_0 16 rfl rfl)
theorem dX6_sit_19 : decode cX6_sit 19 = .ok (.bipush 7, 2) := dk_16 7 (dk_at dksX6_sit_0 19 rfl rfl)
theorem dX6_sit_21 : decode cX6_sit 21 = .ok (.iaload, 1) := dk_46 (dk_at dksX6_sit_0 21 rfl rfl)
theorem dX6_sit_22 : decode cX6_sit 22 = .ok (.sipush 9999, 3) := dk_17 39 15 (dk_at dksX6_sit_1 0 rfl rfl)
theorem dX6_sit_25 : decode cX6_sit 25 = .ok (.if_icmp .ne 9, 3) := dk_160 0 9 (dk_at dksX6_sit_1 3 rfl rfl)
theorem dX6_sit_28 : decode cX6_sit 28 = .ok (.aload_n 0, 1) := dk_42 (dk_at dksX6_sit_1 6 rfl rfl)
theorem dX6_sit_29 : decode cX6_sit 29 = .ok (.iconst 4, 1) := dk_7 (dk_at dksX6_sit_1 7 rfl rfl)
theorem dX6_sit_30 : decode cX6_sit 30 = .ok (.invokevirtual 91, 3) := dk_182 0 91 (dk_at dksX6_sit_1 8 rfl rfl)
theorem dX6_sit_33 : decode cX6_sit 33 = .ok (.ireturn, 1) := dk_172 (dk_at dksX6_sit_1 11 rfl rfl)
theorem dX6_sit_34 : decode cX6_sit 34 = .ok (.aload_n 0, 1) := dk_42 (dk_at dksX6_sit_1 12 rfl rfl)
theorem dX6_sit_35 : decode cX6_sit 35 = .ok (.iload_n 1, 1) := dk_27 (dk_at dksX6_sit_1 13 rfl rfl)
theorem dX6_sit_36 : decode cX6_sit 36 = .ok (.invokevirtual 341, 3) := dk_182 1 85 (dk_at dksX6_sit_1 14 rfl rfl)
theorem dX6_sit_39 : decode cX6_sit 39 = .ok (.istore_n 2, 1) := dk_61 (dk_at dksX6_sit_1 17 rfl rfl)
theorem dX6_sit_40 : decode cX6_sit 40 = .ok (.aload_n 0, 1) := dk_42 (dk_at dksX6_sit_1 18 rfl rfl)
theorem dX6_sit_41 : decode cX6_sit 41 = .ok (.iload_n 2, 1) := dk_28 (dk_at dksX6_sit_1 19 rfl rfl)
theorem dX6_sit_42 : decode cX6_sit 42 = .ok (.iconst (-1), 1) := dk_2 (dk_at dksX6_sit_1 20 rfl rfl)
theorem dX6_sit_43 : decode cX6_sit 43 = .ok (.if_icmp .ne 12, 3) := dk_160 0 12 (dk_at dksX6_sit_1 21 rfl rfl)
theorem dX6_sit_46 : decode cX6_sit 46 = .ok (.aload_n 0, 1) := dk_42 (dk_at dksX6_sit_2 0 rfl rfl)
theorem dX6_sit_47 : decode cX6_sit 47 = .ok (.getfield 7, 3) := dk_180 0 7 (dk_at dksX6_sit_2 1 rfl rfl)
theorem dX6_sit_50 : decode cX6_sit 50 = .ok (.iconst 1, 1) := dk_4 (dk_at dksX6_sit_2 4 rfl rfl)
theorem dX6_sit_51 : decode cX6_sit 51 = .ok (.iaload, 1) := dk_46 (dk_at dksX6_sit_2 5 rfl rfl)
theorem dX6_sit_52 : decode cX6_sit 52 = .ok (.goto 4, 3) := dk_167 0 4 (dk_at dksX6_sit_2 6 rfl rfl)
theorem dX6_sit_55 : decode cX6_sit 55 = .ok (.iload_n 2, 1) := dk_28 (dk_at dksX6_sit_2 9 rfl rfl)
theorem dX6_sit_56 : decode cX6_sit 56 = .ok (.invokevirtual 95, 3) := dk_182 0 95 (dk_at dksX6_sit_2 10 rfl rfl)
theorem dX6_sit_59 : decode cX6_sit 59 = .ok (.ireturn, 1) := dk_172 (dk_at dksX6_sit_2 13 rfl rfl)
abbrev cX6_sits : ByteArray := prog_16_method_91_code
def yX6_sits : MethodName := ⟨RX6, "sits", "(I)I"⟩
def dkwX6_sits_2 : List UInt8 := [180, 0, 7, 27, 184, 0, 224, 7, 96, 92, 46, 4, 96, 79, 28, 172]
abbrev dktX6_sits_2 : List UInt8 := dkwX6_sits_2 ++ []
def dkwX6_sits_1 : List UInt8 := [180, 0, 7, 16, 6, 46, 4, 96, 184, 0, 146, 79, 42, 180, 0, 7, 16, 7, 92, 46, 4, 96, 79, 42]
abbrev dktX6_sits_1 : List UInt8 := dkwX6_sits_1 ++ dktX6_sits_2
def dkwX6_sits_0 : List UInt8 := [42, 27, 42, 180, 0, 7, 16, 6, 46, 182, 1, 76, 61, 42, 180, 0, 7, 16, 6, 16, 9, 42]
abbrev dktX6_sits_0 : List UInt8 := dkwX6_sits_0 ++ dktX6_sits_1
theorem dksX6_sits_0 : cX6_sits.data.toList.drop 0 = dktX6_sits_0 := by decide +kernel
theorem dksX6_sits_1 : cX6_sits.data.toList.drop 22 = dktX6_sits_1 := dk_seg dksX6_sits_0 22 rfl rfl
theorem dksX6_sits_2 : cX6_sits.data.toList.drop 46 = dktX6_sits_2 := dk_seg dksX6_sits_1 24 rfl rfl
theorem dX6_sits_0 : decode cX6_sits 0 = .ok (.aload_n 0, 1) := dk_42 (dk_at dksX6_sits_0 0 rfl rfl)
theorem dX6_sits_1 : decode cX6_sits 1 = .ok (.iload_n 1, 1) := dk_27 (dk_at dksX6_sits_0 1 rfl rfl)
theorem dX6_sits_2 : decode cX6_sits 2 = .ok (.aload_n 0, 1) := dk_42 (dk_at dksX6_sits_0 2 rfl rfl)
theorem dX6_sits_3 : decode cX6_sits 3 = .ok (.getfield 7, 3) := dk_180 0 7 (dk_at dksX6_sits_0 3 rfl rfl)
theorem dX6_sits_6 : decode cX6_sits 6 = .ok (.bipush 6, 2) := dk_16 6 (dk_at dksX6_sits_0 6 rfl rfl)
theorem dX6_sits_8 : decode cX6_sits 8 = .ok (.iaload, 1) := dk_46 (dk_at dksX6_sits_0 8 rfl rfl)
theorem dX6_sits_9 : decode cX6_sits 9 = .ok (.invokevirtual 332, 3) := dk_182 1 76 (dk_at dksX6_sits_0 9 rfl rfl)
theorem dX6_sits_12 : decode cX6_sits 12 = .ok (.istore_n 2, 1) := dk_61 (dk_at dksX6_sits_0 12 rfl rfl)
theorem dX6_sits_13 : decode cX6_sits 13 = .ok (.aload_n 0, 1) := dk_42 (dk_at dksX6_sits_0 13 rfl rfl)
theorem dX6_sits_14 : decode cX6_sits 14 = .ok (.getfield 7, 3) := dk_180 0 7 (dk_at dksX6_sits_0 14 rfl rfl)
theorem dX6_sits_17 : decode cX6_sits 17 = .ok (.bipush 6, 2) := dk_16 6 (dk_at dksX6_sits_0 17 rfl rfl)
theorem dX6_sits_19 : decode cX6_sits 19 = .ok (.bipush 9, 2) := dk_16 9 (dk_at dksX6_sits_0 19 rfl rfl)
theorem dX6_sits_21 : decode cX6_sits 21 = .ok (.aload_n 0, 1) := dk_42 (dk_at dksX6_sits_0 21 rfl rfl)
theorem dX6_sits_22 : decode cX6_sits 22 = .ok (.getfield 7, 3) := dk_180 0 7 (dk_at dksX6_sits_1 0 rfl rfl)
theorem dX6_sits_25 : decode cX6_sits 25 = .ok (.bipush 6, 2) := dk_16 6 (dk_at dksX6_sits_1 3 rfl rfl)
theorem dX6_sits_27 : decode cX6_sits 27 = .ok (.iaload, 1) := dk_46 (dk_at dksX6_sits_1 5 rfl rfl)
theorem dX6_sits_28 : decode cX6_sits 28 = .ok (.iconst 1, 1) := dk_4 (dk_at dksX6_sits_1 6 rfl rfl)
theorem dX6_sits_29 : decode cX6_sits 29 = .ok (.iadd, 1) := dk_96 (dk_at dksX6_sits_1 7 rfl rfl)
theorem dX6_sits_30 : decode cX6_sits 30 = .ok (.invokestatic 146, 3) := dk_184 0 146 (dk_at dksX6_sits_1 8 rfl rfl)
theorem dX6_sits_33 : decode cX6_sits 33 = .ok (.iastore, 1) := dk_79 (dk_at dksX6_sits_1 11 rfl rfl)
theorem dX6_sits_34 : decode cX6_sits 34 = .ok (.aload_n 0, 1) := dk_42 (dk_at dksX6_sits_1 12 rfl rfl)
theorem dX6_sits_35 : decode cX6_sits 35 = .ok (.getfield 7, 3) := dk_180 0 7 (dk_at dksX6_sits_1 13 rfl rfl)
theorem dX6_sits_38 : decode cX6_sits 38 = .ok (.bipush 7, 2) := dk_16 7 (dk_at dksX6_sits_1 16 rfl rfl)
theorem dX6_sits_40 : decode cX6_sits 40 = .ok (.dup2, 1) := dk_92 (dk_at dksX6_sits_1 18 rfl rfl)
theorem dX6_sits_41 : decode cX6_sits 41 = .ok (.iaload, 1) := dk_46 (dk_at dksX6_sits_1 19 rfl rfl)
theorem dX6_sits_42 : decode cX6_sits 42 = .ok (.iconst 1, 1) := dk_4 (dk_at dksX6_sits_1 20 rfl rfl)
theorem dX6_sits_43 : decode cX6_sits 43 = .ok (.iadd, 1) := dk_96 (dk_at dksX6_sits_1 21 rfl rfl)
theorem dX6_sits_44 : decode cX6_sits 44 = .ok (.iastore, 1) := dk_79 (dk_at dksX6_sits_1 22 rfl rfl)
theorem dX6_sits_45 : decode cX6_sits 45 = .ok (.aload_n 0, 1) := dk_42 (dk_at dksX6_sits_1 23 rfl rfl)
theorem dX6_sits_46 : decode cX6_sits 46 = .ok (.getfield 7, 3) := dk_180 0 7 (dk_at dksX6_sits_2 0 rfl rfl)
theorem dX6_sits_49 : decode cX6_sits 49 = .ok (.iload_n 1, 1) := dk_27 (dk_at dksX6_sits_2 3 rfl rfl)
theorem dX6_sits_50 : decode cX6_sits 50 = .ok (.invokestatic 224, 3) := dk_184 0 224 (dk_at dksX6_sits_2 4 rfl rfl)
theorem dX6_sits_53 : decode cX6_sits 53 = .ok (.iconst 4, 1) := dk_7 (dk_at dksX6_sits_2 7 rfl rfl)
theorem dX6_sits_54 : decode cX6_sits 54 = .ok (.iadd, 1) := dk_96 (dk_at dksX6_sits_2 8 rfl rfl)
theorem dX6_sits_55 : decode cX6_sits 55 = .ok (.dup2, 1) := dk_92 (dk_at dksX6_sits_2 9 rfl rfl)
theorem dX6_sits_56 : decode cX6_sits 56 = .ok (.iaload, 1) := dk_46 (dk_at dksX6_sits_2 10 rfl rfl)
theorem dX6_sits_57 : decode cX6_sits 57 = .ok (.iconst 1, 1) := dk_4 (dk_at dksX6_sits_2 11 rfl rfl)
theorem dX6_sits_58 : decode cX6_sits 58 = .ok (.iadd, 1) := dk_96 (dk_at dksX6_sits_2 12 rfl rfl)
theorem dX6_sits_59 : decode cX6_sits 59 = .ok (.iastore, 1) := dk_79 (dk_at dksX6_sits_2 13 rfl rfl)
theorem dX6_sits_60 : decode cX6_sits 60 = .ok (.iload_n 2, 1) := dk_28 (dk_at dksX6_sits_2 14 rfl rfl)
theorem dX6_sits_61 : decode cX6_sits 61 = .ok (.ireturn, 1) := dk_172 (dk_at dksX6_sits_2 15 rfl rfl)
abbrev cX6_term : ByteArray := prog_16_method_95_code
def yX6_term : MethodName := ⟨RX6, "term", "()I"⟩
def dkwX6_term_1 : List UInt8 := [182, 0, 91, 167, 0, 11, 42, 42, 182, 1, 94, 182, 0, 95, 172]
abbrev dktX6_term_1 : List UInt8 := dkwX6_term_1 ++ []
def dkwX6_term_0 : List UInt8 := [42, 182, 1, 91, 153, 0, 9, 42, 7, 182, 0, 91, 172, 42, 3, 182, 1, 34, 154, 0, 12, 42, 16, 7]
abbrev dktX6_term_0 : List UInt8 := dkwX6_term_0 ++ dktX6_term_1
theorem dksX6_term_0 : cX6_term.data.toList.drop 0 = dktX6_term_0 := by decide +kernel
theorem dksX6_term_1 : cX6_term.data.toList.drop 24 = dktX6_term_1 := dk_seg dksX6_term_0 24 rfl rfl
theorem dX6_term_0 : decode cX6_term 0 = .ok (.aload_n 0, 1) := dk_42 (dk_at dksX6_term_0 0 rfl rfl)
theorem dX6_term_1 : decode cX6_term 1 = .ok (.invokevirtual 347, 3) := dk_182 1 91 (dk_at dksX6_term_0 1 rfl rfl)
theorem dX6_term_4 : decode cX6_term 4 = .ok (.ifCond .eq 9, 3) := dk_153 0 9 (dk_at dksX6_term_0 4 rfl rfl)
theorem dX6_term_7 : decode cX6_term 7 = .ok (.aload_n 0, 1) := dk_42 (dk_at dksX6_term_0 7 rfl rfl)
theorem dX6_term_8 : decode cX6_term 8 = .ok (.iconst 4, 1) := dk_7 (dk_at dksX6_term_0 8 rfl rfl)
theorem dX6_term_9 : decode cX6_term 9 = .ok (.invokevirtual 91, 3) := dk_182 0 91 (dk_at dksX6_term_0 9 rfl rfl)
theorem dX6_term_12 : decode cX6_term 12 = .ok (.ireturn, 1) := dk_172 (dk_at dksX6_term_0 12 rfl rfl)
theorem dX6_term_13 : decode cX6_term 13 = .ok (.aload_n 0, 1) := dk_42 (dk_at dksX6_term_0 13 rfl rfl)
theorem dX6_term_14 : decode cX6_term 14 = .ok (.iconst 0, 1) := dk_3 (dk_at dksX6_term_0 14 rfl rfl)
theorem dX6_term_15 : decode cX6_term 15 = .ok (.invokevirtual 290, 3) := dk_182 1 34 (dk_at dksX6_term_0 15 rfl rfl)
theorem dX6_term_18 : decode cX6_term 18 = .ok (.ifCond .ne 12, 3) := dk_154 0 12 (dk_at dksX6_term_0 18 rfl rfl)
theorem dX6_term_21 : decode cX6_term 21 = .ok (.aload_n 0, 1) := dk_42 (dk_at dksX6_term_0 21 rfl rfl)
theorem dX6_term_22 : decode cX6_term 22 = .ok (.bipush 7, 2) := dk_16 7 (dk_at dksX6_term_0 22 rfl rfl)
theorem dX6_term_24 : decode cX6_term 24 = .ok (.invokevirtual 91, 3) := dk_182 0 91 (dk_at dksX6_term_1 0 rfl rfl)
theorem dX6_term_27 : decode cX6_term 27 = .ok (.goto 11, 3) := dk_167 0 11 (dk_at dksX6_term_1 3 rfl rfl)
theorem dX6_term_30 : decode cX6_term 30 = .ok (.aload_n 0, 1) := dk_42 (dk_at dksX6_term_1 6 rfl rfl)
theorem dX6_term_31 : decode cX6_term 31 = .ok (.aload_n 0, 1) := dk_42 (dk_at dksX6_term_1 7 rfl rfl)
theorem dX6_term_32 : decode cX6_term 32 = .ok (.invokevirtual 350, 3) := dk_182 1 94 (dk_at dksX6_term_1 8 rfl rfl)
theorem dX6_term_35 : decode cX6_term 35 = .ok (.invokevirtual 95, 3) := dk_182 0 95 (dk_at dksX6_term_1 11 rfl rfl)
theorem dX6_term_38 : decode cX6_term 38 = .ok (.ireturn, 1) := dk_172 (dk_at dksX6_term_1 14 rfl rfl)
abbrev cX6_isTooMuch : ByteArray := prog_16_method_94_code
def yX6_isTooMuch : MethodName := ⟨RX6, "isTooMuch", "()Z"⟩
def dkwX6_isTooMuch_1 : List UInt8 := [167, 0, 4, 3, 172]
abbrev dktX6_isTooMuch_1 : List UInt8 := dkwX6_isTooMuch_1 ++ []
def dkwX6_isTooMuch_0 : List UInt8 := [42, 180, 0, 7, 16, 7, 46, 42, 3, 182, 1, 34, 184, 1, 88, 96, 17, 39, 15, 164, 0, 7, 4]
abbrev dktX6_isTooMuch_0 : List UInt8 := dkwX6_isTooMuch_0 ++ dktX6_isTooMuch_1
theorem dksX6_isTooMuch_0 : cX6_isTooMuch.data.toList.drop 0 = dktX6_isTooMuch_0 := by decide +kernel
theorem dksX6_isTooMuch_1 : cX6_isTooMuch.data.toList.drop 23 = dktX6_isTooMuch_1 := dk_seg dksX6_isTooMuch_0 23 rfl rfl
theorem dX6_isTooMuch_0 : decode cX6_isTooMuch 0 = .ok (.aload_n 0, 1) := dk_42 (dk_at dksX6_isTooMuch_0 0 rfl rfl)
theorem dX6_isTooMuch_1 : decode cX6_isTooMuch 1 = .ok (.getfield 7, 3) := dk_180 0 7 (dk_at dksX6_isTooMuch_0 1 rfl rfl)
theorem dX6_isTooMuch_4 : decode cX6_isTooMuch 4 = .ok (.bipush 7, 2) := dk_16 7 (dk_at dksX6_isTooMuch_0 4 rfl rfl)
theorem dX6_isTooMuch_6 : decode cX6_isTooMuch 6 = .ok (.iaload, 1) := dk_46 (dk_at dksX6_isTooMuch_0 6 rfl rfl)
theorem dX6_isTooMuch_7 : decode cX6_isTooMuch 7 = .ok (.aload_n 0, 1) := dk_42 (dk_at dksX6_isTooMuch_0 7 rfl rfl)
theorem dX6_isTooMuch_8 : decode cX6_isTooMuch 8 = .ok (.iconst 0, 1) := dk_3 (dk_at dksX6_isTooMuch_0 8 rfl rfl)
theorem dX6_isTooMuch_9 : decode cX6_isTooMuch 9 = .ok (.invokevirtual 290, 3) := dk_182 1 34 (dk_at dksX6_isTooMuch_0 9 rfl rfl)
theorem dX6_isTooMuch_12 : decode cX6_isTooMuch 12 = .ok (.invokestatic 344, 3) := dk_184 1 88 (dk_at dksX6_isTooMuch_0 12 rfl rfl)
theorem dX6_isTooMuch_15 : decode cX6_isTooMuch 15 = .ok (.iadd, 1) := dk_96 (dk_at dksX6_isTooMuch_0 15 rfl rfl)
theorem dX6_isTooMuch_16 : decode cX6_isTooMuch 16 = .ok (.sipush 9999, 3) := dk_17 39 15 (dk_at dksX6_isTooMuch_0 16 rfl rfl)
theorem dX6_isTooMuch_19 : decode cX6_isTooMuch 19 = .ok (.if_icmp .le 7, 3) := dk_164 0 7 (dk_at dksX6_isTooMuch_0 19 rfl rfl)
theorem dX6_isTooMuch_22 : decode cX6_isTooMuch 22 = .ok (.iconst 1, 1) := dk_4 (dk_at dksX6_isTooMuch_0 22 rfl rfl)
theorem dX6_isTooMuch_23 : decode cX6_isTooMuch 23 = .ok (.goto 4, 3) := dk_167 0 4 (dk_at dksX6_isTooMuch_1 0 rfl rfl)
theorem dX6_isTooMuch_26 : decode cX6_isTooMuch 26 = .ok (.iconst 0, 1) := dk_3 (dk_at dksX6_isTooMuch_1 3 rfl rfl)
theorem dX6_isTooMuch_27 : decode cX6_isTooMuch 27 = .ok (.ireturn, 1) := dk_172 (dk_at dksX6_isTooMuch_1 4 rfl rfl)
abbrev cX6_bits : ByteArray := prog_16_method_66_code
def yX6_bits : MethodName := ⟨RX6, "bits", "(I)I"⟩
def dkwX6_bits_0 : List UInt8 := [3, 60, 26, 61, 28, 153, 0, 15, 132, 1, 1, 28, 28, 4, 100, 126, 61, 167, 255, 243, 27, 172]
abbrev dktX6_bits_0 : List UInt8 := dkwX6_bits_0 ++ []
theorem dksX6_bits_0 : cX6_bits.data.toList.drop 0 = dktX6_bits_0 := by decide +kernel
theorem dX6_bits_0 : decode cX6_bits 0 = .ok (.iconst 0, 1) := dk_3 (dk_at dksX6_bits_0 0 rfl rfl)
theorem dX6_bits_1 : decode cX6_bits 1 = .ok (.istore_n 1, 1) := dk_60 (dk_at dksX6_bits_0 1 rfl rfl)
theorem dX6_bits_2 : decode cX6_bits 2 = .ok (.iload_n 0, 1) := dk_26 (dk_at dksX6_bits_0 2 rfl rfl)
theorem dX6_bits_3 : decode cX6_bits 3 = .ok (.istore_n 2, 1) := dk_61 (dk_at dksX6_bits_0 3 rfl rfl)
theorem dX6_bits_4 : decode cX6_bits 4 = .ok (.iload_n 2, 1) := dk_28 (dk_at dksX6_bits_0 4 rfl rfl)
theorem dX6_bits_5 : decode cX6_bits 5 = .ok (.ifCond .eq 15, 3) := dk_153 0 15 (dk_at dksX6_bits_0 5 rfl rfl)
theorem dX6_bits_8 : decode cX6_bits 8 = .ok (.iinc 1 1, 3) := dk_132 1 1 (dk_at dksX6_bits_0 8 rfl rfl)
theorem dX6_bits_11 : decode cX6_bits 11 = .ok (.iload_n 2, 1) := dk_28 (dk_at dksX6_bits_0 11 rfl rfl)
theorem dX6_bits_12 : decode cX6_bits 12 = .ok (.iload_n 2, 1) := dk_28 (dk_at dksX6_bits_0 12 rfl rfl)
theorem dX6_bits_13 : decode cX6_bits 13 = .ok (.iconst 1, 1) := dk_4 (dk_at dksX6_bits_0 13 rfl rfl)
theorem dX6_bits_14 : decode cX6_bits 14 = .ok (.isub, 1) := dk_100 (dk_at dksX6_bits_0 14 rfl rfl)
theorem dX6_bits_15 : decode cX6_bits 15 = .ok (.iand, 1) := dk_126 (dk_at dksX6_bits_0 15 rfl rfl)
theorem dX6_bits_16 : decode cX6_bits 16 = .ok (.istore_n 2, 1) := dk_61 (dk_at dksX6_bits_0 16 rfl rfl)
theorem dX6_bits_17 : decode cX6_bits 17 = .ok (.goto (-13), 3) := dk_167 255 243 (dk_at dksX6_bits_0 17 rfl rfl)
theorem dX6_bits_20 : decode cX6_bits 20 = .ok (.iload_n 1, 1) := dk_27 (dk_at dksX6_bits_0 20 rfl rfl)
theorem dX6_bits_21 : decode cX6_bits 21 = .ok (.ireturn, 1) := dk_172 (dk_at dksX6_bits_0 21 rfl rfl)
abbrev cX6_terms : ByteArray := prog_16_method_93_code
def yX6_terms : MethodName := ⟨RX6, "terms", "()I"⟩
def dkwX6_terms_4 : List UInt8 := [120, 167, 0, 4, 3, 128, 61, 132, 3, 1, 167, 255, 162, 28, 172]
abbrev dktX6_terms_4 : List UInt8 := dkwX6_terms_4 ++ []
def dkwX6_terms_3 : List UInt8 := [96, 21, 5, 154, 0, 7, 3, 167, 0, 7, 6, 21, 5, 100, 79, 28, 21, 5, 5, 160, 0, 9, 4, 29]
abbrev dktX6_terms_3 : List UInt8 := dkwX6_terms_3 ++ dktX6_terms_4
def dkwX6_terms_2 : List UInt8 := [167, 0, 13, 42, 180, 0, 7, 16, 10, 21, 4, 96, 46, 54, 5, 42, 180, 0, 7, 29, 184, 0, 224, 5]
abbrev dktX6_terms_2 : List UInt8 := dkwX6_terms_2 ++ dktX6_terms_3
def dkwX6_terms_1 : List UInt8 := [182, 1, 59, 154, 0, 6, 167, 0, 72, 42, 29, 182, 1, 85, 54, 4, 21, 4, 2, 160, 0, 7, 3]
abbrev dktX6_terms_1 : List UInt8 := dkwX6_terms_1 ++ dktX6_terms_2
def dkwX6_terms_0 : List UInt8 := [42, 3, 182, 1, 34, 60, 3, 61, 3, 62, 29, 42, 180, 0, 7, 6, 46, 162, 0, 90, 42, 27, 29]
abbrev dktX6_terms_0 : List UInt8 := dkwX6_terms_0 ++ dktX6_terms_1
theorem dksX6_terms_0 : cX6_terms.data.toList.drop 0 = dktX6_terms_0 := by decide +kernel
theorem dksX6_terms_1 : cX6_terms.data.toList.drop 23 = dktX6_terms_1 := dk_seg dksX6_terms_0 23 rfl rfl
theorem dksX6_terms_2 : cX6_terms.data.toList.drop 46 = dktX6_terms_2 := dk_seg dksX6_terms_1 23 rfl rfl
theorem dksX6_terms_3 : cX6_terms.data.toList.drop 70 = dktX6_terms_3 := dk_seg dksX6_terms_2 24 rfl rfl
theorem dksX6_terms_4 : cX6_terms.data.toList.drop 94 = dktX6_terms_4 := dk_seg dksX6_terms_3 24 rfl rfl
theorem dX6_terms_0 : decode cX6_terms 0 = .ok (.aload_n 0, 1) := dk_42 (dk_at dksX6_terms_0 0 rfl rfl)
theorem dX6_terms_1 : decode cX6_terms 1 = .ok (.iconst 0, 1) := dk_3 (dk_at dksX6_terms_0 1 rfl rfl)
theorem dX6_terms_2 : decode cX6_terms 2 = .ok (.invokevirtual 290, 3) := dk_182 1 34 (dk_at dksX6_terms_0 2 rfl rfl)
theorem dX6_terms_5 : decode cX6_terms 5 = .ok (.istore_n 1, 1) := dk_60 (dk_at dksX6_terms_0 5 rfl rfl)
theorem dX6_terms_6 : decode cX6_terms 6 = .ok (.iconst 0, 1) := dk_3 (dk_at dksX6_terms_0 6 rfl rfl)
theorem dX6_terms_7 : decode cX6_terms 7 = .ok (.istore_n 2, 1) := dk_61 (dk_at dksX6_terms_0 7 rfl rfl)
theorem dX6_terms_8 : decode cX6_terms 8 = .ok (.iconst 0, 1) := dk_3 (dk_at dksX6_terms_0 8 rfl rfl)
theorem dX6_terms_9 : decode cX6_terms 9 = .ok (.istore_n 3, 1) := dk_62 (dk_at dksX6_terms_0 9 rfl rfl)
theorem dX6_terms_10 : decode cX6_terms 10 = .ok (.iload_n 3, 1) := dk_29 (dk_at dksX6_terms_0 10 rfl rfl)
theorem dX6_terms_11 : decode cX6_terms 11 = .ok (.aload_n 0, 1) := dk_42 (dk_at dksX6_terms_0 11 rfl rfl)
theorem dX6_terms_12 : decode cX6_terms 12 = .ok (.getfield 7, 3) := dk_180 0 7 (dk_at dksX6_terms_0 12 rfl rfl)
theorem dX6_terms_15 : decode cX6_terms 15 = .ok (.iconst 3, 1) := dk_6 (dk_at dksX6_terms_0 15 rfl rfl)
theorem dX6_terms_16 : decode cX6_terms 16 = .ok (.iaload, 1) := dk_46 (dk_at dksX6_terms_0 16 rfl rfl)
theorem dX6_terms_17 : decode cX6_terms 17 = .ok (.if_icmp .ge 90, 3) := dk_162 0 90 (dk_at dksX6_terms_0 17 rfl rfl)
theorem dX6_terms_20 : decode cX6_terms 20 = .ok (.aload_n 0, 1) := dk_42 (dk_at dksX6_terms_0 20 rfl rfl)
theorem dX6_terms_21 : decode cX6_terms 21 = .ok (.iload_n 1, 1) := dk_27 (dk_at dksX6_terms_0 21 rfl rfl)
theorem dX6_terms_22 : decode cX6_terms 22 = .ok (.iload_n 3, 1) := dk_29 (dk_at dksX6_terms_0 22 rfl rfl)
theorem dX6_terms_23 : decode cX6_terms 23 = .ok (.invokevirtual 315, 3) := dk_182 1 59 (dk_at dksX6_terms_1 0 rfl rfl)
theorem dX6_terms_26 : decode cX6_terms 26 = .ok (.ifCond .ne 6, 3) := dk_154 0 6 (dk_at dksX6_terms_1 3 rfl rfl)
theorem dX6_terms_29 : decode cX6_terms 29 = .ok (.goto 72, 3) := dk_167 0 72 (dk_at dksX6_terms_1 6 rfl rfl)
theorem dX6_terms_32 : decode cX6_terms 32 = .ok (.aload_n 0, 1) := dk_42 (dk_at dksX6_terms_1 9 rfl rfl)
theorem dX6_terms_33 : decode cX6_terms 33 = .ok (.iload_n 3, 1) := dk_29 (dk_at dksX6_terms_1 10 rfl rfl)
theorem dX6_terms_34 : decode cX6_terms 34 = .ok (.invokevirtual 341, 3) := dk_182 1 85 (dk_at dksX6_terms_1 11 rfl rfl)
theorem dX6_terms_37 : decode cX6_terms 37 = .ok (.istore 4, 2) := dk_54 4 (dk_at dksX6_terms_1 14 rfl rfl)
theorem dX6_terms_39 : decode cX6_terms 39 = .ok (.iload 4, 2) := dk_21 4 (dk_at dksX6_terms_1 16 rfl rfl)
theorem dX6_terms_41 : decode cX6_terms 41 = .ok (.iconst (-1), 1) := dk_2 (dk_at dksX6_terms_1 18 rfl rfl)
theorem dX6_terms_42 : decode cX6_terms 42 = .ok (.if_icmp .ne 7, 3) := dk_160 0 7 (dk_at dksX6_terms_1 19 rfl rfl)
theorem dX6_terms_45 : decode cX6_terms 45 = .ok (.iconst 0, 1) := dk_3 (dk_at dksX6_terms_1 22 rfl rfl)
theorem dX6_terms_46 : decode cX6_terms 46 = .ok (.goto 13, 3) := dk_167 0 13 (dk_at dksX6_terms_2 0 rfl rfl)
theorem dX6_terms_49 : decode cX6_terms 49 = .ok (.aload_n 0, 1) := dk_42 (dk_at dksX6_terms_2 3 rfl rfl)
theorem dX6_terms_50 : decode cX6_terms 50 = .ok (.getfield 7, 3) := dk_180 0 7 (dk_at dksX6_terms_2 4 rfl rfl)
theorem dX6_terms_53 : decode cX6_terms 53 = .ok (.bipush 10, 2) := dk_16 10 (dk_at dksX6_terms_2 7 rfl rfl)
theorem dX6_terms_55 : decode cX6_terms 55 = .ok (.iload 4, 2) := dk_21 4 (dk_at dksX6_terms_2 9 rfl rfl)
theorem dX6_terms_57 : decode cX6_terms 57 = .ok (.iadd, 1) := dk_96 (dk_at dksX6_terms_2 11 rfl rfl)
theorem dX6_terms_58 : decode cX6_terms 58 = .ok (.iaload, 1) := dk_46 (dk_at dksX6_terms_2 12 rfl rfl)
theorem dX6_terms_59 : decode cX6_terms 59 = .ok (.istore 5, 2) := dk_54 5 (dk_at dksX6_terms_2 13 rfl rfl)
theorem dX6_terms_61 : decode cX6_terms 61 = .ok (.aload_n 0, 1) := dk_42 (dk_at dksX6_terms_2 15 rfl rfl)
theorem dX6_terms_62 : decode cX6_terms 62 = .ok (.getfield 7, 3) := dk_180 0 7 (dk_at dksX6_terms_2 16 rfl rfl)
theorem dX6_terms_65 : decode cX6_terms 65 = .ok (.iload_n 3, 1) := dk_29 (dk_at dksX6_terms_2 19 rfl rfl)
theorem dX6_terms_66 : decode cX6_terms 66 = .ok (.invokestatic 224, 3) := dk_184 0 224 (dk_at dksX6_terms_2 20 rfl rfl)
theorem dX6_terms_69 : decode cX6_terms 69 = .ok (.iconst 2, 1) := dk_5 (dk_at dksX6_terms_2 23 rfl rfl)
theorem dX6_terms_70 : decode cX6_terms 70 = .ok (.iadd, 1) := dk_96 (dk_at dksX6_terms_3 0 rfl rfl)
theorem dX6_terms_71 : decode cX6_terms 71 = .ok (.iload 5, 2) := dk_21 5 (dk_at dksX6_terms_3 1 rfl rfl)
theorem dX6_terms_73 : decode cX6_terms 73 = .ok (.ifCond .ne 7, 3) := dk_154 0 7 (dk_at dksX6_terms_3 3 rfl rfl)
theorem dX6_terms_76 : decode cX6_terms 76 = .ok (.iconst 0, 1) := dk_3 (dk_at dksX6_terms_3 6 rfl rfl)
theorem dX6_terms_77 : decode cX6_terms 77 = .ok (.goto 7, 3) := dk_167 0 7 (dk_at dksX6_terms_3 7 rfl rfl)
theorem dX6_terms_80 : decode cX6_terms 80 = .ok (.iconst 3, 1) := dk_6 (dk_at dksX6_terms_3 10 rfl rfl)
theorem dX6_terms_81 : decode cX6_terms 81 = .ok (.iload 5, 2) := dk_21 5 (dk_at dksX6_terms_3 11 rfl rfl)
theorem dX6_terms_83 : decode cX6_terms 83 = .ok (.isub, 1) := dk_100 (dk_at dksX6_terms_3 13 rfl rfl)
theorem dX6_terms_84 : decode cX6_terms 84 = .ok (.iastore, 1) := dk_79 (dk_at dksX6_terms_3 14 rfl rfl)
theorem dX6_terms_85 : decode cX6_terms 85 = .ok (.iload_n 2, 1) := dk_28 (dk_at dksX6_terms_3 15 rfl rfl)
theorem dX6_terms_86 : decode cX6_terms 86 = .ok (.iload 5, 2) := dk_21 5 (dk_at dksX6_terms_3 16 rfl rfl)
theorem dX6_terms_88 : decode cX6_terms 88 = .ok (.iconst 2, 1) := dk_5 (dk_at dksX6_terms_3 18 rfl rfl)
theorem dX6_terms_89 : decode cX6_terms 89 = .ok (.if_icmp .ne 9, 3) := dk_160 0 9 (dk_at dksX6_terms_3 19 rfl rfl)
theorem dX6_terms_92 : decode cX6_terms 92 = .ok (.iconst 1, 1) := dk_4 (dk_at dksX6_terms_3 22 rfl rfl)
theorem dX6_terms_93 : decode cX6_terms 93 = .ok (.iload_n 3, 1) := dk_29 (dk_at dksX6_terms_3 23 rfl rfl)
theorem dX6_terms_94 : decode cX6_terms 94 = .ok (.ishl, 1) := dk_120 (dk_at dksX6_terms_4 0 rfl rfl)
theorem dX6_terms_95 : decode cX6_terms 95 = .ok (.goto 4, 3) := dk_167 0 4 (dk_at dksX6_terms_4 1 rfl rfl)
theorem dX6_terms_98 : decode cX6_terms 98 = .ok (.iconst 0, 1) := dk_3 (dk_at dksX6_terms_4 4 rfl rfl)
theorem dX6_terms_99 : decode cX6_terms 99 = .ok (.ior, 1) := dk_128 (dk_at dksX6_terms_4 5 rfl rfl)
theorem dX6_terms_100 : decode cX6_terms 100 = .ok (.istore_n 2, 1) := dk_61 (dk_at dksX6_terms_4 6 rfl rfl)
theorem dX6_terms_101 : decode cX6_terms 101 = .ok (.iinc 3 1, 3) := dk_132 3 1 (dk_at dksX6_terms_4 7 rfl rfl)
theorem dX6_terms_104 : decode cX6_terms 104 = .ok (.goto (-94), 3) := dk_167 255 162 (dk_at dksX6_terms_4 10 rfl rfl)
theorem dX6_terms_107 : decode cX6_terms 107 = .ok (.iload_n 2, 1) := dk_28 (dk_at dksX6_terms_4 13 rfl rfl)
theorem dX6_terms_108 : decode cX6_terms 108 = .ok (.ireturn, 1) := dk_172 (dk_at dksX6_terms_4 14 rfl rfl)
abbrev cX6_meal : ByteArray := prog_16_method_97_code
def yX6_meal : MethodName := ⟨RX6, "meal", "(II)I"⟩
def dkwX6_meal_2 : List UInt8 := [167, 0, 9, 42, 16, 7, 182, 0, 91, 172]
abbrev dktX6_meal_2 : List UInt8 := dkwX6_meal_2 ++ []
def dkwX6_meal_1 : List UInt8 := [182, 0, 91, 172, 42, 27, 28, 182, 1, 99, 153, 0, 16, 42, 42, 27, 3, 182, 1, 25, 182, 0, 95]
abbrev dktX6_meal_1 : List UInt8 := dkwX6_meal_1 ++ dktX6_meal_2
def dkwX6_meal_0 : List UInt8 := [42, 27, 133, 182, 1, 49, 153, 0, 15, 28, 133, 10, 20, 1, 97, 184, 1, 81, 154, 0, 9, 42, 4]
abbrev dktX6_meal_0 : List UInt8 := dkwX6_meal_0 ++ dktX6_meal_1
theorem dksX6_meal_0 : cX6_meal.data.toList.drop 0 = dktX6_meal_0 := by decide +kernel
theorem dksX6_meal_1 : cX6_meal.data.toList.drop 23 = dktX6_meal_1 := dk_seg dksX6_meal_0 23 rfl rfl
theorem dksX6_meal_2 : cX6_meal.data.toList.drop 46 = dktX6_meal_2 := dk_seg dksX6_meal_1 23 rfl rfl
theorem dX6_meal_0 : decode cX6_meal 0 = .ok (.aload_n 0, 1) := dk_42 (dk_at dksX6_meal_0 0 rfl rfl)
theorem dX6_meal_1 : decode cX6_meal 1 = .ok (.iload_n 1, 1) := dk_27 (dk_at dksX6_meal_0 1 rfl rfl)
theorem dX6_meal_2 : decode cX6_meal 2 = .ok (.i2l, 1) := dk_133 (dk_at dksX6_meal_0 2 rfl rfl)
theorem dX6_meal_3 : decode cX6_meal 3 = .ok (.invokevirtual 305, 3) := dk_182 1 49 (dk_at dksX6_meal_0 3 rfl rfl)
theorem dX6_meal_6 : decode cX6_meal 6 = .ok (.ifCond .eq 15, 3) := dk_153 0 15 (dk_at dksX6_meal_0 6 rfl rfl)
theorem dX6_meal_9 : decode cX6_meal 9 = .ok (.iload_n 2, 1) := dk_28 (dk_at dksX6_meal_0 9 rfl rfl)
theorem dX6_meal_10 : decode cX6_meal 10 = .ok (.i2l, 1) := dk_133 (dk_at dksX6_meal_0 10 rfl rfl)
theorem dX6_meal_11 : decode cX6_meal 11 = .ok (.lconst 1, 1) := dk_10 (dk_at dksX6_meal_0 11 rfl rfl)
theorem dX6_meal_12 : decode cX6_meal 12 = .ok (.ldc2_w 353, 3) := dk_20 1 97 (dk_at dksX6_meal_0 12 rfl rfl)
theorem dX6_meal_15 : decode cX6_meal 15 = .ok (.invokestatic 337, 3) := dk_184 1 81 (dk_at dksX6_meal_0 15 rfl rfl)
theorem dX6_meal_18 : decode cX6_meal 18 = .ok (.ifCond .ne 9, 3) := dk_154 0 9 (dk_at dksX6_meal_0 18 rfl rfl)
theorem dX6_meal_21 : decode cX6_meal 21 = .ok (.aload_n 0, 1) := dk_42 (dk_at dksX6_meal_0 21 rfl rfl)
theorem dX6_meal_22 : decode cX6_meal 22 = .ok (.iconst 1, 1) := dk_4 (dk_at dksX6_meal_0 22 rfl rfl)
theorem dX6_meal_23 : decode cX6_meal 23 = .ok (.invokevirtual 91, 3) := dk_182 0 91 (dk_at dksX6_meal_1 0 rfl rfl)
theorem dX6_meal_26 : decode cX6_meal 26 = .ok (.ireturn, 1) := dk_172 (dk_at dksX6_meal_1 3 rfl rfl)
theorem dX6_meal_27 : decode cX6_meal 27 = .ok (.aload_n 0, 1) := dk_42 (dk_at dksX6_meal_1 4 rfl rfl)
theorem dX6_meal_28 : decode cX6_meal 28 = .ok (.iload_n 1, 1) := dk_27 (dk_at dksX6_meal_1 5 rfl rfl)
theorem dX6_meal_29 : decode cX6_meal 29 = .ok (.iload_n 2, 1) := dk_28 (dk_at dksX6_meal_1 6 rfl rfl)
theorem dX6_meal_30 : decode cX6_meal 30 = .ok (.invokevirtual 355, 3) := dk_182 1 99 (dk_at dksX6_meal_1 7 rfl rfl)
theorem dX6_meal_33 : decode cX6_meal 33 = .ok (.ifCond .eq 16, 3) := dk_153 0 16 (dk_at dksX6_meal_1 10 rfl rfl)
theorem dX6_meal_36 : decode cX6_meal 36 = .ok (.aload_n 0, 1) := dk_42 (dk_at dksX6_meal_1 13 rfl rfl)
theorem dX6_meal_37 : decode cX6_meal 37 = .ok (.aload_n 0, 1) := dk_42 (dk_at dksX6_meal_1 14 rfl rfl)
theorem dX6_meal_38 : decode cX6_meal 38 = .ok (.iload_n 1, 1) := dk_27 (dk_at dksX6_meal_1 15 rfl rfl)
theorem dX6_meal_39 : decode cX6_meal 39 = .ok (.iconst 0, 1) := dk_3 (dk_at dksX6_meal_1 16 rfl rfl)
theorem dX6_meal_40 : decode cX6_meal 40 = .ok (.invokevirtual 281, 3) := dk_182 1 25 (dk_at dksX6_meal_1 17 rfl rfl)
theorem dX6_meal_43 : decode cX6_meal 43 = .ok (.invokevirtual 95, 3) := dk_182 0 95 (dk_at dksX6_meal_1 20 rfl rfl)
theorem dX6_meal_46 : decode cX6_meal 46 = .ok (.goto 9, 3) := dk_167 0 9 (dk_at dksX6_meal_2 0 rfl rfl)
theorem dX6_meal_49 : decode cX6_meal 49 = .ok (.aload_n 0, 1) := dk_42 (dk_at dksX6_meal_2 3 rfl rfl)
theorem dX6_meal_50 : decode cX6_meal 50 = .ok (.bipush 7, 2) := dk_16 7 (dk_at dksX6_meal_2 4 rfl rfl)
theorem dX6_meal_52 : decode cX6_meal 52 = .ok (.invokevirtual 91, 3) := dk_182 0 91 (dk_at dksX6_meal_2 6 rfl rfl)
theorem dX6_meal_55 : decode cX6_meal 55 = .ok (.ireturn, 1) := dk_172 (dk_at dksX6_meal_2 9 rfl rfl)
abbrev cX6_meals : ByteArray := prog_16_method_96_code
def yX6_meals : MethodName := ⟨RX6, "meals", "(II)Z"⟩
def dkwX6_meals_1 : List UInt8 := [16, 99, 42, 180, 0, 7, 29, 46, 28, 96, 184, 0, 146, 79, 4, 172]
abbrev dktX6_meals_1 : List UInt8 := dkwX6_meals_1 ++ []
def dkwX6_meals_0 : List UInt8 := [27, 184, 0, 224, 62, 42, 180, 0, 7, 29, 46, 16, 99, 160, 0, 5, 3, 172, 42, 180, 0, 7, 29]
abbrev dktX6_meals_0 : List UInt8 := dkwX6_meals_0 ++ dktX6_meals_1
theorem dksX6_meals_0 : cX6_meals.data.toList.drop 0 = dktX6_meals_0 := by decide +kernel
theorem dksX6_meals_1 : cX6_meals.data.toList.drop 23 = dktX6_meals_1 := dk_seg dksX6_meals_0 23 rfl rfl
theorem dX6_meals_0 : decode cX6_meals 0 = .ok (.iload_n 1, 1) := dk_27 (dk_at dksX6_meals_0 0 rfl rfl)
theorem dX6_meals_1 : decode cX6_meals 1 = .ok (.invokestatic 224, 3) := dk_184 0 224 (dk_at dksX6_meals_0 1 rfl rfl)
theorem dX6_meals_4 : decode cX6_meals 4 = .ok (.istore_n 3, 1) := dk_62 (dk_at dksX6_meals_0 4 rfl rfl)
theorem dX6_meals_5 : decode cX6_meals 5 = .ok (.aload_n 0, 1) := dk_42 (dk_at dksX6_meals_0 5 rfl rfl)
theorem dX6_meals_6 : decode cX6_meals 6 = .ok (.getfield 7, 3) := dk_180 0 7 (dk_at dksX6_meals_0 6 rfl rfl)
theorem dX6_meals_9 : decode cX6_meals 9 = .ok (.iload_n 3, 1) := dk_29 (dk_at dksX6_meals_0 9 rfl rfl)
theorem dX6_meals_10 : decode cX6_meals 10 = .ok (.iaload, 1) := dk_46 (dk_at dksX6_meals_0 10 rfl rfl)
theorem dX6_meals_11 : decode cX6_meals 11 = .ok (.bipush 99, 2) := dk_16 99 (dk_at dksX6_meals_0 11 rfl rfl)
theorem dX6_meals_13 : decode cX6_meals 13 = .ok (.if_icmp .ne 5, 3) := dk_160 0 5 (dk_at dksX6_meals_0 13 rfl rfl)
theorem dX6_meals_16 : decode cX6_meals 16 = .ok (.iconst 0, 1) := dk_3 (dk_at dksX6_meals_0 16 rfl rfl)
theorem dX6_meals_17 : decode cX6_meals 17 = .ok (.ireturn, 1) := dk_172 (dk_at dksX6_meals_0 17 rfl rfl)
theorem dX6_meals_18 : decode cX6_meals 18 = .ok (.aload_n 0, 1) := dk_42 (dk_at dksX6_meals_0 18 rfl rfl)
theorem dX6_meals_19 : decode cX6_meals 19 = .ok (.getfield 7, 3) := dk_180 0 7 (dk_at dksX6_meals_0 19 rfl rfl)
theorem dX6_meals_22 : decode cX6_meals 22 = .ok (.iload_n 3, 1) := dk_29 (dk_at dksX6_meals_0 22 rfl rfl)
theorem dX6_meals_23 : decode cX6_meals 23 = .ok (.bipush 99, 2) := dk_16 99 (dk_at dksX6_meals_1 0 rfl rfl)
theorem dX6_meals_25 : decode cX6_meals 25 = .ok (.aload_n 0, 1) := dk_42 (dk_at dksX6_meals_1 2 rfl rfl)
theorem dX6_meals_26 : decode cX6_meals 26 = .ok (.getfield 7, 3) := dk_180 0 7 (dk_at dksX6_meals_1 3 rfl rfl)
theorem dX6_meals_29 : decode cX6_meals 29 = .ok (.iload_n 3, 1) := dk_29 (dk_at dksX6_meals_1 6 rfl rfl)
theorem dX6_meals_30 : decode cX6_meals 30 = .ok (.iaload, 1) := dk_46 (dk_at dksX6_meals_1 7 rfl rfl)
theorem dX6_meals_31 : decode cX6_meals 31 = .ok (.iload_n 2, 1) := dk_28 (dk_at dksX6_meals_1 8 rfl rfl)
theorem dX6_meals_32 : decode cX6_meals 32 = .ok (.iadd, 1) := dk_96 (dk_at dksX6_meals_1 9 rfl rfl)
theorem dX6_meals_33 : decode cX6_meals 33 = .ok (.invokestatic 146, 3) := dk_184 0 146 (dk_at dksX6_meals_1 10 rfl rfl)
theorem dX6_meals_36 : decode cX6_meals 36 = .ok (.iastore, 1) := dk_79 (dk_at dksX6_meals_1 13 rfl rfl)
theorem dX6_meals_37 : decode cX6_meals 37 = .ok (.iconst 1, 1) := dk_4 (dk_at dksX6_meals_1 14 rfl rfl)
theorem dX6_meals_38 : decode cX6_meals 38 = .ok (.ireturn, 1) := dk_172 (dk_at dksX6_meals_1 15 rfl rfl)
abbrev cX6_scent : ByteArray := prog_16_method_99_code
def yX6_scent : MethodName := ⟨RX6, "scent", "(IIZ)Z"⟩
def dkwX6_scent_1 : List UInt8 := [42, 27, 28, 29, 182, 1, 105, 153, 0, 7, 3, 167, 0, 5, 16, 7, 182, 0, 98, 172]
abbrev dktX6_scent_1 : List UInt8 := dkwX6_scent_1 ++ []
def dkwX6_scent_0 : List UInt8 := [42, 27, 133, 182, 1, 49, 153, 0, 11, 42, 28, 182, 1, 102, 154, 0, 9, 42, 4, 182, 0, 98, 172, 42]
abbrev dktX6_scent_0 : List UInt8 := dkwX6_scent_0 ++ dktX6_scent_1
theorem dksX6_scent_0 : cX6_scent.data.toList.drop 0 = dktX6_scent_0 := by decide +kernel
theorem dksX6_scent_1 : cX6_scent.data.toList.drop 24 = dktX6_scent_1 := dk_seg dksX6_scent_0 24 rfl rfl
theorem dX6_scent_0 : decode cX6_scent 0 = .ok (.aload_n 0, 1) := dk_42 (dk_at dksX6_scent_0 0 rfl rfl)
theorem dX6_scent_1 : decode cX6_scent 1 = .ok (.iload_n 1, 1) := dk_27 (dk_at dksX6_scent_0 1 rfl rfl)
theorem dX6_scent_2 : decode cX6_scent 2 = .ok (.i2l, 1) := dk_133 (dk_at dksX6_scent_0 2 rfl rfl)
theorem dX6_scent_3 : decode cX6_scent 3 = .ok (.invokevirtual 305, 3) := dk_182 1 49 (dk_at dksX6_scent_0 3 rfl rfl)
theorem dX6_scent_6 : decode cX6_scent 6 = .ok (.ifCond .eq 11, 3) := dk_153 0 11 (dk_at dksX6_scent_0 6 rfl rfl)
theorem dX6_scent_9 : decode cX6_scent 9 = .ok (.aload_n 0, 1) := dk_42 (dk_at dksX6_scent_0 9 rfl rfl)
theorem dX6_scent_10 : decode cX6_scent 10 = .ok (.iload_n 2, 1) := dk_28 (dk_at dksX6_scent_0 10 rfl rfl)
theorem dX6_scent_11 : decode cX6_scent 11 = .ok (.invokevirtual 358, 3) := dk_182 1 102 (dk_at dksX6_scent_0 11 rfl rfl)
theorem dX6_scent_14 : decode cX6_scent 14 = .ok (.ifCond .ne 9, 3) := dk_154 0 9 (dk_at dksX6_scent_0 14 rfl rfl)
theorem dX6_scent_17 : decode cX6_scent 17 = .ok (.aload_n 0, 1) := dk_42 (dk_at dksX6_scent_0 17 rfl rfl)
theorem dX6_scent_18 : decode cX6_scent 18 = .ok (.iconst 1, 1) := dk_4 (dk_at dksX6_scent_0 18 rfl rfl)
theorem dX6_scent_19 : decode cX6_scent 19 = .ok (.invokevirtual 98, 3) := dk_182 0 98 (dk_at dksX6_scent_0 19 rfl rfl)
theorem dX6_scent_22 : decode cX6_scent 22 = .ok (.ireturn, 1) := dk_172 (dk_at dksX6_scent_0 22 rfl rfl)
theorem dX6_scent_23 : decode cX6_scent 23 = .ok (.aload_n 0, 1) := dk_42 (dk_at dksX6_scent_0 23 rfl rfl)
theorem dX6_scent_24 : decode cX6_scent 24 = .ok (.aload_n 0, 1) := dk_42 (dk_at dksX6_scent_1 0 rfl rfl)
theorem dX6_scent_25 : decode cX6_scent 25 = .ok (.iload_n 1, 1) := dk_27 (dk_at dksX6_scent_1 1 rfl rfl)
theorem dX6_scent_26 : decode cX6_scent 26 = .ok (.iload_n 2, 1) := dk_28 (dk_at dksX6_scent_1 2 rfl rfl)
theorem dX6_scent_27 : decode cX6_scent 27 = .ok (.iload_n 3, 1) := dk_29 (dk_at dksX6_scent_1 3 rfl rfl)
theorem dX6_scent_28 : decode cX6_scent 28 = .ok (.invokevirtual 361, 3) := dk_182 1 105 (dk_at dksX6_scent_1 4 rfl rfl)
theorem dX6_scent_31 : decode cX6_scent 31 = .ok (.ifCond .eq 7, 3) := dk_153 0 7 (dk_at dksX6_scent_1 7 rfl rfl)
theorem dX6_scent_34 : decode cX6_scent 34 = .ok (.iconst 0, 1) := dk_3 (dk_at dksX6_scent_1 10 rfl rfl)
theorem dX6_scent_35 : decode cX6_scent 35 = .ok (.goto 5, 3) := dk_167 0 5 (dk_at dksX6_scent_1 11 rfl rfl)
theorem dX6_scent_38 : decode cX6_scent 38 = .ok (.bipush 7, 2) := dk_16 7 (dk_at dksX6_scent_1 14 rfl rfl)
theorem dX6_scent_40 : decode cX6_scent 40 = .ok (.invokevirtual 98, 3) := dk_182 0 98 (dk_at dksX6_scent_1 16 rfl rfl)
theorem dX6_scent_43 : decode cX6_scent 43 = .ok (.ireturn, 1) := dk_172 (dk_at dksX6_scent_1 19 rfl rfl)
abbrev cX6_isSmell : ByteArray := prog_16_method_60_code
def yX6_isSmell : MethodName := ⟨RX6, "isSmell", "(I)Z"⟩
def dkwX6_isSmell_0 : List UInt8 := [27, 155, 0, 17, 27, 42, 180, 0, 7, 3, 46, 162, 0, 7, 4, 167, 0, 4, 3, 172]
abbrev dktX6_isSmell_0 : List UInt8 := dkwX6_isSmell_0 ++ []
theorem dksX6_isSmell_0 : cX6_isSmell.data.toList.drop 0 = dktX6_isSmell_0 := by decide +kernel
theorem dX6_isSmell_0 : decode cX6_isSmell 0 = .ok (.iload_n 1, 1) := dk_27 (dk_at dksX6_isSmell_0 0 rfl rfl)
theorem dX6_isSmell_1 : decode cX6_isSmell 1 = .ok (.ifCond .lt 17, 3) := dk_155 0 17 (dk_at dksX6_isSmell_0 1 rfl rfl)
theorem dX6_isSmell_4 : decode cX6_isSmell 4 = .ok (.iload_n 1, 1) := dk_27 (dk_at dksX6_isSmell_0 4 rfl rfl)
theorem dX6_isSmell_5 : decode cX6_isSmell 5 = .ok (.aload_n 0, 1) := dk_42 (dk_at dksX6_isSmell_0 5 rfl rfl)
theorem dX6_isSmell_6 : decode cX6_isSmell 6 = .ok (.getfield 7, 3) := dk_180 0 7 (dk_at dksX6_isSmell_0 6 rfl rfl)
theorem dX6_isSmell_9 : decode cX6_isSmell 9 = .ok (.iconst 0, 1) := dk_3 (dk_at dksX6_isSmell_0 9 rfl rfl)
theorem dX6_isSmell_10 : decode cX6_isSmell 10 = .ok (.iaload, 1) := dk_46 (dk_at dksX6_isSmell_0 10 rfl rfl)
theorem dX6_isSmell_11 : decode cX6_isSmell 11 = .ok (.if_icmp .ge 7, 3) := dk_162 0 7 (dk_at dksX6_isSmell_0 11 rfl rfl)
theorem dX6_isSmell_14 : decode cX6_isSmell 14 = .ok (.iconst 1, 1) := dk_4 (dk_at dksX6_isSmell_0 14 rfl rfl)
theorem dX6_isSmell_15 : decode cX6_isSmell 15 = .ok (.goto 4, 3) := dk_167 0 4 (dk_at dksX6_isSmell_0 15 rfl rfl)
theorem dX6_isSmell_18 : decode cX6_isSmell 18 = .ok (.iconst 0, 1) := dk_3 (dk_at dksX6_isSmell_0 18 rfl rfl)
theorem dX6_isSmell_19 : decode cX6_isSmell 19 = .ok (.ireturn, 1) := dk_172 (dk_at dksX6_isSmell_0 19 rfl rfl)
abbrev cX6_scents : ByteArray := prog_16_method_98_code
def yX6_scents : MethodName := ⟨RX6, "scents", "(IIZ)Z"⟩
def dkwX6_scents_1 : List UInt8 := [184, 0, 224, 4, 96, 92, 46, 4, 28, 120, 130, 79, 4, 172]
abbrev dktX6_scents_1 : List UInt8 := dkwX6_scents_1 ++ []
def dkwX6_scents_0 : List UInt8 := [42, 42, 27, 4, 182, 1, 25, 28, 182, 1, 59, 29, 160, 0, 5, 3, 172, 42, 180, 0, 7, 27]
abbrev dktX6_scents_0 : List UInt8 := dkwX6_scents_0 ++ dktX6_scents_1
theorem dksX6_scents_0 : cX6_scents.data.toList.drop 0 = dktX6_scents_0 := by decide +kernel
theorem dksX6_scents_1 : cX6_scents.data.toList.drop 22 = dktX6_scents_1 := dk_seg dksX6_scents_0 22 rfl rfl
theorem dX6_scents_0 : decode cX6_scents 0 = .ok (.aload_n 0, 1) := dk_42 (dk_at dksX6_scents_0 0 rfl rfl)
theorem dX6_scents_1 : decode cX6_scents 1 = .ok (.aload_n 0, 1) := dk_42 (dk_at dksX6_scents_0 1 rfl rfl)
theorem dX6_scents_2 : decode cX6_scents 2 = .ok (.iload_n 1, 1) := dk_27 (dk_at dksX6_scents_0 2 rfl rfl)
theorem dX6_scents_3 : decode cX6_scents 3 = .ok (.iconst 1, 1) := dk_4 (dk_at dksX6_scents_0 3 rfl rfl)
theorem dX6_scents_4 : decode cX6_scents 4 = .ok (.invokevirtual 281, 3) := dk_182 1 25 (dk_at dksX6_scents_0 4 rfl rfl)
theorem dX6_scents_7 : decode cX6_scents 7 = .ok (.iload_n 2, 1) := dk_28 (dk_at dksX6_scents_0 7 rfl rfl)
theorem dX6_scents_8 : decode cX6_scents 8 = .ok (.invokevirtual 315, 3) := dk_182 1 59 (dk_at dksX6_scents_0 8 rfl rfl)
theorem dX6_scents_11 : decode cX6_scents 11 = .ok (.iload_n 3, 1) := dk_29 (dk_at dksX6_scents_0 11 rfl rfl)
theorem dX6_scents_12 : decode cX6_scents 12 = .ok (.if_icmp .ne 5, 3) := dk_160 0 5 (dk_at dksX6_scents_0 12 rfl rfl)
theorem dX6_scents_15 : decode cX6_scents 15 = .ok (.iconst 0, 1) := dk_3 (dk_at dksX6_scents_0 15 rfl rfl)
theorem dX6_scents_16 : decode cX6_scents 16 = .ok (.ireturn, 1) := dk_172 (dk_at dksX6_scents_0 16 rfl rfl)
theorem dX6_scents_17 : decode cX6_scents 17 = .ok (.aload_n 0, 1) := dk_42 (dk_at dksX6_scents_0 17 rfl rfl)
theorem dX6_scents_18 : decode cX6_scents 18 = .ok (.getfield 7, 3) := dk_180 0 7 (dk_at dksX6_scents_0 18 rfl rfl)
theorem dX6_scents_21 : decode cX6_scents 21 = .ok (.iload_n 1, 1) := dk_27 (dk_at dksX6_scents_0 21 rfl rfl)
theorem dX6_scents_22 : decode cX6_scents 22 = .ok (.invokestatic 224, 3) := dk_184 0 224 (dk_at dksX6_scents_1 0 rfl rfl)
theorem dX6_scents_25 : decode cX6_scents 25 = .ok (.iconst 1, 1) := dk_4 (dk_at dksX6_scents_1 3 rfl rfl)
theorem dX6_scents_26 : decode cX6_scents 26 = .ok (.iadd, 1) := dk_96 (dk_at dksX6_scents_1 4 rfl rfl)
theorem dX6_scents_27 : decode cX6_scents 27 = .ok (.dup2, 1) := dk_92 (dk_at dksX6_scents_1 5 rfl rfl)
theorem dX6_scents_28 : decode cX6_scents 28 = .ok (.iaload, 1) := dk_46 (dk_at dksX6_scents_1 6 rfl rfl)
theorem dX6_scents_29 : decode cX6_scents 29 = .ok (.iconst 1, 1) := dk_4 (dk_at dksX6_scents_1 7 rfl rfl)
theorem dX6_scents_30 : decode cX6_scents 30 = .ok (.iload_n 2, 1) := dk_28 (dk_at dksX6_scents_1 8 rfl rfl)
theorem dX6_scents_31 : decode cX6_scents 31 = .ok (.ishl, 1) := dk_120 (dk_at dksX6_scents_1 9 rfl rfl)
theorem dX6_scents_32 : decode cX6_scents 32 = .ok (.ixor, 1) := dk_130 (dk_at dksX6_scents_1 10 rfl rfl)
theorem dX6_scents_33 : decode cX6_scents 33 = .ok (.iastore, 1) := dk_79 (dk_at dksX6_scents_1 11 rfl rfl)
theorem dX6_scents_34 : decode cX6_scents 34 = .ok (.iconst 1, 1) := dk_4 (dk_at dksX6_scents_1 12 rfl rfl)
theorem dX6_scents_35 : decode cX6_scents 35 = .ok (.ireturn, 1) := dk_172 (dk_at dksX6_scents_1 13 rfl rfl)
abbrev cX6_night : ByteArray := prog_16_method_101_code
def yX6_night : MethodName := ⟨RX6, "night", "()I"⟩
def dkwX6_night_1 : List UInt8 := [16, 7, 182, 0, 91, 172]
abbrev dktX6_night_1 : List UInt8 := dkwX6_night_1 ++ []
def dkwX6_night_0 : List UInt8 := [42, 180, 0, 7, 16, 6, 46, 60, 42, 182, 1, 109, 153, 0, 11, 42, 27, 182, 0, 95, 167, 0, 9, 42]
abbrev dktX6_night_0 : List UInt8 := dkwX6_night_0 ++ dktX6_night_1
theorem dksX6_night_0 : cX6_night.data.toList.drop 0 = dktX6_night_0 := by decide +kernel
theorem dksX6_night_1 : cX6_night.data.toList.drop 24 = dktX6_night_1 := dk_seg dksX6_night_0 24 rfl rfl
theorem dX6_night_0 : decode cX6_night 0 = .ok (.aload_n 0, 1) := dk_42 (dk_at dksX6_night_0 0 rfl rfl)
theorem dX6_night_1 : decode cX6_night 1 = .ok (.getfield 7, 3) := dk_180 0 7 (dk_at dksX6_night_0 1 rfl rfl)
theorem dX6_night_4 : decode cX6_night 4 = .ok (.bipush 6, 2) := dk_16 6 (dk_at dksX6_night_0 4 rfl rfl)
theorem dX6_night_6 : decode cX6_night 6 = .ok (.iaload, 1) := dk_46 (dk_at dksX6_night_0 6 rfl rfl)
theorem dX6_night_7 : decode cX6_night 7 = .ok (.istore_n 1, 1) := dk_60 (dk_at dksX6_night_0 7 rfl rfl)
theorem dX6_night_8 : decode cX6_night 8 = .ok (.aload_n 0, 1) := dk_42 (dk_at dksX6_night_0 8 rfl rfl)
theorem dX6_night_9 : decode cX6_night 9 = .ok (.invokevirtual 365, 3) := dk_182 1 109 (dk_at dksX6_night_0 9 rfl rfl)
theorem dX6_night_12 : decode cX6_night 12 = .ok (.ifCond .eq 11, 3) := dk_153 0 11 (dk_at dksX6_night_0 12 rfl rfl)
theorem dX6_night_15 : decode cX6_night 15 = .ok (.aload_n 0, 1) := dk_42 (dk_at dksX6_night_0 15 rfl rfl)
theorem dX6_night_16 : decode cX6_night 16 = .ok (.iload_n 1, 1) := dk_27 (dk_at dksX6_night_0 16 rfl rfl)
theorem dX6_night_17 : decode cX6_night 17 = .ok (.invokevirtual 95, 3) := dk_182 0 95 (dk_at dksX6_night_0 17 rfl rfl)
theorem dX6_night_20 : decode cX6_night 20 = .ok (.goto 9, 3) := dk_167 0 9 (dk_at dksX6_night_0 20 rfl rfl)
theorem dX6_night_23 : decode cX6_night 23 = .ok (.aload_n 0, 1) := dk_42 (dk_at dksX6_night_0 23 rfl rfl)
theorem dX6_night_24 : decode cX6_night 24 = .ok (.bipush 7, 2) := dk_16 7 (dk_at dksX6_night_1 0 rfl rfl)
theorem dX6_night_26 : decode cX6_night 26 = .ok (.invokevirtual 91, 3) := dk_182 0 91 (dk_at dksX6_night_1 2 rfl rfl)
theorem dX6_night_29 : decode cX6_night 29 = .ok (.ireturn, 1) := dk_172 (dk_at dksX6_night_1 5 rfl rfl)
abbrev cX6_nights : ByteArray := prog_16_method_100_code
def yX6_nights : MethodName := ⟨RX6, "nights", "()Z"⟩
def dkwX6_nights_1 : List UInt8 := [27, 172]
abbrev dktX6_nights_1 : List UInt8 := dkwX6_nights_1 ++ []
def dkwX6_nights_0 : List UInt8 := [42, 180, 0, 7, 16, 6, 46, 158, 0, 7, 4, 167, 0, 4, 3, 60, 42, 180, 0, 7, 16, 6, 3, 79]
abbrev dktX6_nights_0 : List UInt8 := dkwX6_nights_0 ++ dktX6_nights_1
theorem dksX6_nights_0 : cX6_nights.data.toList.drop 0 = dktX6_nights_0 := by decide +kernel
theorem dksX6_nights_1 : cX6_nights.data.toList.drop 24 = dktX6_nights_1 := dk_seg dksX6_nights_0 24 rfl rfl
theorem dX6_nights_0 : decode cX6_nights 0 = .ok (.aload_n 0, 1) := dk_42 (dk_at dksX6_nights_0 0 rfl rfl)
theorem dX6_nights_1 : decode cX6_nights 1 = .ok (.getfield 7, 3) := dk_180 0 7 (dk_at dksX6_nights_0 1 rfl rfl)
theorem dX6_nights_4 : decode cX6_nights 4 = .ok (.bipush 6, 2) := dk_16 6 (dk_at dksX6_nights_0 4 rfl rfl)
theorem dX6_nights_6 : decode cX6_nights 6 = .ok (.iaload, 1) := dk_46 (dk_at dksX6_nights_0 6 rfl rfl)
theorem dX6_nights_7 : decode cX6_nights 7 = .ok (.ifCond .le 7, 3) := dk_158 0 7 (dk_at dksX6_nights_0 7 rfl rfl)
theorem dX6_nights_10 : decode cX6_nights 10 = .ok (.iconst 1, 1) := dk_4 (dk_at dksX6_nights_0 10 rfl rfl)
theorem dX6_nights_11 : decode cX6_nights 11 = .ok (.goto 4, 3) := dk_167 0 4 (dk_at dksX6_nights_0 11 rfl rfl)
theorem dX6_nights_14 : decode cX6_nights 14 = .ok (.iconst 0, 1) := dk_3 (dk_at dksX6_nights_0 14 rfl rfl)
theorem dX6_nights_15 : decode cX6_nights 15 = .ok (.istore_n 1, 1) := dk_60 (dk_at dksX6_nights_0 15 rfl rfl)
theorem dX6_nights_16 : decode cX6_nights 16 = .ok (.aload_n 0, 1) := dk_42 (dk_at dksX6_nights_0 16 rfl rfl)
theorem dX6_nights_17 : decode cX6_nights 17 = .ok (.getfield 7, 3) := dk_180 0 7 (dk_at dksX6_nights_0 17 rfl rfl)
theorem dX6_nights_20 : decode cX6_nights 20 = .ok (.bipush 6, 2) := dk_16 6 (dk_at dksX6_nights_0 20 rfl rfl)
theorem dX6_nights_22 : decode cX6_nights 22 = .ok (.iconst 0, 1) := dk_3 (dk_at dksX6_nights_0 22 rfl rfl)
theorem dX6_nights_23 : decode cX6_nights 23 = .ok (.iastore, 1) := dk_79 (dk_at dksX6_nights_0 23 rfl rfl)
theorem dX6_nights_24 : decode cX6_nights 24 = .ok (.iload_n 1, 1) := dk_27 (dk_at dksX6_nights_1 0 rfl rfl)
theorem dX6_nights_25 : decode cX6_nights 25 = .ok (.ireturn, 1) := dk_172 (dk_at dksX6_nights_1 1 rfl rfl)
abbrev cX6_appeal : ByteArray := prog_16_method_102_code
def yX6_appeal : MethodName := ⟨RX6, "appeal", "(I)I"⟩
def dkwX6_appeal_2 : List UInt8 := [182, 0, 95, 172]
abbrev dktX6_appeal_2 : List UInt8 := dkwX6_appeal_2 ++ []
def dkwX6_appeal_1 : List UInt8 := [154, 0, 10, 42, 16, 7, 182, 0, 91, 172, 42, 180, 0, 7, 27, 184, 0, 224, 5, 96, 3, 79, 42, 28]
abbrev dktX6_appeal_1 : List UInt8 := dkwX6_appeal_1 ++ dktX6_appeal_2
def dkwX6_appeal_0 : List UInt8 := [42, 27, 133, 182, 1, 49, 154, 0, 9, 42, 4, 182, 0, 91, 172, 42, 27, 5, 182, 1, 25, 61, 28]
abbrev dktX6_appeal_0 : List UInt8 := dkwX6_appeal_0 ++ dktX6_appeal_1
theorem dksX6_appeal_0 : cX6_appeal.data.toList.drop 0 = dktX6_appeal_0 := by decide +kernel
theorem dksX6_appeal_1 : cX6_appeal.data.toList.drop 23 = dktX6_appeal_1 := dk_seg dksX6_appeal_0 23 rfl rfl
theorem dksX6_appeal_2 : cX6_appeal.data.toList.drop 47 = dktX6_appeal_2 := dk_seg dksX6_appeal_1 24 rfl rfl
theorem dX6_appeal_0 : decode cX6_appeal 0 = .ok (.aload_n 0, 1) := dk_42 (dk_at dksX6_appeal_0 0 rfl rfl)
theorem dX6_appeal_1 : decode cX6_appeal 1 = .ok (.iload_n 1, 1) := dk_27 (dk_at dksX6_appeal_0 1 rfl rfl)
theorem dX6_appeal_2 : decode cX6_appeal 2 = .ok (.i2l, 1) := dk_133 (dk_at dksX6_appeal_0 2 rfl rfl)
theorem dX6_appeal_3 : decode cX6_appeal 3 = .ok (.invokevirtual 305, 3) := dk_182 1 49 (dk_at dksX6_appeal_0 3 rfl rfl)
theorem dX6_appeal_6 : decode cX6_appeal 6 = .ok (.ifCond .ne 9, 3) := dk_154 0 9 (dk_at dksX6_appeal_0 6 rfl rfl)
theorem dX6_appeal_9 : decode cX6_appeal 9 = .ok (.aload_n 0, 1) := dk_42 (dk_at dksX6_appeal_0 9 rfl rfl)
theorem dX6_appeal_10 : decode cX6_appeal 10 = .ok (.iconst 1, 1) := dk_4 (dk_at dksX6_appeal_0 10 rfl rfl)
theorem dX6_appeal_11 : decode cX6_appeal 11 = .ok (.invokevirtual 91, 3) := dk_182 0 91 (dk_at dksX6_appeal_0 11 rfl rfl)
theorem dX6_appeal_14 : decode cX6_appeal 14 = .ok (.ireturn, 1) := dk_172 (dk_at dksX6_appeal_0 14 rfl rfl)
theorem dX6_appeal_15 : decode cX6_appeal 15 = .ok (.aload_n 0, 1) := dk_42 (dk_at dksX6_appeal_0 15 rfl rfl)
theorem dX6_appeal_16 : decode cX6_appeal 16 = .ok (.iload_n 1, 1) := dk_27 (dk_at dksX6_appeal_0 16 rfl rfl)
theorem dX6_appeal_17 : decode cX6_appeal 17 = .ok (.iconst 2, 1) := dk_5 (dk_at dksX6_appeal_0 17 rfl rfl)
theorem dX6_appeal_18 : decode cX6_appeal 18 = .ok (.invokevirtual 281, 3) := dk_182 1 25 (dk_at dksX6_appeal_0 18 rfl rfl)
theorem dX6_appeal_21 : decode cX6_appeal 21 = .ok (.istore_n 2, 1) := dk_61 (dk_at dksX6_appeal_0 21 rfl rfl)
theorem dX6_appeal_22 : decode cX6_appeal 22 = .ok (.iload_n 2, 1) := dk_28 (dk_at dksX6_appeal_0 22 rfl rfl)
theorem dX6_appeal_23 : decode cX6_appeal 23 = .ok (.ifCond .ne 10, 3) := dk_154 0 10 (dk_at dksX6_appeal_1 0 rfl rfl)
theorem dX6_appeal_26 : decode cX6_appeal 26 = .ok (.aload_n 0, 1) := dk_42 (dk_at dksX6_appeal_1 3 rfl rfl)
theorem dX6_appeal_27 : decode cX6_appeal 27 = .ok (.bipush 7, 2) := dk_16 7 (dk_at dksX6_appeal_1 4 rfl rfl)
theorem dX6_appeal_29 : decode cX6_appeal 29 = .ok (.invokevirtual 91, 3) := dk_182 0 91 (dk_at dksX6_appeal_1 6 rfl rfl)
theorem dX6_appeal_32 : decode cX6_appeal 32 = .ok (.ireturn, 1) := dk_172 (dk_at dksX6_appeal_1 9 rfl rfl)
theorem dX6_appeal_33 : decode cX6_appeal 33 = .ok (.aload_n 0, 1) := dk_42 (dk_at dksX6_appeal_1 10 rfl rfl)
theorem dX6_appeal_34 : decode cX6_appeal 34 = .ok (.getfield 7, 3) := dk_180 0 7 (dk_at dksX6_appeal_1 11 rfl rfl)
theorem dX6_appeal_37 : decode cX6_appeal 37 = .ok (.iload_n 1, 1) := dk_27 (dk_at dksX6_appeal_1 14 rfl rfl)
theorem dX6_appeal_38 : decode cX6_appeal 38 = .ok (.invokestatic 224, 3) := dk_184 0 224 (dk_at dksX6_appeal_1 15 rfl rfl)
theorem dX6_appeal_41 : decode cX6_appeal 41 = .ok (.iconst 2, 1) := dk_5 (dk_at dksX6_appeal_1 18 rfl rfl)
theorem dX6_appeal_42 : decode cX6_appeal 42 = .ok (.iadd, 1) := dk_96 (dk_at dksX6_appeal_1 19 rfl rfl)
theorem dX6_appeal_43 : decode cX6_appeal 43 = .ok (.iconst 0, 1) := dk_3 (dk_at dksX6_appeal_1 20 rfl rfl)
theorem dX6_appeal_44 : decode cX6_appeal 44 = .ok (.iastore, 1) := dk_79 (dk_at dksX6_appeal_1 21 rfl rfl)
theorem dX6_appeal_45 : decode cX6_appeal 45 = .ok (.aload_n 0, 1) := dk_42 (dk_at dksX6_appeal_1 22 rfl rfl)
theorem dX6_appeal_46 : decode cX6_appeal 46 = .ok (.iload_n 2, 1) := dk_28 (dk_at dksX6_appeal_1 23 rfl rfl)
theorem dX6_appeal_47 : decode cX6_appeal 47 = .ok (.invokevirtual 95, 3) := dk_182 0 95 (dk_at dksX6_appeal_2 0 rfl rfl)
theorem dX6_appeal_50 : decode cX6_appeal 50 = .ok (.ireturn, 1) := dk_172 (dk_at dksX6_appeal_2 3 rfl rfl)
abbrev cX6_blame : ByteArray := prog_16_method_103_code
def yX6_blame : MethodName := ⟨RX6, "blame", "(IZ)Z"⟩
def dkwX6_blame_2 : List UInt8 := [184, 0, 224, 6, 96, 29, 79, 42, 3, 182, 0, 98, 172]
abbrev dktX6_blame_2 : List UInt8 := dkwX6_blame_2 ++ []
def dkwX6_blame_1 : List UInt8 := [62, 42, 27, 6, 182, 1, 25, 29, 160, 0, 10, 42, 16, 7, 182, 0, 98, 172, 42, 180, 0, 7, 27]
abbrev dktX6_blame_1 : List UInt8 := dkwX6_blame_1 ++ dktX6_blame_2
def dkwX6_blame_0 : List UInt8 := [42, 27, 133, 182, 1, 49, 154, 0, 9, 42, 4, 182, 0, 98, 172, 28, 153, 0, 7, 4, 167, 0, 4, 3]
abbrev dktX6_blame_0 : List UInt8 := dkwX6_blame_0 ++ dktX6_blame_1
theorem dksX6_blame_0 : cX6_blame.data.toList.drop 0 = dktX6_blame_0 := by decide +kernel
theorem dksX6_blame_1 : cX6_blame.data.toList.drop 24 = dktX6_blame_1 := dk_seg dksX6_blame_0 24 rfl rfl
theorem dksX6_blame_2 : cX6_blame.data.toList.drop 47 = dktX6_blame_2 := dk_seg dksX6_blame_1 23 rfl rfl
theorem dX6_blame_0 : decode cX6_blame 0 = .ok (.aload_n 0, 1) := dk_42 (dk_at dksX6_blame_0 0 rfl rfl)
theorem dX6_blame_1 : decode cX6_blame 1 = .ok (.iload_n 1, 1) := dk_27 (dk_at dksX6_blame_0 1 rfl rfl)
theorem dX6_blame_2 : decode cX6_blame 2 = .ok (.i2l, 1) := dk_133 (dk_at dksX6_blame_0 2 rfl rfl)
theorem dX6_blame_3 : decode cX6_blame 3 = .ok (.invokevirtual 305, 3) := dk_182 1 49 (dk_at dksX6_blame_0 3 rfl rfl)
theorem dX6_blame_6 : decode cX6_blame 6 = .ok (.ifCond .ne 9, 3) := dk_154 0 9 (dk_at dksX6_blame_0 6 rfl rfl)
theorem dX6_blame_9 : decode cX6_blame 9 = .ok (.aload_n 0, 1) := dk_42 (dk_at dksX6_blame_0 9 rfl rfl)
theorem dX6_blame_10 : decode cX6_blame 10 = .ok (.iconst 1, 1) := dk_4 (dk_at dksX6_blame_0 10 rfl rfl)
theorem dX6_blame_11 : decode cX6_blame 11 = .ok (.invokevirtual 98, 3) := dk_182 0 98 (dk_at dksX6_blame_0 11 rfl rfl)
theorem dX6_blame_14 : decode cX6_blame 14 = .ok (.ireturn, 1) := dk_172 (dk_at dksX6_blame_0 14 rfl rfl)
theorem dX6_blame_15 : decode cX6_blame 15 = .ok (.iload_n 2, 1) := dk_28 (dk_at dksX6_blame_0 15 rfl rfl)
theorem dX6_blame_16 : decode cX6_blame 16 = .ok (.ifCond .eq 7, 3) := dk_153 0 7 (dk_at dksX6_blame_0 16 rfl rfl)
theorem dX6_blame_19 : decode cX6_blame 19 = .ok (.iconst 1, 1) := dk_4 (dk_at dksX6_blame_0 19 rfl rfl)
theorem dX6_blame_20 : decode cX6_blame 20 = .ok (.goto 4, 3) := dk_167 0 4 (dk_at dksX6_blame_0 20 rfl rfl)
theorem dX6_blame_23 : decode cX6_blame 23 = .ok (.iconst 0, 1) := dk_3 (dk_at dksX6_blame_0 23 rfl rfl)
theorem dX6_blame_24 : decode cX6_blame 24 = .ok (.istore_n 3, 1) := dk_62 (dk_at dksX6_blame_1 0 rfl rfl)
theorem dX6_blame_25 : decode cX6_blame 25 = .ok (.aload_n 0, 1) := dk_42 (dk_at dksX6_blame_1 1 rfl rfl)
theorem dX6_blame_26 : decode cX6_blame 26 = .ok (.iload_n 1, 1) := dk_27 (dk_at dksX6_blame_1 2 rfl rfl)
theorem dX6_blame_27 : decode cX6_blame 27 = .ok (.iconst 3, 1) := dk_6 (dk_at dksX6_blame_1 3 rfl rfl)
theorem dX6_blame_28 : decode cX6_blame 28 = .ok (.invokevirtual 281, 3) := dk_182 1 25 (dk_at dksX6_blame_1 4 rfl rfl)
theorem dX6_blame_31 : decode cX6_blame 31 = .ok (.iload_n 3, 1) := dk_29 (dk_at dksX6_blame_1 7 rfl rfl)
theorem dX6_blame_32 : decode cX6_blame 32 = .ok (.if_icmp .ne 10, 3) := dk_160 0 10 (dk_at dksX6_blame_1 8 rfl rfl)
theorem dX6_blame_35 : decode cX6_blame 35 = .ok (.aload_n 0, 1) := dk_42 (dk_at dksX6_blame_1 11 rfl rfl)
theorem dX6_blame_36 : decode cX6_blame 36 = .ok (.bipush 7, 2) := dk_16 7 (dk_at dksX6_blame_1 12 rfl rfl)
theorem dX6_blame_38 : decode cX6_blame 38 = .ok (.invokevirtual 98, 3) := dk_182 0 98 (dk_at dksX6_blame_1 14 rfl rfl)
theorem dX6_blame_41 : decode cX6_blame 41 = .ok (.ireturn, 1) := dk_172 (dk_at dksX6_blame_1 17 rfl rfl)
theorem dX6_blame_42 : decode cX6_blame 42 = .ok (.aload_n 0, 1) := dk_42 (dk_at dksX6_blame_1 18 rfl rfl)
theorem dX6_blame_43 : decode cX6_blame 43 = .ok (.getfield 7, 3) := dk_180 0 7 (dk_at dksX6_blame_1 19 rfl rfl)
theorem dX6_blame_46 : decode cX6_blame 46 = .ok (.iload_n 1, 1) := dk_27 (dk_at dksX6_blame_1 22 rfl rfl)
theorem dX6_blame_47 : decode cX6_blame 47 = .ok (.invokestatic 224, 3) := dk_184 0 224 (dk_at dksX6_blame_2 0 rfl rfl)
theorem dX6_blame_50 : decode cX6_blame 50 = .ok (.iconst 3, 1) := dk_6 (dk_at dksX6_blame_2 3 rfl rfl)
theorem dX6_blame_51 : decode cX6_blame 51 = .ok (.iadd, 1) := dk_96 (dk_at dksX6_blame_2 4 rfl rfl)
theorem dX6_blame_52 : decode cX6_blame 52 = .ok (.iload_n 3, 1) := dk_29 (dk_at dksX6_blame_2 5 rfl rfl)
theorem dX6_blame_53 : decode cX6_blame 53 = .ok (.iastore, 1) := dk_79 (dk_at dksX6_blame_2 6 rfl rfl)
theorem dX6_blame_54 : decode cX6_blame 54 = .ok (.aload_n 0, 1) := dk_42 (dk_at dksX6_blame_2 7 rfl rfl)
theorem dX6_blame_55 : decode cX6_blame 55 = .ok (.iconst 0, 1) := dk_3 (dk_at dksX6_blame_2 8 rfl rfl)
theorem dX6_blame_56 : decode cX6_blame 56 = .ok (.invokevirtual 98, 3) := dk_182 0 98 (dk_at dksX6_blame_2 9 rfl rfl)
theorem dX6_blame_59 : decode cX6_blame 59 = .ok (.ireturn, 1) := dk_172 (dk_at dksX6_blame_2 12 rfl rfl)
abbrev cX6_reread : ByteArray := prog_16_method_104_code
def yX6_reread : MethodName := ⟨RX6, "reread", "(II)Z"⟩
def dkwX6_reread_1 : List UInt8 := [182, 0, 98, 172, 42, 180, 0, 7, 16, 10, 27, 96, 28, 79, 42, 3, 182, 0, 98, 172]
abbrev dktX6_reread_1 : List UInt8 := dkwX6_reread_1 ++ []
def dkwX6_reread_0 : List UInt8 := [42, 27, 182, 1, 37, 153, 0, 15, 28, 133, 9, 20, 1, 112, 184, 1, 81, 154, 0, 9, 42, 4]
abbrev dktX6_reread_0 : List UInt8 := dkwX6_reread_0 ++ dktX6_reread_1
theorem dksX6_reread_0 : cX6_reread.data.toList.drop 0 = dktX6_reread_0 := by decide +kernel
theorem dksX6_reread_1 : cX6_reread.data.toList.drop 22 = dktX6_reread_1 := dk_seg dksX6_reread_0 22 rfl rfl
theorem dX6_reread_0 : decode cX6_reread 0 = .ok (.aload_n 0, 1) := dk_42 (dk_at dksX6_reread_0 0 rfl rfl)
theorem dX6_reread_1 : decode cX6_reread 1 = .ok (.iload_n 1, 1) := dk_27 (dk_at dksX6_reread_0 1 rfl rfl)
theorem dX6_reread_2 : decode cX6_reread 2 = .ok (.invokevirtual 293, 3) := dk_182 1 37 (dk_at dksX6_reread_0 2 rfl rfl)
theorem dX6_reread_5 : decode cX6_reread 5 = .ok (.ifCond .eq 15, 3) := dk_153 0 15 (dk_at dksX6_reread_0 5 rfl rfl)
theorem dX6_reread_8 : decode cX6_reread 8 = .ok (.iload_n 2, 1) := dk_28 (dk_at dksX6_reread_0 8 rfl rfl)
theorem dX6_reread_9 : decode cX6_reread 9 = .ok (.i2l, 1) := dk_133 (dk_at dksX6_reread_0 9 rfl rfl)
theorem dX6_reread_10 : decode cX6_reread 10 = .ok (.lconst 0, 1) := dk_9 (dk_at dksX6_reread_0 10 rfl rfl)
theorem dX6_reread_11 : decode cX6_reread 11 = .ok (.ldc2_w 368, 3) := dk_20 1 112 (dk_at dksX6_reread_0 11 rfl rfl)
theorem dX6_reread_14 : decode cX6_reread 14 = .ok (.invokestatic 337, 3) := dk_184 1 81 (dk_at dksX6_reread_0 14 rfl rfl)
theorem dX6_reread_17 : decode cX6_reread 17 = .ok (.ifCond .ne 9, 3) := dk_154 0 9 (dk_at dksX6_reread_0 17 rfl rfl)
theorem dX6_reread_20 : decode cX6_reread 20 = .ok (.aload_n 0, 1) := dk_42 (dk_at dksX6_reread_0 20 rfl rfl)
theorem dX6_reread_21 : decode cX6_reread 21 = .ok (.iconst 1, 1) := dk_4 (dk_at dksX6_reread_0 21 rfl rfl)
theorem dX6_reread_22 : decode cX6_reread 22 = .ok (.invokevirtual 98, 3) := dk_182 0 98 (dk_at dksX6_reread_1 0 rfl rfl)
theorem dX6_reread_25 : decode cX6_reread 25 = .ok (.ireturn, 1) := dk_172 (dk_at dksX6_reread_1 3 rfl rfl)
theorem dX6_reread_26 : decode cX6_reread 26 = .ok (.aload_n 0, 1) := dk_42 (dk_at dksX6_reread_1 4 rfl rfl)
theorem dX6_reread_27 : decode cX6_reread 27 = .ok (.getfield 7, 3) := dk_180 0 7 (dk_at dksX6_reread_1 5 rfl rfl)
theorem dX6_reread_30 : decode cX6_reread 30 = .ok (.bipush 10, 2) := dk_16 10 (dk_at dksX6_reread_1 8 rfl rfl)
theorem dX6_reread_32 : decode cX6_reread 32 = .ok (.iload_n 1, 1) := dk_27 (dk_at dksX6_reread_1 10 rfl rfl)
theorem dX6_reread_33 : decode cX6_reread 33 = .ok (.iadd, 1) := dk_96 (dk_at dksX6_reread_1 11 rfl rfl)
theorem dX6_reread_34 : decode cX6_reread 34 = .ok (.iload_n 2, 1) := dk_28 (dk_at dksX6_reread_1 12 rfl rfl)
theorem dX6_reread_35 : decode cX6_reread 35 = .ok (.iastore, 1) := dk_79 (dk_at dksX6_reread_1 13 rfl rfl)
theorem dX6_reread_36 : decode cX6_reread 36 = .ok (.aload_n 0, 1) := dk_42 (dk_at dksX6_reread_1 14 rfl rfl)
theorem dX6_reread_37 : decode cX6_reread 37 = .ok (.iconst 0, 1) := dk_3 (dk_at dksX6_reread_1 15 rfl rfl)
theorem dX6_reread_38 : decode cX6_reread 38 = .ok (.invokevirtual 98, 3) := dk_182 0 98 (dk_at dksX6_reread_1 16 rfl rfl)
theorem dX6_reread_41 : decode cX6_reread 41 = .ok (.ireturn, 1) := dk_172 (dk_at dksX6_reread_1 19 rfl rfl)
abbrev cX6_enact : ByteArray := prog_16_method_105_code
def yX6_enact : MethodName := ⟨RX6, "enact", "(III)I"⟩
def dkwX6_enact_6 : List UInt8 := [2, 167, 0, 4, 29, 79, 42, 21, 4, 182, 0, 95, 172]
abbrev dktX6_enact_6 : List UInt8 := dkwX6_enact_6 ++ []
def dkwX6_enact_5 : List UInt8 := [184, 0, 215, 4, 96, 28, 79, 42, 180, 0, 7, 21, 4, 184, 0, 215, 16, 6, 96, 29, 8, 160, 0, 7]
abbrev dktX6_enact_5 : List UInt8 := dkwX6_enact_5 ++ dktX6_enact_6
def dkwX6_enact_4 : List UInt8 := [79, 132, 5, 1, 167, 255, 232, 42, 180, 0, 7, 21, 4, 184, 0, 215, 27, 79, 42, 180, 0, 7, 21, 4]
abbrev dktX6_enact_4 : List UInt8 := dkwX6_enact_4 ++ dktX6_enact_5
def dkwX6_enact_3 : List UInt8 := [79, 3, 54, 5, 21, 5, 16, 7, 162, 0, 23, 42, 180, 0, 7, 21, 4, 184, 0, 215, 21, 5, 96, 3]
abbrev dktX6_enact_3 : List UInt8 := dkwX6_enact_3 ++ dktX6_enact_4
def dkwX6_enact_2 : List UInt8 := [54, 4, 21, 4, 16, 8, 160, 0, 9, 42, 7, 182, 0, 91, 172, 42, 180, 0, 7, 5, 92, 46, 4, 96]
abbrev dktX6_enact_2 : List UInt8 := dkwX6_enact_2 ++ dktX6_enact_3
def dkwX6_enact_1 : List UInt8 := [159, 0, 17, 42, 29, 182, 1, 102, 154, 0, 9, 42, 4, 182, 0, 91, 172, 42, 180, 0, 7, 5, 46]
abbrev dktX6_enact_1 : List UInt8 := dkwX6_enact_1 ++ dktX6_enact_2
def dkwX6_enact_0 : List UInt8 := [42, 27, 182, 1, 37, 153, 0, 28, 28, 133, 9, 20, 1, 112, 184, 1, 81, 153, 0, 16, 29, 8]
abbrev dktX6_enact_0 : List UInt8 := dkwX6_enact_0 ++ dktX6_enact_1
theorem dksX6_enact_0 : cX6_enact.data.toList.drop 0 = dktX6_enact_0 := by decide +kernel
theorem dksX6_enact_1 : cX6_enact.data.toList.drop 22 = dktX6_enact_1 := dk_seg dksX6_enact_0 22 rfl rfl
theorem dksX6_enact_2 : cX6_enact.data.toList.drop 45 = dktX6_enact_2 := dk_seg dksX6_enact_1 23 rfl rfl
theorem dksX6_enact_3 : cX6_enact.data.toList.drop 69 = dktX6_enact_3 := dk_seg dksX6_enact_2 24 rfl rfl
theorem dksX6_enact_4 : cX6_enact.data.toList.drop 93 = dktX6_enact_4 := dk_seg dksX6_enact_3 24 rfl rfl
theorem dksX6_enact_5 : cX6_enact.data.toList.drop 117 = dktX6_enact_5 := dk_seg dksX6_enact_4 24 rfl rfl
theorem dksX6_enact_6 : cX6_enact.data.toList.drop 141 = dktX6_enact_6 := dk_seg dksX6_enact_5 24 rfl rfl
theorem dX6_enact_0 : decode cX6_enact 0 = .ok (.aload_n 0, 1) := dk_42 (dk_at dksX6_enact_0 0 rfl rfl)
theorem dX6_enact_1 : decode cX6_enact 1 = .ok (.iload_n 1, 1) := dk_27 (dk_at dksX6_enact_0 1 rfl rfl)
theorem dX6_enact_2 : decode cX6_enact 2 = .ok (.invokevirtual 293, 3) := dk_182 1 37 (dk_at dksX6_enact_0 2 rfl rfl)
theorem dX6_enact_5 : decode cX6_enact 5 = .ok (.ifCond .eq 28, 3) := dk_153 0 28 (dk_at dksX6_enact_0 5 rfl rfl)
theorem dX6_enact_8 : decode cX6_enact 8 = .ok (.iload_n 2, 1) := dk_28 (dk_at dksX6_enact_0 8 rfl rfl)
theorem dX6_enact_9 : decode cX6_enact 9 = .ok (.i2l, 1) := dk_133 (dk_at dksX6_enact_0 9 rfl rfl)
theorem dX6_enact_10 : decode cX6_enact 10 = .ok (.lconst 0, 1) := dk_9 (dk_at dksX6_enact_0 10 rfl rfl)
theorem dX6_enact_11 : decode cX6_enact 11 = .ok (.ldc2_w 368, 3) := dk_20 1 112 (dk_at dksX6_enact_0 11 rfl rfl)
theorem dX6_enact_14 : decode cX6_enact 14 = .ok (.invokestatic 337, 3) := dk_184 1 81 (dk_at dksX6_enact_0 14 rfl rfl)
theorem dX6_enact_17 : decode cX6_enact 17 = .ok (.ifCond .eq 16, 3) := dk_153 0 16 (dk_at dksX6_enact_0 17 rfl rfl)
theorem dX6_enact_20 : decode cX6_enact 20 = .ok (.iload_n 3, 1) := dk_29 (dk_at dksX6_enact_0 20 rfl rfl)
theorem dX6_enact_21 : decode cX6_enact 21 = .ok (.iconst 5, 1) := dk_8 (dk_at dksX6_enact_0 21 rfl rfl)
theorem dX6_enact_22 : decode cX6_enact 22 = .ok (.if_icmp .eq 17, 3) := dk_159 0 17 (dk_at dksX6_enact_1 0 rfl rfl)
theorem dX6_enact_25 : decode cX6_enact 25 = .ok (.aload_n 0, 1) := dk_42 (dk_at dksX6_enact_1 3 rfl rfl)
theorem dX6_enact_26 : decode cX6_enact 26 = .ok (.iload_n 3, 1) := dk_29 (dk_at dksX6_enact_1 4 rfl rfl)
theorem dX6_enact_27 : decode cX6_enact 27 = .ok (.invokevirtual 358, 3) := dk_182 1 102 (dk_at dksX6_enact_1 5 rfl rfl)
theorem dX6_enact_30 : decode cX6_enact 30 = .ok (.ifCond .ne 9, 3) := dk_154 0 9 (dk_at dksX6_enact_1 8 rfl rfl)
theorem dX6_enact_33 : decode cX6_enact 33 = .ok (.aload_n 0, 1) := dk_42 (dk_at dksX6_enact_1 11 rfl rfl)
theorem dX6_enact_34 : decode cX6_enact 34 = .ok (.iconst 1, 1) := dk_4 (dk_at dksX6_enact_1 12 rfl rfl)
theorem dX6_enact_35 : decode cX6_enact 35 = .ok (.invokevirtual 91, 3) := dk_182 0 91 (dk_at dksX6_enact_1 13 rfl rfl)
theorem dX6_enact_38 : decode cX6_enact 38 = .ok (.ireturn, 1) := dk_172 (dk_at dksX6_enact_1 16 rfl rfl)
theorem dX6_enact_39 : decode cX6_enact 39 = .ok (.aload_n 0, 1) := dk_42 (dk_at dksX6_enact_1 17 rfl rfl)
theorem dX6_enact_40 : decode cX6_enact 40 = .ok (.getfield 7, 3) := dk_180 0 7 (dk_at dksX6_enact_1 18 rfl rfl)
theorem dX6_enact_43 : decode cX6_enact 43 = .ok (.iconst 2, 1) := dk_5 (dk_at dksX6_enact_1 21 rfl rfl)
theorem dX6_enact_44 : decode cX6_enact 44 = .ok (.iaload, 1) := dk_46 (dk_at dksX6_enact_1 22 rfl rfl)
theorem dX6_enact_45 : decode cX6_enact 45 = .ok (.istore 4, 2) := dk_54 4 (dk_at dksX6_enact_2 0 rfl rfl)
theorem dX6_enact_47 : decode cX6_enact 47 = .ok (.iload 4, 2) := dk_21 4 (dk_at dksX6_enact_2 2 rfl rfl)
theorem dX6_enact_49 : decode cX6_enact 49 = .ok (.bipush 8, 2) := dk_16 8 (dk_at dksX6_enact_2 4 rfl rfl)
theorem dX6_enact_51 : decode cX6_enact 51 = .ok (.if_icmp .ne 9, 3) := dk_160 0 9 (dk_at dksX6_enact_2 6 rfl rfl)
theorem dX6_enact_54 : decode cX6_enact 54 = .ok (.aload_n 0, 1) := dk_42 (dk_at dksX6_enact_2 9 rfl rfl)
theorem dX6_enact_55 : decode cX6_enact 55 = .ok (.iconst 4, 1) := dk_7 (dk_at dksX6_enact_2 10 rfl rfl)
theorem dX6_enact_56 : decode cX6_enact 56 = .ok (.invokevirtual 91, 3) := dk_182 0 91 (dk_at dksX6_enact_2 11 rfl rfl)
theorem dX6_enact_59 : decode cX6_enact 59 = .ok (.ireturn, 1) := dk_172 (dk_at dksX6_enact_2 14 rfl rfl)
theorem dX6_enact_60 : decode cX6_enact 60 = .ok (.aload_n 0, 1) := dk_42 (dk_at dksX6_enact_2 15 rfl rfl)
theorem dX6_enact_61 : decode cX6_enact 61 = .ok (.getfield 7, 3) := dk_180 0 7 (dk_at dksX6_enact_2 16 rfl rfl)
theorem dX6_enact_64 : decode cX6_enact 64 = .ok (.iconst 2, 1) := dk_5 (dk_at dksX6_enact_2 19 rfl rfl)
theorem dX6_enact_65 : decode cX6_enact 65 = .ok (.dup2, 1) := dk_92 (dk_at dksX6_enact_2 20 rfl rfl)
theorem dX6_enact_66 : decode cX6_enact 66 = .ok (.iaload, 1) := dk_46 (dk_at dksX6_enact_2 21 rfl rfl)
theorem dX6_enact_67 : decode cX6_enact 67 = .ok (.iconst 1, 1) := dk_4 (dk_at dksX6_enact_2 22 rfl rfl)
theorem dX6_enact_68 : decode cX6_enact 68 = .ok (.iadd, 1) := dk_96 (dk_at dksX6_enact_2 23 rfl rfl)
theorem dX6_enact_69 : decode cX6_enact 69 = .ok (.iastore, 1) := dk_79 (dk_at dksX6_enact_3 0 rfl rfl)
theorem dX6_enact_70 : decode cX6_enact 70 = .ok (.iconst 0, 1) := dk_3 (dk_at dksX6_enact_3 1 rfl rfl)
theorem dX6_enact_71 : decode cX6_enact 71 = .ok (.istore 5, 2) := dk_54 5 (dk_at dksX6_enact_3 2 rfl rfl)
theorem dX6_enact_73 : decode cX6_enact 73 = .ok (.iload 5, 2) := dk_21 5 (dk_at dksX6_enact_3 4 rfl rfl)
theorem dX6_enact_75 : decode cX6_enact 75 = .ok (.bipush 7, 2) := dk_16 7 (dk_at dksX6_enact_3 6 rfl rfl)
theorem dX6_enact_77 : decode cX6_enact 77 = .ok (.if_icmp .ge 23, 3) := dk_162 0 23 (dk_at dksX6_enact_3 8 rfl rfl)
theorem dX6_enact_80 : decode cX6_enact 80 = .ok (.aload_n 0, 1) := dk_42 (dk_at dksX6_enact_3 11 rfl rfl)
theorem dX6_enact_81 : decode cX6_enact 81 = .ok (.getfield 7, 3) := dk_180 0 7 (dk_at dksX6_enact_3 12 rfl rfl)
theorem dX6_enact_84 : decode cX6_enact 84 = .ok (.iload 4, 2) := dk_21 4 (dk_at dksX6_enact_3 15 rfl rfl)
theorem dX6_enact_86 : decode cX6_enact 86 = .ok (.invokestatic 215, 3) := dk_184 0 215 (dk_at dksX6_enact_3 17 rfl rfl)
theorem dX6_enact_89 : decode cX6_enact 89 = .ok (.iload 5, 2) := dk_21 5 (dk_at dksX6_enact_3 20 rfl rfl)
theorem dX6_enact_91 : decode cX6_enact 91 = .ok (.iadd, 1) := dk_96 (dk_at dksX6_enact_3 22 rfl rfl)
theorem dX6_enact_92 : decode cX6_enact 92 = .ok (.iconst 0, 1) := dk_3 (dk_at dksX6_enact_3 23 rfl rfl)
theorem dX6_enact_93 : decode cX6_enact 93 = .ok (.iastore, 1) := dk_79 (dk_at dksX6_enact_4 0 rfl rfl)
theorem dX6_enact_94 : decode cX6_enact 94 = .ok (.iinc 5 1, 3) := dk_132 5 1 (dk_at dksX6_enact_4 1 rfl rfl)
theorem dX6_enact_97 : decode cX6_enact 97 = .ok (.goto (-24), 3) := dk_167 255 232 (dk_at dksX6_enact_4 4 rfl rfl)
theorem dX6_enact_100 : decode cX6_enact 100 = .ok (.aload_n 0, 1) := dk_42 (dk_at dksX6_enact_4 7 rfl rfl)
theorem dX6_enact_101 : decode cX6_enact 101 = .ok (.getfield 7, 3) := dk_180 0 7 (dk_at dksX6_enact_4 8 rfl rfl)
theorem dX6_enact_104 : decode cX6_enact 104 = .ok (.iload 4, 2) := dk_21 4 (dk_at dksX6_enact_4 11 rfl rfl)
theorem dX6_enact_106 : decode cX6_enact 106 = .ok (.invokestatic 215, 3) := dk_184 0 215 (dk_at dksX6_enact_4 13 rfl rfl)
theorem dX6_enact_109 : decode cX6_enact 109 = .ok (.iload_n 1, 1) := dk_27 (dk_at dksX6_enact_4 16 rfl rfl)
theorem dX6_enact_110 : decode cX6_enact 110 = .ok (.iastore, 1) := dk_79 (dk_at dksX6_enact_4 17 rfl rfl)
theorem dX6_enact_111 : decode cX6_enact 111 = .ok (.aload_n 0, 1) := dk_42 (dk_at dksX6_enact_4 18 rfl rfl)
theorem dX6_enact_112 : decode cX6_enact 112 = .ok (.getfield 7, 3) := dk_180 0 7 (dk_at dksX6_enact_4 19 rfl rfl)
theorem dX6_enact_115 : decode cX6_enact 115 = .ok (.iload 4, 2) := dk_21 4 (dk_at dksX6_enact_4 22 rfl rfl)
theorem dX6_enact_117 : decode cX6_enact 117 = .ok (.invokestatic 215, 3) := dk_184 0 215 (dk_at dksX6_enact_5 0 rfl rfl)
theorem dX6_enact_120 : decode cX6_enact 120 = .ok (.iconst 1, 1) := dk_4 (dk_at dksX6_enact_5 3 rfl rfl)
theorem dX6_enact_121 : decode cX6_enact 121 = .ok (.iadd, 1) := dk_96 (dk_at dksX6_enact_5 4 rfl rfl)
theorem dX6_enact_122 : decode cX6_enact 122 = .ok (.iload_n 2, 1) := dk_28 (dk_at dksX6_enact_5 5 rfl rfl)
theorem dX6_enact_123 : decode cX6_enact 123 = .ok (.iastore, 1) := dk_79 (dk_at dksX6_enact_5 6 rfl rfl)
theorem dX6_enact_124 : decode cX6_enact 124 = .ok (.aload_n 0, 1) := dk_42 (dk_at dksX6_enact_5 7 rfl rfl)
theorem dX6_enact_125 : decode cX6_enact 125 = .ok (.getfield 7, 3) := dk_180 0 7 (dk_at dksX6_enact_5 8 rfl rfl)
theorem dX6_enact_128 : decode cX6_enact 128 = .ok (.iload 4, 2) := dk_21 4 (dk_at dksX6_enact_5 11 rfl rfl)
theorem dX6_enact_130 : decode cX6_enact 130 = .ok (.invokestatic 215, 3) := dk_184 0 215 (dk_at dksX6_enact_5 13 rfl rfl)
theorem dX6_enact_133 : decode cX6_enact 133 = .ok (.bipush 6, 2) := dk_16 6 (dk_at dksX6_enact_5 16 rfl rfl)
theorem dX6_enact_135 : decode cX6_enact 135 = .ok (.iadd, 1) := dk_96 (dk_at dksX6_enact_5 18 rfl rfl)
theorem dX6_enact_136 : decode cX6_enact 136 = .ok (.iload_n 3, 1) := dk_29 (dk_at dksX6_enact_5 19 rfl rfl)
theorem dX6_enact_137 : decode cX6_enact 137 = .ok (.iconst 5, 1) := dk_8 (dk_at dksX6_enact_5 20 rfl rfl)
theorem dX6_enact_138 : decode cX6_enact 138 = .ok (.if_icmp .ne 7, 3) := dk_160 0 7 (dk_at dksX6_enact_5 21 rfl rfl)
theorem dX6_enact_141 : decode cX6_enact 141 = .ok (.iconst (-1), 1) := dk_2 (dk_at dksX6_enact_6 0 rfl rfl)
theorem dX6_enact_142 : decode cX6_enact 142 = .ok (.goto 4, 3) := dk_167 0 4 (dk_at dksX6_enact_6 1 rfl rfl)
theorem dX6_enact_145 : decode cX6_enact 145 = .ok (.iload_n 3, 1) := dk_29 (dk_at dksX6_enact_6 4 rfl rfl)
theorem dX6_enact_146 : decode cX6_enact 146 = .ok (.iastore, 1) := dk_79 (dk_at dksX6_enact_6 5 rfl rfl)
theorem dX6_enact_147 : decode cX6_enact 147 = .ok (.aload_n 0, 1) := dk_42 (dk_at dksX6_enact_6 6 rfl rfl)
theorem dX6_enact_148 : decode cX6_enact 148 = .ok (.iload 4, 2) := dk_21 4 (dk_at dksX6_enact_6 7 rfl rfl)
theorem dX6_enact_150 : decode cX6_enact 150 = .ok (.invokevirtual 95, 3) := dk_182 0 95 (dk_at dksX6_enact_6 9 rfl rfl)
theorem dX6_enact_153 : decode cX6_enact 153 = .ok (.ireturn, 1) := dk_172 (dk_at dksX6_enact_6 12 rfl rfl)
abbrev cX6_repeal : ByteArray := prog_16_method_106_code
def yX6_repeal : MethodName := ⟨RX6, "repeal", "(I)I"⟩
def dkwX6_repeal_3 : List UInt8 := [182, 0, 95, 172]
abbrev dktX6_repeal_3 : List UInt8 := dkwX6_repeal_3 ++ []
def dkwX6_repeal_2 : List UInt8 := [180, 0, 7, 28, 16, 7, 96, 46, 79, 132, 2, 1, 167, 255, 225, 42, 42, 180, 0, 7, 5, 46]
abbrev dktX6_repeal_2 : List UInt8 := dkwX6_repeal_2 ++ dktX6_repeal_3
def dkwX6_repeal_1 : List UInt8 := [27, 184, 0, 215, 61, 28, 42, 180, 0, 7, 5, 46, 184, 0, 215, 162, 0, 24, 42, 180, 0, 7, 28, 42]
abbrev dktX6_repeal_1 : List UInt8 := dkwX6_repeal_1 ++ dktX6_repeal_2
def dkwX6_repeal_0 : List UInt8 := [42, 27, 182, 1, 40, 154, 0, 9, 42, 4, 182, 0, 91, 172, 42, 180, 0, 7, 5, 92, 46, 4, 100, 79]
abbrev dktX6_repeal_0 : List UInt8 := dkwX6_repeal_0 ++ dktX6_repeal_1
theorem dksX6_repeal_0 : cX6_repeal.data.toList.drop 0 = dktX6_repeal_0 := by decide +kernel
theorem dksX6_repeal_1 : cX6_repeal.data.toList.drop 24 = dktX6_repeal_1 := dk_seg dksX6_repeal_0 24 rfl rfl
theorem dksX6_repeal_2 : cX6_repeal.data.toList.drop 48 = dktX6_repeal_2 := dk_seg dksX6_repeal_1 24 rfl rfl
theorem dksX6_repeal_3 : cX6_repeal.data.toList.drop 70 = dktX6_repeal_3 := dk_seg dksX6_repeal_2 22 rfl rfl
theorem dX6_repeal_0 : decode cX6_repeal 0 = .ok (.aload_n 0, 1) := dk_42 (dk_at dksX6_repeal_0 0 rfl rfl)
theorem dX6_repeal_1 : decode cX6_repeal 1 = .ok (.iload_n 1, 1) := dk_27 (dk_at dksX6_repeal_0 1 rfl rfl)
theorem dX6_repeal_2 : decode cX6_repeal 2 = .ok (.invokevirtual 296, 3) := dk_182 1 40 (dk_at dksX6_repeal_0 2 rfl rfl)
theorem dX6_repeal_5 : decode cX6_repeal 5 = .ok (.ifCond .ne 9, 3) := dk_154 0 9 (dk_at dksX6_repeal_0 5 rfl rfl)
theorem dX6_repeal_8 : decode cX6_repeal 8 = .ok (.aload_n 0, 1) := dk_42 (dk_at dksX6_repeal_0 8 rfl rfl)
theorem dX6_repeal_9 : decode cX6_repeal 9 = .ok (.iconst 1, 1) := dk_4 (dk_at dksX6_repeal_0 9 rfl rfl)
theorem dX6_repeal_10 : decode cX6_repeal 10 = .ok (.invokevirtual 91, 3) := dk_182 0 91 (dk_at dksX6_repeal_0 10 rfl rfl)
theorem dX6_repeal_13 : decode cX6_repeal 13 = .ok (.ireturn, 1) := dk_172 (dk_at dksX6_repeal_0 13 rfl rfl)
theorem dX6_repeal_14 : decode cX6_repeal 14 = .ok (.aload_n 0, 1) := dk_42 (dk_at dksX6_repeal_0 14 rfl rfl)
theorem dX6_repeal_15 : decode cX6_repeal 15 = .ok (.getfield 7, 3) := dk_180 0 7 (dk_at dksX6_repeal_0 15 rfl rfl)
theorem dX6_repeal_18 : decode cX6_repeal 18 = .ok (.iconst 2, 1) := dk_5 (dk_at dksX6_repeal_0 18 rfl rfl)
theorem dX6_repeal_19 : decode cX6_repeal 19 = .ok (.dup2, 1) := dk_92 (dk_at dksX6_repeal_0 19 rfl rfl)
theorem dX6_repeal_20 : decode cX6_repeal 20 = .ok (.iaload, 1) := dk_46 (dk_at dksX6_repeal_0 20 rfl rfl)
theorem dX6_repeal_21 : decode cX6_repeal 21 = .ok (.iconst 1, 1) := dk_4 (dk_at dksX6_repeal_0 21 rfl rfl)
theorem dX6_repeal_22 : decode cX6_repeal 22 = .ok (.isub, 1) := dk_100 (dk_at dksX6_repeal_0 22 rfl rfl)
theorem dX6_repeal_23 : decode cX6_repeal 23 = .ok (.iastore, 1) := dk_79 (dk_at dksX6_repeal_0 23 rfl rfl)
theorem dX6_repeal_24 : decode cX6_repeal 24 = .ok (.iload_n 1, 1) := dk_27 (dk_at dksX6_repeal_1 0 rfl rfl)
theorem dX6_repeal_25 : decode cX6_repeal 25 = .ok (.invokestatic 215, 3) := dk_184 0 215 (dk_at dksX6_repeal_1 1 rfl rfl)
theorem dX6_repeal_28 : decode cX6_repeal 28 = .ok (.istore_n 2, 1) := dk_61 (dk_at dksX6_repeal_1 4 rfl rfl)
theorem dX6_repeal_29 : decode cX6_repeal 29 = .ok (.iload_n 2, 1) := dk_28 (dk_at dksX6_repeal_1 5 rfl rfl)
theorem dX6_repeal_30 : decode cX6_repeal 30 = .ok (.aload_n 0, 1) := dk_42 (dk_at dksX6_repeal_1 6 rfl rfl)
theorem dX6_repeal_31 : decode cX6_repeal 31 = .ok (.getfield 7, 3) := dk_180 0 7 (dk_at dksX6_repeal_1 7 rfl rfl)
theorem dX6_repeal_34 : decode cX6_repeal 34 = .ok (.iconst 2, 1) := dk_5 (dk_at dksX6_repeal_1 10 rfl rfl)
theorem dX6_repeal_35 : decode cX6_repeal 35 = .ok (.iaload, 1) := dk_46 (dk_at dksX6_repeal_1 11 rfl rfl)
theorem dX6_repeal_36 : decode cX6_repeal 36 = .ok (.invokestatic 215, 3) := dk_184 0 215 (dk_at dksX6_repeal_1 12 rfl rfl)
theorem dX6_repeal_39 : decode cX6_repeal 39 = .ok (.if_icmp .ge 24, 3) := dk_162 0 24 (dk_at dksX6_repeal_1 15 rfl rfl)
theorem dX6_repeal_42 : decode cX6_repeal 42 = .ok (.aload_n 0, 1) := dk_42 (dk_at dksX6_repeal_1 18 rfl rfl)
theorem dX6_repeal_43 : decode cX6_repeal 43 = .ok (.getfield 7, 3) := dk_180 0 7 (dk_at dksX6_repeal_1 19 rfl rfl)
theorem dX6_repeal_46 : decode cX6_repeal 46 = .ok (.iload_n 2, 1) := dk_28 (dk_at dksX6_repeal_1 22 rfl rfl)
theorem dX6_repeal_47 : decode cX6_repeal 47 = .ok (.aload_n 0, 1) := dk_42 (dk_at dksX6_repeal_1 23 rfl rfl)
theorem dX6_repeal_48 : decode cX6_repeal 48 = .ok (.getfield 7, 3) := dk_180 0 7 (dk_at dksX6_repeal_2 0 rfl rfl)
theorem dX6_repeal_51 : decode cX6_repeal 51 = .ok (.iload_n 2, 1) := dk_28 (dk_at dksX6_repeal_2 3 rfl rfl)
theorem dX6_repeal_52 : decode cX6_repeal 52 = .ok (.bipush 7, 2) := dk_16 7 (dk_at dksX6_repeal_2 4 rfl rfl)
theorem dX6_repeal_54 : decode cX6_repeal 54 = .ok (.iadd, 1) := dk_96 (dk_at dksX6_repeal_2 6 rfl rfl)
theorem dX6_repeal_55 : decode cX6_repeal 55 = .ok (.iaload, 1) := dk_46 (dk_at dksX6_repeal_2 7 rfl rfl)
theorem dX6_repeal_56 : decode cX6_repeal 56 = .ok (.iastore, 1) := dk_79 (dk_at dksX6_repeal_2 8 rfl rfl)
theorem dX6_repeal_57 : decode cX6_repeal 57 = .ok (.iinc 2 1, 3) := dk_132 2 1 (dk_at dksX6_repeal_2 9 rfl rfl)
theorem dX6_repeal_60 : decode cX6_repeal 60 = .ok (.goto (-31), 3) := dk_167 255 225 (dk_at dksX6_repeal_2 12 rfl rfl)
theorem dX6_repeal_63 : decode cX6_repeal 63 = .ok (.aload_n 0, 1) := dk_42 (dk_at dksX6_repeal_2 15 rfl rfl)
theorem dX6_repeal_64 : decode cX6_repeal 64 = .ok (.aload_n 0, 1) := dk_42 (dk_at dksX6_repeal_2 16 rfl rfl)
theorem dX6_repeal_65 : decode cX6_repeal 65 = .ok (.getfield 7, 3) := dk_180 0 7 (dk_at dksX6_repeal_2 17 rfl rfl)
theorem dX6_repeal_68 : decode cX6_repeal 68 = .ok (.iconst 2, 1) := dk_5 (dk_at dksX6_repeal_2 20 rfl rfl)
theorem dX6_repeal_69 : decode cX6_repeal 69 = .ok (.iaload, 1) := dk_46 (dk_at dksX6_repeal_2 21 rfl rfl)
theorem dX6_repeal_70 : decode cX6_repeal 70 = .ok (.invokevirtual 95, 3) := dk_182 0 95 (dk_at dksX6_repeal_3 0 rfl rfl)
theorem dX6_repeal_73 : decode cX6_repeal 73 = .ok (.ireturn, 1) := dk_172 (dk_at dksX6_repeal_3 3 rfl rfl)
abbrev cX6_strain : ByteArray := prog_16_method_107_code
def yX6_strain : MethodName := ⟨RX6, "strain", "(II)Z"⟩
def dkwX6_strain_1 : List UInt8 := [182, 0, 98, 172, 42, 180, 0, 7, 16, 102, 5, 27, 104, 96, 28, 79, 42, 3, 182, 0, 98, 172]
abbrev dktX6_strain_1 : List UInt8 := dkwX6_strain_1 ++ []
def dkwX6_strain_0 : List UInt8 := [42, 27, 182, 1, 53, 153, 0, 15, 28, 133, 9, 20, 1, 114, 184, 1, 81, 154, 0, 9, 42, 4]
abbrev dktX6_strain_0 : List UInt8 := dkwX6_strain_0 ++ dktX6_strain_1
theorem dksX6_strain_0 : cX6_strain.data.toList.drop 0 = dktX6_strain_0 := by decide +kernel
theorem dksX6_strain_1 : cX6_strain.data.toList.drop 22 = dktX6_strain_1 := dk_seg dksX6_strain_0 22 rfl rfl
theorem dX6_strain_0 : decode cX6_strain 0 = .ok (.aload_n 0, 1) := dk_42 (dk_at dksX6_strain_0 0 rfl rfl)
theorem dX6_strain_1 : decode cX6_strain 1 = .ok (.iload_n 1, 1) := dk_27 (dk_at dksX6_strain_0 1 rfl rfl)
theorem dX6_strain_2 : decode cX6_strain 2 = .ok (.invokevirtual 309, 3) := dk_182 1 53 (dk_at dksX6_strain_0 2 rfl rfl)
theorem dX6_strain_5 : decode cX6_strain 5 = .ok (.ifCond .eq 15, 3) := dk_153 0 15 (dk_at dksX6_strain_0 5 rfl rfl)
theorem dX6_strain_8 : decode cX6_strain 8 = .ok (.iload_n 2, 1) := dk_28 (dk_at dksX6_strain_0 8 rfl rfl)
theorem dX6_strain_9 : decode cX6_strain 9 = .ok (.i2l, 1) := dk_133 (dk_at dksX6_strain_0 9 rfl rfl)
theorem dX6_strain_10 : decode cX6_strain 10 = .ok (.lconst 0, 1) := dk_9 (dk_at dksX6_strain_0 10 rfl rfl)
theorem dX6_strain_11 : decode cX6_strain 11 = .ok (.ldc2_w 370, 3) := dk_20 1 114 (dk_at dksX6_strain_0 11 rfl rfl)
theorem dX6_strain_14 : decode cX6_strain 14 = .ok (.invokestatic 337, 3) := dk_184 1 81 (dk_at dksX6_strain_0 14 rfl rfl)
theorem dX6_strain_17 : decode cX6_strain 17 = .ok (.ifCond .ne 9, 3) := dk_154 0 9 (dk_at dksX6_strain_0 17 rfl rfl)
theorem dX6_strain_20 : decode cX6_strain 20 = .ok (.aload_n 0, 1) := dk_42 (dk_at dksX6_strain_0 20 rfl rfl)
theorem dX6_strain_21 : decode cX6_strain 21 = .ok (.iconst 1, 1) := dk_4 (dk_at dksX6_strain_0 21 rfl rfl)
theorem dX6_strain_22 : decode cX6_strain 22 = .ok (.invokevirtual 98, 3) := dk_182 0 98 (dk_at dksX6_strain_1 0 rfl rfl)
theorem dX6_strain_25 : decode cX6_strain 25 = .ok (.ireturn, 1) := dk_172 (dk_at dksX6_strain_1 3 rfl rfl)
theorem dX6_strain_26 : decode cX6_strain 26 = .ok (.aload_n 0, 1) := dk_42 (dk_at dksX6_strain_1 4 rfl rfl)
theorem dX6_strain_27 : decode cX6_strain 27 = .ok (.getfield 7, 3) := dk_180 0 7 (dk_at dksX6_strain_1 5 rfl rfl)
theorem dX6_strain_30 : decode cX6_strain 30 = .ok (.bipush 102, 2) := dk_16 102 (dk_at dksX6_strain_1 8 rfl rfl)
theorem dX6_strain_32 : decode cX6_strain 32 = .ok (.iconst 2, 1) := dk_5 (dk_at dksX6_strain_1 10 rfl rfl)
theorem dX6_strain_33 : decode cX6_strain 33 = .ok (.iload_n 1, 1) := dk_27 (dk_at dksX6_strain_1 11 rfl rfl)
theorem dX6_strain_34 : decode cX6_strain 34 = .ok (.imul, 1) := dk_104 (dk_at dksX6_strain_1 12 rfl rfl)
theorem dX6_strain_35 : decode cX6_strain 35 = .ok (.iadd, 1) := dk_96 (dk_at dksX6_strain_1 13 rfl rfl)
theorem dX6_strain_36 : decode cX6_strain 36 = .ok (.iload_n 2, 1) := dk_28 (dk_at dksX6_strain_1 14 rfl rfl)
theorem dX6_strain_37 : decode cX6_strain 37 = .ok (.iastore, 1) := dk_79 (dk_at dksX6_strain_1 15 rfl rfl)
theorem dX6_strain_38 : decode cX6_strain 38 = .ok (.aload_n 0, 1) := dk_42 (dk_at dksX6_strain_1 16 rfl rfl)
theorem dX6_strain_39 : decode cX6_strain 39 = .ok (.iconst 0, 1) := dk_3 (dk_at dksX6_strain_1 17 rfl rfl)
theorem dX6_strain_40 : decode cX6_strain 40 = .ok (.invokevirtual 98, 3) := dk_182 0 98 (dk_at dksX6_strain_1 18 rfl rfl)
theorem dX6_strain_43 : decode cX6_strain 43 = .ok (.ireturn, 1) := dk_172 (dk_at dksX6_strain_1 21 rfl rfl)
abbrev cX6_freeIn : ByteArray := prog_16_method_111_code
def yX6_freeIn : MethodName := ⟨RX6, "freeIn", "(I)I"⟩
def dkwX6_freeIn_2 : List UInt8 := [182, 1, 34, 61, 42, 17, 11, 196, 182, 1, 121, 42, 28, 182, 0, 95, 172]
abbrev dktX6_freeIn_2 : List UInt8 := dkwX6_freeIn_2 ++ []
def dkwX6_freeIn_1 : List UInt8 := [182, 1, 118, 3, 61, 28, 27, 162, 0, 14, 42, 182, 1, 94, 87, 132, 2, 1, 167, 255, 243, 42, 4]
abbrev dktX6_freeIn_1 : List UInt8 := dkwX6_freeIn_1 ++ dktX6_freeIn_2
def dkwX6_freeIn_0 : List UInt8 := [27, 133, 9, 20, 1, 116, 184, 1, 81, 154, 0, 9, 42, 4, 182, 0, 91, 172, 42, 17, 11, 196]
abbrev dktX6_freeIn_0 : List UInt8 := dkwX6_freeIn_0 ++ dktX6_freeIn_1
theorem dksX6_freeIn_0 : cX6_freeIn.data.toList.drop 0 = dktX6_freeIn_0 := by decide +kernel
theorem dksX6_freeIn_1 : cX6_freeIn.data.toList.drop 22 = dktX6_freeIn_1 := dk_seg dksX6_freeIn_0 22 rfl rfl
theorem dksX6_freeIn_2 : cX6_freeIn.data.toList.drop 45 = dktX6_freeIn_2 := dk_seg dksX6_freeIn_1 23 rfl rfl
theorem dX6_freeIn_0 : decode cX6_freeIn 0 = .ok (.iload_n 1, 1) := dk_27 (dk_at dksX6_freeIn_0 0 rfl rfl)
theorem dX6_freeIn_1 : decode cX6_freeIn 1 = .ok (.i2l, 1) := dk_133 (dk_at dksX6_freeIn_0 1 rfl rfl)
theorem dX6_freeIn_2 : decode cX6_freeIn 2 = .ok (.lconst 0, 1) := dk_9 (dk_at dksX6_freeIn_0 2 rfl rfl)
theorem dX6_freeIn_3 : decode cX6_freeIn 3 = .ok (.ldc2_w 372, 3) := dk_20 1 116 (dk_at dksX6_freeIn_0 3 rfl rfl)
theorem dX6_freeIn_6 : decode cX6_freeIn 6 = .ok (.invokestatic 337, 3) := dk_184 1 81 (dk_at dksX6_freeIn_0 6 rfl rfl)
theorem dX6_freeIn_9 : decode cX6_freeIn 9 = .ok (.ifCond .ne 9, 3) := dk_154 0 9 (dk_at dksX6_freeIn_0 9 rfl rfl)
theorem dX6_freeIn_12 : decode cX6_freeIn 12 = .ok (.aload_n 0, 1) := dk_42 (dk_at dksX6_freeIn_0 12 rfl rfl)
theorem dX6_freeIn_13 : decode cX6_freeIn 13 = .ok (.iconst 1, 1) := dk_4 (dk_at dksX6_freeIn_0 13 rfl rfl)
theorem dX6_freeIn_14 : decode cX6_freeIn 14 = .ok (.invokevirtual 91, 3) := dk_182 0 91 (dk_at dksX6_freeIn_0 14 rfl rfl)
theorem dX6_freeIn_17 : decode cX6_freeIn 17 = .ok (.ireturn, 1) := dk_172 (dk_at dksX6_freeIn_0 17 rfl rfl)
theorem dX6_freeIn_18 : decode cX6_freeIn 18 = .ok (.aload_n 0, 1) := dk_42 (dk_at dksX6_freeIn_0 18 rfl rfl)
theorem dX6_freeIn_19 : decode cX6_freeIn 19 = .ok (.sipush 3012, 3) := dk_17 11 196 (dk_at dksX6_freeIn_0 19 rfl rfl)
theorem dX6_freeIn_22 : decode cX6_freeIn 22 = .ok (.invokevirtual 374, 3) := dk_182 1 118 (dk_at dksX6_freeIn_1 0 rfl rfl)
theorem dX6_freeIn_25 : decode cX6_freeIn 25 = .ok (.iconst 0, 1) := dk_3 (dk_at dksX6_freeIn_1 3 rfl rfl)
theorem dX6_freeIn_26 : decode cX6_freeIn 26 = .ok (.istore_n 2, 1) := dk_61 (dk_at dksX6_freeIn_1 4 rfl rfl)
theorem dX6_freeIn_27 : decode cX6_freeIn 27 = .ok (.iload_n 2, 1) := dk_28 (dk_at dksX6_freeIn_1 5 rfl rfl)
theorem dX6_freeIn_28 : decode cX6_freeIn 28 = .ok (.iload_n 1, 1) := dk_27 (dk_at dksX6_freeIn_1 6 rfl rfl)
theorem dX6_freeIn_29 : decode cX6_freeIn 29 = .ok (.if_icmp .ge 14, 3) := dk_162 0 14 (dk_at dksX6_freeIn_1 7 rfl rfl)
theorem dX6_freeIn_32 : decode cX6_freeIn 32 = .ok (.aload_n 0, 1) := dk_42 (dk_at dksX6_freeIn_1 10 rfl rfl)
theorem dX6_freeIn_33 : decode cX6_freeIn 33 = .ok (.invokevirtual 350, 3) := dk_182 1 94 (dk_at dksX6_freeIn_1 11 rfl rfl)
theorem dX6_freeIn_36 : decode cX6_freeIn 36 = .ok (.pop, 1) := dk_87 (dk_at dksX6_freeIn_1 14 rfl rfl)
theorem dX6_freeIn_37 : decode cX6_freeIn 37 = .ok (.iinc 2 1, 3) := dk_132 2 1 (dk_at dksX6_freeIn_1 15 rfl rfl)
theorem dX6_freeIn_40 : decode cX6_freeIn 40 = .ok (.goto (-13), 3) := dk_167 255 243 (dk_at dksX6_freeIn_1 18 rfl rfl)
theorem dX6_freeIn_43 : decode cX6_freeIn 43 = .ok (.aload_n 0, 1) := dk_42 (dk_at dksX6_freeIn_1 21 rfl rfl)
theorem dX6_freeIn_44 : decode cX6_freeIn 44 = .ok (.iconst 1, 1) := dk_4 (dk_at dksX6_freeIn_1 22 rfl rfl)
theorem dX6_freeIn_45 : decode cX6_freeIn 45 = .ok (.invokevirtual 290, 3) := dk_182 1 34 (dk_at dksX6_freeIn_2 0 rfl rfl)
theorem dX6_freeIn_48 : decode cX6_freeIn 48 = .ok (.istore_n 2, 1) := dk_61 (dk_at dksX6_freeIn_2 3 rfl rfl)
theorem dX6_freeIn_49 : decode cX6_freeIn 49 = .ok (.aload_n 0, 1) := dk_42 (dk_at dksX6_freeIn_2 4 rfl rfl)
theorem dX6_freeIn_50 : decode cX6_freeIn 50 = .ok (.sipush 3012, 3) := dk_17 11 196 (dk_at dksX6_freeIn_2 5 rfl rfl)
theorem dX6_freeIn_53 : decode cX6_freeIn 53 = .ok (.invokevirtual 377, 3) := dk_182 1 121 (dk_at dksX6_freeIn_2 8 rfl rfl)
theorem dX6_freeIn_56 : decode cX6_freeIn 56 = .ok (.aload_n 0, 1) := dk_42 (dk_at dksX6_freeIn_2 11 rfl rfl)
theorem dX6_freeIn_57 : decode cX6_freeIn 57 = .ok (.iload_n 2, 1) := dk_28 (dk_at dksX6_freeIn_2 12 rfl rfl)
theorem dX6_freeIn_58 : decode cX6_freeIn 58 = .ok (.invokevirtual 95, 3) := dk_182 0 95 (dk_at dksX6_freeIn_2 13 rfl rfl)
theorem dX6_freeIn_61 : decode cX6_freeIn 61 = .ok (.ireturn, 1) := dk_172 (dk_at dksX6_freeIn_2 16 rfl rfl)
abbrev cX6_keeps : ByteArray := prog_16_method_109_code
def yX6_keeps : MethodName := ⟨RX6, "keeps", "(I)V"⟩
def dkwX6_keeps_1 : List UInt8 := [132, 2, 1, 167, 255, 232, 177]
abbrev dktX6_keeps_1 : List UInt8 := dkwX6_keeps_1 ++ []
def dkwX6_keeps_0 : List UInt8 := [3, 61, 28, 17, 0, 134, 162, 0, 23, 42, 180, 0, 7, 27, 28, 96, 42, 180, 0, 7, 28, 46, 79]
abbrev dktX6_keeps_0 : List UInt8 := dkwX6_keeps_0 ++ dktX6_keeps_1
theorem dksX6_keeps_0 : cX6_keeps.data.toList.drop 0 = dktX6_keeps_0 := by decide +kernel
theorem dksX6_keeps_1 : cX6_keeps.data.toList.drop 23 = dktX6_keeps_1 := dk_seg dksX6_keeps_0 23 rfl rfl
theorem dX6_keeps_0 : decode cX6_keeps 0 = .ok (.iconst 0, 1) := dk_3 (dk_at dksX6_keeps_0 0 rfl rfl)
theorem dX6_keeps_1 : decode cX6_keeps 1 = .ok (.istore_n 2, 1) := dk_61 (dk_at dksX6_keeps_0 1 rfl rfl)
theorem dX6_keeps_2 : decode cX6_keeps 2 = .ok (.iload_n 2, 1) := dk_28 (dk_at dksX6_keeps_0 2 rfl rfl)
theorem dX6_keeps_3 : decode cX6_keeps 3 = .ok (.sipush 134, 3) := dk_17 0 134 (dk_at dksX6_keeps_0 3 rfl rfl)
theorem dX6_keeps_6 : decode cX6_keeps 6 = .ok (.if_icmp .ge 23, 3) := dk_162 0 23 (dk_at dksX6_keeps_0 6 rfl rfl)
theorem dX6_keeps_9 : decode cX6_keeps 9 = .ok (.aload_n 0, 1) := dk_42 (dk_at dksX6_keeps_0 9 rfl rfl)
theorem dX6_keeps_10 : decode cX6_keeps 10 = .ok (.getfield 7, 3) := dk_180 0 7 (dk_at dksX6_keeps_0 10 rfl rfl)
theorem dX6_keeps_13 : decode cX6_keeps 13 = .ok (.iload_n 1, 1) := dk_27 (dk_at dksX6_keeps_0 13 rfl rfl)
theorem dX6_keeps_14 : decode cX6_keeps 14 = .ok (.iload_n 2, 1) := dk_28 (dk_at dksX6_keeps_0 14 rfl rfl)
theorem dX6_keeps_15 : decode cX6_keeps 15 = .ok (.iadd, 1) := dk_96 (dk_at dksX6_keeps_0 15 rfl rfl)
theorem dX6_keeps_16 : decode cX6_keeps 16 = .ok (.aload_n 0, 1) := dk_42 (dk_at dksX6_keeps_0 16 rfl rfl)
theorem dX6_keeps_17 : decode cX6_keeps 17 = .ok (.getfield 7, 3) := dk_180 0 7 (dk_at dksX6_keeps_0 17 rfl rfl)
theorem dX6_keeps_20 : decode cX6_keeps 20 = .ok (.iload_n 2, 1) := dk_28 (dk_at dksX6_keeps_0 20 rfl rfl)
theorem dX6_keeps_21 : decode cX6_keeps 21 = .ok (.iaload, 1) := dk_46 (dk_at dksX6_keeps_0 21 rfl rfl)
theorem dX6_keeps_22 : decode cX6_keeps 22 = .ok (.iastore, 1) := dk_79 (dk_at dksX6_keeps_0 22 rfl rfl)
theorem dX6_keeps_23 : decode cX6_keeps 23 = .ok (.iinc 2 1, 3) := dk_132 2 1 (dk_at dksX6_keeps_1 0 rfl rfl)
theorem dX6_keeps_26 : decode cX6_keeps 26 = .ok (.goto (-24), 3) := dk_167 255 232 (dk_at dksX6_keeps_1 3 rfl rfl)
theorem dX6_keeps_29 : decode cX6_keeps 29 = .ok (.return_, 1) := dk_177 (dk_at dksX6_keeps_1 6 rfl rfl)
abbrev cX6_restores : ByteArray := prog_16_method_110_code
def yX6_restores : MethodName := ⟨RX6, "restores", "(I)V"⟩
def dkwX6_restores_1 : List UInt8 := [132, 2, 1, 167, 255, 232, 177]
abbrev dktX6_restores_1 : List UInt8 := dkwX6_restores_1 ++ []
def dkwX6_restores_0 : List UInt8 := [3, 61, 28, 17, 0, 134, 162, 0, 23, 42, 180, 0, 7, 28, 42, 180, 0, 7, 27, 28, 96, 46, 79]
abbrev dktX6_restores_0 : List UInt8 := dkwX6_restores_0 ++ dktX6_restores_1
theorem dksX6_restores_0 : cX6_restores.data.toList.drop 0 = dktX6_restores_0 := by decide +kernel
theorem dksX6_restores_1 : cX6_restores.data.toList.drop 23 = dktX6_restores_1 := dk_seg dksX6_restores_0 23 rfl rfl
theorem dX6_restores_0 : decode cX6_restores 0 = .ok (.iconst 0, 1) := dk_3 (dk_at dksX6_restores_0 0 rfl rfl)
theorem dX6_restores_1 : decode cX6_restores 1 = .ok (.istore_n 2, 1) := dk_61 (dk_at dksX6_restores_0 1 rfl rfl)
theorem dX6_restores_2 : decode cX6_restores 2 = .ok (.iload_n 2, 1) := dk_28 (dk_at dksX6_restores_0 2 rfl rfl)
theorem dX6_restores_3 : decode cX6_restores 3 = .ok (.sipush 134, 3) := dk_17 0 134 (dk_at dksX6_restores_0 3 rfl rfl)
theorem dX6_restores_6 : decode cX6_restores 6 = .ok (.if_icmp .ge 23, 3) := dk_162 0 23 (dk_at dksX6_restores_0 6 rfl rfl)
theorem dX6_restores_9 : decode cX6_restores 9 = .ok (.aload_n 0, 1) := dk_42 (dk_at dksX6_restores_0 9 rfl rfl)
theorem dX6_restores_10 : decode cX6_restores 10 = .ok (.getfield 7, 3) := dk_180 0 7 (dk_at dksX6_restores_0 10 rfl rfl)
theorem dX6_restores_13 : decode cX6_restores 13 = .ok (.iload_n 2, 1) := dk_28 (dk_at dksX6_restores_0 13 rfl rfl)
theorem dX6_restores_14 : decode cX6_restores 14 = .ok (.aload_n 0, 1) := dk_42 (dk_at dksX6_restores_0 14 rfl rfl)
theorem dX6_restores_15 : decode cX6_restores 15 = .ok (.getfield 7, 3) := dk_180 0 7 (dk_at dksX6_restores_0 15 rfl rfl)
theorem dX6_restores_18 : decode cX6_restores 18 = .ok (.iload_n 1, 1) := dk_27 (dk_at dksX6_restores_0 18 rfl rfl)
theorem dX6_restores_19 : decode cX6_restores 19 = .ok (.iload_n 2, 1) := dk_28 (dk_at dksX6_restores_0 19 rfl rfl)
theorem dX6_restores_20 : decode cX6_restores 20 = .ok (.iadd, 1) := dk_96 (dk_at dksX6_restores_0 20 rfl rfl)
theorem dX6_restores_21 : decode cX6_restores 21 = .ok (.iaload, 1) := dk_46 (dk_at dksX6_restores_0 21 rfl rfl)
theorem dX6_restores_22 : decode cX6_restores 22 = .ok (.iastore, 1) := dk_79 (dk_at dksX6_restores_0 22 rfl rfl)
theorem dX6_restores_23 : decode cX6_restores 23 = .ok (.iinc 2 1, 3) := dk_132 2 1 (dk_at dksX6_restores_1 0 rfl rfl)
theorem dX6_restores_26 : decode cX6_restores 26 = .ok (.goto (-24), 3) := dk_167 255 232 (dk_at dksX6_restores_1 3 rfl rfl)
theorem dX6_restores_29 : decode cX6_restores 29 = .ok (.return_, 1) := dk_177 (dk_at dksX6_restores_1 6 rfl rfl)
abbrev cX6_judgedIn : ByteArray := prog_16_method_112_code
def yX6_judgedIn : MethodName := ⟨RX6, "judgedIn", "(I)I"⟩
def dkwX6_judgedIn_4 : List UInt8 := [182, 0, 95, 167, 0, 9, 42, 16, 6, 182, 0, 91, 172]
abbrev dktX6_judgedIn_4 : List UInt8 := dkwX6_judgedIn_4 ++ []
def dkwX6_judgedIn_3 : List UInt8 := [153, 0, 7, 4, 167, 0, 4, 3, 62, 42, 17, 11, 196, 182, 1, 121, 29, 153, 0, 11, 42, 28]
abbrev dktX6_judgedIn_3 : List UInt8 := dkwX6_judgedIn_3 ++ dktX6_judgedIn_4
def dkwX6_judgedIn_2 : List UInt8 := [5, 182, 1, 25, 154, 0, 14, 42, 182, 1, 94, 87, 132, 2, 1, 167, 255, 233, 42, 27, 5, 182, 1, 25]
abbrev dktX6_judgedIn_2 : List UInt8 := dkwX6_judgedIn_2 ++ dktX6_judgedIn_3
def dkwX6_judgedIn_1 : List UInt8 := [42, 16, 7, 182, 0, 91, 172, 42, 17, 11, 196, 182, 1, 118, 3, 61, 28, 16, 40, 162, 0, 23, 42, 27]
abbrev dktX6_judgedIn_1 : List UInt8 := dkwX6_judgedIn_1 ++ dktX6_judgedIn_2
def dkwX6_judgedIn_0 : List UInt8 := [42, 27, 133, 182, 1, 49, 154, 0, 9, 42, 4, 182, 0, 91, 172, 42, 27, 5, 182, 1, 25, 153, 0, 10]
abbrev dktX6_judgedIn_0 : List UInt8 := dkwX6_judgedIn_0 ++ dktX6_judgedIn_1
theorem dksX6_judgedIn_0 : cX6_judgedIn.data.toList.drop 0 = dktX6_judgedIn_0 := by decide +kernel
theorem dksX6_judgedIn_1 : cX6_judgedIn.data.toList.drop 24 = dktX6_judgedIn_1 := dk_seg dksX6_judgedIn_0 24 rfl rfl
theorem dksX6_judgedIn_2 : cX6_judgedIn.data.toList.drop 48 = dktX6_judgedIn_2 := dk_seg dksX6_judgedIn_1 24 rfl rfl
theorem dksX6_judgedIn_3 : cX6_judgedIn.data.toList.drop 72 = dktX6_judgedIn_3 := dk_seg dksX6_judgedIn_2 24 rfl rfl
theorem dksX6_judgedIn_4 : cX6_judgedIn.data.toList.drop 94 = dktX6_judgedIn_4 := dk_seg dksX6_judgedIn_3 22 rfl rfl
theorem dX6_judgedIn_0 : decode cX6_judgedIn 0 = .ok (.aload_n 0, 1) := dk_42 (dk_at dksX6_judgedIn_0 0 rfl rfl)
theorem dX6_judgedIn_1 : decode cX6_judgedIn 1 = .ok (.iload_n 1, 1) := dk_27 (dk_at dksX6_judgedIn_0 1 rfl rfl)
theorem dX6_judgedIn_2 : decode cX6_judgedIn 2 = .ok (.i2l, 1) := dk_133 (dk_at dksX6_judgedIn_0 2 rfl rfl)
theorem dX6_judgedIn_3 : decode cX6_judgedIn 3 = .ok (.invokevirtual 305, 3) := dk_182 1 49 (dk_at dksX6_judgedIn_0 3 rfl rfl)
theorem dX6_judgedIn_6 : decode cX6_judgedIn 6 = .ok (.ifCond .ne 9, 3) := dk_154 0 9 (dk_at dksX6_judgedIn_0 6 rfl rfl)
theorem dX6_judgedIn_9 : decode cX6_judgedIn 9 = .ok (.aload_n 0, 1) := dk_42 (dk_at dksX6_judgedIn_0 9 rfl rfl)
theorem dX6_judgedIn_10 : decode cX6_judgedIn 10 = .ok (.iconst 1, 1) := dk_4 (dk_at dksX6_judgedIn_0 10 rfl rfl)
theorem dX6_judgedIn_11 : decode cX6_judgedIn 11 = .ok (.invokevirtual 91, 3) := dk_182 0 91 (dk_at dksX6_judgedIn_0 11 rfl rfl)
theorem dX6_judgedIn_14 : decode cX6_judgedIn 14 = .ok (.ireturn, 1) := dk_172 (dk_at dksX6_judgedIn_0 14 rfl rfl)
theorem dX6_judgedIn_15 : decode cX6_judgedIn 15 = .ok (.aload_n 0, 1) := dk_42 (dk_at dksX6_judgedIn_0 15 rfl rfl)
theorem dX6_judgedIn_16 : decode cX6_judgedIn 16 = .ok (.iload_n 1, 1) := dk_27 (dk_at dksX6_judgedIn_0 16 rfl rfl)
theorem dX6_judgedIn_17 : decode cX6_judgedIn 17 = .ok (.iconst 2, 1) := dk_5 (dk_at dksX6_judgedIn_0 17 rfl rfl)
theorem dX6_judgedIn_18 : decode cX6_judgedIn 18 = .ok (.invokevirtual 281, 3) := dk_182 1 25 (dk_at dksX6_judgedIn_0 18 rfl rfl)
theorem dX6_judgedIn_21 : decode cX6_judgedIn 21 = .ok (.ifCond .eq 10, 3) := dk_153 0 10 (dk_at dksX6_judgedIn_0 21 rfl rfl)
theorem dX6_judgedIn_24 : decode cX6_judgedIn 24 = .ok (.aload_n 0, 1) := dk_42 (dk_at dksX6_judgedIn_1 0 rfl rfl)
theorem dX6_judgedIn_25 : decode cX6_judgedIn 25 = .ok (.bipush 7, 2) := dk_16 7 (dk_at dksX6_judgedIn_1 1 rfl rfl)
theorem dX6_judgedIn_27 : decode cX6_judgedIn 27 = .ok (.invokevirtual 91, 3) := dk_182 0 91 (dk_at dksX6_judgedIn_1 3 rfl rfl)
theorem dX6_judgedIn_30 : decode cX6_judgedIn 30 = .ok (.ireturn, 1) := dk_172 (dk_at dksX6_judgedIn_1 6 rfl rfl)
theorem dX6_judgedIn_31 : decode cX6_judgedIn 31 = .ok (.aload_n 0, 1) := dk_42 (dk_at dksX6_judgedIn_1 7 rfl rfl)
theorem dX6_judgedIn_32 : decode cX6_judgedIn 32 = .ok (.sipush 3012, 3) := dk_17 11 196 (dk_at dksX6_judgedIn_1 8 rfl rfl)
theorem dX6_judgedIn_35 : decode cX6_judgedIn 35 = .ok (.invokevirtual 374, 3) := dk_182 1 118 (dk_at dksX6_judgedIn_1 11 rfl rfl)
theorem dX6_judgedIn_38 : decode cX6_judgedIn 38 = .ok (.iconst 0, 1) := dk_3 (dk_at dksX6_judgedIn_1 14 rfl rfl)
theorem dX6_judgedIn_39 : decode cX6_judgedIn 39 = .ok (.istore_n 2, 1) := dk_61 (dk_at dksX6_judgedIn_1 15 rfl rfl)
theorem dX6_judgedIn_40 : decode cX6_judgedIn 40 = .ok (.iload_n 2, 1) := dk_28 (dk_at dksX6_judgedIn_1 16 rfl rfl)
theorem dX6_judgedIn_41 : decode cX6_judgedIn 41 = .ok (.bipush 40, 2) := dk_16 40 (dk_at dksX6_judgedIn_1 17 rfl rfl)
theorem dX6_judgedIn_43 : decode cX6_judgedIn 43 = .ok (.if_icmp .ge 23, 3) := dk_162 0 23 (dk_at dksX6_judgedIn_1 19 rfl rfl)
theorem dX6_judgedIn_46 : decode cX6_judgedIn 46 = .ok (.aload_n 0, 1) := dk_42 (dk_at dksX6_judgedIn_1 22 rfl rfl)
theorem dX6_judgedIn_47 : decode cX6_judgedIn 47 = .ok (.iload_n 1, 1) := dk_27 (dk_at dksX6_judgedIn_1 23 rfl rfl)
theorem dX6_judgedIn_48 : decode cX6_judgedIn 48 = .ok (.iconst 2, 1) := dk_5 (dk_at dksX6_judgedIn_2 0 rfl rfl)
theorem dX6_judgedIn_49 : decode cX6_judgedIn 49 = .ok (.invokevirtual 281, 3) := dk_182 1 25 (dk_at dksX6_judgedIn_2 1 rfl rfl)
theorem dX6_judgedIn_52 : decode cX6_judgedIn 52 = .ok (.ifCond .ne 14, 3) := dk_154 0 14 (dk_at dksX6_judgedIn_2 4 rfl rfl)
theorem dX6_judgedIn_55 : decode cX6_judgedIn 55 = .ok (.aload_n 0, 1) := dk_42 (dk_at dksX6_judgedIn_2 7 rfl rfl)
theorem dX6_judgedIn_56 : decode cX6_judgedIn 56 = .ok (.invokevirtual 350, 3) := dk_182 1 94 (dk_at dksX6_judgedIn_2 8 rfl rfl)
theorem dX6_judgedIn_59 : decode cX6_judgedIn 59 = .ok (.pop, 1) := dk_87 (dk_at dksX6_judgedIn_2 11 rfl rfl)
theorem dX6_judgedIn_60 : decode cX6_judgedIn 60 = .ok (.iinc 2 1, 3) := dk_132 2 1 (dk_at dksX6_judgedIn_2 12 rfl rfl)
theorem dX6_judgedIn_63 : decode cX6_judgedIn 63 = .ok (.goto (-23), 3) := dk_167 255 233 (dk_at dksX6_judgedIn_2 15 rfl rfl)
theorem dX6_judgedIn_66 : decode cX6_judgedIn 66 = .ok (.aload_n 0, 1) := dk_42 (dk_at dksX6_judgedIn_2 18 rfl rfl)
theorem dX6_judgedIn_67 : decode cX6_judgedIn 67 = .ok (.iload_n 1, 1) := dk_27 (dk_at dksX6_judgedIn_2 19 rfl rfl)
theorem dX6_judgedIn_68 : decode cX6_judgedIn 68 = .ok (.iconst 2, 1) := dk_5 (dk_at dksX6_judgedIn_2 20 rfl rfl)
theorem dX6_judgedIn_69 : decode cX6_judgedIn 69 = .ok (.invokevirtual 281, 3) := dk_182 1 25 (dk_at dksX6_judgedIn_2 21 rfl rfl)
theorem dX6_judgedIn_72 : decode cX6_judgedIn 72 = .ok (.ifCond .eq 7, 3) := dk_153 0 7 (dk_at dksX6_judgedIn_3 0 rfl rfl)
theorem dX6_judgedIn_75 : decode cX6_judgedIn 75 = .ok (.iconst 1, 1) := dk_4 (dk_at dksX6_judgedIn_3 3 rfl rfl)
theorem dX6_judgedIn_76 : decode cX6_judgedIn 76 = .ok (.goto 4, 3) := dk_167 0 4 (dk_at dksX6_judgedIn_3 4 rfl rfl)
theorem dX6_judgedIn_79 : decode cX6_judgedIn 79 = .ok (.iconst 0, 1) := dk_3 (dk_at dksX6_judgedIn_3 7 rfl rfl)
theorem dX6_judgedIn_80 : decode cX6_judgedIn 80 = .ok (.istore_n 3, 1) := dk_62 (dk_at dksX6_judgedIn_3 8 rfl rfl)
theorem dX6_judgedIn_81 : decode cX6_judgedIn 81 = .ok (.aload_n 0, 1) := dk_42 (dk_at dksX6_judgedIn_3 9 rfl rfl)
theorem dX6_judgedIn_82 : decode cX6_judgedIn 82 = .ok (.sipush 3012, 3) := dk_17 11 196 (dk_at dksX6_judgedIn_3 10 rfl rfl)
theorem dX6_judgedIn_85 : decode cX6_judgedIn 85 = .ok (.invokevirtual 377, 3) := dk_182 1 121 (dk_at dksX6_judgedIn_3 13 rfl rfl)
theorem dX6_judgedIn_88 : decode cX6_judgedIn 88 = .ok (.iload_n 3, 1) := dk_29 (dk_at dksX6_judgedIn_3 16 rfl rfl)
theorem dX6_judgedIn_89 : decode cX6_judgedIn 89 = .ok (.ifCond .eq 11, 3) := dk_153 0 11 (dk_at dksX6_judgedIn_3 17 rfl rfl)
theorem dX6_judgedIn_92 : decode cX6_judgedIn 92 = .ok (.aload_n 0, 1) := dk_42 (dk_at dksX6_judgedIn_3 20 rfl rfl)
theorem dX6_judgedIn_93 : decode cX6_judgedIn 93 = .ok (.iload_n 2, 1) := dk_28 (dk_at dksX6_judgedIn_3 21 rfl rfl)
theorem dX6_judgedIn_94 : decode cX6_judgedIn 94 = .ok (.invokevirtual 95, 3) := dk_182 0 95 (dk_at dksX6_judgedIn_4 0 rfl rfl)
theorem dX6_judgedIn_97 : decode cX6_judgedIn 97 = .ok (.goto 9, 3) := dk_167 0 9 (dk_at dksX6_judgedIn_4 3 rfl rfl)
theorem dX6_judgedIn_100 : decode cX6_judgedIn 100 = .ok (.aload_n 0, 1) := dk_42 (dk_at dksX6_judgedIn_4 6 rfl rfl)
theorem dX6_judgedIn_101 : decode cX6_judgedIn 101 = .ok (.bipush 6, 2) := dk_16 6 (dk_at dksX6_judgedIn_4 7 rfl rfl)
theorem dX6_judgedIn_103 : decode cX6_judgedIn 103 = .ok (.invokevirtual 91, 3) := dk_182 0 91 (dk_at dksX6_judgedIn_4 9 rfl rfl)
theorem dX6_judgedIn_106 : decode cX6_judgedIn 106 = .ok (.ireturn, 1) := dk_172 (dk_at dksX6_judgedIn_4 12 rfl rfl)
abbrev cX6_fits : ByteArray := prog_16_method_118_code
def yX6_fits : MethodName := ⟨RX6, "fits", "(II)I"⟩
def dkwX6_fits_1 : List UInt8 := [42, 180, 1, 133, 182, 0, 95, 172]
abbrev dktX6_fits_1 : List UInt8 := dkwX6_fits_1 ++ []
def dkwX6_fits_0 : List UInt8 := [42, 27, 28, 182, 1, 139, 62, 29, 158, 0, 9, 42, 29, 182, 0, 91, 172, 42, 27, 28, 182, 1, 142, 42]
abbrev dktX6_fits_0 : List UInt8 := dkwX6_fits_0 ++ dktX6_fits_1
theorem dksX6_fits_0 : cX6_fits.data.toList.drop 0 = dktX6_fits_0 := by decide +kernel
theorem dksX6_fits_1 : cX6_fits.data.toList.drop 24 = dktX6_fits_1 := dk_seg dksX6_fits_0 24 rfl rfl
theorem dX6_fits_0 : decode cX6_fits 0 = .ok (.aload_n 0, 1) := dk_42 (dk_at dksX6_fits_0 0 rfl rfl)
theorem dX6_fits_1 : decode cX6_fits 1 = .ok (.iload_n 1, 1) := dk_27 (dk_at dksX6_fits_0 1 rfl rfl)
theorem dX6_fits_2 : decode cX6_fits 2 = .ok (.iload_n 2, 1) := dk_28 (dk_at dksX6_fits_0 2 rfl rfl)
theorem dX6_fits_3 : decode cX6_fits 3 = .ok (.invokevirtual 395, 3) := dk_182 1 139 (dk_at dksX6_fits_0 3 rfl rfl)
theorem dX6_fits_6 : decode cX6_fits 6 = .ok (.istore_n 3, 1) := dk_62 (dk_at dksX6_fits_0 6 rfl rfl)
theorem dX6_fits_7 : decode cX6_fits 7 = .ok (.iload_n 3, 1) := dk_29 (dk_at dksX6_fits_0 7 rfl rfl)
theorem dX6_fits_8 : decode cX6_fits 8 = .ok (.ifCond .le 9, 3) := dk_158 0 9 (dk_at dksX6_fits_0 8 rfl rfl)
theorem dX6_fits_11 : decode cX6_fits 11 = .ok (.aload_n 0, 1) := dk_42 (dk_at dksX6_fits_0 11 rfl rfl)
theorem dX6_fits_12 : decode cX6_fits 12 = .ok (.iload_n 3, 1) := dk_29 (dk_at dksX6_fits_0 12 rfl rfl)
theorem dX6_fits_13 : decode cX6_fits 13 = .ok (.invokevirtual 91, 3) := dk_182 0 91 (dk_at dksX6_fits_0 13 rfl rfl)
theorem dX6_fits_16 : decode cX6_fits 16 = .ok (.ireturn, 1) := dk_172 (dk_at dksX6_fits_0 16 rfl rfl)
theorem dX6_fits_17 : decode cX6_fits 17 = .ok (.aload_n 0, 1) := dk_42 (dk_at dksX6_fits_0 17 rfl rfl)
theorem dX6_fits_18 : decode cX6_fits 18 = .ok (.iload_n 1, 1) := dk_27 (dk_at dksX6_fits_0 18 rfl rfl)
theorem dX6_fits_19 : decode cX6_fits 19 = .ok (.iload_n 2, 1) := dk_28 (dk_at dksX6_fits_0 19 rfl rfl)
theorem dX6_fits_20 : decode cX6_fits 20 = .ok (.invokevirtual 398, 3) := dk_182 1 142 (dk_at dksX6_fits_0 20 rfl rfl)
theorem dX6_fits_23 : decode cX6_fits 23 = .ok (.aload_n 0, 1) := dk_42 (dk_at dksX6_fits_0 23 rfl rfl)
theorem dX6_fits_24 : decode cX6_fits 24 = .ok (.aload_n 0, 1) := dk_42 (dk_at dksX6_fits_1 0 rfl rfl)
theorem dX6_fits_25 : decode cX6_fits 25 = .ok (.getfield 389, 3) := dk_180 1 133 (dk_at dksX6_fits_1 1 rfl rfl)
theorem dX6_fits_28 : decode cX6_fits 28 = .ok (.invokevirtual 95, 3) := dk_182 0 95 (dk_at dksX6_fits_1 4 rfl rfl)
theorem dX6_fits_31 : decode cX6_fits 31 = .ok (.ireturn, 1) := dk_172 (dk_at dksX6_fits_1 7 rfl rfl)
abbrev cX6_wrongSeen : ByteArray := prog_16_method_113_code
def yX6_wrongSeen : MethodName := ⟨RX6, "wrongSeen", "(II)I"⟩
def dkwX6_wrongSeen_5 : List UInt8 := [184, 1, 81, 154, 0, 5, 8, 172, 132, 3, 1, 167, 255, 180, 3, 172]
abbrev dktX6_wrongSeen_5 : List UInt8 := dkwX6_wrongSeen_5 ++ []
def dkwX6_wrongSeen_4 : List UInt8 := [184, 1, 81, 153, 0, 26, 42, 180, 0, 27, 21, 4, 5, 96, 47, 9, 42, 180, 0, 7, 4, 46, 133]
abbrev dktX6_wrongSeen_4 : List UInt8 := dkwX6_wrongSeen_4 ++ dktX6_wrongSeen_5
def dkwX6_wrongSeen_3 : List UInt8 := [21, 4, 47, 182, 1, 49, 153, 0, 45, 42, 180, 0, 27, 21, 4, 4, 96, 47, 9, 20, 1, 79]
abbrev dktX6_wrongSeen_3 : List UInt8 := dkwX6_wrongSeen_3 ++ dktX6_wrongSeen_4
def dkwX6_wrongSeen_2 : List UInt8 := [172, 3, 62, 29, 28, 162, 0, 77, 16, 60, 27, 104, 6, 29, 104, 96, 54, 4, 42, 42, 180, 0, 27]
abbrev dktX6_wrongSeen_2 : List UInt8 := dkwX6_wrongSeen_2 ++ dktX6_wrongSeen_3
def dkwX6_wrongSeen_1 : List UInt8 := [180, 0, 24, 27, 46, 2, 160, 0, 5, 5, 172, 42, 180, 0, 24, 27, 46, 6, 28, 104, 162, 0, 5, 6]
abbrev dktX6_wrongSeen_1 : List UInt8 := dkwX6_wrongSeen_1 ++ dktX6_wrongSeen_2
def dkwX6_wrongSeen_0 : List UInt8 := [27, 184, 0, 102, 153, 0, 15, 28, 133, 9, 20, 1, 124, 184, 1, 81, 154, 0, 5, 4, 172, 42]
abbrev dktX6_wrongSeen_0 : List UInt8 := dkwX6_wrongSeen_0 ++ dktX6_wrongSeen_1
theorem dksX6_wrongSeen_0 : cX6_wrongSeen.data.toList.drop 0 = dktX6_wrongSeen_0 := by decide +kernel
theorem dksX6_wrongSeen_1 : cX6_wrongSeen.data.toList.drop 22 = dktX6_wrongSeen_1 := dk_seg dksX6_wrongSeen_0 22 rfl rfl
theorem dksX6_wrongSeen_2 : cX6_wrongSeen.data.toList.drop 46 = dktX6_wrongSeen_2 := dk_seg dksX6_wrongSeen_1 24 rfl rfl
theorem dksX6_wrongSeen_3 : cX6_wrongSeen.data.toList.drop 69 = dktX6_wrongSeen_3 := dk_seg dksX6_wrongSeen_2 23 rfl rfl
theorem dksX6_wrongSeen_4 : cX6_wrongSeen.data.toList.drop 91 = dktX6_wrongSeen_4 := dk_seg dksX6_wrongSeen_3 22 rfl rfl
theorem dksX6_wrongSeen_5 : cX6_wrongSeen.data.toList.drop 114 = dktX6_wrongSeen_5 := dk_seg dksX6_wrongSeen_4 23 rfl rfl
theorem dX6_wrongSeen_0 : decode cX6_wrongSeen 0 = .ok (.iload_n 1, 1) := dk_27 (dk_at dksX6_wrongSeen_0 0 rfl rfl)
theorem dX6_wrongSeen_1 : decode cX6_wrongSeen 1 = .ok (.invokestatic 102, 3) := dk_184 0 102 (dk_at dksX6_wrongSeen_0 1 rfl rfl)
theorem dX6_wrongSeen_4 : decode cX6_wrongSeen 4 = .ok (.ifCond .eq 15, 3) := dk_153 0 15 (dk_at dksX6_wrongSeen_0 4 rfl rfl)
theorem dX6_wrongSeen_7 : decode cX6_wrongSeen 7 = .ok (.iload_n 2, 1) := dk_28 (dk_at dksX6_wrongSeen_0 7 rfl rfl)
theorem dX6_wrongSeen_8 : decode cX6_wrongSeen 8 = .ok (.i2l, 1) := dk_133 (dk_at dksX6_wrongSeen_0 8 rfl rfl)
theorem dX6_wrongSeen_9 : decode cX6_wrongSeen 9 = .ok (.lconst 0, 1) := dk_9 (dk_at dksX6_wrongSeen_0 9 rfl rfl)
theorem dX6_wrongSeen_10 : decode cX6_wrongSeen 10 = .ok (.ldc2_w 380, 3) := dk_20 1 124 (dk_at dksX6_wrongSeen_0 10 rfl rfl)
theorem dX6_wrongSeen_13 : decode cX6_wrongSeen 13 = .ok (.invokestatic 337, 3) := dk_184 1 81 (dk_at dksX6_wrongSeen_0 13 rfl rfl)
theorem dX6_wrongSeen_16 : decode cX6_wrongSeen 16 = .ok (.ifCond .ne 5, 3) := dk_154 0 5 (dk_at dksX6_wrongSeen_0 16 rfl rfl)
theorem dX6_wrongSeen_19 : decode cX6_wrongSeen 19 = .ok (.iconst 1, 1) := dk_4 (dk_at dksX6_wrongSeen_0 19 rfl rfl)
theorem dX6_wrongSeen_20 : decode cX6_wrongSeen 20 = .ok (.ireturn, 1) := dk_172 (dk_at dksX6_wrongSeen_0 20 rfl rfl)
theorem dX6_wrongSeen_21 : decode cX6_wrongSeen 21 = .ok (.aload_n 0, 1) := dk_42 (dk_at dksX6_wrongSeen_0 21 rfl rfl)
theorem dX6_wrongSeen_22 : decode cX6_wrongSeen 22 = .ok (.getfield 24, 3) := dk_180 0 24 (dk_at dksX6_wrongSeen_1 0 rfl rfl)
theorem dX6_wrongSeen_25 : decode cX6_wrongSeen 25 = .ok (.iload_n 1, 1) := dk_27 (dk_at dksX6_wrongSeen_1 3 rfl rfl)
theorem dX6_wrongSeen_26 : decode cX6_wrongSeen 26 = .ok (.iaload, 1) := dk_46 (dk_at dksX6_wrongSeen_1 4 rfl rfl)
theorem dX6_wrongSeen_27 : decode cX6_wrongSeen 27 = .ok (.iconst (-1), 1) := dk_2 (dk_at dksX6_wrongSeen_1 5 rfl rfl)
theorem dX6_wrongSeen_28 : decode cX6_wrongSeen 28 = .ok (.if_icmp .ne 5, 3) := dk_160 0 5 (dk_at dksX6_wrongSeen_1 6 rfl rfl)
theorem dX6_wrongSeen_31 : decode cX6_wrongSeen 31 = .ok (.iconst 2, 1) := dk_5 (dk_at dksX6_wrongSeen_1 9 rfl rfl)
theorem dX6_wrongSeen_32 : decode cX6_wrongSeen 32 = .ok (.ireturn, 1) := dk_172 (dk_at dksX6_wrongSeen_1 10 rfl rfl)
theorem dX6_wrongSeen_33 : decode cX6_wrongSeen 33 = .ok (.aload_n 0, 1) := dk_42 (dk_at dksX6_wrongSeen_1 11 rfl rfl)
theorem dX6_wrongSeen_34 : decode cX6_wrongSeen 34 = .ok (.getfield 24, 3) := dk_180 0 24 (dk_at dksX6_wrongSeen_1 12 rfl rfl)
theorem dX6_wrongSeen_37 : decode cX6_wrongSeen 37 = .ok (.iload_n 1, 1) := dk_27 (dk_at dksX6_wrongSeen_1 15 rfl rfl)
theorem dX6_wrongSeen_38 : decode cX6_wrongSeen 38 = .ok (.iaload, 1) := dk_46 (dk_at dksX6_wrongSeen_1 16 rfl rfl)
theorem dX6_wrongSeen_39 : decode cX6_wrongSeen 39 = .ok (.iconst 3, 1) := dk_6 (dk_at dksX6_wrongSeen_1 17 rfl rfl)
theorem dX6_wrongSeen_40 : decode cX6_wrongSeen 40 = .ok (.iload_n 2, 1) := dk_28 (dk_at dksX6_wrongSeen_1 18 rfl rfl)
theorem dX6_wrongSeen_41 : decode cX6_wrongSeen 41 = .ok (.imul, 1) := dk_104 (dk_at dksX6_wrongSeen_1 19 rfl rfl)
theorem dX6_wrongSeen_42 : decode cX6_wrongSeen 42 = .ok (.if_icmp .ge 5, 3) := dk_162 0 5 (dk_at dksX6_wrongSeen_1 20 rfl rfl)
theorem dX6_wrongSeen_45 : decode cX6_wrongSeen 45 = .ok (.iconst 3, 1) := dk_6 (dk_at dksX6_wrongSeen_1 23 rfl rfl)
theorem dX6_wrongSeen_46 : decode cX6_wrongSeen 46 = .ok (.ireturn, 1) := dk_172 (dk_at dksX6_wrongSeen_2 0 rfl rfl)
theorem dX6_wrongSeen_47 : decode cX6_wrongSeen 47 = .ok (.iconst 0, 1) := dk_3 (dk_at dksX6_wrongSeen_2 1 rfl rfl)
theorem dX6_wrongSeen_48 : decode cX6_wrongSeen 48 = .ok (.istore_n 3, 1) := dk_62 (dk_at dksX6_wrongSeen_2 2 rfl rfl)
theorem dX6_wrongSeen_49 : decode cX6_wrongSeen 49 = .ok (.iload_n 3, 1) := dk_29 (dk_at dksX6_wrongSeen_2 3 rfl rfl)
theorem dX6_wrongSeen_50 : decode cX6_wrongSeen 50 = .ok (.iload_n 2, 1) := dk_28 (dk_at dksX6_wrongSeen_2 4 rfl rfl)
theorem dX6_wrongSeen_51 : decode cX6_wrongSeen 51 = .ok (.if_icmp .ge 77, 3) := dk_162 0 77 (dk_at dksX6_wrongSeen_2 5 rfl rfl)
theorem dX6_wrongSeen_54 : decode cX6_wrongSeen 54 = .ok (.bipush 60, 2) := dk_16 60 (dk_at dksX6_wrongSeen_2 8 rfl rfl)
theorem dX6_wrongSeen_56 : decode cX6_wrongSeen 56 = .ok (.iload_n 1, 1) := dk_27 (dk_at dksX6_wrongSeen_2 10 rfl rfl)
theorem dX6_wrongSeen_57 : decode cX6_wrongSeen 57 = .ok (.imul, 1) := dk_104 (dk_at dksX6_wrongSeen_2 11 rfl rfl)
theorem dX6_wrongSeen_58 : decode cX6_wrongSeen 58 = .ok (.iconst 3, 1) := dk_6 (dk_at dksX6_wrongSeen_2 12 rfl rfl)
theorem dX6_wrongSeen_59 : decode cX6_wrongSeen 59 = .ok (.iload_n 3, 1) := dk_29 (dk_at dksX6_wrongSeen_2 13 rfl rfl)
theorem dX6_wrongSeen_60 : decode cX6_wrongSeen 60 = .ok (.imul, 1) := dk_104 (dk_at dksX6_wrongSeen_2 14 rfl rfl)
theorem dX6_wrongSeen_61 : decode cX6_wrongSeen 61 = .ok (.iadd, 1) := dk_96 (dk_at dksX6_wrongSeen_2 15 rfl rfl)
theorem dX6_wrongSeen_62 : decode cX6_wrongSeen 62 = .ok (.istore 4, 2) := dk_54 4 (dk_at dksX6_wrongSeen_2 16 rfl rfl)
theorem dX6_wrongSeen_64 : decode cX6_wrongSeen 64 = .ok (.aload_n 0, 1) := dk_42 (dk_at dksX6_wrongSeen_2 18 rfl rfl)
theorem dX6_wrongSeen_65 : decode cX6_wrongSeen 65 = .ok (.aload_n 0, 1) := dk_42 (dk_at dksX6_wrongSeen_2 19 rfl rfl)
theorem dX6_wrongSeen_66 : decode cX6_wrongSeen 66 = .ok (.getfield 27, 3) := dk_180 0 27 (dk_at dksX6_wrongSeen_2 20 rfl rfl)
theorem dX6_wrongSeen_69 : decode cX6_wrongSeen 69 = .ok (.iload 4, 2) := dk_21 4 (dk_at dksX6_wrongSeen_3 0 rfl rfl)
theorem dX6_wrongSeen_71 : decode cX6_wrongSeen 71 = .ok (.laload, 1) := dk_47 (dk_at dksX6_wrongSeen_3 2 rfl rfl)
theorem dX6_wrongSeen_72 : decode cX6_wrongSeen 72 = .ok (.invokevirtual 305, 3) := dk_182 1 49 (dk_at dksX6_wrongSeen_3 3 rfl rfl)
theorem dX6_wrongSeen_75 : decode cX6_wrongSeen 75 = .ok (.ifCond .eq 45, 3) := dk_153 0 45 (dk_at dksX6_wrongSeen_3 6 rfl rfl)
theorem dX6_wrongSeen_78 : decode cX6_wrongSeen 78 = .ok (.aload_n 0, 1) := dk_42 (dk_at dksX6_wrongSeen_3 9 rfl rfl)
theorem dX6_wrongSeen_79 : decode cX6_wrongSeen 79 = .ok (.getfield 27, 3) := dk_180 0 27 (dk_at dksX6_wrongSeen_3 10 rfl rfl)
theorem dX6_wrongSeen_82 : decode cX6_wrongSeen 82 = .ok (.iload 4, 2) := dk_21 4 (dk_at dksX6_wrongSeen_3 13 rfl rfl)
theorem dX6_wrongSeen_84 : decode cX6_wrongSeen 84 = .ok (.iconst 1, 1) := dk_4 (dk_at dksX6_wrongSeen_3 15 rfl rfl)
theorem dX6_wrongSeen_85 : decode cX6_wrongSeen 85 = .ok (.iadd, 1) := dk_96 (dk_at dksX6_wrongSeen_3 16 rfl rfl)
theorem dX6_wrongSeen_86 : decode cX6_wrongSeen 86 = .ok (.laload, 1) := dk_47 (dk_at dksX6_wrongSeen_3 17 rfl rfl)
theorem dX6_wrongSeen_87 : decode cX6_wrongSeen 87 = .ok (.lconst 0, 1) := dk_9 (dk_at dksX6_wrongSeen_3 18 rfl rfl)
theorem dX6_wrongSeen_88 : decode cX6_wrongSeen 88 = .ok (.ldc2_w 335, 3) := dk_20 1 79 (dk_at dksX6_wrongSeen_3 19 rfl rfl)
theorem dX6_wrongSeen_91 : decode cX6_wrongSeen 91 = .ok (.invokestatic 337, 3) := dk_184 1 81 (dk_at dksX6_wrongSeen_4 0 rfl rfl)
theorem dX6_wrongSeen_94 : decode cX6_wrongSeen 94 = .ok (.ifCond .eq 26, 3) := dk_153 0 26 (dk_at dksX6_wrongSeen_4 3 rfl rfl)
theorem dX6_wrongSeen_97 : decode cX6_wrongSeen 97 = .ok (.aload_n 0, 1) := dk_42 (dk_at dksX6_wrongSeen_4 6 rfl rfl)
theorem dX6_wrongSeen_98 : decode cX6_wrongSeen 98 = .ok (.getfield 27, 3) := dk_180 0 27 (dk_at dksX6_wrongSeen_4 7 rfl rfl)
theorem dX6_wrongSeen_101 : decode cX6_wrongSeen 101 = .ok (.iload 4, 2) := dk_21 4 (dk_at dksX6_wrongSeen_4 10 rfl rfl)
theorem dX6_wrongSeen_103 : decode cX6_wrongSeen 103 = .ok (.iconst 2, 1) := dk_5 (dk_at dksX6_wrongSeen_4 12 rfl rfl)
theorem dX6_wrongSeen_104 : decode cX6_wrongSeen 104 = .ok (.iadd, 1) := dk_96 (dk_at dksX6_wrongSeen_4 13 rfl rfl)
theorem dX6_wrongSeen_105 : decode cX6_wrongSeen 105 = .ok (.laload, 1) := dk_47 (dk_at dksX6_wrongSeen_4 14 rfl rfl)
theorem dX6_wrongSeen_106 : decode cX6_wrongSeen 106 = .ok (.lconst 0, 1) := dk_9 (dk_at dksX6_wrongSeen_4 15 rfl rfl)
theorem dX6_wrongSeen_107 : decode cX6_wrongSeen 107 = .ok (.aload_n 0, 1) := dk_42 (dk_at dksX6_wrongSeen_4 16 rfl rfl)
theorem dX6_wrongSeen_108 : decode cX6_wrongSeen 108 = .ok (.getfield 7, 3) := dk_180 0 7 (dk_at dksX6_wrongSeen_4 17 rfl rfl)
theorem dX6_wrongSeen_111 : decode cX6_wrongSeen 111 = .ok (.iconst 1, 1) := dk_4 (dk_at dksX6_wrongSeen_4 20 rfl rfl)
theorem dX6_wrongSeen_112 : decode cX6_wrongSeen 112 = .ok (.iaload, 1) := dk_46 (dk_at dksX6_wrongSeen_4 21 rfl rfl)
theorem dX6_wrongSeen_113 : decode cX6_wrongSeen 113 = .ok (.i2l, 1) := dk_133 (dk_at dksX6_wrongSeen_4 22 rfl rfl)
theorem dX6_wrongSeen_114 : decode cX6_wrongSeen 114 = .ok (.invokestatic 337, 3) := dk_184 1 81 (dk_at dksX6_wrongSeen_5 0 rfl rfl)
theorem dX6_wrongSeen_117 : decode cX6_wrongSeen 117 = .ok (.ifCond .ne 5, 3) := dk_154 0 5 (dk_at dksX6_wrongSeen_5 3 rfl rfl)
theorem dX6_wrongSeen_120 : decode cX6_wrongSeen 120 = .ok (.iconst 5, 1) := dk_8 (dk_at dksX6_wrongSeen_5 6 rfl rfl)
theorem dX6_wrongSeen_121 : decode cX6_wrongSeen 121 = .ok (.ireturn, 1) := dk_172 (dk_at dksX6_wrongSeen_5 7 rfl rfl)
theorem dX6_wrongSeen_122 : decode cX6_wrongSeen 122 = .ok (.iinc 3 1, 3) := dk_132 3 1 (dk_at dksX6_wrongSeen_5 8 rfl rfl)
theorem dX6_wrongSeen_125 : decode cX6_wrongSeen 125 = .ok (.goto (-76), 3) := dk_167 255 180 (dk_at dksX6_wrongSeen_5 11 rfl rfl)
theorem dX6_wrongSeen_128 : decode cX6_wrongSeen 128 = .ok (.iconst 0, 1) := dk_3 (dk_at dksX6_wrongSeen_5 14 rfl rfl)
theorem dX6_wrongSeen_129 : decode cX6_wrongSeen 129 = .ok (.ireturn, 1) := dk_172 (dk_at dksX6_wrongSeen_5 15 rfl rfl)
abbrev cX6_laysFits : ByteArray := prog_16_method_116_code
def yX6_laysFits : MethodName := ⟨RX6, "laysFits", "(II)V"⟩
def dkwX6_laysFits_2 : List UInt8 := [167, 0, 4, 3, 96, 181, 1, 133, 132, 3, 1, 167, 255, 205, 177]
abbrev dktX6_laysFits_2 : List UInt8 := dkwX6_laysFits_2 ++ []
def dkwX6_laysFits_1 : List UInt8 := [42, 29, 27, 28, 182, 1, 136, 84, 42, 89, 180, 1, 133, 42, 180, 0, 47, 29, 51, 153, 0, 7, 4]
abbrev dktX6_laysFits_1 : List UInt8 := dkwX6_laysFits_1 ++ dktX6_laysFits_2
def dkwX6_laysFits_0 : List UInt8 := [42, 3, 181, 1, 133, 3, 62, 29, 4, 42, 180, 0, 7, 6, 46, 120, 162, 0, 45, 42, 180, 0, 47, 29]
abbrev dktX6_laysFits_0 : List UInt8 := dkwX6_laysFits_0 ++ dktX6_laysFits_1
theorem dksX6_laysFits_0 : cX6_laysFits.data.toList.drop 0 = dktX6_laysFits_0 := by decide +kernel
theorem dksX6_laysFits_1 : cX6_laysFits.data.toList.drop 24 = dktX6_laysFits_1 := dk_seg dksX6_laysFits_0 24 rfl rfl
theorem dksX6_laysFits_2 : cX6_laysFits.data.toList.drop 47 = dktX6_laysFits_2 := dk_seg dksX6_laysFits_1 23 rfl rfl
theorem dX6_laysFits_0 : decode cX6_laysFits 0 = .ok (.aload_n 0, 1) := dk_42 (dk_at dksX6_laysFits_0 0 rfl rfl)
theorem dX6_laysFits_1 : decode cX6_laysFits 1 = .ok (.iconst 0, 1) := dk_3 (dk_at dksX6_laysFits_0 1 rfl rfl)
theorem dX6_laysFits_2 : decode cX6_laysFits 2 = .ok (.putfield 389, 3) := dk_181 1 133 (dk_at dksX6_laysFits_0 2 rfl rfl)
theorem dX6_laysFits_5 : decode cX6_laysFits 5 = .ok (.iconst 0, 1) := dk_3 (dk_at dksX6_laysFits_0 5 rfl rfl)
theorem dX6_laysFits_6 : decode cX6_laysFits 6 = .ok (.istore_n 3, 1) := dk_62 (dk_at dksX6_laysFits_0 6 rfl rfl)
theorem dX6_laysFits_7 : decode cX6_laysFits 7 = .ok (.iload_n 3, 1) := dk_29 (dk_at dksX6_laysFits_0 7 rfl rfl)
theorem dX6_laysFits_8 : decode cX6_laysFits 8 = .ok (.iconst 1, 1) := dk_4 (dk_at dksX6_laysFits_0 8 rfl rfl)
theorem dX6_laysFits_9 : decode cX6_laysFits 9 = .ok (.aload_n 0, 1) := dk_42 (dk_at dksX6_laysFits_0 9 rfl rfl)
theorem dX6_laysFits_10 : decode cX6_laysFits 10 = .ok (.getfield 7, 3) := dk_180 0 7 (dk_at dksX6_laysFits_0 10 rfl rfl)
theorem dX6_laysFits_13 : decode cX6_laysFits 13 = .ok (.iconst 3, 1) := dk_6 (dk_at dksX6_laysFits_0 13 rfl rfl)
theorem dX6_laysFits_14 : decode cX6_laysFits 14 = .ok (.iaload, 1) := dk_46 (dk_at dksX6_laysFits_0 14 rfl rfl)
theorem dX6_laysFits_15 : decode cX6_laysFits 15 = .ok (.ishl, 1) := dk_120 (dk_at dksX6_laysFits_0 15 rfl rfl)
theorem dX6_laysFits_16 : decode cX6_laysFits 16 = .ok (.if_icmp .ge 45, 3) := dk_162 0 45 (dk_at dksX6_laysFits_0 16 rfl rfl)
theorem dX6_laysFits_19 : decode cX6_laysFits 19 = .ok (.aload_n 0, 1) := dk_42 (dk_at dksX6_laysFits_0 19 rfl rfl)
theorem dX6_laysFits_20 : decode cX6_laysFits 20 = .ok (.getfield 47, 3) := dk_180 0 47 (dk_at dksX6_laysFits_0 20 rfl rfl)
theorem dX6_laysFits_23 : decode cX6_laysFits 23 = .ok (.iload_n 3, 1) := dk_29 (dk_at dksX6_laysFits_0 23 rfl rfl)
theorem dX6_laysFits_24 : decode cX6_laysFits 24 = .ok (.aload_n 0, 1) := dk_42 (dk_at dksX6_laysFits_1 0 rfl rfl)
theorem dX6_laysFits_25 : decode cX6_laysFits 25 = .ok (.iload_n 3, 1) := dk_29 (dk_at dksX6_laysFits_1 1 rfl rfl)
theorem dX6_laysFits_26 : decode cX6_laysFits 26 = .ok (.iload_n 1, 1) := dk_27 (dk_at dksX6_laysFits_1 2 rfl rfl)
theorem dX6_laysFits_27 : decode cX6_laysFits 27 = .ok (.iload_n 2, 1) := dk_28 (dk_at dksX6_laysFits_1 3 rfl rfl)
theorem dX6_laysFits_28 : decode cX6_laysFits 28 = .ok (.invokevirtual 392, 3) := dk_182 1 136 (dk_at dksX6_laysFits_1 4 rfl rfl)
theorem dX6_laysFits_31 : decode cX6_laysFits 31 = .ok (.bastore, 1) := dk_84 (dk_at dksX6_laysFits_1 7 rfl rfl)
theorem dX6_laysFits_32 : decode cX6_laysFits 32 = .ok (.aload_n 0, 1) := dk_42 (dk_at dksX6_laysFits_1 8 rfl rfl)
theorem dX6_laysFits_33 : decode cX6_laysFits 33 = .ok (.dup, 1) := dk_89 (dk_at dksX6_laysFits_1 9 rfl rfl)
theorem dX6_laysFits_34 : decode cX6_laysFits 34 = .ok (.getfield 389, 3) := dk_180 1 133 (dk_at dksX6_laysFits_1 10 rfl rfl)
theorem dX6_laysFits_37 : decode cX6_laysFits 37 = .ok (.aload_n 0, 1) := dk_42 (dk_at dksX6_laysFits_1 13 rfl rfl)
theorem dX6_laysFits_38 : decode cX6_laysFits 38 = .ok (.getfield 47, 3) := dk_180 0 47 (dk_at dksX6_laysFits_1 14 rfl rfl)
theorem dX6_laysFits_41 : decode cX6_laysFits 41 = .ok (.iload_n 3, 1) := dk_29 (dk_at dksX6_laysFits_1 17 rfl rfl)
theorem dX6_laysFits_42 : decode cX6_laysFits 42 = .ok (.baload, 1) := dk_51 (dk_at dksX6_laysFits_1 18 rfl rfl)
theorem dX6_laysFits_43 : decode cX6_laysFits 43 = .ok (.ifCond .eq 7, 3) := dk_153 0 7 (dk_at dksX6_laysFits_1 19 rfl rfl)
theorem dX6_laysFits_46 : decode cX6_laysFits 46 = .ok (.iconst 1, 1) := dk_4 (dk_at dksX6_laysFits_1 22 rfl rfl)
theorem dX6_laysFits_47 : decode cX6_laysFits 47 = .ok (.goto 4, 3) := dk_167 0 4 (dk_at dksX6_laysFits_2 0 rfl rfl)
theorem dX6_laysFits_50 : decode cX6_laysFits 50 = .ok (.iconst 0, 1) := dk_3 (dk_at dksX6_laysFits_2 3 rfl rfl)
theorem dX6_laysFits_51 : decode cX6_laysFits 51 = .ok (.iadd, 1) := dk_96 (dk_at dksX6_laysFits_2 4 rfl rfl)
theorem dX6_laysFits_52 : decode cX6_laysFits 52 = .ok (.putfield 389, 3) := dk_181 1 133 (dk_at dksX6_laysFits_2 5 rfl rfl)
theorem dX6_laysFits_55 : decode cX6_laysFits 55 = .ok (.iinc 3 1, 3) := dk_132 3 1 (dk_at dksX6_laysFits_2 8 rfl rfl)
theorem dX6_laysFits_58 : decode cX6_laysFits 58 = .ok (.goto (-51), 3) := dk_167 255 205 (dk_at dksX6_laysFits_2 11 rfl rfl)
theorem dX6_laysFits_61 : decode cX6_laysFits 61 = .ok (.return_, 1) := dk_177 (dk_at dksX6_laysFits_2 14 rfl rfl)
abbrev cX6_doesFit : ByteArray := prog_16_method_115_code
def yX6_doesFit : MethodName := ⟨RX6, "doesFit", "(III)Z"⟩
def dkwX6_doesFit_2 : List UInt8 := [180, 0, 27, 21, 5, 5, 96, 47, 148, 153, 0, 5, 3, 172, 132, 4, 1, 167, 255, 197, 4, 172]
abbrev dktX6_doesFit_2 : List UInt8 := dkwX6_doesFit_2 ++ []
def dkwX6_doesFit_1 : List UInt8 := [180, 0, 27, 21, 5, 47, 136, 42, 180, 0, 27, 21, 5, 4, 96, 47, 136, 182, 1, 129, 133, 42]
abbrev dktX6_doesFit_1 : List UInt8 := dkwX6_doesFit_1 ++ dktX6_doesFit_2
def dkwX6_doesFit_0 : List UInt8 := [3, 54, 4, 21, 4, 29, 162, 0, 59, 16, 60, 28, 104, 6, 21, 4, 104, 96, 54, 5, 42, 27, 42]
abbrev dktX6_doesFit_0 : List UInt8 := dkwX6_doesFit_0 ++ dktX6_doesFit_1
theorem dksX6_doesFit_0 : cX6_doesFit.data.toList.drop 0 = dktX6_doesFit_0 := by decide +kernel
theorem dksX6_doesFit_1 : cX6_doesFit.data.toList.drop 23 = dktX6_doesFit_1 := dk_seg dksX6_doesFit_0 23 rfl rfl
theorem dksX6_doesFit_2 : cX6_doesFit.data.toList.drop 45 = dktX6_doesFit_2 := dk_seg dksX6_doesFit_1 22 rfl rfl
theorem dX6_doesFit_0 : decode cX6_doesFit 0 = .ok (.iconst 0, 1) := dk_3 (dk_at dksX6_doesFit_0 0 rfl rfl)
theorem dX6_doesFit_1 : decode cX6_doesFit 1 = .ok (.istore 4, 2) := dk_54 4 (dk_at dksX6_doesFit_0 1 rfl rfl)
theorem dX6_doesFit_3 : decode cX6_doesFit 3 = .ok (.iload 4, 2) := dk_21 4 (dk_at dksX6_doesFit_0 3 rfl rfl)
theorem dX6_doesFit_5 : decode cX6_doesFit 5 = .ok (.iload_n 3, 1) := dk_29 (dk_at dksX6_doesFit_0 5 rfl rfl)
theorem dX6_doesFit_6 : decode cX6_doesFit 6 = .ok (.if_icmp .ge 59, 3) := dk_162 0 59 (dk_at dksX6_doesFit_0 6 rfl rfl)
theorem dX6_doesFit_9 : decode cX6_doesFit 9 = .ok (.bipush 60, 2) := dk_16 60 (dk_at dksX6_doesFit_0 9 rfl rfl)
theorem dX6_doesFit_11 : decode cX6_doesFit 11 = .ok (.iload_n 2, 1) := dk_28 (dk_at dksX6_doesFit_0 11 rfl rfl)
theorem dX6_doesFit_12 : decode cX6_doesFit 12 = .ok (.imul, 1) := dk_104 (dk_at dksX6_doesFit_0 12 rfl rfl)
theorem dX6_doesFit_13 : decode cX6_doesFit 13 = .ok (.iconst 3, 1) := dk_6 (dk_at dksX6_doesFit_0 13 rfl rfl)
theorem dX6_doesFit_14 : decode cX6_doesFit 14 = .ok (.iload 4, 2) := dk_21 4 (dk_at dksX6_doesFit_0 14 rfl rfl)
theorem dX6_doesFit_16 : decode cX6_doesFit 16 = .ok (.imul, 1) := dk_104 (dk_at dksX6_doesFit_0 16 rfl rfl)
theorem dX6_doesFit_17 : decode cX6_doesFit 17 = .ok (.iadd, 1) := dk_96 (dk_at dksX6_doesFit_0 17 rfl rfl)
theorem dX6_doesFit_18 : decode cX6_doesFit 18 = .ok (.istore 5, 2) := dk_54 5 (dk_at dksX6_doesFit_0 18 rfl rfl)
theorem dX6_doesFit_20 : decode cX6_doesFit 20 = .ok (.aload_n 0, 1) := dk_42 (dk_at dksX6_doesFit_0 20 rfl rfl)
theorem dX6_doesFit_21 : decode cX6_doesFit 21 = .ok (.iload_n 1, 1) := dk_27 (dk_at dksX6_doesFit_0 21 rfl rfl)
theorem dX6_doesFit_22 : decode cX6_doesFit 22 = .ok (.aload_n 0, 1) := dk_42 (dk_at dksX6_doesFit_0 22 rfl rfl)
theorem dX6_doesFit_23 : decode cX6_doesFit 23 = .ok (.getfield 27, 3) := dk_180 0 27 (dk_at dksX6_doesFit_1 0 rfl rfl)
theorem dX6_doesFit_26 : decode cX6_doesFit 26 = .ok (.iload 5, 2) := dk_21 5 (dk_at dksX6_doesFit_1 3 rfl rfl)
theorem dX6_doesFit_28 : decode cX6_doesFit 28 = .ok (.laload, 1) := dk_47 (dk_at dksX6_doesFit_1 5 rfl rfl)
theorem dX6_doesFit_29 : decode cX6_doesFit 29 = .ok (.l2i, 1) := dk_136 (dk_at dksX6_doesFit_1 6 rfl rfl)
theorem dX6_doesFit_30 : decode cX6_doesFit 30 = .ok (.aload_n 0, 1) := dk_42 (dk_at dksX6_doesFit_1 7 rfl rfl)
theorem dX6_doesFit_31 : decode cX6_doesFit 31 = .ok (.getfield 27, 3) := dk_180 0 27 (dk_at dksX6_doesFit_1 8 rfl rfl)
theorem dX6_doesFit_34 : decode cX6_doesFit 34 = .ok (.iload 5, 2) := dk_21 5 (dk_at dksX6_doesFit_1 11 rfl rfl)
theorem dX6_doesFit_36 : decode cX6_doesFit 36 = .ok (.iconst 1, 1) := dk_4 (dk_at dksX6_doesFit_1 13 rfl rfl)
theorem dX6_doesFit_37 : decode cX6_doesFit 37 = .ok (.iadd, 1) := dk_96 (dk_at dksX6_doesFit_1 14 rfl rfl)
theorem dX6_doesFit_38 : decode cX6_doesFit 38 = .ok (.laload, 1) := dk_47 (dk_at dksX6_doesFit_1 15 rfl rfl)
theorem dX6_doesFit_39 : decode cX6_doesFit 39 = .ok (.l2i, 1) := dk_136 (dk_at dksX6_doesFit_1 16 rfl rfl)
theorem dX6_doesFit_40 : decode cX6_doesFit 40 = .ok (.invokevirtual 385, 3) := dk_182 1 129 (dk_at dksX6_doesFit_1 17 rfl rfl)
theorem dX6_doesFit_43 : decode cX6_doesFit 43 = .ok (.i2l, 1) := dk_133 (dk_at dksX6_doesFit_1 20 rfl rfl)
theorem dX6_doesFit_44 : decode cX6_doesFit 44 = .ok (.aload_n 0, 1) := dk_42 (dk_at dksX6_doesFit_1 21 rfl rfl)
theorem dX6_doesFit_45 : decode cX6_doesFit 45 = .ok (.getfield 27, 3) := dk_180 0 27 (dk_at dksX6_doesFit_2 0 rfl rfl)
theorem dX6_doesFit_48 : decode cX6_doesFit 48 = .ok (.iload 5, 2) := dk_21 5 (dk_at dksX6_doesFit_2 3 rfl rfl)
theorem dX6_doesFit_50 : decode cX6_doesFit 50 = .ok (.iconst 2, 1) := dk_5 (dk_at dksX6_doesFit_2 5 rfl rfl)
theorem dX6_doesFit_51 : decode cX6_doesFit 51 = .ok (.iadd, 1) := dk_96 (dk_at dksX6_doesFit_2 6 rfl rfl)
theorem dX6_doesFit_52 : decode cX6_doesFit 52 = .ok (.laload, 1) := dk_47 (dk_at dksX6_doesFit_2 7 rfl rfl)
theorem dX6_doesFit_53 : decode cX6_doesFit 53 = .ok (.lcmp, 1) := dk_148 (dk_at dksX6_doesFit_2 8 rfl rfl)
theorem dX6_doesFit_54 : decode cX6_doesFit 54 = .ok (.ifCond .eq 5, 3) := dk_153 0 5 (dk_at dksX6_doesFit_2 9 rfl rfl)
theorem dX6_doesFit_57 : decode cX6_doesFit 57 = .ok (.iconst 0, 1) := dk_3 (dk_at dksX6_doesFit_2 12 rfl rfl)
theorem dX6_doesFit_58 : decode cX6_doesFit 58 = .ok (.ireturn, 1) := dk_172 (dk_at dksX6_doesFit_2 13 rfl rfl)
theorem dX6_doesFit_59 : decode cX6_doesFit 59 = .ok (.iinc 4 1, 3) := dk_132 4 1 (dk_at dksX6_doesFit_2 14 rfl rfl)
theorem dX6_doesFit_62 : decode cX6_doesFit 62 = .ok (.goto (-59), 3) := dk_167 255 197 (dk_at dksX6_doesFit_2 17 rfl rfl)
theorem dX6_doesFit_65 : decode cX6_doesFit 65 = .ok (.iconst 1, 1) := dk_4 (dk_at dksX6_doesFit_2 20 rfl rfl)
theorem dX6_doesFit_66 : decode cX6_doesFit 66 = .ok (.ireturn, 1) := dk_172 (dk_at dksX6_doesFit_2 21 rfl rfl)
abbrev cX6_wouldShow : ByteArray := prog_16_method_114_code
def yX6_wouldShow : MethodName := ⟨RX6, "wouldShow", "(III)I"⟩
def dkwX6_wouldShow_1 : List UInt8 := [21, 4, 2, 160, 0, 12, 42, 180, 0, 7, 4, 46, 167, 0, 5, 21, 4, 172]
abbrev dktX6_wouldShow_1 : List UInt8 := dkwX6_wouldShow_1 ++ []
def dkwX6_wouldShow_0 : List UInt8 := [42, 27, 28, 122, 4, 126, 42, 28, 3, 182, 1, 25, 29, 42, 28, 4, 182, 1, 25, 182, 1, 126, 54, 4]
abbrev dktX6_wouldShow_0 : List UInt8 := dkwX6_wouldShow_0 ++ dktX6_wouldShow_1
theorem dksX6_wouldShow_0 : cX6_wouldShow.data.toList.drop 0 = dktX6_wouldShow_0 := by decide +kernel
theorem dksX6_wouldShow_1 : cX6_wouldShow.data.toList.drop 24 = dktX6_wouldShow_1 := dk_seg dksX6_wouldShow_0 24 rfl rfl
theorem dX6_wouldShow_0 : decode cX6_wouldShow 0 = .ok (.aload_n 0, 1) := dk_42 (dk_at dksX6_wouldShow_0 0 rfl rfl)
theorem dX6_wouldShow_1 : decode cX6_wouldShow 1 = .ok (.iload_n 1, 1) := dk_27 (dk_at dksX6_wouldShow_0 1 rfl rfl)
theorem dX6_wouldShow_2 : decode cX6_wouldShow 2 = .ok (.iload_n 2, 1) := dk_28 (dk_at dksX6_wouldShow_0 2 rfl rfl)
theorem dX6_wouldShow_3 : decode cX6_wouldShow 3 = .ok (.ishr, 1) := dk_122 (dk_at dksX6_wouldShow_0 3 rfl rfl)
theorem dX6_wouldShow_4 : decode cX6_wouldShow 4 = .ok (.iconst 1, 1) := dk_4 (dk_at dksX6_wouldShow_0 4 rfl rfl)
theorem dX6_wouldShow_5 : decode cX6_wouldShow 5 = .ok (.iand, 1) := dk_126 (dk_at dksX6_wouldShow_0 5 rfl rfl)
theorem dX6_wouldShow_6 : decode cX6_wouldShow 6 = .ok (.aload_n 0, 1) := dk_42 (dk_at dksX6_wouldShow_0 6 rfl rfl)
theorem dX6_wouldShow_7 : decode cX6_wouldShow 7 = .ok (.iload_n 2, 1) := dk_28 (dk_at dksX6_wouldShow_0 7 rfl rfl)
theorem dX6_wouldShow_8 : decode cX6_wouldShow 8 = .ok (.iconst 0, 1) := dk_3 (dk_at dksX6_wouldShow_0 8 rfl rfl)
theorem dX6_wouldShow_9 : decode cX6_wouldShow 9 = .ok (.invokevirtual 281, 3) := dk_182 1 25 (dk_at dksX6_wouldShow_0 9 rfl rfl)
theorem dX6_wouldShow_12 : decode cX6_wouldShow 12 = .ok (.iload_n 3, 1) := dk_29 (dk_at dksX6_wouldShow_0 12 rfl rfl)
theorem dX6_wouldShow_13 : decode cX6_wouldShow 13 = .ok (.aload_n 0, 1) := dk_42 (dk_at dksX6_wouldShow_0 13 rfl rfl)
theorem dX6_wouldShow_14 : decode cX6_wouldShow 14 = .ok (.iload_n 2, 1) := dk_28 (dk_at dksX6_wouldShow_0 14 rfl rfl)
theorem dX6_wouldShow_15 : decode cX6_wouldShow 15 = .ok (.iconst 1, 1) := dk_4 (dk_at dksX6_wouldShow_0 15 rfl rfl)
theorem dX6_wouldShow_16 : decode cX6_wouldShow 16 = .ok (.invokevirtual 281, 3) := dk_182 1 25 (dk_at dksX6_wouldShow_0 16 rfl rfl)
theorem dX6_wouldShow_19 : decode cX6_wouldShow 19 = .ok (.invokevirtual 382, 3) := dk_182 1 126 (dk_at dksX6_wouldShow_0 19 rfl rfl)
theorem dX6_wouldShow_22 : decode cX6_wouldShow 22 = .ok (.istore 4, 2) := dk_54 4 (dk_at dksX6_wouldShow_0 22 rfl rfl)
theorem dX6_wouldShow_24 : decode cX6_wouldShow 24 = .ok (.iload 4, 2) := dk_21 4 (dk_at dksX6_wouldShow_1 0 rfl rfl)
theorem dX6_wouldShow_26 : decode cX6_wouldShow 26 = .ok (.iconst (-1), 1) := dk_2 (dk_at dksX6_wouldShow_1 2 rfl rfl)
theorem dX6_wouldShow_27 : decode cX6_wouldShow 27 = .ok (.if_icmp .ne 12, 3) := dk_160 0 12 (dk_at dksX6_wouldShow_1 3 rfl rfl)
theorem dX6_wouldShow_30 : decode cX6_wouldShow 30 = .ok (.aload_n 0, 1) := dk_42 (dk_at dksX6_wouldShow_1 6 rfl rfl)
theorem dX6_wouldShow_31 : decode cX6_wouldShow 31 = .ok (.getfield 7, 3) := dk_180 0 7 (dk_at dksX6_wouldShow_1 7 rfl rfl)
theorem dX6_wouldShow_34 : decode cX6_wouldShow 34 = .ok (.iconst 1, 1) := dk_4 (dk_at dksX6_wouldShow_1 10 rfl rfl)
theorem dX6_wouldShow_35 : decode cX6_wouldShow 35 = .ok (.iaload, 1) := dk_46 (dk_at dksX6_wouldShow_1 11 rfl rfl)
theorem dX6_wouldShow_36 : decode cX6_wouldShow 36 = .ok (.goto 5, 3) := dk_167 0 5 (dk_at dksX6_wouldShow_1 12 rfl rfl)
theorem dX6_wouldShow_39 : decode cX6_wouldShow 39 = .ok (.iload 4, 2) := dk_21 4 (dk_at dksX6_wouldShow_1 15 rfl rfl)
theorem dX6_wouldShow_41 : decode cX6_wouldShow 41 = .ok (.ireturn, 1) := dk_172 (dk_at dksX6_wouldShow_1 17 rfl rfl)
abbrev cX6_cueOf : ByteArray := prog_16_method_82_code
def yX6_cueOf : MethodName := ⟨RX6, "cueOf", "(IIII)I"⟩
def dkwX6_cueOf_1 : List UInt8 := [3, 182, 1, 43, 172]
abbrev dktX6_cueOf_1 : List UInt8 := dkwX6_cueOf_1 ++ []
def dkwX6_cueOf_0 : List UInt8 := [42, 27, 28, 29, 21, 4, 182, 1, 69, 54, 5, 21, 5, 2, 160, 0, 7, 2, 167, 0, 10, 42, 21, 5]
abbrev dktX6_cueOf_0 : List UInt8 := dkwX6_cueOf_0 ++ dktX6_cueOf_1
theorem dksX6_cueOf_0 : cX6_cueOf.data.toList.drop 0 = dktX6_cueOf_0 := by decide +kernel
theorem dksX6_cueOf_1 : cX6_cueOf.data.toList.drop 24 = dktX6_cueOf_1 := dk_seg dksX6_cueOf_0 24 rfl rfl
theorem dX6_cueOf_0 : decode cX6_cueOf 0 = .ok (.aload_n 0, 1) := dk_42 (dk_at dksX6_cueOf_0 0 rfl rfl)
theorem dX6_cueOf_1 : decode cX6_cueOf 1 = .ok (.iload_n 1, 1) := dk_27 (dk_at dksX6_cueOf_0 1 rfl rfl)
theorem dX6_cueOf_2 : decode cX6_cueOf 2 = .ok (.iload_n 2, 1) := dk_28 (dk_at dksX6_cueOf_0 2 rfl rfl)
theorem dX6_cueOf_3 : decode cX6_cueOf 3 = .ok (.iload_n 3, 1) := dk_29 (dk_at dksX6_cueOf_0 3 rfl rfl)
theorem dX6_cueOf_4 : decode cX6_cueOf 4 = .ok (.iload 4, 2) := dk_21 4 (dk_at dksX6_cueOf_0 4 rfl rfl)
theorem dX6_cueOf_6 : decode cX6_cueOf 6 = .ok (.invokevirtual 325, 3) := dk_182 1 69 (dk_at dksX6_cueOf_0 6 rfl rfl)
theorem dX6_cueOf_9 : decode cX6_cueOf 9 = .ok (.istore 5, 2) := dk_54 5 (dk_at dksX6_cueOf_0 9 rfl rfl)
theorem dX6_cueOf_11 : decode cX6_cueOf 11 = .ok (.iload 5, 2) := dk_21 5 (dk_at dksX6_cueOf_0 11 rfl rfl)
theorem dX6_cueOf_13 : decode cX6_cueOf 13 = .ok (.iconst (-1), 1) := dk_2 (dk_at dksX6_cueOf_0 13 rfl rfl)
theorem dX6_cueOf_14 : decode cX6_cueOf 14 = .ok (.if_icmp .ne 7, 3) := dk_160 0 7 (dk_at dksX6_cueOf_0 14 rfl rfl)
theorem dX6_cueOf_17 : decode cX6_cueOf 17 = .ok (.iconst (-1), 1) := dk_2 (dk_at dksX6_cueOf_0 17 rfl rfl)
theorem dX6_cueOf_18 : decode cX6_cueOf 18 = .ok (.goto 10, 3) := dk_167 0 10 (dk_at dksX6_cueOf_0 18 rfl rfl)
theorem dX6_cueOf_21 : decode cX6_cueOf 21 = .ok (.aload_n 0, 1) := dk_42 (dk_at dksX6_cueOf_0 21 rfl rfl)
theorem dX6_cueOf_22 : decode cX6_cueOf 22 = .ok (.iload 5, 2) := dk_21 5 (dk_at dksX6_cueOf_0 22 rfl rfl)
theorem dX6_cueOf_24 : decode cX6_cueOf 24 = .ok (.iconst 0, 1) := dk_3 (dk_at dksX6_cueOf_1 0 rfl rfl)
theorem dX6_cueOf_25 : decode cX6_cueOf 25 = .ok (.invokevirtual 299, 3) := dk_182 1 43 (dk_at dksX6_cueOf_1 1 rfl rfl)
theorem dX6_cueOf_28 : decode cX6_cueOf 28 = .ok (.ireturn, 1) := dk_172 (dk_at dksX6_cueOf_1 4 rfl rfl)
abbrev cX6_sure : ByteArray := prog_16_method_119_code
def yX6_sure : MethodName := ⟨RX6, "sure", "(III)I"⟩
def dkwX6_sure_3 : List UInt8 := [182, 0, 91, 172, 42, 21, 5, 158, 0, 7, 4, 167, 0, 4, 3, 182, 0, 95, 172]
abbrev dktX6_sure_3 : List UInt8 := dkwX6_sure_3 ++ []
def dkwX6_sure_2 : List UInt8 := [180, 1, 133, 153, 0, 17, 21, 5, 158, 0, 19, 21, 5, 42, 180, 1, 133, 162, 0, 10, 42, 16, 6]
abbrev dktX6_sure_2 : List UInt8 := dkwX6_sure_2 ++ dktX6_sure_3
def dkwX6_sure_1 : List UInt8 := [158, 0, 10, 42, 21, 4, 182, 0, 91, 172, 42, 28, 29, 182, 1, 142, 42, 27, 182, 1, 146, 54, 5, 42]
abbrev dktX6_sure_1 : List UInt8 := dkwX6_sure_1 ++ dktX6_sure_2
def dkwX6_sure_0 : List UInt8 := [42, 27, 133, 182, 1, 49, 153, 0, 12, 42, 28, 29, 182, 1, 139, 167, 0, 4, 4, 54, 4, 21, 4]
abbrev dktX6_sure_0 : List UInt8 := dkwX6_sure_0 ++ dktX6_sure_1
theorem dksX6_sure_0 : cX6_sure.data.toList.drop 0 = dktX6_sure_0 := by decide +kernel
theorem dksX6_sure_1 : cX6_sure.data.toList.drop 23 = dktX6_sure_1 := dk_seg dksX6_sure_0 23 rfl rfl
theorem dksX6_sure_2 : cX6_sure.data.toList.drop 47 = dktX6_sure_2 := dk_seg dksX6_sure_1 24 rfl rfl
theorem dksX6_sure_3 : cX6_sure.data.toList.drop 70 = dktX6_sure_3 := dk_seg dksX6_sure_2 23 rfl rfl
theorem dX6_sure_0 : decode cX6_sure 0 = .ok (.aload_n 0, 1) := dk_42 (dk_at dksX6_sure_0 0 rfl rfl)
theorem dX6_sure_1 : decode cX6_sure 1 = .ok (.iload_n 1, 1) := dk_27 (dk_at dksX6_sure_0 1 rfl rfl)
theorem dX6_sure_2 : decode cX6_sure 2 = .ok (.i2l, 1) := dk_133 (dk_at dksX6_sure_0 2 rfl rfl)
theorem dX6_sure_3 : decode cX6_sure 3 = .ok (.invokevirtual 305, 3) := dk_182 1 49 (dk_at dksX6_sure_0 3 rfl rfl)
theorem dX6_sure_6 : decode cX6_sure 6 = .ok (.ifCond .eq 12, 3) := dk_153 0 12 (dk_at dksX6_sure_0 6 rfl rfl)
theorem dX6_sure_9 : decode cX6_sure 9 = .ok (.aload_n 0, 1) := dk_42 (dk_at dksX6_sure_0 9 rfl rfl)
theorem dX6_sure_10 : decode cX6_sure 10 = .ok (.iload_n 2, 1) := dk_28 (dk_at dksX6_sure_0 10 rfl rfl)
theorem dX6_sure_11 : decode cX6_sure 11 = .ok (.iload_n 3, 1) := dk_29 (dk_at dksX6_sure_0 11 rfl rfl)
theorem dX6_sure_12 : decode cX6_sure 12 = .ok (.invokevirtual 395, 3) := dk_182 1 139 (dk_at dksX6_sure_0 12 rfl rfl)
theorem dX6_sure_15 : decode cX6_sure 15 = .ok (.goto 4, 3) := dk_167 0 4 (dk_at dksX6_sure_0 15 rfl rfl)
theorem dX6_sure_18 : decode cX6_sure 18 = .ok (.iconst 1, 1) := dk_4 (dk_at dksX6_sure_0 18 rfl rfl)
theorem dX6_sure_19 : decode cX6_sure 19 = .ok (.istore 4, 2) := dk_54 4 (dk_at dksX6_sure_0 19 rfl rfl)
theorem dX6_sure_21 : decode cX6_sure 21 = .ok (.iload 4, 2) := dk_21 4 (dk_at dksX6_sure_0 21 rfl rfl)
theorem dX6_sure_23 : decode cX6_sure 23 = .ok (.ifCond .le 10, 3) := dk_158 0 10 (dk_at dksX6_sure_1 0 rfl rfl)
theorem dX6_sure_26 : decode cX6_sure 26 = .ok (.aload_n 0, 1) := dk_42 (dk_at dksX6_sure_1 3 rfl rfl)
theorem dX6_sure_27 : decode cX6_sure 27 = .ok (.iload 4, 2) := dk_21 4 (dk_at dksX6_sure_1 4 rfl rfl)
theorem dX6_sure_29 : decode cX6_sure 29 = .ok (.invokevirtual 91, 3) := dk_182 0 91 (dk_at dksX6_sure_1 6 rfl rfl)
theorem dX6_sure_32 : decode cX6_sure 32 = .ok (.ireturn, 1) := dk_172 (dk_at dksX6_sure_1 9 rfl rfl)
theorem dX6_sure_33 : decode cX6_sure 33 = .ok (.aload_n 0, 1) := dk_42 (dk_at dksX6_sure_1 10 rfl rfl)
theorem dX6_sure_34 : decode cX6_sure 34 = .ok (.iload_n 2, 1) := dk_28 (dk_at dksX6_sure_1 11 rfl rfl)
theorem dX6_sure_35 : decode cX6_sure 35 = .ok (.iload_n 3, 1) := dk_29 (dk_at dksX6_sure_1 12 rfl rfl)
theorem dX6_sure_36 : decode cX6_sure 36 = .ok (.invokevirtual 398, 3) := dk_182 1 142 (dk_at dksX6_sure_1 13 rfl rfl)
theorem dX6_sure_39 : decode cX6_sure 39 = .ok (.aload_n 0, 1) := dk_42 (dk_at dksX6_sure_1 16 rfl rfl)
theorem dX6_sure_40 : decode cX6_sure 40 = .ok (.iload_n 1, 1) := dk_27 (dk_at dksX6_sure_1 17 rfl rfl)
theorem dX6_sure_41 : decode cX6_sure 41 = .ok (.invokevirtual 402, 3) := dk_182 1 146 (dk_at dksX6_sure_1 18 rfl rfl)
theorem dX6_sure_44 : decode cX6_sure 44 = .ok (.istore 5, 2) := dk_54 5 (dk_at dksX6_sure_1 21 rfl rfl)
theorem dX6_sure_46 : decode cX6_sure 46 = .ok (.aload_n 0, 1) := dk_42 (dk_at dksX6_sure_1 23 rfl rfl)
theorem dX6_sure_47 : decode cX6_sure 47 = .ok (.getfield 389, 3) := dk_180 1 133 (dk_at dksX6_sure_2 0 rfl rfl)
theorem dX6_sure_50 : decode cX6_sure 50 = .ok (.ifCond .eq 17, 3) := dk_153 0 17 (dk_at dksX6_sure_2 3 rfl rfl)
theorem dX6_sure_53 : decode cX6_sure 53 = .ok (.iload 5, 2) := dk_21 5 (dk_at dksX6_sure_2 6 rfl rfl)
theorem dX6_sure_55 : decode cX6_sure 55 = .ok (.ifCond .le 19, 3) := dk_158 0 19 (dk_at dksX6_sure_2 8 rfl rfl)
theorem dX6_sure_58 : decode cX6_sure 58 = .ok (.iload 5, 2) := dk_21 5 (dk_at dksX6_sure_2 11 rfl rfl)
theorem dX6_sure_60 : decode cX6_sure 60 = .ok (.aload_n 0, 1) := dk_42 (dk_at dksX6_sure_2 13 rfl rfl)
theorem dX6_sure_61 : decode cX6_sure 61 = .ok (.getfield 389, 3) := dk_180 1 133 (dk_at dksX6_sure_2 14 rfl rfl)
theorem dX6_sure_64 : decode cX6_sure 64 = .ok (.if_icmp .ge 10, 3) := dk_162 0 10 (dk_at dksX6_sure_2 17 rfl rfl)
theorem dX6_sure_67 : decode cX6_sure 67 = .ok (.aload_n 0, 1) := dk_42 (dk_at dksX6_sure_2 20 rfl rfl)
theorem dX6_sure_68 : decode cX6_sure 68 = .ok (.bipush 6, 2) := dk_16 6 (dk_at dksX6_sure_2 21 rfl rfl)
theorem dX6_sure_70 : decode cX6_sure 70 = .ok (.invokevirtual 91, 3) := dk_182 0 91 (dk_at dksX6_sure_3 0 rfl rfl)
theorem dX6_sure_73 : decode cX6_sure 73 = .ok (.ireturn, 1) := dk_172 (dk_at dksX6_sure_3 3 rfl rfl)
theorem dX6_sure_74 : decode cX6_sure 74 = .ok (.aload_n 0, 1) := dk_42 (dk_at dksX6_sure_3 4 rfl rfl)
theorem dX6_sure_75 : decode cX6_sure 75 = .ok (.iload 5, 2) := dk_21 5 (dk_at dksX6_sure_3 5 rfl rfl)
theorem dX6_sure_77 : decode cX6_sure 77 = .ok (.ifCond .le 7, 3) := dk_158 0 7 (dk_at dksX6_sure_3 7 rfl rfl)
theorem dX6_sure_80 : decode cX6_sure 80 = .ok (.iconst 1, 1) := dk_4 (dk_at dksX6_sure_3 10 rfl rfl)
theorem dX6_sure_81 : decode cX6_sure 81 = .ok (.goto 4, 3) := dk_167 0 4 (dk_at dksX6_sure_3 11 rfl rfl)
theorem dX6_sure_84 : decode cX6_sure 84 = .ok (.iconst 0, 1) := dk_3 (dk_at dksX6_sure_3 14 rfl rfl)
theorem dX6_sure_85 : decode cX6_sure 85 = .ok (.invokevirtual 95, 3) := dk_182 0 95 (dk_at dksX6_sure_3 15 rfl rfl)
theorem dX6_sure_88 : decode cX6_sure 88 = .ok (.ireturn, 1) := dk_172 (dk_at dksX6_sure_3 18 rfl rfl)
abbrev cX6_guiltyIn : ByteArray := prog_16_method_117_code
def yX6_guiltyIn : MethodName := ⟨RX6, "guiltyIn", "(I)I"⟩
def dkwX6_guiltyIn_2 : List UInt8 := [167, 255, 215, 28, 172]
abbrev dktX6_guiltyIn_2 : List UInt8 := dkwX6_guiltyIn_2 ++ []
def dkwX6_guiltyIn_1 : List UInt8 := [153, 0, 16, 42, 29, 27, 182, 1, 59, 153, 0, 7, 4, 167, 0, 4, 3, 96, 61, 132, 3, 1]
abbrev dktX6_guiltyIn_1 : List UInt8 := dkwX6_guiltyIn_1 ++ dktX6_guiltyIn_2
def dkwX6_guiltyIn_0 : List UInt8 := [3, 61, 3, 62, 29, 4, 42, 180, 0, 7, 6, 46, 120, 162, 0, 35, 28, 42, 180, 0, 47, 29, 51]
abbrev dktX6_guiltyIn_0 : List UInt8 := dkwX6_guiltyIn_0 ++ dktX6_guiltyIn_1
theorem dksX6_guiltyIn_0 : cX6_guiltyIn.data.toList.drop 0 = dktX6_guiltyIn_0 := by decide +kernel
theorem dksX6_guiltyIn_1 : cX6_guiltyIn.data.toList.drop 23 = dktX6_guiltyIn_1 := dk_seg dksX6_guiltyIn_0 23 rfl rfl
theorem dksX6_guiltyIn_2 : cX6_guiltyIn.data.toList.drop 45 = dktX6_guiltyIn_2 := dk_seg dksX6_guiltyIn_1 22 rfl rfl
theorem dX6_guiltyIn_0 : decode cX6_guiltyIn 0 = .ok (.iconst 0, 1) := dk_3 (dk_at dksX6_guiltyIn_0 0 rfl rfl)
theorem dX6_guiltyIn_1 : decode cX6_guiltyIn 1 = .ok (.istore_n 2, 1) := dk_61 (dk_at dksX6_guiltyIn_0 1 rfl rfl)
theorem dX6_guiltyIn_2 : decode cX6_guiltyIn 2 = .ok (.iconst 0, 1) := dk_3 (dk_at dksX6_guiltyIn_0 2 rfl rfl)
theorem dX6_guiltyIn_3 : decode cX6_guiltyIn 3 = .ok (.istore_n 3, 1) := dk_62 (dk_at dksX6_guiltyIn_0 3 rfl rfl)
theorem dX6_guiltyIn_4 : decode cX6_guiltyIn 4 = .ok (.iload_n 3, 1) := dk_29 (dk_at dksX6_guiltyIn_0 4 rfl rfl)
theorem dX6_guiltyIn_5 : decode cX6_guiltyIn 5 = .ok (.iconst 1, 1) := dk_4 (dk_at dksX6_guiltyIn_0 5 rfl rfl)
theorem dX6_guiltyIn_6 : decode cX6_guiltyIn 6 = .ok (.aload_n 0, 1) := dk_42 (dk_at dksX6_guiltyIn_0 6 rfl rfl)
theorem dX6_guiltyIn_7 : decode cX6_guiltyIn 7 = .ok (.getfield 7, 3) := dk_180 0 7 (dk_at dksX6_guiltyIn_0 7 rfl rfl)
theorem dX6_guiltyIn_10 : decode cX6_guiltyIn 10 = .ok (.iconst 3, 1) := dk_6 (dk_at dksX6_guiltyIn_0 10 rfl rfl)
theorem dX6_guiltyIn_11 : decode cX6_guiltyIn 11 = .ok (.iaload, 1) := dk_46 (dk_at dksX6_guiltyIn_0 11 rfl rfl)
theorem dX6_guiltyIn_12 : decode cX6_guiltyIn 12 = .ok (.ishl, 1) := dk_120 (dk_at dksX6_guiltyIn_0 12 rfl rfl)
theorem dX6_guiltyIn_13 : decode cX6_guiltyIn 13 = .ok (.if_icmp .ge 35, 3) := dk_162 0 35 (dk_at dksX6_guiltyIn_0 13 rfl rfl)
theorem dX6_guiltyIn_16 : decode cX6_guiltyIn 16 = .ok (.iload_n 2, 1) := dk_28 (dk_at dksX6_guiltyIn_0 16 rfl rfl)
theorem dX6_guiltyIn_17 : decode cX6_guiltyIn 17 = .ok (.aload_n 0, 1) := dk_42 (dk_at dksX6_guiltyIn_0 17 rfl rfl)
theorem dX6_guiltyIn_18 : decode cX6_guiltyIn 18 = .ok (.getfield 47, 3) := dk_180 0 47 (dk_at dksX6_guiltyIn_0 18 rfl rfl)
theorem dX6_guiltyIn_21 : decode cX6_guiltyIn 21 = .ok (.iload_n 3, 1) := dk_29 (dk_at dksX6_guiltyIn_0 21 rfl rfl)
theorem dX6_guiltyIn_22 : decode cX6_guiltyIn 22 = .ok (.baload, 1) := dk_51 (dk_at dksX6_guiltyIn_0 22 rfl rfl)
theorem dX6_guiltyIn_23 : decode cX6_guiltyIn 23 = .ok (.ifCond .eq 16, 3) := dk_153 0 16 (dk_at dksX6_guiltyIn_1 0 rfl rfl)
theorem dX6_guiltyIn_26 : decode cX6_guiltyIn 26 = .ok (.aload_n 0, 1) := dk_42 (dk_at dksX6_guiltyIn_1 3 rfl rfl)
theorem dX6_guiltyIn_27 : decode cX6_guiltyIn 27 = .ok (.iload_n 3, 1) := dk_29 (dk_at dksX6_guiltyIn_1 4 rfl rfl)
theorem dX6_guiltyIn_28 : decode cX6_guiltyIn 28 = .ok (.iload_n 1, 1) := dk_27 (dk_at dksX6_guiltyIn_1 5 rfl rfl)
theorem dX6_guiltyIn_29 : decode cX6_guiltyIn 29 = .ok (.invokevirtual 315, 3) := dk_182 1 59 (dk_at dksX6_guiltyIn_1 6 rfl rfl)
theorem dX6_guiltyIn_32 : decode cX6_guiltyIn 32 = .ok (.ifCond .eq 7, 3) := dk_153 0 7 (dk_at dksX6_guiltyIn_1 9 rfl rfl)
theorem dX6_guiltyIn_35 : decode cX6_guiltyIn 35 = .ok (.iconst 1, 1) := dk_4 (dk_at dksX6_guiltyIn_1 12 rfl rfl)
theorem dX6_guiltyIn_36 : decode cX6_guiltyIn 36 = .ok (.goto 4, 3) := dk_167 0 4 (dk_at dksX6_guiltyIn_1 13 rfl rfl)
theorem dX6_guiltyIn_39 : decode cX6_guiltyIn 39 = .ok (.iconst 0, 1) := dk_3 (dk_at dksX6_guiltyIn_1 16 rfl rfl)
theorem dX6_guiltyIn_40 : decode cX6_guiltyIn 40 = .ok (.iadd, 1) := dk_96 (dk_at dksX6_guiltyIn_1 17 rfl rfl)
theorem dX6_guiltyIn_41 : decode cX6_guiltyIn 41 = .ok (.istore_n 2, 1) := dk_61 (dk_at dksX6_guiltyIn_1 18 rfl rfl)
theorem dX6_guiltyIn_42 : decode cX6_guiltyIn 42 = .ok (.iinc 3 1, 3) := dk_132 3 1 (dk_at dksX6_guiltyIn_1 19 rfl rfl)
theorem dX6_guiltyIn_45 : decode cX6_guiltyIn 45 = .ok (.goto (-41), 3) := dk_167 255 215 (dk_at dksX6_guiltyIn_2 0 rfl rfl)
theorem dX6_guiltyIn_48 : decode cX6_guiltyIn 48 = .ok (.iload_n 2, 1) := dk_28 (dk_at dksX6_guiltyIn_2 3 rfl rfl)
theorem dX6_guiltyIn_49 : decode cX6_guiltyIn 49 = .ok (.ireturn, 1) := dk_172 (dk_at dksX6_guiltyIn_2 4 rfl rfl)
abbrev cX6_odds : ByteArray := prog_16_method_120_code
def yX6_odds : MethodName := ⟨RX6, "odds", "(III)Z"⟩
def dkwX6_odds_2 : List UInt8 := [16, 6, 182, 0, 98, 167, 0, 18, 42, 42, 27, 182, 1, 146, 133, 42, 180, 1, 133, 133, 182, 1, 149, 172]
abbrev dktX6_odds_2 : List UInt8 := dkwX6_odds_2 ++ []
def dkwX6_odds_1 : List UInt8 := [158, 0, 10, 42, 21, 4, 182, 0, 98, 172, 42, 28, 29, 182, 1, 142, 42, 180, 1, 133, 154, 0, 12, 42]
abbrev dktX6_odds_1 : List UInt8 := dkwX6_odds_1 ++ dktX6_odds_2
def dkwX6_odds_0 : List UInt8 := [42, 27, 133, 182, 1, 49, 153, 0, 12, 42, 28, 29, 182, 1, 139, 167, 0, 4, 4, 54, 4, 21, 4]
abbrev dktX6_odds_0 : List UInt8 := dkwX6_odds_0 ++ dktX6_odds_1
theorem dksX6_odds_0 : cX6_odds.data.toList.drop 0 = dktX6_odds_0 := by decide +kernel
theorem dksX6_odds_1 : cX6_odds.data.toList.drop 23 = dktX6_odds_1 := dk_seg dksX6_odds_0 23 rfl rfl
theorem dksX6_odds_2 : cX6_odds.data.toList.drop 47 = dktX6_odds_2 := dk_seg dksX6_odds_1 24 rfl rfl
theorem dX6_odds_0 : decode cX6_odds 0 = .ok (.aload_n 0, 1) := dk_42 (dk_at dksX6_odds_0 0 rfl rfl)
theorem dX6_odds_1 : decode cX6_odds 1 = .ok (.iload_n 1, 1) := dk_27 (dk_at dksX6_odds_0 1 rfl rfl)
theorem dX6_odds_2 : decode cX6_odds 2 = .ok (.i2l, 1) := dk_133 (dk_at dksX6_odds_0 2 rfl rfl)
theorem dX6_odds_3 : decode cX6_odds 3 = .ok (.invokevirtual 305, 3) := dk_182 1 49 (dk_at dksX6_odds_0 3 rfl rfl)
theorem dX6_odds_6 : decode cX6_odds 6 = .ok (.ifCond .eq 12, 3) := dk_153 0 12 (dk_at dksX6_odds_0 6 rfl rfl)
theorem dX6_odds_9 : decode cX6_odds 9 = .ok (.aload_n 0, 1) := dk_42 (dk_at dksX6_odds_0 9 rfl rfl)
theorem dX6_odds_10 : decode cX6_odds 10 = .ok (.iload_n 2, 1) := dk_28 (dk_at dksX6_odds_0 10 rfl rfl)
theorem dX6_odds_11 : decode cX6_odds 11 = .ok (.iload_n 3, 1) := dk_29 (dk_at dksX6_odds_0 11 rfl rfl)
theorem dX6_odds_12 : decode cX6_odds 12 = .ok (.invokevirtual 395, 3) := dk_182 1 139 (dk_at dksX6_odds_0 12 rfl rfl)
theorem dX6_odds_15 : decode cX6_odds 15 = .ok (.goto 4, 3) := dk_167 0 4 (dk_at dksX6_odds_0 15 rfl rfl)
theorem dX6_odds_18 : decode cX6_odds 18 = .ok (.iconst 1, 1) := dk_4 (dk_at dksX6_odds_0 18 rfl rfl)
theorem dX6_odds_19 : decode cX6_odds 19 = .ok (.istore 4, 2) := dk_54 4 (dk_at dksX6_odds_0 19 rfl rfl)
theorem dX6_odds_21 : decode cX6_odds 21 = .ok (.iload 4, 2) := dk_21 4 (dk_at dksX6_odds_0 21 rfl rfl)
theorem dX6_odds_23 : decode cX6_odds 23 = .ok (.ifCond .le 10, 3) := dk_158 0 10 (dk_at dksX6_odds_1 0 rfl rfl)
theorem dX6_odds_26 : decode cX6_odds 26 = .ok (.aload_n 0, 1) := dk_42 (dk_at dksX6_odds_1 3 rfl rfl)
theorem dX6_odds_27 : decode cX6_odds 27 = .ok (.iload 4, 2) := dk_21 4 (dk_at dksX6_odds_1 4 rfl rfl)
theorem dX6_odds_29 : decode cX6_odds 29 = .ok (.invokevirtual 98, 3) := dk_182 0 98 (dk_at dksX6_odds_1 6 rfl rfl)
theorem dX6_odds_32 : decode cX6_odds 32 = .ok (.ireturn, 1) := dk_172 (dk_at dksX6_odds_1 9 rfl rfl)
theorem dX6_odds_33 : decode cX6_odds 33 = .ok (.aload_n 0, 1) := dk_42 (dk_at dksX6_odds_1 10 rfl rfl)
theorem dX6_odds_34 : decode cX6_odds 34 = .ok (.iload_n 2, 1) := dk_28 (dk_at dksX6_odds_1 11 rfl rfl)
theorem dX6_odds_35 : decode cX6_odds 35 = .ok (.iload_n 3, 1) := dk_29 (dk_at dksX6_odds_1 12 rfl rfl)
theorem dX6_odds_36 : decode cX6_odds 36 = .ok (.invokevirtual 398, 3) := dk_182 1 142 (dk_at dksX6_odds_1 13 rfl rfl)
theorem dX6_odds_39 : decode cX6_odds 39 = .ok (.aload_n 0, 1) := dk_42 (dk_at dksX6_odds_1 16 rfl rfl)
theorem dX6_odds_40 : decode cX6_odds 40 = .ok (.getfield 389, 3) := dk_180 1 133 (dk_at dksX6_odds_1 17 rfl rfl)
theorem dX6_odds_43 : decode cX6_odds 43 = .ok (.ifCond .ne 12, 3) := dk_154 0 12 (dk_at dksX6_odds_1 20 rfl rfl)
theorem dX6_odds_46 : decode cX6_odds 46 = .ok (.aload_n 0, 1) := dk_42 (dk_at dksX6_odds_1 23 rfl rfl)
theorem dX6_odds_47 : decode cX6_odds 47 = .ok (.bipush 6, 2) := dk_16 6 (dk_at dksX6_odds_2 0 rfl rfl)
theorem dX6_odds_49 : decode cX6_odds 49 = .ok (.invokevirtual 98, 3) := dk_182 0 98 (dk_at dksX6_odds_2 2 rfl rfl)
theorem dX6_odds_52 : decode cX6_odds 52 = .ok (.goto 18, 3) := dk_167 0 18 (dk_at dksX6_odds_2 5 rfl rfl)
theorem dX6_odds_55 : decode cX6_odds 55 = .ok (.aload_n 0, 1) := dk_42 (dk_at dksX6_odds_2 8 rfl rfl)
theorem dX6_odds_56 : decode cX6_odds 56 = .ok (.aload_n 0, 1) := dk_42 (dk_at dksX6_odds_2 9 rfl rfl)
theorem dX6_odds_57 : decode cX6_odds 57 = .ok (.iload_n 1, 1) := dk_27 (dk_at dksX6_odds_2 10 rfl rfl)
theorem dX6_odds_58 : decode cX6_odds 58 = .ok (.invokevirtual 402, 3) := dk_182 1 146 (dk_at dksX6_odds_2 11 rfl rfl)
theorem dX6_odds_61 : decode cX6_odds 61 = .ok (.i2l, 1) := dk_133 (dk_at dksX6_odds_2 14 rfl rfl)
theorem dX6_odds_62 : decode cX6_odds 62 = .ok (.aload_n 0, 1) := dk_42 (dk_at dksX6_odds_2 15 rfl rfl)
theorem dX6_odds_63 : decode cX6_odds 63 = .ok (.getfield 389, 3) := dk_180 1 133 (dk_at dksX6_odds_2 16 rfl rfl)
theorem dX6_odds_66 : decode cX6_odds 66 = .ok (.i2l, 1) := dk_133 (dk_at dksX6_odds_2 19 rfl rfl)
theorem dX6_odds_67 : decode cX6_odds 67 = .ok (.invokevirtual 405, 3) := dk_182 1 149 (dk_at dksX6_odds_2 20 rfl rfl)
theorem dX6_odds_70 : decode cX6_odds 70 = .ok (.ireturn, 1) := dk_172 (dk_at dksX6_odds_2 23 rfl rfl)
abbrev cX6_tellsBy : ByteArray := prog_16_method_10_code
def yX6_tellsBy : MethodName := ⟨RX6, "tellsBy", "(JJ)Z"⟩
def dkwX6_tellsBy_2 : List UInt8 := [3, 182, 0, 98, 172]
abbrev dktX6_tellsBy_2 : List UInt8 := dkwX6_tellsBy_2 ++ []
def dkwX6_tellsBy_1 : List UInt8 := [22, 9, 55, 7, 167, 255, 234, 42, 31, 22, 5, 109, 181, 0, 88, 42, 33, 22, 5, 109, 181, 0, 17, 42]
abbrev dktX6_tellsBy_1 : List UInt8 := dkwX6_tellsBy_1 ++ dktX6_tellsBy_2
def dkwX6_tellsBy_0 : List UInt8 := [31, 55, 5, 33, 55, 7, 22, 7, 9, 148, 153, 0, 21, 22, 5, 22, 7, 113, 55, 9, 22, 7, 55, 5]
abbrev dktX6_tellsBy_0 : List UInt8 := dkwX6_tellsBy_0 ++ dktX6_tellsBy_1
theorem dksX6_tellsBy_0 : cX6_tellsBy.data.toList.drop 0 = dktX6_tellsBy_0 := by decide +kernel
theorem dksX6_tellsBy_1 : cX6_tellsBy.data.toList.drop 24 = dktX6_tellsBy_1 := dk_seg dksX6_tellsBy_0 24 rfl rfl
theorem dksX6_tellsBy_2 : cX6_tellsBy.data.toList.drop 48 = dktX6_tellsBy_2 := dk_seg dksX6_tellsBy_1 24 rfl rfl
theorem dX6_tellsBy_0 : decode cX6_tellsBy 0 = .ok (.lload_n 1, 1) := dk_31 (dk_at dksX6_tellsBy_0 0 rfl rfl)
theorem dX6_tellsBy_1 : decode cX6_tellsBy 1 = .ok (.lstore 5, 2) := dk_55 5 (dk_at dksX6_tellsBy_0 1 rfl rfl)
theorem dX6_tellsBy_3 : decode cX6_tellsBy 3 = .ok (.lload_n 3, 1) := dk_33 (dk_at dksX6_tellsBy_0 3 rfl rfl)
theorem dX6_tellsBy_4 : decode cX6_tellsBy 4 = .ok (.lstore 7, 2) := dk_55 7 (dk_at dksX6_tellsBy_0 4 rfl rfl)
theorem dX6_tellsBy_6 : decode cX6_tellsBy 6 = .ok (.lload 7, 2) := dk_22 7 (dk_at dksX6_tellsBy_0 6 rfl rfl)
theorem dX6_tellsBy_8 : decode cX6_tellsBy 8 = .ok (.lconst 0, 1) := dk_9 (dk_at dksX6_tellsBy_0 8 rfl rfl)
theorem dX6_tellsBy_9 : decode cX6_tellsBy 9 = .ok (.lcmp, 1) := dk_148 (dk_at dksX6_tellsBy_0 9 rfl rfl)
theorem dX6_tellsBy_10 : decode cX6_tellsBy 10 = .ok (.ifCond .eq 21, 3) := dk_153 0 21 (dk_at dksX6_tellsBy_0 10 rfl rfl)
theorem dX6_tellsBy_13 : decode cX6_tellsBy 13 = .ok (.lload 5, 2) := dk_22 5 (dk_at dksX6_tellsBy_0 13 rfl rfl)
theorem dX6_tellsBy_15 : decode cX6_tellsBy 15 = .ok (.lload 7, 2) := dk_22 7 (dk_at dksX6_tellsBy_0 15 rfl rfl)
theorem dX6_tellsBy_17 : decode cX6_tellsBy 17 = .ok (.lrem, 1) := dk_113 (dk_at dksX6_tellsBy_0 17 rfl rfl)
theorem dX6_tellsBy_18 : decode cX6_tellsBy 18 = .ok (.lstore 9, 2) := dk_55 9 (dk_at dksX6_tellsBy_0 18 rfl rfl)
theorem dX6_tellsBy_20 : decode cX6_tellsBy 20 = .ok (.lload 7, 2) := dk_22 7 (dk_at dksX6_tellsBy_0 20 rfl rfl)
theorem dX6_tellsBy_22 : decode cX6_tellsBy 22 = .ok (.lstore 5, 2) := dk_55 5 (dk_at dksX6_tellsBy_0 22 rfl rfl)
theorem dX6_tellsBy_24 : decode cX6_tellsBy 24 = .ok (.lload 9, 2) := dk_22 9 (dk_at dksX6_tellsBy_1 0 rfl rfl)
theorem dX6_tellsBy_26 : decode cX6_tellsBy 26 = .ok (.lstore 7, 2) := dk_55 7 (dk_at dksX6_tellsBy_1 2 rfl rfl)
theorem dX6_tellsBy_28 : decode cX6_tellsBy 28 = .ok (.goto (-22), 3) := dk_167 255 234 (dk_at dksX6_tellsBy_1 4 rfl rfl)
theorem dX6_tellsBy_31 : decode cX6_tellsBy 31 = .ok (.aload_n 0, 1) := dk_42 (dk_at dksX6_tellsBy_1 7 rfl rfl)
theorem dX6_tellsBy_32 : decode cX6_tellsBy 32 = .ok (.lload_n 1, 1) := dk_31 (dk_at dksX6_tellsBy_1 8 rfl rfl)
theorem dX6_tellsBy_33 : decode cX6_tellsBy 33 = .ok (.lload 5, 2) := dk_22 5 (dk_at dksX6_tellsBy_1 9 rfl rfl)
theorem dX6_tellsBy_35 : decode cX6_tellsBy 35 = .ok (.ldiv, 1) := dk_109 (dk_at dksX6_tellsBy_1 11 rfl rfl)
theorem dX6_tellsBy_36 : decode cX6_tellsBy 36 = .ok (.putfield 88, 3) := dk_181 0 88 (dk_at dksX6_tellsBy_1 12 rfl rfl)
theorem dX6_tellsBy_39 : decode cX6_tellsBy 39 = .ok (.aload_n 0, 1) := dk_42 (dk_at dksX6_tellsBy_1 15 rfl rfl)
theorem dX6_tellsBy_40 : decode cX6_tellsBy 40 = .ok (.lload_n 3, 1) := dk_33 (dk_at dksX6_tellsBy_1 16 rfl rfl)
theorem dX6_tellsBy_41 : decode cX6_tellsBy 41 = .ok (.lload 5, 2) := dk_22 5 (dk_at dksX6_tellsBy_1 17 rfl rfl)
theorem dX6_tellsBy_43 : decode cX6_tellsBy 43 = .ok (.ldiv, 1) := dk_109 (dk_at dksX6_tellsBy_1 19 rfl rfl)
theorem dX6_tellsBy_44 : decode cX6_tellsBy 44 = .ok (.putfield 17, 3) := dk_181 0 17 (dk_at dksX6_tellsBy_1 20 rfl rfl)
theorem dX6_tellsBy_47 : decode cX6_tellsBy 47 = .ok (.aload_n 0, 1) := dk_42 (dk_at dksX6_tellsBy_1 23 rfl rfl)
theorem dX6_tellsBy_48 : decode cX6_tellsBy 48 = .ok (.iconst 0, 1) := dk_3 (dk_at dksX6_tellsBy_2 0 rfl rfl)
theorem dX6_tellsBy_49 : decode cX6_tellsBy 49 = .ok (.invokevirtual 98, 3) := dk_182 0 98 (dk_at dksX6_tellsBy_2 1 rfl rfl)
theorem dX6_tellsBy_52 : decode cX6_tellsBy 52 = .ok (.ireturn, 1) := dk_172 (dk_at dksX6_tellsBy_2 4 rfl rfl)
abbrev cX6_ask : ByteArray := prog_16_method_122_code
def yX6_ask : MethodName := ⟨RX6, "ask", "(III)I"⟩
def dkwX6_ask_6 : List UInt8 := [172]
abbrev dktX6_ask_6 : List UInt8 := dkwX6_ask_6 ++ []
def dkwX6_ask_5 : List UInt8 := [167, 255, 205, 42, 29, 154, 0, 11, 21, 6, 16, 10, 108, 167, 0, 8, 21, 6, 16, 10, 112, 182, 0, 95]
abbrev dktX6_ask_5 : List UInt8 := dkwX6_ask_5 ++ dktX6_ask_6
def dkwX6_ask_4 : List UInt8 := [54, 8, 21, 8, 21, 5, 161, 0, 6, 167, 0, 11, 21, 8, 54, 5, 21, 7, 54, 6, 132, 7, 1]
abbrev dktX6_ask_4 : List UInt8 := dkwX6_ask_4 ++ dktX6_ask_5
def dkwX6_ask_3 : List UInt8 := [180, 0, 7, 6, 46, 104, 162, 0, 43, 42, 21, 7, 16, 10, 108, 21, 7, 16, 10, 112, 182, 1, 157]
abbrev dktX6_ask_3 : List UInt8 := dkwX6_ask_3 ++ dktX6_ask_4
def dkwX6_ask_2 : List UInt8 := [42, 16, 6, 182, 0, 91, 172, 19, 1, 156, 54, 5, 3, 54, 6, 3, 54, 7, 21, 7, 16, 10, 42]
abbrev dktX6_ask_2 : List UInt8 := dkwX6_ask_2 ++ dktX6_ask_3
def dkwX6_ask_1 : List UInt8 := [158, 0, 10, 42, 21, 4, 182, 0, 91, 172, 42, 27, 28, 182, 1, 142, 42, 180, 1, 133, 5, 162, 0, 10]
abbrev dktX6_ask_1 : List UInt8 := dkwX6_ask_1 ++ dktX6_ask_2
def dkwX6_ask_0 : List UInt8 := [29, 155, 0, 8, 29, 4, 164, 0, 7, 4, 167, 0, 9, 42, 27, 28, 182, 1, 139, 54, 4, 21, 4]
abbrev dktX6_ask_0 : List UInt8 := dkwX6_ask_0 ++ dktX6_ask_1
theorem dksX6_ask_0 : cX6_ask.data.toList.drop 0 = dktX6_ask_0 := by decide +kernel
theorem dksX6_ask_1 : cX6_ask.data.toList.drop 23 = dktX6_ask_1 := dk_seg dksX6_ask_0 23 rfl rfl
theorem dksX6_ask_2 : cX6_ask.data.toList.drop 47 = dktX6_ask_2 := dk_seg dksX6_ask_1 24 rfl rfl
theorem dksX6_ask_3 : cX6_ask.data.toList.drop 70 = dktX6_ask_3 := dk_seg dksX6_ask_2 23 rfl rfl
theorem dksX6_ask_4 : cX6_ask.data.toList.drop 93 = dktX6_ask_4 := dk_seg dksX6_ask_3 23 rfl rfl
theorem dksX6_ask_5 : cX6_ask.data.toList.drop 116 = dktX6_ask_5 := dk_seg dksX6_ask_4 23 rfl rfl
theorem dksX6_ask_6 : cX6_ask.data.toList.drop 140 = dktX6_ask_6 := dk_seg dksX6_ask_5 24 rfl rfl
theorem dX6_ask_0 : decode cX6_ask 0 = .ok (.iload_n 3, 1) := dk_29 (dk_at dksX6_ask_0 0 rfl rfl)
theorem dX6_ask_1 : decode cX6_ask 1 = .ok (.ifCond .lt 8, 3) := dk_155 0 8 (dk_at dksX6_ask_0 1 rfl rfl)
theorem dX6_ask_4 : decode cX6_ask 4 = .ok (.iload_n 3, 1) := dk_29 (dk_at dksX6_ask_0 4 rfl rfl)
theorem dX6_ask_5 : decode cX6_ask 5 = .ok (.iconst 1, 1) := dk_4 (dk_at dksX6_ask_0 5 rfl rfl)
theorem dX6_ask_6 : decode cX6_ask 6 = .ok (.if_icmp .le 7, 3) := dk_164 0 7 (dk_at dksX6_ask_0 6 rfl rfl)
theorem dX6_ask_9 : decode cX6_ask 9 = .ok (.iconst 1, 1) := dk_4 (dk_at dksX6_ask_0 9 rfl rfl)
theorem dX6_ask_10 : decode cX6_ask 10 = .ok (.goto 9, 3) := dk_167 0 9 (dk_at dksX6_ask_0 10 rfl rfl)
theorem dX6_ask_13 : decode cX6_ask 13 = .ok (.aload_n 0, 1) := dk_42 (dk_at dksX6_ask_0 13 rfl rfl)
theorem dX6_ask_14 : decode cX6_ask 14 = .ok (.iload_n 1, 1) := dk_27 (dk_at dksX6_ask_0 14 rfl rfl)
theorem dX6_ask_15 : decode cX6_ask 15 = .ok (.iload_n 2, 1) := dk_28 (dk_at dksX6_ask_0 15 rfl rfl)
theorem dX6_ask_16 : decode cX6_ask 16 = .ok (.invokevirtual 395, 3) := dk_182 1 139 (dk_at dksX6_ask_0 16 rfl rfl)
theorem dX6_ask_19 : decode cX6_ask 19 = .ok (.istore 4, 2) := dk_54 4 (dk_at dksX6_ask_0 19 rfl rfl)
theorem dX6_ask_21 : decode cX6_ask 21 = .ok (.iload 4, 2) := dk_21 4 (dk_at dksX6_ask_0 21 rfl rfl)
theorem dX6_ask_23 : decode cX6_ask 23 = .ok (.ifCond .le 10, 3) := dk_158 0 10 (dk_at dksX6_ask_1 0 rfl rfl)
theorem dX6_ask_26 : decode cX6_ask 26 = .ok (.aload_n 0, 1) := dk_42 (dk_at dksX6_ask_1 3 rfl rfl)
theorem dX6_ask_27 : decode cX6_ask 27 = .ok (.iload 4, 2) := dk_21 4 (dk_at dksX6_ask_1 4 rfl rfl)
theorem dX6_ask_29 : decode cX6_ask 29 = .ok (.invokevirtual 91, 3) := dk_182 0 91 (dk_at dksX6_ask_1 6 rfl rfl)
theorem dX6_ask_32 : decode cX6_ask 32 = .ok (.ireturn, 1) := dk_172 (dk_at dksX6_ask_1 9 rfl rfl)
theorem dX6_ask_33 : decode cX6_ask 33 = .ok (.aload_n 0, 1) := dk_42 (dk_at dksX6_ask_1 10 rfl rfl)
theorem dX6_ask_34 : decode cX6_ask 34 = .ok (.iload_n 1, 1) := dk_27 (dk_at dksX6_ask_1 11 rfl rfl)
theorem dX6_ask_35 : decode cX6_ask 35 = .ok (.iload_n 2, 1) := dk_28 (dk_at dksX6_ask_1 12 rfl rfl)
theorem dX6_ask_36 : decode cX6_ask 36 = .ok (.invokevirtual 398, 3) := dk_182 1 142 (dk_at dksX6_ask_1 13 rfl rfl)
theorem dX6_ask_39 : decode cX6_ask 39 = .ok (.aload_n 0, 1) := dk_42 (dk_at dksX6_ask_1 16 rfl rfl)
theorem dX6_ask_40 : decode cX6_ask 40 = .ok (.getfield 389, 3) := dk_180 1 133 (dk_at dksX6_ask_1 17 rfl rfl)
theorem dX6_ask_43 : decode cX6_ask 43 = .ok (.iconst 2, 1) := dk_5 (dk_at dksX6_ask_1 20 rfl rfl)
theorem dX6_ask_44 : decode cX6_ask 44 = .ok (.if_icmp .ge 10, 3) := dk_162 0 10 (dk_at dksX6_ask_1 21 rfl rfl)
theorem dX6_ask_47 : decode cX6_ask 47 = .ok (.aload_n 0, 1) := dk_42 (dk_at dksX6_ask_2 0 rfl rfl)
theorem dX6_ask_48 : decode cX6_ask 48 = .ok (.bipush 6, 2) := dk_16 6 (dk_at dksX6_ask_2 1 rfl rfl)
theorem dX6_ask_50 : decode cX6_ask 50 = .ok (.invokevirtual 91, 3) := dk_182 0 91 (dk_at dksX6_ask_2 3 rfl rfl)
theorem dX6_ask_53 : decode cX6_ask 53 = .ok (.ireturn, 1) := dk_172 (dk_at dksX6_ask_2 6 rfl rfl)
theorem dX6_ask_54 : decode cX6_ask 54 = .ok (.ldc_w 412, 3) := dk_19 1 156 (dk_at dksX6_ask_2 7 rfl rfl)
theorem dX6_ask_57 : decode cX6_ask 57 = .ok (.istore 5, 2) := dk_54 5 (dk_at dksX6_ask_2 10 rfl rfl)
theorem dX6_ask_59 : decode cX6_ask 59 = .ok (.iconst 0, 1) := dk_3 (dk_at dksX6_ask_2 12 rfl rfl)
theorem dX6_ask_60 : decode cX6_ask 60 = .ok (.istore 6, 2) := dk_54 6 (dk_at dksX6_ask_2 13 rfl rfl)
theorem dX6_ask_62 : decode cX6_ask 62 = .ok (.iconst 0, 1) := dk_3 (dk_at dksX6_ask_2 15 rfl rfl)
theorem dX6_ask_63 : decode cX6_ask 63 = .ok (.istore 7, 2) := dk_54 7 (dk_at dksX6_ask_2 16 rfl rfl)
theorem dX6_ask_65 : decode cX6_ask 65 = .ok (.iload 7, 2) := dk_21 7 (dk_at dksX6_ask_2 18 rfl rfl)
theorem dX6_ask_67 : decode cX6_ask 67 = .ok (.bipush 10, 2) := dk_16 10 (dk_at dksX6_ask_2 20 rfl rfl)
theorem dX6_ask_69 : decode cX6_ask 69 = .ok (.aload_n 0, 1) := dk_42 (dk_at dksX6_ask_2 22 rfl rfl)
theorem dX6_ask_70 : decode cX6_ask 70 = .ok (.getfield 7, 3) := dk_180 0 7 (dk_at dksX6_ask_3 0 rfl rfl)
theorem dX6_ask_73 : decode cX6_ask 73 = .ok (.iconst 3, 1) := dk_6 (dk_at dksX6_ask_3 3 rfl rfl)
theorem dX6_ask_74 : decode cX6_ask 74 = .ok (.iaload, 1) := dk_46 (dk_at dksX6_ask_3 4 rfl rfl)
theorem dX6_ask_75 : decode cX6_ask 75 = .ok (.imul, 1) := dk_104 (dk_at dksX6_ask_3 5 rfl rfl)
theorem dX6_ask_76 : decode cX6_ask 76 = .ok (.if_icmp .ge 43, 3) := dk_162 0 43 (dk_at dksX6_ask_3 6 rfl rfl)
theorem dX6_ask_79 : decode cX6_ask 79 = .ok (.aload_n 0, 1) := dk_42 (dk_at dksX6_ask_3 9 rfl rfl)
theorem dX6_ask_80 : decode cX6_ask 80 = .ok (.iload 7, 2) := dk_21 7 (dk_at dksX6_ask_3 10 rfl rfl)
theorem dX6_ask_82 : decode cX6_ask 82 = .ok (.bipush 10, 2) := dk_16 10 (dk_at dksX6_ask_3 12 rfl rfl)
theorem dX6_ask_84 : decode cX6_ask 84 = .ok (.idiv, 1) := dk_108 (dk_at dksX6_ask_3 14 rfl rfl)
theorem dX6_ask_85 : decode cX6_ask 85 = .ok (.iload 7, 2) := dk_21 7 (dk_at dksX6_ask_3 15 rfl rfl)
theorem dX6_ask_87 : decode cX6_ask 87 = .ok (.bipush 10, 2) := dk_16 10 (dk_at dksX6_ask_3 17 rfl rfl)
theorem dX6_ask_89 : decode cX6_ask 89 = .ok (.irem, 1) := dk_112 (dk_at dksX6_ask_3 19 rfl rfl)
theorem dX6_ask_90 : decode cX6_ask 90 = .ok (.invokevirtual 413, 3) := dk_182 1 157 (dk_at dksX6_ask_3 20 rfl rfl)
theorem dX6_ask_93 : decode cX6_ask 93 = .ok (.istore 8, 2) := dk_54 8 (dk_at dksX6_ask_4 0 rfl rfl)
theorem dX6_ask_95 : decode cX6_ask 95 = .ok (.iload 8, 2) := dk_21 8 (dk_at dksX6_ask_4 2 rfl rfl)
theorem dX6_ask_97 : decode cX6_ask 97 = .ok (.iload 5, 2) := dk_21 5 (dk_at dksX6_ask_4 4 rfl rfl)
theorem dX6_ask_99 : decode cX6_ask 99 = .ok (.if_icmp .lt 6, 3) := dk_161 0 6 (dk_at dksX6_ask_4 6 rfl rfl)
theorem dX6_ask_102 : decode cX6_ask 102 = .ok (.goto 11, 3) := dk_167 0 11 (dk_at dksX6_ask_4 9 rfl rfl)
theorem dX6_ask_105 : decode cX6_ask 105 = .ok (.iload 8, 2) := dk_21 8 (dk_at dksX6_ask_4 12 rfl rfl)
theorem dX6_ask_107 : decode cX6_ask 107 = .ok (.istore 5, 2) := dk_54 5 (dk_at dksX6_ask_4 14 rfl rfl)
theorem dX6_ask_109 : decode cX6_ask 109 = .ok (.iload 7, 2) := dk_21 7 (dk_at dksX6_ask_4 16 rfl rfl)
theorem dX6_ask_111 : decode cX6_ask 111 = .ok (.istore 6, 2) := dk_54 6 (dk_at dksX6_ask_4 18 rfl rfl)
theorem dX6_ask_113 : decode cX6_ask 113 = .ok (.iinc 7 1, 3) := dk_132 7 1 (dk_at dksX6_ask_4 20 rfl rfl)
theorem dX6_ask_116 : decode cX6_ask 116 = .ok (.goto (-51), 3) := dk_167 255 205 (dk_at dksX6_ask_5 0 rfl rfl)
theorem dX6_ask_119 : decode cX6_ask 119 = .ok (.aload_n 0, 1) := dk_42 (dk_at dksX6_ask_5 3 rfl rfl)
theorem dX6_ask_120 : decode cX6_ask 120 = .ok (.iload_n 3, 1) := dk_29 (dk_at dksX6_ask_5 4 rfl rfl)
theorem dX6_ask_121 : decode cX6_ask 121 = .ok (.ifCond .ne 11, 3) := dk_154 0 11 (dk_at dksX6_ask_5 5 rfl rfl)
theorem dX6_ask_124 : decode cX6_ask 124 = .ok (.iload 6, 2) := dk_21 6 (dk_at dksX6_ask_5 8 rfl rfl)
theorem dX6_ask_126 : decode cX6_ask 126 = .ok (.bipush 10, 2) := dk_16 10 (dk_at dksX6_ask_5 10 rfl rfl)
theorem dX6_ask_128 : decode cX6_ask 128 = .ok (.idiv, 1) := dk_108 (dk_at dksX6_ask_5 12 rfl rfl)
theorem dX6_ask_129 : decode cX6_ask 129 = .ok (.goto 8, 3) := dk_167 0 8 (dk_at dksX6_ask_5 13 rfl rfl)
theorem dX6_ask_132 : decode cX6_ask 132 = .ok (.iload 6, 2) := dk_21 6 (dk_at dksX6_ask_5 16 rfl rfl)
theorem dX6_ask_134 : decode cX6_ask 134 = .ok (.bipush 10, 2) := dk_16 10 (dk_at dksX6_ask_5 18 rfl rfl)
theorem dX6_ask_136 : decode cX6_ask 136 = .ok (.irem, 1) := dk_112 (dk_at dksX6_ask_5 20 rfl rfl)
theorem dX6_ask_137 : decode cX6_ask 137 = .ok (.invokevirtual 95, 3) := dk_182 0 95 (dk_at dksX6_ask_5 21 rfl rfl)
theorem dX6_ask_140 : decode cX6_ask 140 = .ok (.ireturn, 1) := dk_172 (dk_at dksX6_ask_6 0 rfl rfl)
abbrev cX6_mostAlike : ByteArray := prog_16_method_121_code
def yX6_mostAlike : MethodName := ⟨RX6, "mostAlike", "(II)I"⟩
def dkwX6_mostAlike_4 : List UInt8 := [167, 255, 194, 29, 172]
abbrev dktX6_mostAlike_4 : List UInt8 := dkwX6_mostAlike_4 ++ []
def dkwX6_mostAlike_3 : List UInt8 := [21, 5, 92, 46, 4, 96, 79, 29, 42, 180, 0, 51, 21, 5, 46, 184, 1, 153, 62, 132, 4, 1]
abbrev dktX6_mostAlike_3 : List UInt8 := dkwX6_mostAlike_3 ++ dktX6_mostAlike_4
def dkwX6_mostAlike_2 : List UInt8 := [21, 4, 51, 154, 0, 6, 167, 0, 36, 42, 21, 4, 27, 28, 182, 1, 129, 54, 5, 42, 180, 0, 51]
abbrev dktX6_mostAlike_2 : List UInt8 := dkwX6_mostAlike_2 ++ dktX6_mostAlike_3
def dkwX6_mostAlike_1 : List UInt8 := [167, 255, 238, 3, 54, 4, 21, 4, 4, 42, 180, 0, 7, 6, 46, 120, 162, 0, 55, 42, 180, 0, 47]
abbrev dktX6_mostAlike_1 : List UInt8 := dkwX6_mostAlike_1 ++ dktX6_mostAlike_2
def dkwX6_mostAlike_0 : List UInt8 := [3, 62, 3, 54, 4, 21, 4, 16, 7, 162, 0, 17, 42, 180, 0, 51, 21, 4, 3, 79, 132, 4, 1]
abbrev dktX6_mostAlike_0 : List UInt8 := dkwX6_mostAlike_0 ++ dktX6_mostAlike_1
theorem dksX6_mostAlike_0 : cX6_mostAlike.data.toList.drop 0 = dktX6_mostAlike_0 := by decide +kernel
theorem dksX6_mostAlike_1 : cX6_mostAlike.data.toList.drop 23 = dktX6_mostAlike_1 := dk_seg dksX6_mostAlike_0 23 rfl rfl
theorem dksX6_mostAlike_2 : cX6_mostAlike.data.toList.drop 46 = dktX6_mostAlike_2 := dk_seg dksX6_mostAlike_1 23 rfl rfl
theorem dksX6_mostAlike_3 : cX6_mostAlike.data.toList.drop 69 = dktX6_mostAlike_3 := dk_seg dksX6_mostAlike_2 23 rfl rfl
theorem dksX6_mostAlike_4 : cX6_mostAlike.data.toList.drop 91 = dktX6_mostAlike_4 := dk_seg dksX6_mostAlike_3 22 rfl rfl
theorem dX6_mostAlike_0 : decode cX6_mostAlike 0 = .ok (.iconst 0, 1) := dk_3 (dk_at dksX6_mostAlike_0 0 rfl rfl)
theorem dX6_mostAlike_1 : decode cX6_mostAlike 1 = .ok (.istore_n 3, 1) := dk_62 (dk_at dksX6_mostAlike_0 1 rfl rfl)
theorem dX6_mostAlike_2 : decode cX6_mostAlike 2 = .ok (.iconst 0, 1) := dk_3 (dk_at dksX6_mostAlike_0 2 rfl rfl)
theorem dX6_mostAlike_3 : decode cX6_mostAlike 3 = .ok (.istore 4, 2) := dk_54 4 (dk_at dksX6_mostAlike_0 3 rfl rfl)
theorem dX6_mostAlike_5 : decode cX6_mostAlike 5 = .ok (.iload 4, 2) := dk_21 4 (dk_at dksX6_mostAlike_0 5 rfl rfl)
theorem dX6_mostAlike_7 : decode cX6_mostAlike 7 = .ok (.bipush 7, 2) := dk_16 7 (dk_at dksX6_mostAlike_0 7 rfl rfl)
theorem dX6_mostAlike_9 : decode cX6_mostAlike 9 = .ok (.if_icmp .ge 17, 3) := dk_162 0 17 (dk_at dksX6_mostAlike_0 9 rfl rfl)
theorem dX6_mostAlike_12 : decode cX6_mostAlike 12 = .ok (.aload_n 0, 1) := dk_42 (dk_at dksX6_mostAlike_0 12 rfl rfl)
theorem dX6_mostAlike_13 : decode cX6_mostAlike 13 = .ok (.getfield 51, 3) := dk_180 0 51 (dk_at dksX6_mostAlike_0 13 rfl rfl)
theorem dX6_mostAlike_16 : decode cX6_mostAlike 16 = .ok (.iload 4, 2) := dk_21 4 (dk_at dksX6_mostAlike_0 16 rfl rfl)
theorem dX6_mostAlike_18 : decode cX6_mostAlike 18 = .ok (.iconst 0, 1) := dk_3 (dk_at dksX6_mostAlike_0 18 rfl rfl)
theorem dX6_mostAlike_19 : decode cX6_mostAlike 19 = .ok (.iastore, 1) := dk_79 (dk_at dksX6_mostAlike_0 19 rfl rfl)
theorem dX6_mostAlike_20 : decode cX6_mostAlike 20 = .ok (.iinc 4 1, 3) := dk_132 4 1 (dk_at dksX6_mostAlike_0 20 rfl rfl)
theorem dX6_mostAlike_23 : decode cX6_mostAlike 23 = .ok (.goto (-18), 3) := dk_167 255 238 (dk_at dksX6_mostAlike_1 0 rfl rfl)
theorem dX6_mostAlike_26 : decode cX6_mostAlike 26 = .ok (.iconst 0, 1) := dk_3 (dk_at dksX6_mostAlike_1 3 rfl rfl)
theorem dX6_mostAlike_27 : decode cX6_mostAlike 27 = .ok (.istore 4, 2) := dk_54 4 (dk_at dksX6_mostAlike_1 4 rfl rfl)
theorem dX6_mostAlike_29 : decode cX6_mostAlike 29 = .ok (.iload 4, 2) := dk_21 4 (dk_at dksX6_mostAlike_1 6 rfl rfl)
theorem dX6_mostAlike_31 : decode cX6_mostAlike 31 = .ok (.iconst 1, 1) := dk_4 (dk_at dksX6_mostAlike_1 8 rfl rfl)
theorem dX6_mostAlike_32 : decode cX6_mostAlike 32 = .ok (.aload_n 0, 1) := dk_42 (dk_at dksX6_mostAlike_1 9 rfl rfl)
theorem dX6_mostAlike_33 : decode cX6_mostAlike 33 = .ok (.getfield 7, 3) := dk_180 0 7 (dk_at dksX6_mostAlike_1 10 rfl rfl)
theorem dX6_mostAlike_36 : decode cX6_mostAlike 36 = .ok (.iconst 3, 1) := dk_6 (dk_at dksX6_mostAlike_1 13 rfl rfl)
theorem dX6_mostAlike_37 : decode cX6_mostAlike 37 = .ok (.iaload, 1) := dk_46 (dk_at dksX6_mostAlike_1 14 rfl rfl)
theorem dX6_mostAlike_38 : decode cX6_mostAlike 38 = .ok (.ishl, 1) := dk_120 (dk_at dksX6_mostAlike_1 15 rfl rfl)
theorem dX6_mostAlike_39 : decode cX6_mostAlike 39 = .ok (.if_icmp .ge 55, 3) := dk_162 0 55 (dk_at dksX6_mostAlike_1 16 rfl rfl)
theorem dX6_mostAlike_42 : decode cX6_mostAlike 42 = .ok (.aload_n 0, 1) := dk_42 (dk_at dksX6_mostAlike_1 19 rfl rfl)
theorem dX6_mostAlike_43 : decode cX6_mostAlike 43 = .ok (.getfield 47, 3) := dk_180 0 47 (dk_at dksX6_mostAlike_1 20 rfl rfl)
theorem dX6_mostAlike_46 : decode cX6_mostAlike 46 = .ok (.iload 4, 2) := dk_21 4 (dk_at dksX6_mostAlike_2 0 rfl rfl)
theorem dX6_mostAlike_48 : decode cX6_mostAlike 48 = .ok (.baload, 1) := dk_51 (dk_at dksX6_mostAlike_2 2 rfl rfl)
theorem dX6_mostAlike_49 : decode cX6_mostAlike 49 = .ok (.ifCond .ne 6, 3) := dk_154 0 6 (dk_at dksX6_mostAlike_2 3 rfl rfl)
theorem dX6_mostAlike_52 : decode cX6_mostAlike 52 = .ok (.goto 36, 3) := dk_167 0 36 (dk_at dksX6_mostAlike_2 6 rfl rfl)
theorem dX6_mostAlike_55 : decode cX6_mostAlike 55 = .ok (.aload_n 0, 1) := dk_42 (dk_at dksX6_mostAlike_2 9 rfl rfl)
theorem dX6_mostAlike_56 : decode cX6_mostAlike 56 = .ok (.iload 4, 2) := dk_21 4 (dk_at dksX6_mostAlike_2 10 rfl rfl)
theorem dX6_mostAlike_58 : decode cX6_mostAlike 58 = .ok (.iload_n 1, 1) := dk_27 (dk_at dksX6_mostAlike_2 12 rfl rfl)
theorem dX6_mostAlike_59 : decode cX6_mostAlike 59 = .ok (.iload_n 2, 1) := dk_28 (dk_at dksX6_mostAlike_2 13 rfl rfl)
theorem dX6_mostAlike_60 : decode cX6_mostAlike 60 = .ok (.invokevirtual 385, 3) := dk_182 1 129 (dk_at dksX6_mostAlike_2 14 rfl rfl)
theorem dX6_mostAlike_63 : decode cX6_mostAlike 63 = .ok (.istore 5, 2) := dk_54 5 (dk_at dksX6_mostAlike_2 17 rfl rfl)
theorem dX6_mostAlike_65 : decode cX6_mostAlike 65 = .ok (.aload_n 0, 1) := dk_42 (dk_at dksX6_mostAlike_2 19 rfl rfl)
theorem dX6_mostAlike_66 : decode cX6_mostAlike 66 = .ok (.getfield 51, 3) := dk_180 0 51 (dk_at dksX6_mostAlike_2 20 rfl rfl)
theorem dX6_mostAlike_69 : decode cX6_mostAlike 69 = .ok (.iload 5, 2) := dk_21 5 (dk_at dksX6_mostAlike_3 0 rfl rfl)
theorem dX6_mostAlike_71 : decode cX6_mostAlike 71 = .ok (.dup2, 1) := dk_92 (dk_at dksX6_mostAlike_3 2 rfl rfl)
theorem dX6_mostAlike_72 : decode cX6_mostAlike 72 = .ok (.iaload, 1) := dk_46 (dk_at dksX6_mostAlike_3 3 rfl rfl)
theorem dX6_mostAlike_73 : decode cX6_mostAlike 73 = .ok (.iconst 1, 1) := dk_4 (dk_at dksX6_mostAlike_3 4 rfl rfl)
theorem dX6_mostAlike_74 : decode cX6_mostAlike 74 = .ok (.iadd, 1) := dk_96 (dk_at dksX6_mostAlike_3 5 rfl rfl)
theorem dX6_mostAlike_75 : decode cX6_mostAlike 75 = .ok (.iastore, 1) := dk_79 (dk_at dksX6_mostAlike_3 6 rfl rfl)
theorem dX6_mostAlike_76 : decode cX6_mostAlike 76 = .ok (.iload_n 3, 1) := dk_29 (dk_at dksX6_mostAlike_3 7 rfl rfl)
theorem dX6_mostAlike_77 : decode cX6_mostAlike 77 = .ok (.aload_n 0, 1) := dk_42 (dk_at dksX6_mostAlike_3 8 rfl rfl)
theorem dX6_mostAlike_78 : decode cX6_mostAlike 78 = .ok (.getfield 51, 3) := dk_180 0 51 (dk_at dksX6_mostAlike_3 9 rfl rfl)
theorem dX6_mostAlike_81 : decode cX6_mostAlike 81 = .ok (.iload 5, 2) := dk_21 5 (dk_at dksX6_mostAlike_3 12 rfl rfl)
theorem dX6_mostAlike_83 : decode cX6_mostAlike 83 = .ok (.iaload, 1) := dk_46 (dk_at dksX6_mostAlike_3 14 rfl rfl)
theorem dX6_mostAlike_84 : decode cX6_mostAlike 84 = .ok (.invokestatic 409, 3) := dk_184 1 153 (dk_at dksX6_mostAlike_3 15 rfl rfl)
theorem dX6_mostAlike_87 : decode cX6_mostAlike 87 = .ok (.istore_n 3, 1) := dk_62 (dk_at dksX6_mostAlike_3 18 rfl rfl)
theorem dX6_mostAlike_88 : decode cX6_mostAlike 88 = .ok (.iinc 4 1, 3) := dk_132 4 1 (dk_at dksX6_mostAlike_3 19 rfl rfl)
theorem dX6_mostAlike_91 : decode cX6_mostAlike 91 = .ok (.goto (-62), 3) := dk_167 255 194 (dk_at dksX6_mostAlike_4 0 rfl rfl)
theorem dX6_mostAlike_94 : decode cX6_mostAlike 94 = .ok (.iload_n 3, 1) := dk_29 (dk_at dksX6_mostAlike_4 3 rfl rfl)
theorem dX6_mostAlike_95 : decode cX6_mostAlike 95 = .ok (.ireturn, 1) := dk_172 (dk_at dksX6_mostAlike_4 4 rfl rfl)
abbrev cX6_least : ByteArray := prog_16_method_124_code
def yX6_least : MethodName := ⟨RX6, "least", "(II)I"⟩
def dkwX6_least_2 : List UInt8 := [42, 42, 180, 1, 160, 182, 0, 95, 172]
abbrev dktX6_least_2 : List UInt8 := dkwX6_least_2 ++ []
def dkwX6_least_1 : List UInt8 := [27, 28, 182, 1, 169, 42, 180, 1, 160, 19, 1, 156, 160, 0, 12, 42, 16, 6, 182, 0, 91, 167, 0, 11]
abbrev dktX6_least_1 : List UInt8 := dkwX6_least_1 ++ dktX6_least_2
def dkwX6_least_0 : List UInt8 := [42, 27, 133, 182, 1, 49, 153, 0, 11, 42, 28, 182, 1, 37, 154, 0, 9, 42, 4, 182, 0, 91, 172, 42]
abbrev dktX6_least_0 : List UInt8 := dkwX6_least_0 ++ dktX6_least_1
theorem dksX6_least_0 : cX6_least.data.toList.drop 0 = dktX6_least_0 := by decide +kernel
theorem dksX6_least_1 : cX6_least.data.toList.drop 24 = dktX6_least_1 := dk_seg dksX6_least_0 24 rfl rfl
theorem dksX6_least_2 : cX6_least.data.toList.drop 48 = dktX6_least_2 := dk_seg dksX6_least_1 24 rfl rfl
theorem dX6_least_0 : decode cX6_least 0 = .ok (.aload_n 0, 1) := dk_42 (dk_at dksX6_least_0 0 rfl rfl)
theorem dX6_least_1 : decode cX6_least 1 = .ok (.iload_n 1, 1) := dk_27 (dk_at dksX6_least_0 1 rfl rfl)
theorem dX6_least_2 : decode cX6_least 2 = .ok (.i2l, 1) := dk_133 (dk_at dksX6_least_0 2 rfl rfl)
theorem dX6_least_3 : decode cX6_least 3 = .ok (.invokevirtual 305, 3) := dk_182 1 49 (dk_at dksX6_least_0 3 rfl rfl)
theorem dX6_least_6 : decode cX6_least 6 = .ok (.ifCond .eq 11, 3) := dk_153 0 11 (dk_at dksX6_least_0 6 rfl rfl)
theorem dX6_least_9 : decode cX6_least 9 = .ok (.aload_n 0, 1) := dk_42 (dk_at dksX6_least_0 9 rfl rfl)
theorem dX6_least_10 : decode cX6_least 10 = .ok (.iload_n 2, 1) := dk_28 (dk_at dksX6_least_0 10 rfl rfl)
theorem dX6_least_11 : decode cX6_least 11 = .ok (.invokevirtual 293, 3) := dk_182 1 37 (dk_at dksX6_least_0 11 rfl rfl)
theorem dX6_least_14 : decode cX6_least 14 = .ok (.ifCond .ne 9, 3) := dk_154 0 9 (dk_at dksX6_least_0 14 rfl rfl)
theorem dX6_least_17 : decode cX6_least 17 = .ok (.aload_n 0, 1) := dk_42 (dk_at dksX6_least_0 17 rfl rfl)
theorem dX6_least_18 : decode cX6_least 18 = .ok (.iconst 1, 1) := dk_4 (dk_at dksX6_least_0 18 rfl rfl)
theorem dX6_least_19 : decode cX6_least 19 = .ok (.invokevirtual 91, 3) := dk_182 0 91 (dk_at dksX6_least_0 19 rfl rfl)
theorem dX6_least_22 : decode cX6_least 22 = .ok (.ireturn, 1) := dk_172 (dk_at dksX6_least_0 22 rfl rfl)
theorem dX6_least_23 : decode cX6_least 23 = .ok (.aload_n 0, 1) := dk_42 (dk_at dksX6_least_0 23 rfl rfl)
theorem dX6_least_24 : decode cX6_least 24 = .ok (.iload_n 1, 1) := dk_27 (dk_at dksX6_least_1 0 rfl rfl)
theorem dX6_least_25 : decode cX6_least 25 = .ok (.iload_n 2, 1) := dk_28 (dk_at dksX6_least_1 1 rfl rfl)
theorem dX6_least_26 : decode cX6_least 26 = .ok (.invokevirtual 425, 3) := dk_182 1 169 (dk_at dksX6_least_1 2 rfl rfl)
theorem dX6_least_29 : decode cX6_least 29 = .ok (.aload_n 0, 1) := dk_42 (dk_at dksX6_least_1 5 rfl rfl)
theorem dX6_least_30 : decode cX6_least 30 = .ok (.getfield 416, 3) := dk_180 1 160 (dk_at dksX6_least_1 6 rfl rfl)
theorem dX6_least_33 : decode cX6_least 33 = .ok (.ldc_w 412, 3) := dk_19 1 156 (dk_at dksX6_least_1 9 rfl rfl)
theorem dX6_least_36 : decode cX6_least 36 = .ok (.if_icmp .ne 12, 3) := dk_160 0 12 (dk_at dksX6_least_1 12 rfl rfl)
theorem dX6_least_39 : decode cX6_least 39 = .ok (.aload_n 0, 1) := dk_42 (dk_at dksX6_least_1 15 rfl rfl)
theorem dX6_least_40 : decode cX6_least 40 = .ok (.bipush 6, 2) := dk_16 6 (dk_at dksX6_least_1 16 rfl rfl)
theorem dX6_least_42 : decode cX6_least 42 = .ok (.invokevirtual 91, 3) := dk_182 0 91 (dk_at dksX6_least_1 18 rfl rfl)
theorem dX6_least_45 : decode cX6_least 45 = .ok (.goto 11, 3) := dk_167 0 11 (dk_at dksX6_least_1 21 rfl rfl)
theorem dX6_least_48 : decode cX6_least 48 = .ok (.aload_n 0, 1) := dk_42 (dk_at dksX6_least_2 0 rfl rfl)
theorem dX6_least_49 : decode cX6_least 49 = .ok (.aload_n 0, 1) := dk_42 (dk_at dksX6_least_2 1 rfl rfl)
theorem dX6_least_50 : decode cX6_least 50 = .ok (.getfield 416, 3) := dk_180 1 160 (dk_at dksX6_least_2 2 rfl rfl)
theorem dX6_least_53 : decode cX6_least 53 = .ok (.invokevirtual 95, 3) := dk_182 0 95 (dk_at dksX6_least_2 5 rfl rfl)
theorem dX6_least_56 : decode cX6_least 56 = .ok (.ireturn, 1) := dk_172 (dk_at dksX6_least_2 8 rfl rfl)
abbrev cX6_laysLeast : ByteArray := prog_16_method_123_code
def yX6_laysLeast : MethodName := ⟨RX6, "laysLeast", "(II)V"⟩
def dkwX6_laysLeast_5 : List UInt8 := [181, 1, 166, 132, 5, 1, 167, 255, 163, 132, 3, 1, 167, 255, 138, 177]
abbrev dktX6_laysLeast_5 : List UInt8 := dkwX6_laysLeast_5 ++ []
def dkwX6_laysLeast_4 : List UInt8 := [182, 1, 126, 28, 159, 0, 6, 167, 0, 20, 42, 21, 6, 181, 1, 160, 42, 29, 181, 1, 163, 42, 21, 5]
abbrev dktX6_laysLeast_4 : List UInt8 := dkwX6_laysLeast_4 ++ dktX6_laysLeast_5
def dkwX6_laysLeast_3 : List UInt8 := [180, 1, 160, 162, 0, 48, 42, 42, 27, 6, 182, 1, 25, 21, 4, 42, 180, 0, 7, 16, 6, 46, 21, 5]
abbrev dktX6_laysLeast_3 : List UInt8 := dkwX6_laysLeast_3 ++ dktX6_laysLeast_4
def dkwX6_laysLeast_2 : List UInt8 := [163, 0, 79, 29, 21, 5, 42, 27, 4, 182, 1, 25, 130, 184, 1, 88, 96, 54, 6, 21, 6, 42]
abbrev dktX6_laysLeast_2 : List UInt8 := dkwX6_laysLeast_2 ++ dktX6_laysLeast_3
def dkwX6_laysLeast_1 : List UInt8 := [54, 4, 3, 54, 5, 21, 5, 4, 42, 180, 0, 7, 3, 46, 120, 162, 0, 86, 21, 4, 16, 99]
abbrev dktX6_laysLeast_1 : List UInt8 := dkwX6_laysLeast_1 ++ dktX6_laysLeast_2
def dkwX6_laysLeast_0 : List UInt8 := [42, 19, 1, 156, 181, 1, 160, 3, 62, 29, 16, 20, 163, 0, 118, 42, 27, 3, 182, 1, 25, 29, 96]
abbrev dktX6_laysLeast_0 : List UInt8 := dkwX6_laysLeast_0 ++ dktX6_laysLeast_1
theorem dksX6_laysLeast_0 : cX6_laysLeast.data.toList.drop 0 = dktX6_laysLeast_0 := by decide +kernel
theorem dksX6_laysLeast_1 : cX6_laysLeast.data.toList.drop 23 = dktX6_laysLeast_1 := dk_seg dksX6_laysLeast_0 23 rfl rfl
theorem dksX6_laysLeast_2 : cX6_laysLeast.data.toList.drop 45 = dktX6_laysLeast_2 := dk_seg dksX6_laysLeast_1 22 rfl rfl
theorem dksX6_laysLeast_3 : cX6_laysLeast.data.toList.drop 67 = dktX6_laysLeast_3 := dk_seg dksX6_laysLeast_2 22 rfl rfl
theorem dksX6_laysLeast_4 : cX6_laysLeast.data.toList.drop 91 = dktX6_laysLeast_4 := dk_seg dksX6_laysLeast_3 24 rfl rfl
theorem dksX6_laysLeast_5 : cX6_laysLeast.data.toList.drop 115 = dktX6_laysLeast_5 := dk_seg dksX6_laysLeast_4 24 rfl rfl
theorem dX6_laysLeast_0 : decode cX6_laysLeast 0 = .ok (.aload_n 0, 1) := dk_42 (dk_at dksX6_laysLeast_0 0 rfl rfl)
theorem dX6_laysLeast_1 : decode cX6_laysLeast 1 = .ok (.ldc_w 412, 3) := dk_19 1 156 (dk_at dksX6_laysLeast_0 1 rfl rfl)
theorem dX6_laysLeast_4 : decode cX6_laysLeast 4 = .ok (.putfield 416, 3) := dk_181 1 160 (dk_at dksX6_laysLeast_0 4 rfl rfl)
theorem dX6_laysLeast_7 : decode cX6_laysLeast 7 = .ok (.iconst 0, 1) := dk_3 (dk_at dksX6_laysLeast_0 7 rfl rfl)
theorem dX6_laysLeast_8 : decode cX6_laysLeast 8 = .ok (.istore_n 3, 1) := dk_62 (dk_at dksX6_laysLeast_0 8 rfl rfl)
theorem dX6_laysLeast_9 : decode cX6_laysLeast 9 = .ok (.iload_n 3, 1) := dk_29 (dk_at dksX6_laysLeast_0 9 rfl rfl)
theorem dX6_laysLeast_10 : decode cX6_laysLeast 10 = .ok (.bipush 20, 2) := dk_16 20 (dk_at dksX6_laysLeast_0 10 rfl rfl)
theorem dX6_laysLeast_12 : decode cX6_laysLeast 12 = .ok (.if_icmp .gt 118, 3) := dk_163 0 118 (dk_at dksX6_laysLeast_0 12 rfl rfl)
theorem dX6_laysLeast_15 : decode cX6_laysLeast 15 = .ok (.aload_n 0, 1) := dk_42 (dk_at dksX6_laysLeast_0 15 rfl rfl)
theorem dX6_laysLeast_16 : decode cX6_laysLeast 16 = .ok (.iload_n 1, 1) := dk_27 (dk_at dksX6_laysLeast_0 16 rfl rfl)
theorem dX6_laysLeast_17 : decode cX6_laysLeast 17 = .ok (.iconst 0, 1) := dk_3 (dk_at dksX6_laysLeast_0 17 rfl rfl)
theorem dX6_laysLeast_18 : decode cX6_laysLeast 18 = .ok (.invokevirtual 281, 3) := dk_182 1 25 (dk_at dksX6_laysLeast_0 18 rfl rfl)
theorem dX6_laysLeast_21 : decode cX6_laysLeast 21 = .ok (.iload_n 3, 1) := dk_29 (dk_at dksX6_laysLeast_0 21 rfl rfl)
theorem dX6_laysLeast_22 : decode cX6_laysLeast 22 = .ok (.iadd, 1) := dk_96 (dk_at dksX6_laysLeast_0 22 rfl rfl)
theorem dX6_laysLeast_23 : decode cX6_laysLeast 23 = .ok (.istore 4, 2) := dk_54 4 (dk_at dksX6_laysLeast_1 0 rfl rfl)
theorem dX6_laysLeast_25 : decode cX6_laysLeast 25 = .ok (.iconst 0, 1) := dk_3 (dk_at dksX6_laysLeast_1 2 rfl rfl)
theorem dX6_laysLeast_26 : decode cX6_laysLeast 26 = .ok (.istore 5, 2) := dk_54 5 (dk_at dksX6_laysLeast_1 3 rfl rfl)
theorem dX6_laysLeast_28 : decode cX6_laysLeast 28 = .ok (.iload 5, 2) := dk_21 5 (dk_at dksX6_laysLeast_1 5 rfl rfl)
theorem dX6_laysLeast_30 : decode cX6_laysLeast 30 = .ok (.iconst 1, 1) := dk_4 (dk_at dksX6_laysLeast_1 7 rfl rfl)
theorem dX6_laysLeast_31 : decode cX6_laysLeast 31 = .ok (.aload_n 0, 1) := dk_42 (dk_at dksX6_laysLeast_1 8 rfl rfl)
theorem dX6_laysLeast_32 : decode cX6_laysLeast 32 = .ok (.getfield 7, 3) := dk_180 0 7 (dk_at dksX6_laysLeast_1 9 rfl rfl)
theorem dX6_laysLeast_35 : decode cX6_laysLeast 35 = .ok (.iconst 0, 1) := dk_3 (dk_at dksX6_laysLeast_1 12 rfl rfl)
theorem dX6_laysLeast_36 : decode cX6_laysLeast 36 = .ok (.iaload, 1) := dk_46 (dk_at dksX6_laysLeast_1 13 rfl rfl)
theorem dX6_laysLeast_37 : decode cX6_laysLeast 37 = .ok (.ishl, 1) := dk_120 (dk_at dksX6_laysLeast_1 14 rfl rfl)
theorem dX6_laysLeast_38 : decode cX6_laysLeast 38 = .ok (.if_icmp .ge 86, 3) := dk_162 0 86 (dk_at dksX6_laysLeast_1 15 rfl rfl)
theorem dX6_laysLeast_41 : decode cX6_laysLeast 41 = .ok (.iload 4, 2) := dk_21 4 (dk_at dksX6_laysLeast_1 18 rfl rfl)
theorem dX6_laysLeast_43 : decode cX6_laysLeast 43 = .ok (.bipush 99, 2) := dk_16 99 (dk_at dksX6_laysLeast_1 20 rfl rfl)
theorem dX6_laysLeast_45 : decode cX6_laysLeast 45 = .ok (.if_icmp .gt 79, 3) := dk_163 0 79 (dk_at dksX6_laysLeast_2 0 rfl rfl)
theorem dX6_laysLeast_48 : decode cX6_laysLeast 48 = .ok (.iload_n 3, 1) := dk_29 (dk_at dksX6_laysLeast_2 3 rfl rfl)
theorem dX6_laysLeast_49 : decode cX6_laysLeast 49 = .ok (.iload 5, 2) := dk_21 5 (dk_at dksX6_laysLeast_2 4 rfl rfl)
theorem dX6_laysLeast_51 : decode cX6_laysLeast 51 = .ok (.aload_n 0, 1) := dk_42 (dk_at dksX6_laysLeast_2 6 rfl rfl)
theorem dX6_laysLeast_52 : decode cX6_laysLeast 52 = .ok (.iload_n 1, 1) := dk_27 (dk_at dksX6_laysLeast_2 7 rfl rfl)
theorem dX6_laysLeast_53 : decode cX6_laysLeast 53 = .ok (.iconst 1, 1) := dk_4 (dk_at dksX6_laysLeast_2 8 rfl rfl)
theorem dX6_laysLeast_54 : decode cX6_laysLeast 54 = .ok (.invokevirtual 281, 3) := dk_182 1 25 (dk_at dksX6_laysLeast_2 9 rfl rfl)
theorem dX6_laysLeast_57 : decode cX6_laysLeast 57 = .ok (.ixor, 1) := dk_130 (dk_at dksX6_laysLeast_2 12 rfl rfl)
theorem dX6_laysLeast_58 : decode cX6_laysLeast 58 = .ok (.invokestatic 344, 3) := dk_184 1 88 (dk_at dksX6_laysLeast_2 13 rfl rfl)
theorem dX6_laysLeast_61 : decode cX6_laysLeast 61 = .ok (.iadd, 1) := dk_96 (dk_at dksX6_laysLeast_2 16 rfl rfl)
theorem dX6_laysLeast_62 : decode cX6_laysLeast 62 = .ok (.istore 6, 2) := dk_54 6 (dk_at dksX6_laysLeast_2 17 rfl rfl)
theorem dX6_laysLeast_64 : decode cX6_laysLeast 64 = .ok (.iload 6, 2) := dk_21 6 (dk_at dksX6_laysLeast_2 19 rfl rfl)
theorem dX6_laysLeast_66 : decode cX6_laysLeast 66 = .ok (.aload_n 0, 1) := dk_42 (dk_at dksX6_laysLeast_2 21 rfl rfl)
theorem dX6_laysLeast_67 : decode cX6_laysLeast 67 = .ok (.getfield 416, 3) := dk_180 1 160 (dk_at dksX6_laysLeast_3 0 rfl rfl)
theorem dX6_laysLeast_70 : decode cX6_laysLeast 70 = .ok (.if_icmp .ge 48, 3) := dk_162 0 48 (dk_at dksX6_laysLeast_3 3 rfl rfl)
theorem dX6_laysLeast_73 : decode cX6_laysLeast 73 = .ok (.aload_n 0, 1) := dk_42 (dk_at dksX6_laysLeast_3 6 rfl rfl)
theorem dX6_laysLeast_74 : decode cX6_laysLeast 74 = .ok (.aload_n 0, 1) := dk_42 (dk_at dksX6_laysLeast_3 7 rfl rfl)
theorem dX6_laysLeast_75 : decode cX6_laysLeast 75 = .ok (.iload_n 1, 1) := dk_27 (dk_at dksX6_laysLeast_3 8 rfl rfl)
theorem dX6_laysLeast_76 : decode cX6_laysLeast 76 = .ok (.iconst 3, 1) := dk_6 (dk_at dksX6_laysLeast_3 9 rfl rfl)
theorem dX6_laysLeast_77 : decode cX6_laysLeast 77 = .ok (.invokevirtual 281, 3) := dk_182 1 25 (dk_at dksX6_laysLeast_3 10 rfl rfl)
theorem dX6_laysLeast_80 : decode cX6_laysLeast 80 = .ok (.iload 4, 2) := dk_21 4 (dk_at dksX6_laysLeast_3 13 rfl rfl)
theorem dX6_laysLeast_82 : decode cX6_laysLeast 82 = .ok (.aload_n 0, 1) := dk_42 (dk_at dksX6_laysLeast_3 15 rfl rfl)
theorem dX6_laysLeast_83 : decode cX6_laysLeast 83 = .ok (.getfield 7, 3) := dk_180 0 7 (dk_at dksX6_laysLeast_3 16 rfl rfl)
theorem dX6_laysLeast_86 : decode cX6_laysLeast 86 = .ok (.bipush 6, 2) := dk_16 6 (dk_at dksX6_laysLeast_3 19 rfl rfl)
theorem dX6_laysLeast_88 : decode cX6_laysLeast 88 = .ok (.iaload, 1) := dk_46 (dk_at dksX6_laysLeast_3 21 rfl rfl)
theorem dX6_laysLeast_89 : decode cX6_laysLeast 89 = .ok (.iload 5, 2) := dk_21 5 (dk_at dksX6_laysLeast_3 22 rfl rfl)
theorem dX6_laysLeast_91 : decode cX6_laysLeast 91 = .ok (.invokevirtual 382, 3) := dk_182 1 126 (dk_at dksX6_laysLeast_4 0 rfl rfl)
theorem dX6_laysLeast_94 : decode cX6_laysLeast 94 = .ok (.iload_n 2, 1) := dk_28 (dk_at dksX6_laysLeast_4 3 rfl rfl)
theorem dX6_laysLeast_95 : decode cX6_laysLeast 95 = .ok (.if_icmp .eq 6, 3) := dk_159 0 6 (dk_at dksX6_laysLeast_4 4 rfl rfl)
theorem dX6_laysLeast_98 : decode cX6_laysLeast 98 = .ok (.goto 20, 3) := dk_167 0 20 (dk_at dksX6_laysLeast_4 7 rfl rfl)
theorem dX6_laysLeast_101 : decode cX6_laysLeast 101 = .ok (.aload_n 0, 1) := dk_42 (dk_at dksX6_laysLeast_4 10 rfl rfl)
theorem dX6_laysLeast_102 : decode cX6_laysLeast 102 = .ok (.iload 6, 2) := dk_21 6 (dk_at dksX6_laysLeast_4 11 rfl rfl)
theorem dX6_laysLeast_104 : decode cX6_laysLeast 104 = .ok (.putfield 416, 3) := dk_181 1 160 (dk_at dksX6_laysLeast_4 13 rfl rfl)
theorem dX6_laysLeast_107 : decode cX6_laysLeast 107 = .ok (.aload_n 0, 1) := dk_42 (dk_at dksX6_laysLeast_4 16 rfl rfl)
theorem dX6_laysLeast_108 : decode cX6_laysLeast 108 = .ok (.iload_n 3, 1) := dk_29 (dk_at dksX6_laysLeast_4 17 rfl rfl)
theorem dX6_laysLeast_109 : decode cX6_laysLeast 109 = .ok (.putfield 419, 3) := dk_181 1 163 (dk_at dksX6_laysLeast_4 18 rfl rfl)
theorem dX6_laysLeast_112 : decode cX6_laysLeast 112 = .ok (.aload_n 0, 1) := dk_42 (dk_at dksX6_laysLeast_4 21 rfl rfl)
theorem dX6_laysLeast_113 : decode cX6_laysLeast 113 = .ok (.iload 5, 2) := dk_21 5 (dk_at dksX6_laysLeast_4 22 rfl rfl)
theorem dX6_laysLeast_115 : decode cX6_laysLeast 115 = .ok (.putfield 422, 3) := dk_181 1 166 (dk_at dksX6_laysLeast_5 0 rfl rfl)
theorem dX6_laysLeast_118 : decode cX6_laysLeast 118 = .ok (.iinc 5 1, 3) := dk_132 5 1 (dk_at dksX6_laysLeast_5 3 rfl rfl)
theorem dX6_laysLeast_121 : decode cX6_laysLeast 121 = .ok (.goto (-93), 3) := dk_167 255 163 (dk_at dksX6_laysLeast_5 6 rfl rfl)
theorem dX6_laysLeast_124 : decode cX6_laysLeast 124 = .ok (.iinc 3 1, 3) := dk_132 3 1 (dk_at dksX6_laysLeast_5 9 rfl rfl)
theorem dX6_laysLeast_127 : decode cX6_laysLeast 127 = .ok (.goto (-118), 3) := dk_167 255 138 (dk_at dksX6_laysLeast_5 12 rfl rfl)
theorem dX6_laysLeast_130 : decode cX6_laysLeast 130 = .ok (.return_, 1) := dk_177 (dk_at dksX6_laysLeast_5 15 rfl rfl)
abbrev cX6_leastBy : ByteArray := prog_16_method_125_code
def yX6_leastBy : MethodName := ⟨RX6, "leastBy", "(III)I"⟩
def dkwX6_leastBy_3 : List UInt8 := [180, 1, 166, 182, 0, 95, 172]
abbrev dktX6_leastBy_3 : List UInt8 := dkwX6_leastBy_3 ++ []
def dkwX6_leastBy_2 : List UInt8 := [160, 0, 10, 42, 16, 6, 182, 0, 91, 172, 42, 29, 154, 0, 10, 42, 180, 1, 163, 167, 0, 7, 42]
abbrev dktX6_leastBy_2 : List UInt8 := dkwX6_leastBy_2 ++ dktX6_leastBy_3
def dkwX6_leastBy_1 : List UInt8 := [164, 0, 9, 42, 4, 182, 0, 91, 172, 42, 27, 28, 182, 1, 169, 42, 180, 1, 160, 19, 1, 156]
abbrev dktX6_leastBy_1 : List UInt8 := dkwX6_leastBy_1 ++ dktX6_leastBy_2
def dkwX6_leastBy_0 : List UInt8 := [42, 27, 133, 182, 1, 49, 153, 0, 20, 42, 28, 182, 1, 37, 153, 0, 12, 29, 155, 0, 8, 29, 4]
abbrev dktX6_leastBy_0 : List UInt8 := dkwX6_leastBy_0 ++ dktX6_leastBy_1
theorem dksX6_leastBy_0 : cX6_leastBy.data.toList.drop 0 = dktX6_leastBy_0 := by decide +kernel
theorem dksX6_leastBy_1 : cX6_leastBy.data.toList.drop 23 = dktX6_leastBy_1 := dk_seg dksX6_leastBy_0 23 rfl rfl
theorem dksX6_leastBy_2 : cX6_leastBy.data.toList.drop 45 = dktX6_leastBy_2 := dk_seg dksX6_leastBy_1 22 rfl rfl
theorem dksX6_leastBy_3 : cX6_leastBy.data.toList.drop 68 = dktX6_leastBy_3 := dk_seg dksX6_leastBy_2 23 rfl rfl
theorem dX6_leastBy_0 : decode cX6_leastBy 0 = .ok (.aload_n 0, 1) := dk_42 (dk_at dksX6_leastBy_0 0 rfl rfl)
theorem dX6_leastBy_1 : decode cX6_leastBy 1 = .ok (.iload_n 1, 1) := dk_27 (dk_at dksX6_leastBy_0 1 rfl rfl)
theorem dX6_leastBy_2 : decode cX6_leastBy 2 = .ok (.i2l, 1) := dk_133 (dk_at dksX6_leastBy_0 2 rfl rfl)
theorem dX6_leastBy_3 : decode cX6_leastBy 3 = .ok (.invokevirtual 305, 3) := dk_182 1 49 (dk_at dksX6_leastBy_0 3 rfl rfl)
theorem dX6_leastBy_6 : decode cX6_leastBy 6 = .ok (.ifCond .eq 20, 3) := dk_153 0 20 (dk_at dksX6_leastBy_0 6 rfl rfl)
theorem dX6_leastBy_9 : decode cX6_leastBy 9 = .ok (.aload_n 0, 1) := dk_42 (dk_at dksX6_leastBy_0 9 rfl rfl)
theorem dX6_leastBy_10 : decode cX6_leastBy 10 = .ok (.iload_n 2, 1) := dk_28 (dk_at dksX6_leastBy_0 10 rfl rfl)
theorem dX6_leastBy_11 : decode cX6_leastBy 11 = .ok (.invokevirtual 293, 3) := dk_182 1 37 (dk_at dksX6_leastBy_0 11 rfl rfl)
theorem dX6_leastBy_14 : decode cX6_leastBy 14 = .ok (.ifCond .eq 12, 3) := dk_153 0 12 (dk_at dksX6_leastBy_0 14 rfl rfl)
theorem dX6_leastBy_17 : decode cX6_leastBy 17 = .ok (.iload_n 3, 1) := dk_29 (dk_at dksX6_leastBy_0 17 rfl rfl)
theorem dX6_leastBy_18 : decode cX6_leastBy 18 = .ok (.ifCond .lt 8, 3) := dk_155 0 8 (dk_at dksX6_leastBy_0 18 rfl rfl)
theorem dX6_leastBy_21 : decode cX6_leastBy 21 = .ok (.iload_n 3, 1) := dk_29 (dk_at dksX6_leastBy_0 21 rfl rfl)
theorem dX6_leastBy_22 : decode cX6_leastBy 22 = .ok (.iconst 1, 1) := dk_4 (dk_at dksX6_leastBy_0 22 rfl rfl)
theorem dX6_leastBy_23 : decode cX6_leastBy 23 = .ok (.if_icmp .le 9, 3) := dk_164 0 9 (dk_at dksX6_leastBy_1 0 rfl rfl)
theorem dX6_leastBy_26 : decode cX6_leastBy 26 = .ok (.aload_n 0, 1) := dk_42 (dk_at dksX6_leastBy_1 3 rfl rfl)
theorem dX6_leastBy_27 : decode cX6_leastBy 27 = .ok (.iconst 1, 1) := dk_4 (dk_at dksX6_leastBy_1 4 rfl rfl)
theorem dX6_leastBy_28 : decode cX6_leastBy 28 = .ok (.invokevirtual 91, 3) := dk_182 0 91 (dk_at dksX6_leastBy_1 5 rfl rfl)
theorem dX6_leastBy_31 : decode cX6_leastBy 31 = .ok (.ireturn, 1) := dk_172 (dk_at dksX6_leastBy_1 8 rfl rfl)
theorem dX6_leastBy_32 : decode cX6_leastBy 32 = .ok (.aload_n 0, 1) := dk_42 (dk_at dksX6_leastBy_1 9 rfl rfl)
theorem dX6_leastBy_33 : decode cX6_leastBy 33 = .ok (.iload_n 1, 1) := dk_27 (dk_at dksX6_leastBy_1 10 rfl rfl)
theorem dX6_leastBy_34 : decode cX6_leastBy 34 = .ok (.iload_n 2, 1) := dk_28 (dk_at dksX6_leastBy_1 11 rfl rfl)
theorem dX6_leastBy_35 : decode cX6_leastBy 35 = .ok (.invokevirtual 425, 3) := dk_182 1 169 (dk_at dksX6_leastBy_1 12 rfl rfl)
theorem dX6_leastBy_38 : decode cX6_leastBy 38 = .ok (.aload_n 0, 1) := dk_42 (dk_at dksX6_leastBy_1 15 rfl rfl)
theorem dX6_leastBy_39 : decode cX6_leastBy 39 = .ok (.getfield 416, 3) := dk_180 1 160 (dk_at dksX6_leastBy_1 16 rfl rfl)
theorem dX6_leastBy_42 : decode cX6_leastBy 42 = .ok (.ldc_w 412, 3) := dk_19 1 156 (dk_at dksX6_leastBy_1 19 rfl rfl)
theorem dX6_leastBy_45 : decode cX6_leastBy 45 = .ok (.if_icmp .ne 10, 3) := dk_160 0 10 (dk_at dksX6_leastBy_2 0 rfl rfl)
theorem dX6_leastBy_48 : decode cX6_leastBy 48 = .ok (.aload_n 0, 1) := dk_42 (dk_at dksX6_leastBy_2 3 rfl rfl)
theorem dX6_leastBy_49 : decode cX6_leastBy 49 = .ok (.bipush 6, 2) := dk_16 6 (dk_at dksX6_leastBy_2 4 rfl rfl)
theorem dX6_leastBy_51 : decode cX6_leastBy 51 = .ok (.invokevirtual 91, 3) := dk_182 0 91 (dk_at dksX6_leastBy_2 6 rfl rfl)
theorem dX6_leastBy_54 : decode cX6_leastBy 54 = .ok (.ireturn, 1) := dk_172 (dk_at dksX6_leastBy_2 9 rfl rfl)
theorem dX6_leastBy_55 : decode cX6_leastBy 55 = .ok (.aload_n 0, 1) := dk_42 (dk_at dksX6_leastBy_2 10 rfl rfl)
theorem dX6_leastBy_56 : decode cX6_leastBy 56 = .ok (.iload_n 3, 1) := dk_29 (dk_at dksX6_leastBy_2 11 rfl rfl)
theorem dX6_leastBy_57 : decode cX6_leastBy 57 = .ok (.ifCond .ne 10, 3) := dk_154 0 10 (dk_at dksX6_leastBy_2 12 rfl rfl)
theorem dX6_leastBy_60 : decode cX6_leastBy 60 = .ok (.aload_n 0, 1) := dk_42 (dk_at dksX6_leastBy_2 15 rfl rfl)
theorem dX6_leastBy_61 : decode cX6_leastBy 61 = .ok (.getfield 419, 3) := dk_180 1 163 (dk_at dksX6_leastBy_2 16 rfl rfl)
theorem dX6_leastBy_64 : decode cX6_leastBy 64 = .ok (.goto 7, 3) := dk_167 0 7 (dk_at dksX6_leastBy_2 19 rfl rfl)
theorem dX6_leastBy_67 : decode cX6_leastBy 67 = .ok (.aload_n 0, 1) := dk_42 (dk_at dksX6_leastBy_2 22 rfl rfl)
theorem dX6_leastBy_68 : decode cX6_leastBy 68 = .ok (.getfield 422, 3) := dk_180 1 166 (dk_at dksX6_leastBy_3 0 rfl rfl)
theorem dX6_leastBy_71 : decode cX6_leastBy 71 = .ok (.invokevirtual 95, 3) := dk_182 0 95 (dk_at dksX6_leastBy_3 3 rfl rfl)
theorem dX6_leastBy_74 : decode cX6_leastBy 74 = .ok (.ireturn, 1) := dk_172 (dk_at dksX6_leastBy_3 6 rfl rfl)
abbrev cX6_reach : ByteArray := prog_16_method_127_code
def yX6_reach : MethodName := ⟨RX6, "reach", "(I)I"⟩
def dkwX6_reach_1 : List UInt8 := [46, 182, 0, 95, 172]
abbrev dktX6_reach_1 : List UInt8 := dkwX6_reach_1 ++ []
def dkwX6_reach_0 : List UInt8 := [42, 27, 182, 1, 40, 154, 0, 9, 42, 4, 182, 0, 91, 172, 42, 182, 1, 172, 42, 42, 180, 0, 54, 27]
abbrev dktX6_reach_0 : List UInt8 := dkwX6_reach_0 ++ dktX6_reach_1
theorem dksX6_reach_0 : cX6_reach.data.toList.drop 0 = dktX6_reach_0 := by decide +kernel
theorem dksX6_reach_1 : cX6_reach.data.toList.drop 24 = dktX6_reach_1 := dk_seg dksX6_reach_0 24 rfl rfl
theorem dX6_reach_0 : decode cX6_reach 0 = .ok (.aload_n 0, 1) := dk_42 (dk_at dksX6_reach_0 0 rfl rfl)
theorem dX6_reach_1 : decode cX6_reach 1 = .ok (.iload_n 1, 1) := dk_27 (dk_at dksX6_reach_0 1 rfl rfl)
theorem dX6_reach_2 : decode cX6_reach 2 = .ok (.invokevirtual 296, 3) := dk_182 1 40 (dk_at dksX6_reach_0 2 rfl rfl)
theorem dX6_reach_5 : decode cX6_reach 5 = .ok (.ifCond .ne 9, 3) := dk_154 0 9 (dk_at dksX6_reach_0 5 rfl rfl)
theorem dX6_reach_8 : decode cX6_reach 8 = .ok (.aload_n 0, 1) := dk_42 (dk_at dksX6_reach_0 8 rfl rfl)
theorem dX6_reach_9 : decode cX6_reach 9 = .ok (.iconst 1, 1) := dk_4 (dk_at dksX6_reach_0 9 rfl rfl)
theorem dX6_reach_10 : decode cX6_reach 10 = .ok (.invokevirtual 91, 3) := dk_182 0 91 (dk_at dksX6_reach_0 10 rfl rfl)
theorem dX6_reach_13 : decode cX6_reach 13 = .ok (.ireturn, 1) := dk_172 (dk_at dksX6_reach_0 13 rfl rfl)
theorem dX6_reach_14 : decode cX6_reach 14 = .ok (.aload_n 0, 1) := dk_42 (dk_at dksX6_reach_0 14 rfl rfl)
theorem dX6_reach_15 : decode cX6_reach 15 = .ok (.invokevirtual 428, 3) := dk_182 1 172 (dk_at dksX6_reach_0 15 rfl rfl)
theorem dX6_reach_18 : decode cX6_reach 18 = .ok (.aload_n 0, 1) := dk_42 (dk_at dksX6_reach_0 18 rfl rfl)
theorem dX6_reach_19 : decode cX6_reach 19 = .ok (.aload_n 0, 1) := dk_42 (dk_at dksX6_reach_0 19 rfl rfl)
theorem dX6_reach_20 : decode cX6_reach 20 = .ok (.getfield 54, 3) := dk_180 0 54 (dk_at dksX6_reach_0 20 rfl rfl)
theorem dX6_reach_23 : decode cX6_reach 23 = .ok (.iload_n 1, 1) := dk_27 (dk_at dksX6_reach_0 23 rfl rfl)
theorem dX6_reach_24 : decode cX6_reach 24 = .ok (.iaload, 1) := dk_46 (dk_at dksX6_reach_1 0 rfl rfl)
theorem dX6_reach_25 : decode cX6_reach 25 = .ok (.invokevirtual 95, 3) := dk_182 0 95 (dk_at dksX6_reach_1 1 rfl rfl)
theorem dX6_reach_28 : decode cX6_reach 28 = .ok (.ireturn, 1) := dk_172 (dk_at dksX6_reach_1 4 rfl rfl)
abbrev cX6_laysWorlds : ByteArray := prog_16_method_126_code
def yX6_laysWorlds : MethodName := ⟨RX6, "laysWorlds", "()V"⟩
def dkwX6_laysWorlds_4 : List UInt8 := [92, 46, 28, 5, 112, 96, 79, 132, 2, 1, 167, 255, 197, 132, 1, 1, 167, 255, 177, 177]
abbrev dktX6_laysWorlds_4 : List UInt8 := dkwX6_laysWorlds_4 ++ []
def dkwX6_laysWorlds_3 : List UInt8 := [62, 29, 2, 160, 0, 6, 16, 8, 62, 42, 180, 0, 54, 29, 92, 46, 4, 96, 79, 42, 180, 0, 57, 29]
abbrev dktX6_laysWorlds_3 : List UInt8 := dkwX6_laysWorlds_3 ++ dktX6_laysWorlds_4
def dkwX6_laysWorlds_2 : List UInt8 := [17, 1, 164, 162, 0, 58, 42, 28, 5, 112, 28, 16, 20, 108, 28, 5, 108, 16, 10, 112, 27, 182, 1, 69]
abbrev dktX6_laysWorlds_2 : List UInt8 := dkwX6_laysWorlds_2 ++ dktX6_laysWorlds_3
def dkwX6_laysWorlds_1 : List UInt8 := [132, 1, 1, 167, 255, 233, 3, 60, 27, 4, 42, 180, 0, 7, 3, 46, 120, 162, 0, 73, 3, 61, 28]
abbrev dktX6_laysWorlds_1 : List UInt8 := dkwX6_laysWorlds_1 ++ dktX6_laysWorlds_2
def dkwX6_laysWorlds_0 : List UInt8 := [3, 60, 27, 16, 8, 163, 0, 23, 42, 180, 0, 54, 27, 3, 79, 42, 180, 0, 57, 27, 3, 79]
abbrev dktX6_laysWorlds_0 : List UInt8 := dkwX6_laysWorlds_0 ++ dktX6_laysWorlds_1
theorem dksX6_laysWorlds_0 : cX6_laysWorlds.data.toList.drop 0 = dktX6_laysWorlds_0 := by decide +kernel
theorem dksX6_laysWorlds_1 : cX6_laysWorlds.data.toList.drop 22 = dktX6_laysWorlds_1 := dk_seg dksX6_laysWorlds_0 22 rfl rfl
theorem dksX6_laysWorlds_2 : cX6_laysWorlds.data.toList.drop 45 = dktX6_laysWorlds_2 := dk_seg dksX6_laysWorlds_1 23 rfl rfl
theorem dksX6_laysWorlds_3 : cX6_laysWorlds.data.toList.drop 69 = dktX6_laysWorlds_3 := dk_seg dksX6_laysWorlds_2 24 rfl rfl
theorem dksX6_laysWorlds_4 : cX6_laysWorlds.data.toList.drop 93 = dktX6_laysWorlds_4 := dk_seg dksX6_laysWorlds_3 24 rfl rfl
theorem dX6_laysWorlds_0 : decode cX6_laysWorlds 0 = .ok (.iconst 0, 1) := dk_3 (dk_at dksX6_laysWorlds_0 0 rfl rfl)
theorem dX6_laysWorlds_1 : decode cX6_laysWorlds 1 = .ok (.istore_n 1, 1) := dk_60 (dk_at dksX6_laysWorlds_0 1 rfl rfl)
theorem dX6_laysWorlds_2 : decode cX6_laysWorlds 2 = .ok (.iload_n 1, 1) := dk_27 (dk_at dksX6_laysWorlds_0 2 rfl rfl)
theorem dX6_laysWorlds_3 : decode cX6_laysWorlds 3 = .ok (.bipush 8, 2) := dk_16 8 (dk_at dksX6_laysWorlds_0 3 rfl rfl)
theorem dX6_laysWorlds_5 : decode cX6_laysWorlds 5 = .ok (.if_icmp .gt 23, 3) := dk_163 0 23 (dk_at dksX6_laysWorlds_0 5 rfl rfl)
theorem dX6_laysWorlds_8 : decode cX6_laysWorlds 8 = .ok (.aload_n 0, 1) := dk_42 (dk_at dksX6_laysWorlds_0 8 rfl rfl)
theorem dX6_laysWorlds_9 : decode cX6_laysWorlds 9 = .ok (.getfield 54, 3) := dk_180 0 54 (dk_at dksX6_laysWorlds_0 9 rfl rfl)
theorem dX6_laysWorlds_12 : decode cX6_laysWorlds 12 = .ok (.iload_n 1, 1) := dk_27 (dk_at dksX6_laysWorlds_0 12 rfl rfl)
theorem dX6_laysWorlds_13 : decode cX6_laysWorlds 13 = .ok (.iconst 0, 1) := dk_3 (dk_at dksX6_laysWorlds_0 13 rfl rfl)
theorem dX6_laysWorlds_14 : decode cX6_laysWorlds 14 = .ok (.iastore, 1) := dk_79 (dk_at dksX6_laysWorlds_0 14 rfl rfl)
theorem dX6_laysWorlds_15 : decode cX6_laysWorlds 15 = .ok (.aload_n 0, 1) := dk_42 (dk_at dksX6_laysWorlds_0 15 rfl rfl)
theorem dX6_laysWorlds_16 : decode cX6_laysWorlds 16 = .ok (.getfield 57, 3) := dk_180 0 57 (dk_at dksX6_laysWorlds_0 16 rfl rfl)
theorem dX6_laysWorlds_19 : decode cX6_laysWorlds 19 = .ok (.iload_n 1, 1) := dk_27 (dk_at dksX6_laysWorlds_0 19 rfl rfl)
theorem dX6_laysWorlds_20 : decode cX6_laysWorlds 20 = .ok (.iconst 0, 1) := dk_3 (dk_at dksX6_laysWorlds_0 20 rfl rfl)
theorem dX6_laysWorlds_21 : decode cX6_laysWorlds 21 = .ok (.iastore, 1) := dk_79 (dk_at dksX6_laysWorlds_0 21 rfl rfl)
theorem dX6_laysWorlds_22 : decode cX6_laysWorlds 22 = .ok (.iinc 1 1, 3) := dk_132 1 1 (dk_at dksX6_laysWorlds_1 0 rfl rfl)
theorem dX6_laysWorlds_25 : decode cX6_laysWorlds 25 = .ok (.goto (-23), 3) := dk_167 255 233 (dk_at dksX6_laysWorlds_1 3 rfl rfl)
theorem dX6_laysWorlds_28 : decode cX6_laysWorlds 28 = .ok (.iconst 0, 1) := dk_3 (dk_at dksX6_laysWorlds_1 6 rfl rfl)
theorem dX6_laysWorlds_29 : decode cX6_laysWorlds 29 = .ok (.istore_n 1, 1) := dk_60 (dk_at dksX6_laysWorlds_1 7 rfl rfl)
theorem dX6_laysWorlds_30 : decode cX6_laysWorlds 30 = .ok (.iload_n 1, 1) := dk_27 (dk_at dksX6_laysWorlds_1 8 rfl rfl)
theorem dX6_laysWorlds_31 : decode cX6_laysWorlds 31 = .ok (.iconst 1, 1) := dk_4 (dk_at dksX6_laysWorlds_1 9 rfl rfl)
theorem dX6_laysWorlds_32 : decode cX6_laysWorlds 32 = .ok (.aload_n 0, 1) := dk_42 (dk_at dksX6_laysWorlds_1 10 rfl rfl)
theorem dX6_laysWorlds_33 : decode cX6_laysWorlds 33 = .ok (.getfield 7, 3) := dk_180 0 7 (dk_at dksX6_laysWorlds_1 11 rfl rfl)
theorem dX6_laysWorlds_36 : decode cX6_laysWorlds 36 = .ok (.iconst 0, 1) := dk_3 (dk_at dksX6_laysWorlds_1 14 rfl rfl)
theorem dX6_laysWorlds_37 : decode cX6_laysWorlds 37 = .ok (.iaload, 1) := dk_46 (dk_at dksX6_laysWorlds_1 15 rfl rfl)
theorem dX6_laysWorlds_38 : decode cX6_laysWorlds 38 = .ok (.ishl, 1) := dk_120 (dk_at dksX6_laysWorlds_1 16 rfl rfl)
theorem dX6_laysWorlds_39 : decode cX6_laysWorlds 39 = .ok (.if_icmp .ge 73, 3) := dk_162 0 73 (dk_at dksX6_laysWorlds_1 17 rfl rfl)
theorem dX6_laysWorlds_42 : decode cX6_laysWorlds 42 = .ok (.iconst 0, 1) := dk_3 (dk_at dksX6_laysWorlds_1 20 rfl rfl)
theorem dX6_laysWorlds_43 : decode cX6_laysWorlds 43 = .ok (.istore_n 2, 1) := dk_61 (dk_at dksX6_laysWorlds_1 21 rfl rfl)
theorem dX6_laysWorlds_44 : decode cX6_laysWorlds 44 = .ok (.iload_n 2, 1) := dk_28 (dk_at dksX6_laysWorlds_1 22 rfl rfl)
theorem dX6_laysWorlds_45 : decode cX6_laysWorlds 45 = .ok (.sipush 420, 3) := dk_17 1 164 (dk_at dksX6_laysWorlds_2 0 rfl rfl)
theorem dX6_laysWorlds_48 : decode cX6_laysWorlds 48 = .ok (.if_icmp .ge 58, 3) := dk_162 0 58 (dk_at dksX6_laysWorlds_2 3 rfl rfl)
theorem dX6_laysWorlds_51 : decode cX6_laysWorlds 51 = .ok (.aload_n 0, 1) := dk_42 (dk_at dksX6_laysWorlds_2 6 rfl rfl)
theorem dX6_laysWorlds_52 : decode cX6_laysWorlds 52 = .ok (.iload_n 2, 1) := dk_28 (dk_at dksX6_laysWorlds_2 7 rfl rfl)
theorem dX6_laysWorlds_53 : decode cX6_laysWorlds 53 = .ok (.iconst 2, 1) := dk_5 (dk_at dksX6_laysWorlds_2 8 rfl rfl)
theorem dX6_laysWorlds_54 : decode cX6_laysWorlds 54 = .ok (.irem, 1) := dk_112 (dk_at dksX6_laysWorlds_2 9 rfl rfl)
theorem dX6_laysWorlds_55 : decode cX6_laysWorlds 55 = .ok (.iload_n 2, 1) := dk_28 (dk_at dksX6_laysWorlds_2 10 rfl rfl)
theorem dX6_laysWorlds_56 : decode cX6_laysWorlds 56 = .ok (.bipush 20, 2) := dk_16 20 (dk_at dksX6_laysWorlds_2 11 rfl rfl)
theorem dX6_laysWorlds_58 : decode cX6_laysWorlds 58 = .ok (.idiv, 1) := dk_108 (dk_at dksX6_laysWorlds_2 13 rfl rfl)
theorem dX6_laysWorlds_59 : decode cX6_laysWorlds 59 = .ok (.iload_n 2, 1) := dk_28 (dk_at dksX6_laysWorlds_2 14 rfl rfl)
theorem dX6_laysWorlds_60 : decode cX6_laysWorlds 60 = .ok (.iconst 2, 1) := dk_5 (dk_at dksX6_laysWorlds_2 15 rfl rfl)
theorem dX6_laysWorlds_61 : decode cX6_laysWorlds 61 = .ok (.idiv, 1) := dk_108 (dk_at dksX6_laysWorlds_2 16 rfl rfl)
theorem dX6_laysWorlds_62 : decode cX6_laysWorlds 62 = .ok (.bipush 10, 2) := dk_16 10 (dk_at dksX6_laysWorlds_2 17 rfl rfl)
theorem dX6_laysWorlds_64 : decode cX6_laysWorlds 64 = .ok (.irem, 1) := dk_112 (dk_at dksX6_laysWorlds_2 19 rfl rfl)
theorem dX6_laysWorlds_65 : decode cX6_laysWorlds 65 = .ok (.iload_n 1, 1) := dk_27 (dk_at dksX6_laysWorlds_2 20 rfl rfl)
theorem dX6_laysWorlds_66 : decode cX6_laysWorlds 66 = .ok (.invokevirtual 325, 3) := dk_182 1 69 (dk_at dksX6_laysWorlds_2 21 rfl rfl)
theorem dX6_laysWorlds_69 : decode cX6_laysWorlds 69 = .ok (.istore_n 3, 1) := dk_62 (dk_at dksX6_laysWorlds_3 0 rfl rfl)
theorem dX6_laysWorlds_70 : decode cX6_laysWorlds 70 = .ok (.iload_n 3, 1) := dk_29 (dk_at dksX6_laysWorlds_3 1 rfl rfl)
theorem dX6_laysWorlds_71 : decode cX6_laysWorlds 71 = .ok (.iconst (-1), 1) := dk_2 (dk_at dksX6_laysWorlds_3 2 rfl rfl)
theorem dX6_laysWorlds_72 : decode cX6_laysWorlds 72 = .ok (.if_icmp .ne 6, 3) := dk_160 0 6 (dk_at dksX6_laysWorlds_3 3 rfl rfl)
theorem dX6_laysWorlds_75 : decode cX6_laysWorlds 75 = .ok (.bipush 8, 2) := dk_16 8 (dk_at dksX6_laysWorlds_3 6 rfl rfl)
theorem dX6_laysWorlds_77 : decode cX6_laysWorlds 77 = .ok (.istore_n 3, 1) := dk_62 (dk_at dksX6_laysWorlds_3 8 rfl rfl)
theorem dX6_laysWorlds_78 : decode cX6_laysWorlds 78 = .ok (.aload_n 0, 1) := dk_42 (dk_at dksX6_laysWorlds_3 9 rfl rfl)
theorem dX6_laysWorlds_79 : decode cX6_laysWorlds 79 = .ok (.getfield 54, 3) := dk_180 0 54 (dk_at dksX6_laysWorlds_3 10 rfl rfl)
theorem dX6_laysWorlds_82 : decode cX6_laysWorlds 82 = .ok (.iload_n 3, 1) := dk_29 (dk_at dksX6_laysWorlds_3 13 rfl rfl)
theorem dX6_laysWorlds_83 : decode cX6_laysWorlds 83 = .ok (.dup2, 1) := dk_92 (dk_at dksX6_laysWorlds_3 14 rfl rfl)
theorem dX6_laysWorlds_84 : decode cX6_laysWorlds 84 = .ok (.iaload, 1) := dk_46 (dk_at dksX6_laysWorlds_3 15 rfl rfl)
theorem dX6_laysWorlds_85 : decode cX6_laysWorlds 85 = .ok (.iconst 1, 1) := dk_4 (dk_at dksX6_laysWorlds_3 16 rfl rfl)
theorem dX6_laysWorlds_86 : decode cX6_laysWorlds 86 = .ok (.iadd, 1) := dk_96 (dk_at dksX6_laysWorlds_3 17 rfl rfl)
theorem dX6_laysWorlds_87 : decode cX6_laysWorlds 87 = .ok (.iastore, 1) := dk_79 (dk_at dksX6_laysWorlds_3 18 rfl rfl)
theorem dX6_laysWorlds_88 : decode cX6_laysWorlds 88 = .ok (.aload_n 0, 1) := dk_42 (dk_at dksX6_laysWorlds_3 19 rfl rfl)
theorem dX6_laysWorlds_89 : decode cX6_laysWorlds 89 = .ok (.getfield 57, 3) := dk_180 0 57 (dk_at dksX6_laysWorlds_3 20 rfl rfl)
theorem dX6_laysWorlds_92 : decode cX6_laysWorlds 92 = .ok (.iload_n 3, 1) := dk_29 (dk_at dksX6_laysWorlds_3 23 rfl rfl)
theorem dX6_laysWorlds_93 : decode cX6_laysWorlds 93 = .ok (.dup2, 1) := dk_92 (dk_at dksX6_laysWorlds_4 0 rfl rfl)
theorem dX6_laysWorlds_94 : decode cX6_laysWorlds 94 = .ok (.iaload, 1) := dk_46 (dk_at dksX6_laysWorlds_4 1 rfl rfl)
theorem dX6_laysWorlds_95 : decode cX6_laysWorlds 95 = .ok (.iload_n 2, 1) := dk_28 (dk_at dksX6_laysWorlds_4 2 rfl rfl)
theorem dX6_laysWorlds_96 : decode cX6_laysWorlds 96 = .ok (.iconst 2, 1) := dk_5 (dk_at dksX6_laysWorlds_4 3 rfl rfl)
theorem dX6_laysWorlds_97 : decode cX6_laysWorlds 97 = .ok (.irem, 1) := dk_112 (dk_at dksX6_laysWorlds_4 4 rfl rfl)
theorem dX6_laysWorlds_98 : decode cX6_laysWorlds 98 = .ok (.iadd, 1) := dk_96 (dk_at dksX6_laysWorlds_4 5 rfl rfl)
theorem dX6_laysWorlds_99 : decode cX6_laysWorlds 99 = .ok (.iastore, 1) := dk_79 (dk_at dksX6_laysWorlds_4 6 rfl rfl)
theorem dX6_laysWorlds_100 : decode cX6_laysWorlds 100 = .ok (.iinc 2 1, 3) := dk_132 2 1 (dk_at dksX6_laysWorlds_4 7 rfl rfl)
theorem dX6_laysWorlds_103 : decode cX6_laysWorlds 103 = .ok (.goto (-59), 3) := dk_167 255 197 (dk_at dksX6_laysWorlds_4 10 rfl rfl)
theorem dX6_laysWorlds_106 : decode cX6_laysWorlds 106 = .ok (.iinc 1 1, 3) := dk_132 1 1 (dk_at dksX6_laysWorlds_4 13 rfl rfl)
theorem dX6_laysWorlds_109 : decode cX6_laysWorlds 109 = .ok (.goto (-79), 3) := dk_167 255 177 (dk_at dksX6_laysWorlds_4 16 rfl rfl)
theorem dX6_laysWorlds_112 : decode cX6_laysWorlds 112 = .ok (.return_, 1) := dk_177 (dk_at dksX6_laysWorlds_4 19 rfl rfl)
abbrev cX6_idle : ByteArray := prog_16_method_128_code
def yX6_idle : MethodName := ⟨RX6, "idle", "()I"⟩
def dkwX6_idle_2 : List UInt8 := [172]
abbrev dktX6_idle_2 : List UInt8 := dkwX6_idle_2 ++ []
def dkwX6_idle_1 : List UInt8 := [46, 154, 0, 9, 4, 28, 120, 167, 0, 4, 3, 128, 60, 132, 2, 1, 167, 255, 224, 42, 27, 182, 0, 95]
abbrev dktX6_idle_1 : List UInt8 := dkwX6_idle_1 ++ dktX6_idle_2
def dkwX6_idle_0 : List UInt8 := [42, 182, 1, 172, 3, 60, 3, 61, 28, 42, 180, 0, 7, 5, 46, 162, 0, 28, 27, 42, 180, 0, 54, 28]
abbrev dktX6_idle_0 : List UInt8 := dkwX6_idle_0 ++ dktX6_idle_1
theorem dksX6_idle_0 : cX6_idle.data.toList.drop 0 = dktX6_idle_0 := by decide +kernel
theorem dksX6_idle_1 : cX6_idle.data.toList.drop 24 = dktX6_idle_1 := dk_seg dksX6_idle_0 24 rfl rfl
theorem dksX6_idle_2 : cX6_idle.data.toList.drop 48 = dktX6_idle_2 := dk_seg dksX6_idle_1 24 rfl rfl
theorem dX6_idle_0 : decode cX6_idle 0 = .ok (.aload_n 0, 1) := dk_42 (dk_at dksX6_idle_0 0 rfl rfl)
theorem dX6_idle_1 : decode cX6_idle 1 = .ok (.invokevirtual 428, 3) := dk_182 1 172 (dk_at dksX6_idle_0 1 rfl rfl)
theorem dX6_idle_4 : decode cX6_idle 4 = .ok (.iconst 0, 1) := dk_3 (dk_at dksX6_idle_0 4 rfl rfl)
theorem dX6_idle_5 : decode cX6_idle 5 = .ok (.istore_n 1, 1) := dk_60 (dk_at dksX6_idle_0 5 rfl rfl)
theorem dX6_idle_6 : decode cX6_idle 6 = .ok (.iconst 0, 1) := dk_3 (dk_at dksX6_idle_0 6 rfl rfl)
theorem dX6_idle_7 : decode cX6_idle 7 = .ok (.istore_n 2, 1) := dk_61 (dk_at dksX6_idle_0 7 rfl rfl)
theorem dX6_idle_8 : decode cX6_idle 8 = .ok (.iload_n 2, 1) := dk_28 (dk_at dksX6_idle_0 8 rfl rfl)
theorem dX6_idle_9 : decode cX6_idle 9 = .ok (.aload_n 0, 1) := dk_42 (dk_at dksX6_idle_0 9 rfl rfl)
theorem dX6_idle_10 : decode cX6_idle 10 = .ok (.getfield 7, 3) := dk_180 0 7 (dk_at dksX6_idle_0 10 rfl rfl)
theorem dX6_idle_13 : decode cX6_idle 13 = .ok (.iconst 2, 1) := dk_5 (dk_at dksX6_idle_0 13 rfl rfl)
theorem dX6_idle_14 : decode cX6_idle 14 = .ok (.iaload, 1) := dk_46 (dk_at dksX6_idle_0 14 rfl rfl)
theorem dX6_idle_15 : decode cX6_idle 15 = .ok (.if_icmp .ge 28, 3) := dk_162 0 28 (dk_at dksX6_idle_0 15 rfl rfl)
theorem dX6_idle_18 : decode cX6_idle 18 = .ok (.iload_n 1, 1) := dk_27 (dk_at dksX6_idle_0 18 rfl rfl)
theorem dX6_idle_19 : decode cX6_idle 19 = .ok (.aload_n 0, 1) := dk_42 (dk_at dksX6_idle_0 19 rfl rfl)
theorem dX6_idle_20 : decode cX6_idle 20 = .ok (.getfield 54, 3) := dk_180 0 54 (dk_at dksX6_idle_0 20 rfl rfl)
theorem dX6_idle_23 : decode cX6_idle 23 = .ok (.iload_n 2, 1) := dk_28 (dk_at dksX6_idle_0 23 rfl rfl)
theorem dX6_idle_24 : decode cX6_idle 24 = .ok (.iaload, 1) := dk_46 (dk_at dksX6_idle_1 0 rfl rfl)
theorem dX6_idle_25 : decode cX6_idle 25 = .ok (.ifCond .ne 9, 3) := dk_154 0 9 (dk_at dksX6_idle_1 1 rfl rfl)
theorem dX6_idle_28 : decode cX6_idle 28 = .ok (.iconst 1, 1) := dk_4 (dk_at dksX6_idle_1 4 rfl rfl)
theorem dX6_idle_29 : decode cX6_idle 29 = .ok (.iload_n 2, 1) := dk_28 (dk_at dksX6_idle_1 5 rfl rfl)
theorem dX6_idle_30 : decode cX6_idle 30 = .ok (.ishl, 1) := dk_120 (dk_at dksX6_idle_1 6 rfl rfl)
theorem dX6_idle_31 : decode cX6_idle 31 = .ok (.goto 4, 3) := dk_167 0 4 (dk_at dksX6_idle_1 7 rfl rfl)
theorem dX6_idle_34 : decode cX6_idle 34 = .ok (.iconst 0, 1) := dk_3 (dk_at dksX6_idle_1 10 rfl rfl)
theorem dX6_idle_35 : decode cX6_idle 35 = .ok (.ior, 1) := dk_128 (dk_at dksX6_idle_1 11 rfl rfl)
theorem dX6_idle_36 : decode cX6_idle 36 = .ok (.istore_n 1, 1) := dk_60 (dk_at dksX6_idle_1 12 rfl rfl)
theorem dX6_idle_37 : decode cX6_idle 37 = .ok (.iinc 2 1, 3) := dk_132 2 1 (dk_at dksX6_idle_1 13 rfl rfl)
theorem dX6_idle_40 : decode cX6_idle 40 = .ok (.goto (-32), 3) := dk_167 255 224 (dk_at dksX6_idle_1 16 rfl rfl)
theorem dX6_idle_43 : decode cX6_idle 43 = .ok (.aload_n 0, 1) := dk_42 (dk_at dksX6_idle_1 19 rfl rfl)
theorem dX6_idle_44 : decode cX6_idle 44 = .ok (.iload_n 1, 1) := dk_27 (dk_at dksX6_idle_1 20 rfl rfl)
theorem dX6_idle_45 : decode cX6_idle 45 = .ok (.invokevirtual 95, 3) := dk_182 0 95 (dk_at dksX6_idle_1 21 rfl rfl)
theorem dX6_idle_48 : decode cX6_idle 48 = .ok (.ireturn, 1) := dk_172 (dk_at dksX6_idle_2 0 rfl rfl)
abbrev cX6_tells : ByteArray := prog_16_method_129_code
def yX6_tells : MethodName := ⟨RX6, "tells", "(I)Z"⟩
def dkwX6_tells_4 : List UInt8 := [182, 1, 149, 172]
abbrev dktX6_tells_4 : List UInt8 := dkwX6_tells_4 ++ []
def dkwX6_tells_3 : List UInt8 := [132, 4, 1, 167, 255, 208, 28, 154, 0, 12, 42, 16, 6, 182, 0, 98, 167, 0, 11, 42, 29, 133, 28, 133]
abbrev dktX6_tells_3 : List UInt8 := dkwX6_tells_3 ++ dktX6_tells_4
def dkwX6_tells_2 : List UInt8 := [167, 0, 23, 28, 42, 180, 0, 54, 21, 4, 46, 96, 61, 29, 42, 180, 0, 57, 21, 4, 46, 96, 62]
abbrev dktX6_tells_2 : List UInt8 := dkwX6_tells_2 ++ dktX6_tells_3
def dkwX6_tells_1 : List UInt8 := [54, 4, 21, 4, 42, 180, 0, 7, 5, 46, 162, 0, 43, 42, 21, 4, 3, 182, 1, 43, 27, 159, 0, 6]
abbrev dktX6_tells_1 : List UInt8 := dkwX6_tells_1 ++ dktX6_tells_2
def dkwX6_tells_0 : List UInt8 := [42, 27, 182, 1, 37, 154, 0, 9, 42, 4, 182, 0, 98, 172, 42, 182, 1, 172, 3, 61, 3, 62, 3]
abbrev dktX6_tells_0 : List UInt8 := dkwX6_tells_0 ++ dktX6_tells_1
theorem dksX6_tells_0 : cX6_tells.data.toList.drop 0 = dktX6_tells_0 := by decide +kernel
theorem dksX6_tells_1 : cX6_tells.data.toList.drop 23 = dktX6_tells_1 := dk_seg dksX6_tells_0 23 rfl rfl
theorem dksX6_tells_2 : cX6_tells.data.toList.drop 47 = dktX6_tells_2 := dk_seg dksX6_tells_1 24 rfl rfl
theorem dksX6_tells_3 : cX6_tells.data.toList.drop 70 = dktX6_tells_3 := dk_seg dksX6_tells_2 23 rfl rfl
theorem dksX6_tells_4 : cX6_tells.data.toList.drop 94 = dktX6_tells_4 := dk_seg dksX6_tells_3 24 rfl rfl
theorem dX6_tells_0 : decode cX6_tells 0 = .ok (.aload_n 0, 1) := dk_42 (dk_at dksX6_tells_0 0 rfl rfl)
theorem dX6_tells_1 : decode cX6_tells 1 = .ok (.iload_n 1, 1) := dk_27 (dk_at dksX6_tells_0 1 rfl rfl)
theorem dX6_tells_2 : decode cX6_tells 2 = .ok (.invokevirtual 293, 3) := dk_182 1 37 (dk_at dksX6_tells_0 2 rfl rfl)
theorem dX6_tells_5 : decode cX6_tells 5 = .ok (.ifCond .ne 9, 3) := dk_154 0 9 (dk_at dksX6_tells_0 5 rfl rfl)
theorem dX6_tells_8 : decode cX6_tells 8 = .ok (.aload_n 0, 1) := dk_42 (dk_at dksX6_tells_0 8 rfl rfl)
theorem dX6_tells_9 : decode cX6_tells 9 = .ok (.iconst 1, 1) := dk_4 (dk_at dksX6_tells_0 9 rfl rfl)
theorem dX6_tells_10 : decode cX6_tells 10 = .ok (.invokevirtual 98, 3) := dk_182 0 98 (dk_at dksX6_tells_0 10 rfl rfl)
theorem dX6_tells_13 : decode cX6_tells 13 = .ok (.ireturn, 1) := dk_172 (dk_at dksX6_tells_0 13 rfl rfl)
theorem dX6_tells_14 : decode cX6_tells 14 = .ok (.aload_n 0, 1) := dk_42 (dk_at dksX6_tells_0 14 rfl rfl)
theorem dX6_tells_15 : decode cX6_tells 15 = .ok (.invokevirtual 428, 3) := dk_182 1 172 (dk_at dksX6_tells_0 15 rfl rfl)
theorem dX6_tells_18 : decode cX6_tells 18 = .ok (.iconst 0, 1) := dk_3 (dk_at dksX6_tells_0 18 rfl rfl)
theorem dX6_tells_19 : decode cX6_tells 19 = .ok (.istore_n 2, 1) := dk_61 (dk_at dksX6_tells_0 19 rfl rfl)
theorem dX6_tells_20 : decode cX6_tells 20 = .ok (.iconst 0, 1) := dk_3 (dk_at dksX6_tells_0 20 rfl rfl)
theorem dX6_tells_21 : decode cX6_tells 21 = .ok (.istore_n 3, 1) := dk_62 (dk_at dksX6_tells_0 21 rfl rfl)
theorem dX6_tells_22 : decode cX6_tells 22 = .ok (.iconst 0, 1) := dk_3 (dk_at dksX6_tells_0 22 rfl rfl)
theorem dX6_tells_23 : decode cX6_tells 23 = .ok (.istore 4, 2) := dk_54 4 (dk_at dksX6_tells_1 0 rfl rfl)
theorem dX6_tells_25 : decode cX6_tells 25 = .ok (.iload 4, 2) := dk_21 4 (dk_at dksX6_tells_1 2 rfl rfl)
theorem dX6_tells_27 : decode cX6_tells 27 = .ok (.aload_n 0, 1) := dk_42 (dk_at dksX6_tells_1 4 rfl rfl)
theorem dX6_tells_28 : decode cX6_tells 28 = .ok (.getfield 7, 3) := dk_180 0 7 (dk_at dksX6_tells_1 5 rfl rfl)
theorem dX6_tells_31 : decode cX6_tells 31 = .ok (.iconst 2, 1) := dk_5 (dk_at dksX6_tells_1 8 rfl rfl)
theorem dX6_tells_32 : decode cX6_tells 32 = .ok (.iaload, 1) := dk_46 (dk_at dksX6_tells_1 9 rfl rfl)
theorem dX6_tells_33 : decode cX6_tells 33 = .ok (.if_icmp .ge 43, 3) := dk_162 0 43 (dk_at dksX6_tells_1 10 rfl rfl)
theorem dX6_tells_36 : decode cX6_tells 36 = .ok (.aload_n 0, 1) := dk_42 (dk_at dksX6_tells_1 13 rfl rfl)
theorem dX6_tells_37 : decode cX6_tells 37 = .ok (.iload 4, 2) := dk_21 4 (dk_at dksX6_tells_1 14 rfl rfl)
theorem dX6_tells_39 : decode cX6_tells 39 = .ok (.iconst 0, 1) := dk_3 (dk_at dksX6_tells_1 16 rfl rfl)
theorem dX6_tells_40 : decode cX6_tells 40 = .ok (.invokevirtual 299, 3) := dk_182 1 43 (dk_at dksX6_tells_1 17 rfl rfl)
theorem dX6_tells_43 : decode cX6_tells 43 = .ok (.iload_n 1, 1) := dk_27 (dk_at dksX6_tells_1 20 rfl rfl)
theorem dX6_tells_44 : decode cX6_tells 44 = .ok (.if_icmp .eq 6, 3) := dk_159 0 6 (dk_at dksX6_tells_1 21 rfl rfl)
theorem dX6_tells_47 : decode cX6_tells 47 = .ok (.goto 23, 3) := dk_167 0 23 (dk_at dksX6_tells_2 0 rfl rfl)
theorem dX6_tells_50 : decode cX6_tells 50 = .ok (.iload_n 2, 1) := dk_28 (dk_at dksX6_tells_2 3 rfl rfl)
theorem dX6_tells_51 : decode cX6_tells 51 = .ok (.aload_n 0, 1) := dk_42 (dk_at dksX6_tells_2 4 rfl rfl)
theorem dX6_tells_52 : decode cX6_tells 52 = .ok (.getfield 54, 3) := dk_180 0 54 (dk_at dksX6_tells_2 5 rfl rfl)
theorem dX6_tells_55 : decode cX6_tells 55 = .ok (.iload 4, 2) := dk_21 4 (dk_at dksX6_tells_2 8 rfl rfl)
theorem dX6_tells_57 : decode cX6_tells 57 = .ok (.iaload, 1) := dk_46 (dk_at dksX6_tells_2 10 rfl rfl)
theorem dX6_tells_58 : decode cX6_tells 58 = .ok (.iadd, 1) := dk_96 (dk_at dksX6_tells_2 11 rfl rfl)
theorem dX6_tells_59 : decode cX6_tells 59 = .ok (.istore_n 2, 1) := dk_61 (dk_at dksX6_tells_2 12 rfl rfl)
theorem dX6_tells_60 : decode cX6_tells 60 = .ok (.iload_n 3, 1) := dk_29 (dk_at dksX6_tells_2 13 rfl rfl)
theorem dX6_tells_61 : decode cX6_tells 61 = .ok (.aload_n 0, 1) := dk_42 (dk_at dksX6_tells_2 14 rfl rfl)
theorem dX6_tells_62 : decode cX6_tells 62 = .ok (.getfield 57, 3) := dk_180 0 57 (dk_at dksX6_tells_2 15 rfl rfl)
theorem dX6_tells_65 : decode cX6_tells 65 = .ok (.iload 4, 2) := dk_21 4 (dk_at dksX6_tells_2 18 rfl rfl)
theorem dX6_tells_67 : decode cX6_tells 67 = .ok (.iaload, 1) := dk_46 (dk_at dksX6_tells_2 20 rfl rfl)
theorem dX6_tells_68 : decode cX6_tells 68 = .ok (.iadd, 1) := dk_96 (dk_at dksX6_tells_2 21 rfl rfl)
theorem dX6_tells_69 : decode cX6_tells 69 = .ok (.istore_n 3, 1) := dk_62 (dk_at dksX6_tells_2 22 rfl rfl)
theorem dX6_tells_70 : decode cX6_tells 70 = .ok (.iinc 4 1, 3) := dk_132 4 1 (dk_at dksX6_tells_3 0 rfl rfl)
theorem dX6_tells_73 : decode cX6_tells 73 = .ok (.goto (-48), 3) := dk_167 255 208 (dk_at dksX6_tells_3 3 rfl rfl)
theorem dX6_tells_76 : decode cX6_tells 76 = .ok (.iload_n 2, 1) := dk_28 (dk_at dksX6_tells_3 6 rfl rfl)
theorem dX6_tells_77 : decode cX6_tells 77 = .ok (.ifCond .ne 12, 3) := dk_154 0 12 (dk_at dksX6_tells_3 7 rfl rfl)
theorem dX6_tells_80 : decode cX6_tells 80 = .ok (.aload_n 0, 1) := dk_42 (dk_at dksX6_tells_3 10 rfl rfl)
theorem dX6_tells_81 : decode cX6_tells 81 = .ok (.bipush 6, 2) := dk_16 6 (dk_at dksX6_tells_3 11 rfl rfl)
theorem dX6_tells_83 : decode cX6_tells 83 = .ok (.invokevirtual 98, 3) := dk_182 0 98 (dk_at dksX6_tells_3 13 rfl rfl)
theorem dX6_tells_86 : decode cX6_tells 86 = .ok (.goto 11, 3) := dk_167 0 11 (dk_at dksX6_tells_3 16 rfl rfl)
theorem dX6_tells_89 : decode cX6_tells 89 = .ok (.aload_n 0, 1) := dk_42 (dk_at dksX6_tells_3 19 rfl rfl)
theorem dX6_tells_90 : decode cX6_tells 90 = .ok (.iload_n 3, 1) := dk_29 (dk_at dksX6_tells_3 20 rfl rfl)
theorem dX6_tells_91 : decode cX6_tells 91 = .ok (.i2l, 1) := dk_133 (dk_at dksX6_tells_3 21 rfl rfl)
theorem dX6_tells_92 : decode cX6_tells 92 = .ok (.iload_n 2, 1) := dk_28 (dk_at dksX6_tells_3 22 rfl rfl)
theorem dX6_tells_93 : decode cX6_tells 93 = .ok (.i2l, 1) := dk_133 (dk_at dksX6_tells_3 23 rfl rfl)
theorem dX6_tells_94 : decode cX6_tells 94 = .ok (.invokevirtual 405, 3) := dk_182 1 149 (dk_at dksX6_tells_4 0 rfl rfl)
theorem dX6_tells_97 : decode cX6_tells 97 = .ok (.ireturn, 1) := dk_172 (dk_at dksX6_tells_4 3 rfl rfl)
abbrev cX6_mute : ByteArray := prog_16_method_130_code
def yX6_mute : MethodName := ⟨RX6, "mute", "()I"⟩
def dkwX6_mute_0 : List UInt8 := [42, 182, 1, 172, 42, 42, 180, 0, 54, 16, 8, 46, 182, 0, 95, 172]
abbrev dktX6_mute_0 : List UInt8 := dkwX6_mute_0 ++ []
theorem dksX6_mute_0 : cX6_mute.data.toList.drop 0 = dktX6_mute_0 := by decide +kernel
theorem dX6_mute_0 : decode cX6_mute 0 = .ok (.aload_n 0, 1) := dk_42 (dk_at dksX6_mute_0 0 rfl rfl)
theorem dX6_mute_1 : decode cX6_mute 1 = .ok (.invokevirtual 428, 3) := dk_182 1 172 (dk_at dksX6_mute_0 1 rfl rfl)
theorem dX6_mute_4 : decode cX6_mute 4 = .ok (.aload_n 0, 1) := dk_42 (dk_at dksX6_mute_0 4 rfl rfl)
theorem dX6_mute_5 : decode cX6_mute 5 = .ok (.aload_n 0, 1) := dk_42 (dk_at dksX6_mute_0 5 rfl rfl)
theorem dX6_mute_6 : decode cX6_mute 6 = .ok (.getfield 54, 3) := dk_180 0 54 (dk_at dksX6_mute_0 6 rfl rfl)
theorem dX6_mute_9 : decode cX6_mute 9 = .ok (.bipush 8, 2) := dk_16 8 (dk_at dksX6_mute_0 9 rfl rfl)
theorem dX6_mute_11 : decode cX6_mute 11 = .ok (.iaload, 1) := dk_46 (dk_at dksX6_mute_0 11 rfl rfl)
theorem dX6_mute_12 : decode cX6_mute 12 = .ok (.invokevirtual 95, 3) := dk_182 0 95 (dk_at dksX6_mute_0 12 rfl rfl)
theorem dX6_mute_15 : decode cX6_mute 15 = .ok (.ireturn, 1) := dk_172 (dk_at dksX6_mute_0 15 rfl rfl)
abbrev cX6_verdict : ByteArray := prog_16_method_132_code
def yX6_verdict : MethodName := ⟨RX6, "verdict", "(I)Z"⟩
def dkwX6_verdict_1 : List UInt8 := [172, 42, 42, 27, 182, 1, 175, 10, 7, 27, 184, 1, 88, 104, 121, 182, 1, 149, 172]
abbrev dktX6_verdict_1 : List UInt8 := dkwX6_verdict_1 ++ []
def dkwX6_verdict_0 : List UInt8 := [27, 133, 10, 10, 42, 180, 0, 7, 7, 46, 121, 10, 101, 184, 1, 81, 154, 0, 9, 42, 4, 182, 0, 98]
abbrev dktX6_verdict_0 : List UInt8 := dkwX6_verdict_0 ++ dktX6_verdict_1
theorem dksX6_verdict_0 : cX6_verdict.data.toList.drop 0 = dktX6_verdict_0 := by decide +kernel
theorem dksX6_verdict_1 : cX6_verdict.data.toList.drop 24 = dktX6_verdict_1 := dk_seg dksX6_verdict_0 24 rfl rfl
theorem dX6_verdict_0 : decode cX6_verdict 0 = .ok (.iload_n 1, 1) := dk_27 (dk_at dksX6_verdict_0 0 rfl rfl)
theorem dX6_verdict_1 : decode cX6_verdict 1 = .ok (.i2l, 1) := dk_133 (dk_at dksX6_verdict_0 1 rfl rfl)
theorem dX6_verdict_2 : decode cX6_verdict 2 = .ok (.lconst 1, 1) := dk_10 (dk_at dksX6_verdict_0 2 rfl rfl)
theorem dX6_verdict_3 : decode cX6_verdict 3 = .ok (.lconst 1, 1) := dk_10 (dk_at dksX6_verdict_0 3 rfl rfl)
theorem dX6_verdict_4 : decode cX6_verdict 4 = .ok (.aload_n 0, 1) := dk_42 (dk_at dksX6_verdict_0 4 rfl rfl)
theorem dX6_verdict_5 : decode cX6_verdict 5 = .ok (.getfield 7, 3) := dk_180 0 7 (dk_at dksX6_verdict_0 5 rfl rfl)
theorem dX6_verdict_8 : decode cX6_verdict 8 = .ok (.iconst 4, 1) := dk_7 (dk_at dksX6_verdict_0 8 rfl rfl)
theorem dX6_verdict_9 : decode cX6_verdict 9 = .ok (.iaload, 1) := dk_46 (dk_at dksX6_verdict_0 9 rfl rfl)
theorem dX6_verdict_10 : decode cX6_verdict 10 = .ok (.lshl, 1) := dk_121 (dk_at dksX6_verdict_0 10 rfl rfl)
theorem dX6_verdict_11 : decode cX6_verdict 11 = .ok (.lconst 1, 1) := dk_10 (dk_at dksX6_verdict_0 11 rfl rfl)
theorem dX6_verdict_12 : decode cX6_verdict 12 = .ok (.lsub, 1) := dk_101 (dk_at dksX6_verdict_0 12 rfl rfl)
theorem dX6_verdict_13 : decode cX6_verdict 13 = .ok (.invokestatic 337, 3) := dk_184 1 81 (dk_at dksX6_verdict_0 13 rfl rfl)
theorem dX6_verdict_16 : decode cX6_verdict 16 = .ok (.ifCond .ne 9, 3) := dk_154 0 9 (dk_at dksX6_verdict_0 16 rfl rfl)
theorem dX6_verdict_19 : decode cX6_verdict 19 = .ok (.aload_n 0, 1) := dk_42 (dk_at dksX6_verdict_0 19 rfl rfl)
theorem dX6_verdict_20 : decode cX6_verdict 20 = .ok (.iconst 1, 1) := dk_4 (dk_at dksX6_verdict_0 20 rfl rfl)
theorem dX6_verdict_21 : decode cX6_verdict 21 = .ok (.invokevirtual 98, 3) := dk_182 0 98 (dk_at dksX6_verdict_0 21 rfl rfl)
theorem dX6_verdict_24 : decode cX6_verdict 24 = .ok (.ireturn, 1) := dk_172 (dk_at dksX6_verdict_1 0 rfl rfl)
theorem dX6_verdict_25 : decode cX6_verdict 25 = .ok (.aload_n 0, 1) := dk_42 (dk_at dksX6_verdict_1 1 rfl rfl)
theorem dX6_verdict_26 : decode cX6_verdict 26 = .ok (.aload_n 0, 1) := dk_42 (dk_at dksX6_verdict_1 2 rfl rfl)
theorem dX6_verdict_27 : decode cX6_verdict 27 = .ok (.iload_n 1, 1) := dk_27 (dk_at dksX6_verdict_1 3 rfl rfl)
theorem dX6_verdict_28 : decode cX6_verdict 28 = .ok (.invokevirtual 431, 3) := dk_182 1 175 (dk_at dksX6_verdict_1 4 rfl rfl)
theorem dX6_verdict_31 : decode cX6_verdict 31 = .ok (.lconst 1, 1) := dk_10 (dk_at dksX6_verdict_1 7 rfl rfl)
theorem dX6_verdict_32 : decode cX6_verdict 32 = .ok (.iconst 4, 1) := dk_7 (dk_at dksX6_verdict_1 8 rfl rfl)
theorem dX6_verdict_33 : decode cX6_verdict 33 = .ok (.iload_n 1, 1) := dk_27 (dk_at dksX6_verdict_1 9 rfl rfl)
theorem dX6_verdict_34 : decode cX6_verdict 34 = .ok (.invokestatic 344, 3) := dk_184 1 88 (dk_at dksX6_verdict_1 10 rfl rfl)
theorem dX6_verdict_37 : decode cX6_verdict 37 = .ok (.imul, 1) := dk_104 (dk_at dksX6_verdict_1 13 rfl rfl)
theorem dX6_verdict_38 : decode cX6_verdict 38 = .ok (.lshl, 1) := dk_121 (dk_at dksX6_verdict_1 14 rfl rfl)
theorem dX6_verdict_39 : decode cX6_verdict 39 = .ok (.invokevirtual 405, 3) := dk_182 1 149 (dk_at dksX6_verdict_1 15 rfl rfl)
theorem dX6_verdict_42 : decode cX6_verdict 42 = .ok (.ireturn, 1) := dk_172 (dk_at dksX6_verdict_1 18 rfl rfl)
abbrev cX6_rightOf : ByteArray := prog_16_method_131_code
def yX6_rightOf : MethodName := ⟨RX6, "rightOf", "(I)J"⟩
def dkwX6_rightOf_6 : List UInt8 := [158, 0, 8, 22, 5, 167, 0, 4, 9, 97, 65, 132, 4, 1, 167, 255, 109, 32, 173]
abbrev dktX6_rightOf_6 : List UInt8 := dkwX6_rightOf_6 ++ []
def dkwX6_rightOf_5 : List UInt8 := [167, 0, 10, 42, 21, 8, 182, 1, 28, 116, 96, 54, 7, 132, 8, 1, 167, 255, 163, 32, 21, 7]
abbrev dktX6_rightOf_5 : List UInt8 := dkwX6_rightOf_5 ++ dktX6_rightOf_6
def dkwX6_rightOf_4 : List UInt8 := [21, 8, 182, 1, 56, 133, 105, 55, 5, 21, 7, 21, 9, 153, 0, 12, 42, 21, 8, 182, 1, 28]
abbrev dktX6_rightOf_4 : List UInt8 := dkwX6_rightOf_4 ++ dktX6_rightOf_5
def dkwX6_rightOf_3 : List UInt8 := [54, 9, 22, 5, 21, 9, 153, 0, 16, 16, 16, 42, 21, 8, 182, 1, 56, 100, 133, 167, 0, 10, 42]
abbrev dktX6_rightOf_3 : List UInt8 := dkwX6_rightOf_3 ++ dktX6_rightOf_4
def dkwX6_rightOf_2 : List UInt8 := [162, 0, 88, 42, 27, 21, 8, 182, 1, 59, 154, 0, 6, 167, 0, 69, 42, 21, 4, 21, 8, 182, 1, 59]
abbrev dktX6_rightOf_2 : List UInt8 := dkwX6_rightOf_2 ++ dktX6_rightOf_3
def dkwX6_rightOf_1 : List UInt8 := [153, 0, 6, 167, 0, 122, 10, 55, 5, 3, 54, 7, 3, 54, 8, 21, 8, 42, 180, 0, 7, 7, 46]
abbrev dktX6_rightOf_1 : List UInt8 := dkwX6_rightOf_1 ++ dktX6_rightOf_2
def dkwX6_rightOf_0 : List UInt8 := [9, 65, 3, 54, 4, 21, 4, 4, 42, 180, 0, 7, 7, 46, 120, 162, 0, 140, 21, 4, 27, 2, 130, 126]
abbrev dktX6_rightOf_0 : List UInt8 := dkwX6_rightOf_0 ++ dktX6_rightOf_1
theorem dksX6_rightOf_0 : cX6_rightOf.data.toList.drop 0 = dktX6_rightOf_0 := by decide +kernel
theorem dksX6_rightOf_1 : cX6_rightOf.data.toList.drop 24 = dktX6_rightOf_1 := dk_seg dksX6_rightOf_0 24 rfl rfl
theorem dksX6_rightOf_2 : cX6_rightOf.data.toList.drop 47 = dktX6_rightOf_2 := dk_seg dksX6_rightOf_1 23 rfl rfl
theorem dksX6_rightOf_3 : cX6_rightOf.data.toList.drop 71 = dktX6_rightOf_3 := dk_seg dksX6_rightOf_2 24 rfl rfl
theorem dksX6_rightOf_4 : cX6_rightOf.data.toList.drop 94 = dktX6_rightOf_4 := dk_seg dksX6_rightOf_3 23 rfl rfl
theorem dksX6_rightOf_5 : cX6_rightOf.data.toList.drop 116 = dktX6_rightOf_5 := dk_seg dksX6_rightOf_4 22 rfl rfl
theorem dksX6_rightOf_6 : cX6_rightOf.data.toList.drop 138 = dktX6_rightOf_6 := dk_seg dksX6_rightOf_5 22 rfl rfl
theorem dX6_rightOf_0 : decode cX6_rightOf 0 = .ok (.lconst 0, 1) := dk_9 (dk_at dksX6_rightOf_0 0 rfl rfl)
theorem dX6_rightOf_1 : decode cX6_rightOf 1 = .ok (.lstore_n 2, 1) := dk_65 (dk_at dksX6_rightOf_0 1 rfl rfl)
theorem dX6_rightOf_2 : decode cX6_rightOf 2 = .ok (.iconst 0, 1) := dk_3 (dk_at dksX6_rightOf_0 2 rfl rfl)
theorem dX6_rightOf_3 : decode cX6_rightOf 3 = .ok (.istore 4, 2) := dk_54 4 (dk_at dksX6_rightOf_0 3 rfl rfl)
theorem dX6_rightOf_5 : decode cX6_rightOf 5 = .ok (.iload 4, 2) := dk_21 4 (dk_at dksX6_rightOf_0 5 rfl rfl)
theorem dX6_rightOf_7 : decode cX6_rightOf 7 = .ok (.iconst 1, 1) := dk_4 (dk_at dksX6_rightOf_0 7 rfl rfl)
theorem dX6_rightOf_8 : decode cX6_rightOf 8 = .ok (.aload_n 0, 1) := dk_42 (dk_at dksX6_rightOf_0 8 rfl rfl)
theorem dX6_rightOf_9 : decode cX6_rightOf 9 = .ok (.getfield 7, 3) := dk_180 0 7 (dk_at dksX6_rightOf_0 9 rfl rfl)
theorem dX6_rightOf_12 : decode cX6_rightOf 12 = .ok (.iconst 4, 1) := dk_7 (dk_at dksX6_rightOf_0 12 rfl rfl)
theorem dX6_rightOf_13 : decode cX6_rightOf 13 = .ok (.iaload, 1) := dk_46 (dk_at dksX6_rightOf_0 13 rfl rfl)
theorem dX6_rightOf_14 : decode cX6_rightOf 14 = .ok (.ishl, 1) := dk_120 (dk_at dksX6_rightOf_0 14 rfl rfl)
theorem dX6_rightOf_15 : decode cX6_rightOf 15 = .ok (.if_icmp .ge 140, 3) := dk_162 0 140 (dk_at dksX6_rightOf_0 15 rfl rfl)
theorem dX6_rightOf_18 : decode cX6_rightOf 18 = .ok (.iload 4, 2) := dk_21 4 (dk_at dksX6_rightOf_0 18 rfl rfl)
theorem dX6_rightOf_20 : decode cX6_rightOf 20 = .ok (.iload_n 1, 1) := dk_27 (dk_at dksX6_rightOf_0 20 rfl rfl)
theorem dX6_rightOf_21 : decode cX6_rightOf 21 = .ok (.iconst (-1), 1) := dk_2 (dk_at dksX6_rightOf_0 21 rfl rfl)
theorem dX6_rightOf_22 : decode cX6_rightOf 22 = .ok (.ixor, 1) := dk_130 (dk_at dksX6_rightOf_0 22 rfl rfl)
theorem dX6_rightOf_23 : decode cX6_rightOf 23 = .ok (.iand, 1) := dk_126 (dk_at dksX6_rightOf_0 23 rfl rfl)
theorem dX6_rightOf_24 : decode cX6_rightOf 24 = .ok (.ifCond .eq 6, 3) := dk_153 0 6 (dk_at dksX6_rightOf_1 0 rfl rfl)
theorem dX6_rightOf_27 : decode cX6_rightOf 27 = .ok (.goto 122, 3) := dk_167 0 122 (dk_at dksX6_rightOf_1 3 rfl rfl)
theorem dX6_rightOf_30 : decode cX6_rightOf 30 = .ok (.lconst 1, 1) := dk_10 (dk_at dksX6_rightOf_1 6 rfl rfl)
theorem dX6_rightOf_31 : decode cX6_rightOf 31 = .ok (.lstore 5, 2) := dk_55 5 (dk_at dksX6_rightOf_1 7 rfl rfl)
theorem dX6_rightOf_33 : decode cX6_rightOf 33 = .ok (.iconst 0, 1) := dk_3 (dk_at dksX6_rightOf_1 9 rfl rfl)
theorem dX6_rightOf_34 : decode cX6_rightOf 34 = .ok (.istore 7, 2) := dk_54 7 (dk_at dksX6_rightOf_1 10 rfl rfl)
theorem dX6_rightOf_36 : decode cX6_rightOf 36 = .ok (.iconst 0, 1) := dk_3 (dk_at dksX6_rightOf_1 12 rfl rfl)
theorem dX6_rightOf_37 : decode cX6_rightOf 37 = .ok (.istore 8, 2) := dk_54 8 (dk_at dksX6_rightOf_1 13 rfl rfl)
theorem dX6_rightOf_39 : decode cX6_rightOf 39 = .ok (.iload 8, 2) := dk_21 8 (dk_at dksX6_rightOf_1 15 rfl rfl)
theorem dX6_rightOf_41 : decode cX6_rightOf 41 = .ok (.aload_n 0, 1) := dk_42 (dk_at dksX6_rightOf_1 17 rfl rfl)
theorem dX6_rightOf_42 : decode cX6_rightOf 42 = .ok (.getfield 7, 3) := dk_180 0 7 (dk_at dksX6_rightOf_1 18 rfl rfl)
theorem dX6_rightOf_45 : decode cX6_rightOf 45 = .ok (.iconst 4, 1) := dk_7 (dk_at dksX6_rightOf_1 21 rfl rfl)
theorem dX6_rightOf_46 : decode cX6_rightOf 46 = .ok (.iaload, 1) := dk_46 (dk_at dksX6_rightOf_1 22 rfl rfl)
theorem dX6_rightOf_47 : decode cX6_rightOf 47 = .ok (.if_icmp .ge 88, 3) := dk_162 0 88 (dk_at dksX6_rightOf_2 0 rfl rfl)
theorem dX6_rightOf_50 : decode cX6_rightOf 50 = .ok (.aload_n 0, 1) := dk_42 (dk_at dksX6_rightOf_2 3 rfl rfl)
theorem dX6_rightOf_51 : decode cX6_rightOf 51 = .ok (.iload_n 1, 1) := dk_27 (dk_at dksX6_rightOf_2 4 rfl rfl)
theorem dX6_rightOf_52 : decode cX6_rightOf 52 = .ok (.iload 8, 2) := dk_21 8 (dk_at dksX6_rightOf_2 5 rfl rfl)
theorem dX6_rightOf_54 : decode cX6_rightOf 54 = .ok (.invokevirtual 315, 3) := dk_182 1 59 (dk_at dksX6_rightOf_2 7 rfl rfl)
theorem dX6_rightOf_57 : decode cX6_rightOf 57 = .ok (.ifCond .ne 6, 3) := dk_154 0 6 (dk_at dksX6_rightOf_2 10 rfl rfl)
theorem dX6_rightOf_60 : decode cX6_rightOf 60 = .ok (.goto 69, 3) := dk_167 0 69 (dk_at dksX6_rightOf_2 13 rfl rfl)
theorem dX6_rightOf_63 : decode cX6_rightOf 63 = .ok (.aload_n 0, 1) := dk_42 (dk_at dksX6_rightOf_2 16 rfl rfl)
theorem dX6_rightOf_64 : decode cX6_rightOf 64 = .ok (.iload 4, 2) := dk_21 4 (dk_at dksX6_rightOf_2 17 rfl rfl)
theorem dX6_rightOf_66 : decode cX6_rightOf 66 = .ok (.iload 8, 2) := dk_21 8 (dk_at dksX6_rightOf_2 19 rfl rfl)
theorem dX6_rightOf_68 : decode cX6_rightOf 68 = .ok (.invokevirtual 315, 3) := dk_182 1 59 (dk_at dksX6_rightOf_2 21 rfl rfl)
theorem dX6_rightOf_71 : decode cX6_rightOf 71 = .ok (.istore 9, 2) := dk_54 9 (dk_at dksX6_rightOf_3 0 rfl rfl)
theorem dX6_rightOf_73 : decode cX6_rightOf 73 = .ok (.lload 5, 2) := dk_22 5 (dk_at dksX6_rightOf_3 2 rfl rfl)
theorem dX6_rightOf_75 : decode cX6_rightOf 75 = .ok (.iload 9, 2) := dk_21 9 (dk_at dksX6_rightOf_3 4 rfl rfl)
theorem dX6_rightOf_77 : decode cX6_rightOf 77 = .ok (.ifCond .eq 16, 3) := dk_153 0 16 (dk_at dksX6_rightOf_3 6 rfl rfl)
theorem dX6_rightOf_80 : decode cX6_rightOf 80 = .ok (.bipush 16, 2) := dk_16 16 (dk_at dksX6_rightOf_3 9 rfl rfl)
theorem dX6_rightOf_82 : decode cX6_rightOf 82 = .ok (.aload_n 0, 1) := dk_42 (dk_at dksX6_rightOf_3 11 rfl rfl)
theorem dX6_rightOf_83 : decode cX6_rightOf 83 = .ok (.iload 8, 2) := dk_21 8 (dk_at dksX6_rightOf_3 12 rfl rfl)
theorem dX6_rightOf_85 : decode cX6_rightOf 85 = .ok (.invokevirtual 312, 3) := dk_182 1 56 (dk_at dksX6_rightOf_3 14 rfl rfl)
theorem dX6_rightOf_88 : decode cX6_rightOf 88 = .ok (.isub, 1) := dk_100 (dk_at dksX6_rightOf_3 17 rfl rfl)
theorem dX6_rightOf_89 : decode cX6_rightOf 89 = .ok (.i2l, 1) := dk_133 (dk_at dksX6_rightOf_3 18 rfl rfl)
theorem dX6_rightOf_90 : decode cX6_rightOf 90 = .ok (.goto 10, 3) := dk_167 0 10 (dk_at dksX6_rightOf_3 19 rfl rfl)
theorem dX6_rightOf_93 : decode cX6_rightOf 93 = .ok (.aload_n 0, 1) := dk_42 (dk_at dksX6_rightOf_3 22 rfl rfl)
theorem dX6_rightOf_94 : decode cX6_rightOf 94 = .ok (.iload 8, 2) := dk_21 8 (dk_at dksX6_rightOf_4 0 rfl rfl)
theorem dX6_rightOf_96 : decode cX6_rightOf 96 = .ok (.invokevirtual 312, 3) := dk_182 1 56 (dk_at dksX6_rightOf_4 2 rfl rfl)
theorem dX6_rightOf_99 : decode cX6_rightOf 99 = .ok (.i2l, 1) := dk_133 (dk_at dksX6_rightOf_4 5 rfl rfl)
theorem dX6_rightOf_100 : decode cX6_rightOf 100 = .ok (.lmul, 1) := dk_105 (dk_at dksX6_rightOf_4 6 rfl rfl)
theorem dX6_rightOf_101 : decode cX6_rightOf 101 = .ok (.lstore 5, 2) := dk_55 5 (dk_at dksX6_rightOf_4 7 rfl rfl)
theorem dX6_rightOf_103 : decode cX6_rightOf 103 = .ok (.iload 7, 2) := dk_21 7 (dk_at dksX6_rightOf_4 9 rfl rfl)
theorem dX6_rightOf_105 : decode cX6_rightOf 105 = .ok (.iload 9, 2) := dk_21 9 (dk_at dksX6_rightOf_4 11 rfl rfl)
theorem dX6_rightOf_107 : decode cX6_rightOf 107 = .ok (.ifCond .eq 12, 3) := dk_153 0 12 (dk_at dksX6_rightOf_4 13 rfl rfl)
theorem dX6_rightOf_110 : decode cX6_rightOf 110 = .ok (.aload_n 0, 1) := dk_42 (dk_at dksX6_rightOf_4 16 rfl rfl)
theorem dX6_rightOf_111 : decode cX6_rightOf 111 = .ok (.iload 8, 2) := dk_21 8 (dk_at dksX6_rightOf_4 17 rfl rfl)
theorem dX6_rightOf_113 : decode cX6_rightOf 113 = .ok (.invokevirtual 284, 3) := dk_182 1 28 (dk_at dksX6_rightOf_4 19 rfl rfl)
theorem dX6_rightOf_116 : decode cX6_rightOf 116 = .ok (.goto 10, 3) := dk_167 0 10 (dk_at dksX6_rightOf_5 0 rfl rfl)
theorem dX6_rightOf_119 : decode cX6_rightOf 119 = .ok (.aload_n 0, 1) := dk_42 (dk_at dksX6_rightOf_5 3 rfl rfl)
theorem dX6_rightOf_120 : decode cX6_rightOf 120 = .ok (.iload 8, 2) := dk_21 8 (dk_at dksX6_rightOf_5 4 rfl rfl)
theorem dX6_rightOf_122 : decode cX6_rightOf 122 = .ok (.invokevirtual 284, 3) := dk_182 1 28 (dk_at dksX6_rightOf_5 6 rfl rfl)
theorem dX6_rightOf_125 : decode cX6_rightOf 125 = .ok (.ineg, 1) := dk_116 (dk_at dksX6_rightOf_5 9 rfl rfl)
theorem dX6_rightOf_126 : decode cX6_rightOf 126 = .ok (.iadd, 1) := dk_96 (dk_at dksX6_rightOf_5 10 rfl rfl)
theorem dX6_rightOf_127 : decode cX6_rightOf 127 = .ok (.istore 7, 2) := dk_54 7 (dk_at dksX6_rightOf_5 11 rfl rfl)
theorem dX6_rightOf_129 : decode cX6_rightOf 129 = .ok (.iinc 8 1, 3) := dk_132 8 1 (dk_at dksX6_rightOf_5 13 rfl rfl)
theorem dX6_rightOf_132 : decode cX6_rightOf 132 = .ok (.goto (-93), 3) := dk_167 255 163 (dk_at dksX6_rightOf_5 16 rfl rfl)
theorem dX6_rightOf_135 : decode cX6_rightOf 135 = .ok (.lload_n 2, 1) := dk_32 (dk_at dksX6_rightOf_5 19 rfl rfl)
theorem dX6_rightOf_136 : decode cX6_rightOf 136 = .ok (.iload 7, 2) := dk_21 7 (dk_at dksX6_rightOf_5 20 rfl rfl)
theorem dX6_rightOf_138 : decode cX6_rightOf 138 = .ok (.ifCond .le 8, 3) := dk_158 0 8 (dk_at dksX6_rightOf_6 0 rfl rfl)
theorem dX6_rightOf_141 : decode cX6_rightOf 141 = .ok (.lload 5, 2) := dk_22 5 (dk_at dksX6_rightOf_6 3 rfl rfl)
theorem dX6_rightOf_143 : decode cX6_rightOf 143 = .ok (.goto 4, 3) := dk_167 0 4 (dk_at dksX6_rightOf_6 5 rfl rfl)
theorem dX6_rightOf_146 : decode cX6_rightOf 146 = .ok (.lconst 0, 1) := dk_9 (dk_at dksX6_rightOf_6 8 rfl rfl)
theorem dX6_rightOf_147 : decode cX6_rightOf 147 = .ok (.ladd, 1) := dk_97 (dk_at dksX6_rightOf_6 9 rfl rfl)
theorem dX6_rightOf_148 : decode cX6_rightOf 148 = .ok (.lstore_n 2, 1) := dk_65 (dk_at dksX6_rightOf_6 10 rfl rfl)
theorem dX6_rightOf_149 : decode cX6_rightOf 149 = .ok (.iinc 4 1, 3) := dk_132 4 1 (dk_at dksX6_rightOf_6 11 rfl rfl)
theorem dX6_rightOf_152 : decode cX6_rightOf 152 = .ok (.goto (-147), 3) := dk_167 255 109 (dk_at dksX6_rightOf_6 14 rfl rfl)
theorem dX6_rightOf_155 : decode cX6_rightOf 155 = .ok (.lload_n 2, 1) := dk_32 (dk_at dksX6_rightOf_6 17 rfl rfl)
theorem dX6_rightOf_156 : decode cX6_rightOf 156 = .ok (.lreturn, 1) := dk_173 (dk_at dksX6_rightOf_6 18 rfl rfl)
abbrev cX6_sworn : ByteArray := prog_16_method_133_code
def yX6_sworn : MethodName := ⟨RX6, "sworn", "(I)I"⟩
def dkwX6_sworn_3 : List UInt8 := [22, 6, 66, 21, 5, 61, 132, 5, 1, 167, 255, 204, 42, 28, 182, 1, 46, 172]
abbrev dktX6_sworn_3 : List UInt8 := dkwX6_sworn_3 ++ []
def dkwX6_sworn_2 : List UInt8 := [159, 0, 6, 167, 0, 27, 42, 21, 5, 182, 1, 175, 55, 6, 22, 6, 33, 148, 157, 0, 6, 167, 0, 9]
abbrev dktX6_sworn_2 : List UInt8 := dkwX6_sworn_2 ++ dktX6_sworn_3
def dkwX6_sworn_1 : List UInt8 := [4, 54, 5, 21, 5, 4, 42, 180, 0, 7, 7, 46, 120, 162, 0, 45, 21, 5, 184, 1, 88, 27]
abbrev dktX6_sworn_1 : List UInt8 := dkwX6_sworn_1 ++ dktX6_sworn_2
def dkwX6_sworn_0 : List UInt8 := [27, 133, 10, 20, 1, 179, 184, 1, 81, 154, 0, 9, 42, 4, 182, 0, 91, 172, 2, 61, 20, 0, 113, 66]
abbrev dktX6_sworn_0 : List UInt8 := dkwX6_sworn_0 ++ dktX6_sworn_1
theorem dksX6_sworn_0 : cX6_sworn.data.toList.drop 0 = dktX6_sworn_0 := by decide +kernel
theorem dksX6_sworn_1 : cX6_sworn.data.toList.drop 24 = dktX6_sworn_1 := dk_seg dksX6_sworn_0 24 rfl rfl
theorem dksX6_sworn_2 : cX6_sworn.data.toList.drop 46 = dktX6_sworn_2 := dk_seg dksX6_sworn_1 22 rfl rfl
theorem dksX6_sworn_3 : cX6_sworn.data.toList.drop 70 = dktX6_sworn_3 := dk_seg dksX6_sworn_2 24 rfl rfl
theorem dX6_sworn_0 : decode cX6_sworn 0 = .ok (.iload_n 1, 1) := dk_27 (dk_at dksX6_sworn_0 0 rfl rfl)
theorem dX6_sworn_1 : decode cX6_sworn 1 = .ok (.i2l, 1) := dk_133 (dk_at dksX6_sworn_0 1 rfl rfl)
theorem dX6_sworn_2 : decode cX6_sworn 2 = .ok (.lconst 1, 1) := dk_10 (dk_at dksX6_sworn_0 2 rfl rfl)
theorem dX6_sworn_3 : decode cX6_sworn 3 = .ok (.ldc2_w 435, 3) := dk_20 1 179 (dk_at dksX6_sworn_0 3 rfl rfl)
theorem dX6_sworn_6 : decode cX6_sworn 6 = .ok (.invokestatic 337, 3) := dk_184 1 81 (dk_at dksX6_sworn_0 6 rfl rfl)
theorem dX6_sworn_9 : decode cX6_sworn 9 = .ok (.ifCond .ne 9, 3) := dk_154 0 9 (dk_at dksX6_sworn_0 9 rfl rfl)
theorem dX6_sworn_12 : decode cX6_sworn 12 = .ok (.aload_n 0, 1) := dk_42 (dk_at dksX6_sworn_0 12 rfl rfl)
theorem dX6_sworn_13 : decode cX6_sworn 13 = .ok (.iconst 1, 1) := dk_4 (dk_at dksX6_sworn_0 13 rfl rfl)
theorem dX6_sworn_14 : decode cX6_sworn 14 = .ok (.invokevirtual 91, 3) := dk_182 0 91 (dk_at dksX6_sworn_0 14 rfl rfl)
theorem dX6_sworn_17 : decode cX6_sworn 17 = .ok (.ireturn, 1) := dk_172 (dk_at dksX6_sworn_0 17 rfl rfl)
theorem dX6_sworn_18 : decode cX6_sworn 18 = .ok (.iconst (-1), 1) := dk_2 (dk_at dksX6_sworn_0 18 rfl rfl)
theorem dX6_sworn_19 : decode cX6_sworn 19 = .ok (.istore_n 2, 1) := dk_61 (dk_at dksX6_sworn_0 19 rfl rfl)
theorem dX6_sworn_20 : decode cX6_sworn 20 = .ok (.ldc2_w 113, 3) := dk_20 0 113 (dk_at dksX6_sworn_0 20 rfl rfl)
theorem dX6_sworn_23 : decode cX6_sworn 23 = .ok (.lstore_n 3, 1) := dk_66 (dk_at dksX6_sworn_0 23 rfl rfl)
theorem dX6_sworn_24 : decode cX6_sworn 24 = .ok (.iconst 1, 1) := dk_4 (dk_at dksX6_sworn_1 0 rfl rfl)
theorem dX6_sworn_25 : decode cX6_sworn 25 = .ok (.istore 5, 2) := dk_54 5 (dk_at dksX6_sworn_1 1 rfl rfl)
theorem dX6_sworn_27 : decode cX6_sworn 27 = .ok (.iload 5, 2) := dk_21 5 (dk_at dksX6_sworn_1 3 rfl rfl)
theorem dX6_sworn_29 : decode cX6_sworn 29 = .ok (.iconst 1, 1) := dk_4 (dk_at dksX6_sworn_1 5 rfl rfl)
theorem dX6_sworn_30 : decode cX6_sworn 30 = .ok (.aload_n 0, 1) := dk_42 (dk_at dksX6_sworn_1 6 rfl rfl)
theorem dX6_sworn_31 : decode cX6_sworn 31 = .ok (.getfield 7, 3) := dk_180 0 7 (dk_at dksX6_sworn_1 7 rfl rfl)
theorem dX6_sworn_34 : decode cX6_sworn 34 = .ok (.iconst 4, 1) := dk_7 (dk_at dksX6_sworn_1 10 rfl rfl)
theorem dX6_sworn_35 : decode cX6_sworn 35 = .ok (.iaload, 1) := dk_46 (dk_at dksX6_sworn_1 11 rfl rfl)
theorem dX6_sworn_36 : decode cX6_sworn 36 = .ok (.ishl, 1) := dk_120 (dk_at dksX6_sworn_1 12 rfl rfl)
theorem dX6_sworn_37 : decode cX6_sworn 37 = .ok (.if_icmp .ge 45, 3) := dk_162 0 45 (dk_at dksX6_sworn_1 13 rfl rfl)
theorem dX6_sworn_40 : decode cX6_sworn 40 = .ok (.iload 5, 2) := dk_21 5 (dk_at dksX6_sworn_1 16 rfl rfl)
theorem dX6_sworn_42 : decode cX6_sworn 42 = .ok (.invokestatic 344, 3) := dk_184 1 88 (dk_at dksX6_sworn_1 18 rfl rfl)
theorem dX6_sworn_45 : decode cX6_sworn 45 = .ok (.iload_n 1, 1) := dk_27 (dk_at dksX6_sworn_1 21 rfl rfl)
theorem dX6_sworn_46 : decode cX6_sworn 46 = .ok (.if_icmp .eq 6, 3) := dk_159 0 6 (dk_at dksX6_sworn_2 0 rfl rfl)
theorem dX6_sworn_49 : decode cX6_sworn 49 = .ok (.goto 27, 3) := dk_167 0 27 (dk_at dksX6_sworn_2 3 rfl rfl)
theorem dX6_sworn_52 : decode cX6_sworn 52 = .ok (.aload_n 0, 1) := dk_42 (dk_at dksX6_sworn_2 6 rfl rfl)
theorem dX6_sworn_53 : decode cX6_sworn 53 = .ok (.iload 5, 2) := dk_21 5 (dk_at dksX6_sworn_2 7 rfl rfl)
theorem dX6_sworn_55 : decode cX6_sworn 55 = .ok (.invokevirtual 431, 3) := dk_182 1 175 (dk_at dksX6_sworn_2 9 rfl rfl)
theorem dX6_sworn_58 : decode cX6_sworn 58 = .ok (.lstore 6, 2) := dk_55 6 (dk_at dksX6_sworn_2 12 rfl rfl)
theorem dX6_sworn_60 : decode cX6_sworn 60 = .ok (.lload 6, 2) := dk_22 6 (dk_at dksX6_sworn_2 14 rfl rfl)
theorem dX6_sworn_62 : decode cX6_sworn 62 = .ok (.lload_n 3, 1) := dk_33 (dk_at dksX6_sworn_2 16 rfl rfl)
theorem dX6_sworn_63 : decode cX6_sworn 63 = .ok (.lcmp, 1) := dk_148 (dk_at dksX6_sworn_2 17 rfl rfl)
theorem dX6_sworn_64 : decode cX6_sworn 64 = .ok (.ifCond .gt 6, 3) := dk_157 0 6 (dk_at dksX6_sworn_2 18 rfl rfl)
theorem dX6_sworn_67 : decode cX6_sworn 67 = .ok (.goto 9, 3) := dk_167 0 9 (dk_at dksX6_sworn_2 21 rfl rfl)
theorem dX6_sworn_70 : decode cX6_sworn 70 = .ok (.lload 6, 2) := dk_22 6 (dk_at dksX6_sworn_3 0 rfl rfl)
theorem dX6_sworn_72 : decode cX6_sworn 72 = .ok (.lstore_n 3, 1) := dk_66 (dk_at dksX6_sworn_3 2 rfl rfl)
theorem dX6_sworn_73 : decode cX6_sworn 73 = .ok (.iload 5, 2) := dk_21 5 (dk_at dksX6_sworn_3 3 rfl rfl)
theorem dX6_sworn_75 : decode cX6_sworn 75 = .ok (.istore_n 2, 1) := dk_61 (dk_at dksX6_sworn_3 5 rfl rfl)
theorem dX6_sworn_76 : decode cX6_sworn 76 = .ok (.iinc 5 1, 3) := dk_132 5 1 (dk_at dksX6_sworn_3 6 rfl rfl)
theorem dX6_sworn_79 : decode cX6_sworn 79 = .ok (.goto (-52), 3) := dk_167 255 204 (dk_at dksX6_sworn_3 9 rfl rfl)
theorem dX6_sworn_82 : decode cX6_sworn 82 = .ok (.aload_n 0, 1) := dk_42 (dk_at dksX6_sworn_3 12 rfl rfl)
theorem dX6_sworn_83 : decode cX6_sworn 83 = .ok (.iload_n 2, 1) := dk_28 (dk_at dksX6_sworn_3 13 rfl rfl)
theorem dX6_sworn_84 : decode cX6_sworn 84 = .ok (.invokevirtual 302, 3) := dk_182 1 46 (dk_at dksX6_sworn_3 14 rfl rfl)
theorem dX6_sworn_87 : decode cX6_sworn 87 = .ok (.ireturn, 1) := dk_172 (dk_at dksX6_sworn_3 17 rfl rfl)
abbrev cX6_power : ByteArray := prog_16_method_135_code
def yX6_power : MethodName := ⟨RX6, "power", "(I)Z"⟩
def dkwX6_power_7 : List UInt8 := [28, 184, 1, 181, 182, 1, 149, 172]
abbrev dktX6_power_7 : List UInt8 := dkwX6_power_7 ++ []
def dkwX6_power_6 : List UInt8 := [21, 5, 184, 1, 88, 100, 184, 1, 181, 105, 167, 0, 4, 9, 97, 66, 132, 5, 1, 167, 255, 120, 42, 33]
abbrev dktX6_power_6 : List UInt8 := dkwX6_power_6 ++ dktX6_power_7
def dkwX6_power_5 : List UInt8 := [167, 0, 4, 3, 54, 7, 33, 21, 7, 153, 0, 27, 21, 5, 184, 1, 88, 184, 1, 181, 28, 4, 100]
abbrev dktX6_power_5 : List UInt8 := dkwX6_power_5 ++ dktX6_power_6
def dkwX6_power_4 : List UInt8 := [182, 1, 31, 163, 0, 24, 5, 21, 6, 42, 27, 182, 1, 28, 96, 104, 42, 182, 1, 31, 164, 0, 7, 4]
abbrev dktX6_power_4 : List UInt8 := dkwX6_power_4 ++ dktX6_power_5
def dkwX6_power_3 : List UInt8 := [42, 21, 7, 182, 1, 28, 167, 0, 4, 3, 96, 54, 6, 132, 7, 1, 167, 255, 221, 5, 21, 6, 104, 42]
abbrev dktX6_power_3 : List UInt8 := dkwX6_power_3 ++ dktX6_power_4
def dkwX6_power_2 : List UInt8 := [54, 6, 3, 54, 7, 21, 7, 28, 162, 0, 35, 21, 6, 42, 21, 5, 21, 7, 182, 1, 59, 153, 0, 12]
abbrev dktX6_power_2 : List UInt8 := dkwX6_power_2 ++ dktX6_power_3
def dkwX6_power_1 : List UInt8 := [54, 5, 21, 5, 4, 28, 120, 162, 0, 134, 42, 21, 5, 27, 182, 1, 59, 153, 0, 6, 167, 0, 115, 3]
abbrev dktX6_power_1 : List UInt8 := dkwX6_power_1 ++ dktX6_power_2
def dkwX6_power_0 : List UInt8 := [42, 27, 182, 1, 53, 154, 0, 9, 42, 4, 182, 0, 98, 172, 42, 180, 0, 7, 7, 46, 61, 9, 66, 3]
abbrev dktX6_power_0 : List UInt8 := dkwX6_power_0 ++ dktX6_power_1
theorem dksX6_power_0 : cX6_power.data.toList.drop 0 = dktX6_power_0 := by decide +kernel
theorem dksX6_power_1 : cX6_power.data.toList.drop 24 = dktX6_power_1 := dk_seg dksX6_power_0 24 rfl rfl
theorem dksX6_power_2 : cX6_power.data.toList.drop 48 = dktX6_power_2 := dk_seg dksX6_power_1 24 rfl rfl
theorem dksX6_power_3 : cX6_power.data.toList.drop 72 = dktX6_power_3 := dk_seg dksX6_power_2 24 rfl rfl
theorem dksX6_power_4 : cX6_power.data.toList.drop 96 = dktX6_power_4 := dk_seg dksX6_power_3 24 rfl rfl
theorem dksX6_power_5 : cX6_power.data.toList.drop 120 = dktX6_power_5 := dk_seg dksX6_power_4 24 rfl rfl
theorem dksX6_power_6 : cX6_power.data.toList.drop 143 = dktX6_power_6 := dk_seg dksX6_power_5 23 rfl rfl
theorem dksX6_power_7 : cX6_power.data.toList.drop 167 = dktX6_power_7 := dk_seg dksX6_power_6 24 rfl rfl
theorem dX6_power_0 : decode cX6_power 0 = .ok (.aload_n 0, 1) := dk_42 (dk_at dksX6_power_0 0 rfl rfl)
theorem dX6_power_1 : decode cX6_power 1 = .ok (.iload_n 1, 1) := dk_27 (dk_at dksX6_power_0 1 rfl rfl)
theorem dX6_power_2 : decode cX6_power 2 = .ok (.invokevirtual 309, 3) := dk_182 1 53 (dk_at dksX6_power_0 2 rfl rfl)
theorem dX6_power_5 : decode cX6_power 5 = .ok (.ifCond .ne 9, 3) := dk_154 0 9 (dk_at dksX6_power_0 5 rfl rfl)
theorem dX6_power_8 : decode cX6_power 8 = .ok (.aload_n 0, 1) := dk_42 (dk_at dksX6_power_0 8 rfl rfl)
theorem dX6_power_9 : decode cX6_power 9 = .ok (.iconst 1, 1) := dk_4 (dk_at dksX6_power_0 9 rfl rfl)
theorem dX6_power_10 : decode cX6_power 10 = .ok (.invokevirtual 98, 3) := dk_182 0 98 (dk_at dksX6_power_0 10 rfl rfl)
theorem dX6_power_13 : decode cX6_power 13 = .ok (.ireturn, 1) := dk_172 (dk_at dksX6_power_0 13 rfl rfl)
theorem dX6_power_14 : decode cX6_power 14 = .ok (.aload_n 0, 1) := dk_42 (dk_at dksX6_power_0 14 rfl rfl)
theorem dX6_power_15 : decode cX6_power 15 = .ok (.getfield 7, 3) := dk_180 0 7 (dk_at dksX6_power_0 15 rfl rfl)
theorem dX6_power_18 : decode cX6_power 18 = .ok (.iconst 4, 1) := dk_7 (dk_at dksX6_power_0 18 rfl rfl)
theorem dX6_power_19 : decode cX6_power 19 = .ok (.iaload, 1) := dk_46 (dk_at dksX6_power_0 19 rfl rfl)
theorem dX6_power_20 : decode cX6_power 20 = .ok (.istore_n 2, 1) := dk_61 (dk_at dksX6_power_0 20 rfl rfl)
theorem dX6_power_21 : decode cX6_power 21 = .ok (.lconst 0, 1) := dk_9 (dk_at dksX6_power_0 21 rfl rfl)
theorem dX6_power_22 : decode cX6_power 22 = .ok (.lstore_n 3, 1) := dk_66 (dk_at dksX6_power_0 22 rfl rfl)
theorem dX6_power_23 : decode cX6_power 23 = .ok (.iconst 0, 1) := dk_3 (dk_at dksX6_power_0 23 rfl rfl)
theorem dX6_power_24 : decode cX6_power 24 = .ok (.istore 5, 2) := dk_54 5 (dk_at dksX6_power_1 0 rfl rfl)
theorem dX6_power_26 : decode cX6_power 26 = .ok (.iload 5, 2) := dk_21 5 (dk_at dksX6_power_1 2 rfl rfl)
theorem dX6_power_28 : decode cX6_power 28 = .ok (.iconst 1, 1) := dk_4 (dk_at dksX6_power_1 4 rfl rfl)
theorem dX6_power_29 : decode cX6_power 29 = .ok (.iload_n 2, 1) := dk_28 (dk_at dksX6_power_1 5 rfl rfl)
theorem dX6_power_30 : decode cX6_power 30 = .ok (.ishl, 1) := dk_120 (dk_at dksX6_power_1 6 rfl rfl)
theorem dX6_power_31 : decode cX6_power 31 = .ok (.if_icmp .ge 134, 3) := dk_162 0 134 (dk_at dksX6_power_1 7 rfl rfl)
theorem dX6_power_34 : decode cX6_power 34 = .ok (.aload_n 0, 1) := dk_42 (dk_at dksX6_power_1 10 rfl rfl)
theorem dX6_power_35 : decode cX6_power 35 = .ok (.iload 5, 2) := dk_21 5 (dk_at dksX6_power_1 11 rfl rfl)
theorem dX6_power_37 : decode cX6_power 37 = .ok (.iload_n 1, 1) := dk_27 (dk_at dksX6_power_1 13 rfl rfl)
theorem dX6_power_38 : decode cX6_power 38 = .ok (.invokevirtual 315, 3) := dk_182 1 59 (dk_at dksX6_power_1 14 rfl rfl)
theorem dX6_power_41 : decode cX6_power 41 = .ok (.ifCond .eq 6, 3) := dk_153 0 6 (dk_at dksX6_power_1 17 rfl rfl)
theorem dX6_power_44 : decode cX6_power 44 = .ok (.goto 115, 3) := dk_167 0 115 (dk_at dksX6_power_1 20 rfl rfl)
theorem dX6_power_47 : decode cX6_power 47 = .ok (.iconst 0, 1) := dk_3 (dk_at dksX6_power_1 23 rfl rfl)
theorem dX6_power_48 : decode cX6_power 48 = .ok (.istore 6, 2) := dk_54 6 (dk_at dksX6_power_2 0 rfl rfl)
theorem dX6_power_50 : decode cX6_power 50 = .ok (.iconst 0, 1) := dk_3 (dk_at dksX6_power_2 2 rfl rfl)
theorem dX6_power_51 : decode cX6_power 51 = .ok (.istore 7, 2) := dk_54 7 (dk_at dksX6_power_2 3 rfl rfl)
theorem dX6_power_53 : decode cX6_power 53 = .ok (.iload 7, 2) := dk_21 7 (dk_at dksX6_power_2 5 rfl rfl)
theorem dX6_power_55 : decode cX6_power 55 = .ok (.iload_n 2, 1) := dk_28 (dk_at dksX6_power_2 7 rfl rfl)
theorem dX6_power_56 : decode cX6_power 56 = .ok (.if_icmp .ge 35, 3) := dk_162 0 35 (dk_at dksX6_power_2 8 rfl rfl)
theorem dX6_power_59 : decode cX6_power 59 = .ok (.iload 6, 2) := dk_21 6 (dk_at dksX6_power_2 11 rfl rfl)
theorem dX6_power_61 : decode cX6_power 61 = .ok (.aload_n 0, 1) := dk_42 (dk_at dksX6_power_2 13 rfl rfl)
theorem dX6_power_62 : decode cX6_power 62 = .ok (.iload 5, 2) := dk_21 5 (dk_at dksX6_power_2 14 rfl rfl)
theorem dX6_power_64 : decode cX6_power 64 = .ok (.iload 7, 2) := dk_21 7 (dk_at dksX6_power_2 16 rfl rfl)
theorem dX6_power_66 : decode cX6_power 66 = .ok (.invokevirtual 315, 3) := dk_182 1 59 (dk_at dksX6_power_2 18 rfl rfl)
theorem dX6_power_69 : decode cX6_power 69 = .ok (.ifCond .eq 12, 3) := dk_153 0 12 (dk_at dksX6_power_2 21 rfl rfl)
theorem dX6_power_72 : decode cX6_power 72 = .ok (.aload_n 0, 1) := dk_42 (dk_at dksX6_power_3 0 rfl rfl)
theorem dX6_power_73 : decode cX6_power 73 = .ok (.iload 7, 2) := dk_21 7 (dk_at dksX6_power_3 1 rfl rfl)
theorem dX6_power_75 : decode cX6_power 75 = .ok (.invokevirtual 284, 3) := dk_182 1 28 (dk_at dksX6_power_3 3 rfl rfl)
theorem dX6_power_78 : decode cX6_power 78 = .ok (.goto 4, 3) := dk_167 0 4 (dk_at dksX6_power_3 6 rfl rfl)
theorem dX6_power_81 : decode cX6_power 81 = .ok (.iconst 0, 1) := dk_3 (dk_at dksX6_power_3 9 rfl rfl)
theorem dX6_power_82 : decode cX6_power 82 = .ok (.iadd, 1) := dk_96 (dk_at dksX6_power_3 10 rfl rfl)
theorem dX6_power_83 : decode cX6_power 83 = .ok (.istore 6, 2) := dk_54 6 (dk_at dksX6_power_3 11 rfl rfl)
theorem dX6_power_85 : decode cX6_power 85 = .ok (.iinc 7 1, 3) := dk_132 7 1 (dk_at dksX6_power_3 13 rfl rfl)
theorem dX6_power_88 : decode cX6_power 88 = .ok (.goto (-35), 3) := dk_167 255 221 (dk_at dksX6_power_3 16 rfl rfl)
theorem dX6_power_91 : decode cX6_power 91 = .ok (.iconst 2, 1) := dk_5 (dk_at dksX6_power_3 19 rfl rfl)
theorem dX6_power_92 : decode cX6_power 92 = .ok (.iload 6, 2) := dk_21 6 (dk_at dksX6_power_3 20 rfl rfl)
theorem dX6_power_94 : decode cX6_power 94 = .ok (.imul, 1) := dk_104 (dk_at dksX6_power_3 22 rfl rfl)
theorem dX6_power_95 : decode cX6_power 95 = .ok (.aload_n 0, 1) := dk_42 (dk_at dksX6_power_3 23 rfl rfl)
theorem dX6_power_96 : decode cX6_power 96 = .ok (.invokevirtual 287, 3) := dk_182 1 31 (dk_at dksX6_power_4 0 rfl rfl)
theorem dX6_power_99 : decode cX6_power 99 = .ok (.if_icmp .gt 24, 3) := dk_163 0 24 (dk_at dksX6_power_4 3 rfl rfl)
theorem dX6_power_102 : decode cX6_power 102 = .ok (.iconst 2, 1) := dk_5 (dk_at dksX6_power_4 6 rfl rfl)
theorem dX6_power_103 : decode cX6_power 103 = .ok (.iload 6, 2) := dk_21 6 (dk_at dksX6_power_4 7 rfl rfl)
theorem dX6_power_105 : decode cX6_power 105 = .ok (.aload_n 0, 1) := dk_42 (dk_at dksX6_power_4 9 rfl rfl)
theorem dX6_power_106 : decode cX6_power 106 = .ok (.iload_n 1, 1) := dk_27 (dk_at dksX6_power_4 10 rfl rfl)
theorem dX6_power_107 : decode cX6_power 107 = .ok (.invokevirtual 284, 3) := dk_182 1 28 (dk_at dksX6_power_4 11 rfl rfl)
theorem dX6_power_110 : decode cX6_power 110 = .ok (.iadd, 1) := dk_96 (dk_at dksX6_power_4 14 rfl rfl)
theorem dX6_power_111 : decode cX6_power 111 = .ok (.imul, 1) := dk_104 (dk_at dksX6_power_4 15 rfl rfl)
theorem dX6_power_112 : decode cX6_power 112 = .ok (.aload_n 0, 1) := dk_42 (dk_at dksX6_power_4 16 rfl rfl)
theorem dX6_power_113 : decode cX6_power 113 = .ok (.invokevirtual 287, 3) := dk_182 1 31 (dk_at dksX6_power_4 17 rfl rfl)
theorem dX6_power_116 : decode cX6_power 116 = .ok (.if_icmp .le 7, 3) := dk_164 0 7 (dk_at dksX6_power_4 20 rfl rfl)
theorem dX6_power_119 : decode cX6_power 119 = .ok (.iconst 1, 1) := dk_4 (dk_at dksX6_power_4 23 rfl rfl)
theorem dX6_power_120 : decode cX6_power 120 = .ok (.goto 4, 3) := dk_167 0 4 (dk_at dksX6_power_5 0 rfl rfl)
theorem dX6_power_123 : decode cX6_power 123 = .ok (.iconst 0, 1) := dk_3 (dk_at dksX6_power_5 3 rfl rfl)
theorem dX6_power_124 : decode cX6_power 124 = .ok (.istore 7, 2) := dk_54 7 (dk_at dksX6_power_5 4 rfl rfl)
theorem dX6_power_126 : decode cX6_power 126 = .ok (.lload_n 3, 1) := dk_33 (dk_at dksX6_power_5 6 rfl rfl)
theorem dX6_power_127 : decode cX6_power 127 = .ok (.iload 7, 2) := dk_21 7 (dk_at dksX6_power_5 7 rfl rfl)
theorem dX6_power_129 : decode cX6_power 129 = .ok (.ifCond .eq 27, 3) := dk_153 0 27 (dk_at dksX6_power_5 9 rfl rfl)
theorem dX6_power_132 : decode cX6_power 132 = .ok (.iload 5, 2) := dk_21 5 (dk_at dksX6_power_5 12 rfl rfl)
theorem dX6_power_134 : decode cX6_power 134 = .ok (.invokestatic 344, 3) := dk_184 1 88 (dk_at dksX6_power_5 14 rfl rfl)
theorem dX6_power_137 : decode cX6_power 137 = .ok (.invokestatic 437, 3) := dk_184 1 181 (dk_at dksX6_power_5 17 rfl rfl)
theorem dX6_power_140 : decode cX6_power 140 = .ok (.iload_n 2, 1) := dk_28 (dk_at dksX6_power_5 20 rfl rfl)
theorem dX6_power_141 : decode cX6_power 141 = .ok (.iconst 1, 1) := dk_4 (dk_at dksX6_power_5 21 rfl rfl)
theorem dX6_power_142 : decode cX6_power 142 = .ok (.isub, 1) := dk_100 (dk_at dksX6_power_5 22 rfl rfl)
theorem dX6_power_143 : decode cX6_power 143 = .ok (.iload 5, 2) := dk_21 5 (dk_at dksX6_power_6 0 rfl rfl)
theorem dX6_power_145 : decode cX6_power 145 = .ok (.invokestatic 344, 3) := dk_184 1 88 (dk_at dksX6_power_6 2 rfl rfl)
theorem dX6_power_148 : decode cX6_power 148 = .ok (.isub, 1) := dk_100 (dk_at dksX6_power_6 5 rfl rfl)
theorem dX6_power_149 : decode cX6_power 149 = .ok (.invokestatic 437, 3) := dk_184 1 181 (dk_at dksX6_power_6 6 rfl rfl)
theorem dX6_power_152 : decode cX6_power 152 = .ok (.lmul, 1) := dk_105 (dk_at dksX6_power_6 9 rfl rfl)
theorem dX6_power_153 : decode cX6_power 153 = .ok (.goto 4, 3) := dk_167 0 4 (dk_at dksX6_power_6 10 rfl rfl)
theorem dX6_power_156 : decode cX6_power 156 = .ok (.lconst 0, 1) := dk_9 (dk_at dksX6_power_6 13 rfl rfl)
theorem dX6_power_157 : decode cX6_power 157 = .ok (.ladd, 1) := dk_97 (dk_at dksX6_power_6 14 rfl rfl)
theorem dX6_power_158 : decode cX6_power 158 = .ok (.lstore_n 3, 1) := dk_66 (dk_at dksX6_power_6 15 rfl rfl)
theorem dX6_power_159 : decode cX6_power 159 = .ok (.iinc 5 1, 3) := dk_132 5 1 (dk_at dksX6_power_6 16 rfl rfl)
theorem dX6_power_162 : decode cX6_power 162 = .ok (.goto (-136), 3) := dk_167 255 120 (dk_at dksX6_power_6 19 rfl rfl)
theorem dX6_power_165 : decode cX6_power 165 = .ok (.aload_n 0, 1) := dk_42 (dk_at dksX6_power_6 22 rfl rfl)
theorem dX6_power_166 : decode cX6_power 166 = .ok (.lload_n 3, 1) := dk_33 (dk_at dksX6_power_6 23 rfl rfl)
theorem dX6_power_167 : decode cX6_power 167 = .ok (.iload_n 2, 1) := dk_28 (dk_at dksX6_power_7 0 rfl rfl)
theorem dX6_power_168 : decode cX6_power 168 = .ok (.invokestatic 437, 3) := dk_184 1 181 (dk_at dksX6_power_7 1 rfl rfl)
theorem dX6_power_171 : decode cX6_power 171 = .ok (.invokevirtual 405, 3) := dk_182 1 149 (dk_at dksX6_power_7 4 rfl rfl)
theorem dX6_power_174 : decode cX6_power 174 = .ok (.ireturn, 1) := dk_172 (dk_at dksX6_power_7 7 rfl rfl)
abbrev cX6_orders : ByteArray := prog_16_method_134_code
def yX6_orders : MethodName := ⟨RX6, "orders", "(I)J"⟩
def dkwX6_orders_0 : List UInt8 := [10, 64, 5, 62, 29, 26, 163, 0, 14, 31, 29, 133, 105, 64, 132, 3, 1, 167, 255, 243, 31, 173]
abbrev dktX6_orders_0 : List UInt8 := dkwX6_orders_0 ++ []
theorem dksX6_orders_0 : cX6_orders.data.toList.drop 0 = dktX6_orders_0 := by decide +kernel
theorem dX6_orders_0 : decode cX6_orders 0 = .ok (.lconst 1, 1) := dk_10 (dk_at dksX6_orders_0 0 rfl rfl)
theorem dX6_orders_1 : decode cX6_orders 1 = .ok (.lstore_n 1, 1) := dk_64 (dk_at dksX6_orders_0 1 rfl rfl)
theorem dX6_orders_2 : decode cX6_orders 2 = .ok (.iconst 2, 1) := dk_5 (dk_at dksX6_orders_0 2 rfl rfl)
theorem dX6_orders_3 : decode cX6_orders 3 = .ok (.istore_n 3, 1) := dk_62 (dk_at dksX6_orders_0 3 rfl rfl)
theorem dX6_orders_4 : decode cX6_orders 4 = .ok (.iload_n 3, 1) := dk_29 (dk_at dksX6_orders_0 4 rfl rfl)
theorem dX6_orders_5 : decode cX6_orders 5 = .ok (.iload_n 0, 1) := dk_26 (dk_at dksX6_orders_0 5 rfl rfl)
theorem dX6_orders_6 : decode cX6_orders 6 = .ok (.if_icmp .gt 14, 3) := dk_163 0 14 (dk_at dksX6_orders_0 6 rfl rfl)
theorem dX6_orders_9 : decode cX6_orders 9 = .ok (.lload_n 1, 1) := dk_31 (dk_at dksX6_orders_0 9 rfl rfl)
theorem dX6_orders_10 : decode cX6_orders 10 = .ok (.iload_n 3, 1) := dk_29 (dk_at dksX6_orders_0 10 rfl rfl)
theorem dX6_orders_11 : decode cX6_orders 11 = .ok (.i2l, 1) := dk_133 (dk_at dksX6_orders_0 11 rfl rfl)
theorem dX6_orders_12 : decode cX6_orders 12 = .ok (.lmul, 1) := dk_105 (dk_at dksX6_orders_0 12 rfl rfl)
theorem dX6_orders_13 : decode cX6_orders 13 = .ok (.lstore_n 1, 1) := dk_64 (dk_at dksX6_orders_0 13 rfl rfl)
theorem dX6_orders_14 : decode cX6_orders 14 = .ok (.iinc 3 1, 3) := dk_132 3 1 (dk_at dksX6_orders_0 14 rfl rfl)
theorem dX6_orders_17 : decode cX6_orders 17 = .ok (.goto (-13), 3) := dk_167 255 243 (dk_at dksX6_orders_0 17 rfl rfl)
theorem dX6_orders_20 : decode cX6_orders 20 = .ok (.lload_n 1, 1) := dk_31 (dk_at dksX6_orders_0 20 rfl rfl)
theorem dX6_orders_21 : decode cX6_orders 21 = .ok (.lreturn, 1) := dk_173 (dk_at dksX6_orders_0 21 rfl rfl)
abbrev cX6_clash : ByteArray := prog_16_method_138_code
def yX6_clash : MethodName := ⟨RX6, "clash", "()I"⟩
def dkwX6_clash_0 : List UInt8 := [42, 42, 182, 1, 190, 182, 0, 95, 172]
abbrev dktX6_clash_0 : List UInt8 := dkwX6_clash_0 ++ []
theorem dksX6_clash_0 : cX6_clash.data.toList.drop 0 = dktX6_clash_0 := by decide +kernel
theorem dX6_clash_0 : decode cX6_clash 0 = .ok (.aload_n 0, 1) := dk_42 (dk_at dksX6_clash_0 0 rfl rfl)
theorem dX6_clash_1 : decode cX6_clash 1 = .ok (.aload_n 0, 1) := dk_42 (dk_at dksX6_clash_0 1 rfl rfl)
theorem dX6_clash_2 : decode cX6_clash 2 = .ok (.invokevirtual 446, 3) := dk_182 1 190 (dk_at dksX6_clash_0 2 rfl rfl)
theorem dX6_clash_5 : decode cX6_clash 5 = .ok (.invokevirtual 95, 3) := dk_182 0 95 (dk_at dksX6_clash_0 5 rfl rfl)
theorem dX6_clash_8 : decode cX6_clash 8 = .ok (.ireturn, 1) := dk_172 (dk_at dksX6_clash_0 8 rfl rfl)
abbrev cX6_clashing : ByteArray := prog_16_method_137_code
def yX6_clashing : MethodName := ⟨RX6, "clashing", "()I"⟩
def dkwX6_clashing_2 : List UInt8 := [167, 0, 4, 3, 128, 60, 132, 2, 1, 167, 255, 205, 27, 172]
abbrev dktX6_clashing_2 : List UInt8 := dkwX6_clashing_2 ++ []
def dkwX6_clashing_1 : List UInt8 := [180, 0, 7, 16, 6, 46, 182, 1, 187, 6, 42, 28, 4, 182, 1, 184, 100, 160, 0, 9, 4, 28, 120]
abbrev dktX6_clashing_1 : List UInt8 := dkwX6_clashing_1 ++ dktX6_clashing_2
def dkwX6_clashing_0 : List UInt8 := [3, 60, 3, 61, 28, 42, 180, 0, 7, 8, 46, 162, 0, 47, 27, 42, 42, 28, 3, 182, 1, 184, 42]
abbrev dktX6_clashing_0 : List UInt8 := dkwX6_clashing_0 ++ dktX6_clashing_1
theorem dksX6_clashing_0 : cX6_clashing.data.toList.drop 0 = dktX6_clashing_0 := by decide +kernel
theorem dksX6_clashing_1 : cX6_clashing.data.toList.drop 23 = dktX6_clashing_1 := dk_seg dksX6_clashing_0 23 rfl rfl
theorem dksX6_clashing_2 : cX6_clashing.data.toList.drop 46 = dktX6_clashing_2 := dk_seg dksX6_clashing_1 23 rfl rfl
theorem dX6_clashing_0 : decode cX6_clashing 0 = .ok (.iconst 0, 1) := dk_3 (dk_at dksX6_clashing_0 0 rfl rfl)
theorem dX6_clashing_1 : decode cX6_clashing 1 = .ok (.istore_n 1, 1) := dk_60 (dk_at dksX6_clashing_0 1 rfl rfl)
theorem dX6_clashing_2 : decode cX6_clashing 2 = .ok (.iconst 0, 1) := dk_3 (dk_at dksX6_clashing_0 2 rfl rfl)
theorem dX6_clashing_3 : decode cX6_clashing 3 = .ok (.istore_n 2, 1) := dk_61 (dk_at dksX6_clashing_0 3 rfl rfl)
theorem dX6_clashing_4 : decode cX6_clashing 4 = .ok (.iload_n 2, 1) := dk_28 (dk_at dksX6_clashing_0 4 rfl rfl)
theorem dX6_clashing_5 : decode cX6_clashing 5 = .ok (.aload_n 0, 1) := dk_42 (dk_at dksX6_clashing_0 5 rfl rfl)
theorem dX6_clashing_6 : decode cX6_clashing 6 = .ok (.getfield 7, 3) := dk_180 0 7 (dk_at dksX6_clashing_0 6 rfl rfl)
theorem dX6_clashing_9 : decode cX6_clashing 9 = .ok (.iconst 5, 1) := dk_8 (dk_at dksX6_clashing_0 9 rfl rfl)
theorem dX6_clashing_10 : decode cX6_clashing 10 = .ok (.iaload, 1) := dk_46 (dk_at dksX6_clashing_0 10 rfl rfl)
theorem dX6_clashing_11 : decode cX6_clashing 11 = .ok (.if_icmp .ge 47, 3) := dk_162 0 47 (dk_at dksX6_clashing_0 11 rfl rfl)
theorem dX6_clashing_14 : decode cX6_clashing 14 = .ok (.iload_n 1, 1) := dk_27 (dk_at dksX6_clashing_0 14 rfl rfl)
theorem dX6_clashing_15 : decode cX6_clashing 15 = .ok (.aload_n 0, 1) := dk_42 (dk_at dksX6_clashing_0 15 rfl rfl)
theorem dX6_clashing_16 : decode cX6_clashing 16 = .ok (.aload_n 0, 1) := dk_42 (dk_at dksX6_clashing_0 16 rfl rfl)
theorem dX6_clashing_17 : decode cX6_clashing 17 = .ok (.iload_n 2, 1) := dk_28 (dk_at dksX6_clashing_0 17 rfl rfl)
theorem dX6_clashing_18 : decode cX6_clashing 18 = .ok (.iconst 0, 1) := dk_3 (dk_at dksX6_clashing_0 18 rfl rfl)
theorem dX6_clashing_19 : decode cX6_clashing 19 = .ok (.invokevirtual 440, 3) := dk_182 1 184 (dk_at dksX6_clashing_0 19 rfl rfl)
theorem dX6_clashing_22 : decode cX6_clashing 22 = .ok (.aload_n 0, 1) := dk_42 (dk_at dksX6_clashing_0 22 rfl rfl)
theorem dX6_clashing_23 : decode cX6_clashing 23 = .ok (.getfield 7, 3) := dk_180 0 7 (dk_at dksX6_clashing_1 0 rfl rfl)
theorem dX6_clashing_26 : decode cX6_clashing 26 = .ok (.bipush 6, 2) := dk_16 6 (dk_at dksX6_clashing_1 3 rfl rfl)
theorem dX6_clashing_28 : decode cX6_clashing 28 = .ok (.iaload, 1) := dk_46 (dk_at dksX6_clashing_1 5 rfl rfl)
theorem dX6_clashing_29 : decode cX6_clashing 29 = .ok (.invokevirtual 443, 3) := dk_182 1 187 (dk_at dksX6_clashing_1 6 rfl rfl)
theorem dX6_clashing_32 : decode cX6_clashing 32 = .ok (.iconst 3, 1) := dk_6 (dk_at dksX6_clashing_1 9 rfl rfl)
theorem dX6_clashing_33 : decode cX6_clashing 33 = .ok (.aload_n 0, 1) := dk_42 (dk_at dksX6_clashing_1 10 rfl rfl)
theorem dX6_clashing_34 : decode cX6_clashing 34 = .ok (.iload_n 2, 1) := dk_28 (dk_at dksX6_clashing_1 11 rfl rfl)
theorem dX6_clashing_35 : decode cX6_clashing 35 = .ok (.iconst 1, 1) := dk_4 (dk_at dksX6_clashing_1 12 rfl rfl)
theorem dX6_clashing_36 : decode cX6_clashing 36 = .ok (.invokevirtual 440, 3) := dk_182 1 184 (dk_at dksX6_clashing_1 13 rfl rfl)
theorem dX6_clashing_39 : decode cX6_clashing 39 = .ok (.isub, 1) := dk_100 (dk_at dksX6_clashing_1 16 rfl rfl)
theorem dX6_clashing_40 : decode cX6_clashing 40 = .ok (.if_icmp .ne 9, 3) := dk_160 0 9 (dk_at dksX6_clashing_1 17 rfl rfl)
theorem dX6_clashing_43 : decode cX6_clashing 43 = .ok (.iconst 1, 1) := dk_4 (dk_at dksX6_clashing_1 20 rfl rfl)
theorem dX6_clashing_44 : decode cX6_clashing 44 = .ok (.iload_n 2, 1) := dk_28 (dk_at dksX6_clashing_1 21 rfl rfl)
theorem dX6_clashing_45 : decode cX6_clashing 45 = .ok (.ishl, 1) := dk_120 (dk_at dksX6_clashing_1 22 rfl rfl)
theorem dX6_clashing_46 : decode cX6_clashing 46 = .ok (.goto 4, 3) := dk_167 0 4 (dk_at dksX6_clashing_2 0 rfl rfl)
theorem dX6_clashing_49 : decode cX6_clashing 49 = .ok (.iconst 0, 1) := dk_3 (dk_at dksX6_clashing_2 3 rfl rfl)
theorem dX6_clashing_50 : decode cX6_clashing 50 = .ok (.ior, 1) := dk_128 (dk_at dksX6_clashing_2 4 rfl rfl)
theorem dX6_clashing_51 : decode cX6_clashing 51 = .ok (.istore_n 1, 1) := dk_60 (dk_at dksX6_clashing_2 5 rfl rfl)
theorem dX6_clashing_52 : decode cX6_clashing 52 = .ok (.iinc 2 1, 3) := dk_132 2 1 (dk_at dksX6_clashing_2 6 rfl rfl)
theorem dX6_clashing_55 : decode cX6_clashing 55 = .ok (.goto (-51), 3) := dk_167 255 205 (dk_at dksX6_clashing_2 9 rfl rfl)
theorem dX6_clashing_58 : decode cX6_clashing 58 = .ok (.iload_n 1, 1) := dk_27 (dk_at dksX6_clashing_2 12 rfl rfl)
theorem dX6_clashing_59 : decode cX6_clashing 59 = .ok (.ireturn, 1) := dk_172 (dk_at dksX6_clashing_2 13 rfl rfl)
abbrev cX6_wordOf : ByteArray := prog_16_method_136_code
def yX6_wordOf : MethodName := ⟨RX6, "wordOf", "(II)I"⟩
def dkwX6_wordOf_0 : List UInt8 := [42, 180, 0, 7, 16, 114, 5, 27, 104, 96, 28, 96, 46, 172]
abbrev dktX6_wordOf_0 : List UInt8 := dkwX6_wordOf_0 ++ []
theorem dksX6_wordOf_0 : cX6_wordOf.data.toList.drop 0 = dktX6_wordOf_0 := by decide +kernel
theorem dX6_wordOf_0 : decode cX6_wordOf 0 = .ok (.aload_n 0, 1) := dk_42 (dk_at dksX6_wordOf_0 0 rfl rfl)
theorem dX6_wordOf_1 : decode cX6_wordOf 1 = .ok (.getfield 7, 3) := dk_180 0 7 (dk_at dksX6_wordOf_0 1 rfl rfl)
theorem dX6_wordOf_4 : decode cX6_wordOf 4 = .ok (.bipush 114, 2) := dk_16 114 (dk_at dksX6_wordOf_0 4 rfl rfl)
theorem dX6_wordOf_6 : decode cX6_wordOf 6 = .ok (.iconst 2, 1) := dk_5 (dk_at dksX6_wordOf_0 6 rfl rfl)
theorem dX6_wordOf_7 : decode cX6_wordOf 7 = .ok (.iload_n 1, 1) := dk_27 (dk_at dksX6_wordOf_0 7 rfl rfl)
theorem dX6_wordOf_8 : decode cX6_wordOf 8 = .ok (.imul, 1) := dk_104 (dk_at dksX6_wordOf_0 8 rfl rfl)
theorem dX6_wordOf_9 : decode cX6_wordOf 9 = .ok (.iadd, 1) := dk_96 (dk_at dksX6_wordOf_0 9 rfl rfl)
theorem dX6_wordOf_10 : decode cX6_wordOf 10 = .ok (.iload_n 2, 1) := dk_28 (dk_at dksX6_wordOf_0 10 rfl rfl)
theorem dX6_wordOf_11 : decode cX6_wordOf 11 = .ok (.iadd, 1) := dk_96 (dk_at dksX6_wordOf_0 11 rfl rfl)
theorem dX6_wordOf_12 : decode cX6_wordOf 12 = .ok (.iaload, 1) := dk_46 (dk_at dksX6_wordOf_0 12 rfl rfl)
theorem dX6_wordOf_13 : decode cX6_wordOf 13 = .ok (.ireturn, 1) := dk_172 (dk_at dksX6_wordOf_0 13 rfl rfl)
abbrev cX6_senseFor : ByteArray := prog_16_method_85_code
def yX6_senseFor : MethodName := ⟨RX6, "senseFor", "(II)I"⟩
def dkwX6_senseFor_1 : List UInt8 := [46, 172]
abbrev dktX6_senseFor_1 : List UInt8 := dkwX6_senseFor_1 ++ []
def dkwX6_senseFor_0 : List UInt8 := [42, 27, 28, 182, 1, 76, 62, 29, 2, 160, 0, 7, 3, 167, 0, 12, 42, 180, 0, 7, 16, 10, 29, 96]
abbrev dktX6_senseFor_0 : List UInt8 := dkwX6_senseFor_0 ++ dktX6_senseFor_1
theorem dksX6_senseFor_0 : cX6_senseFor.data.toList.drop 0 = dktX6_senseFor_0 := by decide +kernel
theorem dksX6_senseFor_1 : cX6_senseFor.data.toList.drop 24 = dktX6_senseFor_1 := dk_seg dksX6_senseFor_0 24 rfl rfl
theorem dX6_senseFor_0 : decode cX6_senseFor 0 = .ok (.aload_n 0, 1) := dk_42 (dk_at dksX6_senseFor_0 0 rfl rfl)
theorem dX6_senseFor_1 : decode cX6_senseFor 1 = .ok (.iload_n 1, 1) := dk_27 (dk_at dksX6_senseFor_0 1 rfl rfl)
theorem dX6_senseFor_2 : decode cX6_senseFor 2 = .ok (.iload_n 2, 1) := dk_28 (dk_at dksX6_senseFor_0 2 rfl rfl)
theorem dX6_senseFor_3 : decode cX6_senseFor 3 = .ok (.invokevirtual 332, 3) := dk_182 1 76 (dk_at dksX6_senseFor_0 3 rfl rfl)
theorem dX6_senseFor_6 : decode cX6_senseFor 6 = .ok (.istore_n 3, 1) := dk_62 (dk_at dksX6_senseFor_0 6 rfl rfl)
theorem dX6_senseFor_7 : decode cX6_senseFor 7 = .ok (.iload_n 3, 1) := dk_29 (dk_at dksX6_senseFor_0 7 rfl rfl)
theorem dX6_senseFor_8 : decode cX6_senseFor 8 = .ok (.iconst (-1), 1) := dk_2 (dk_at dksX6_senseFor_0 8 rfl rfl)
theorem dX6_senseFor_9 : decode cX6_senseFor 9 = .ok (.if_icmp .ne 7, 3) := dk_160 0 7 (dk_at dksX6_senseFor_0 9 rfl rfl)
theorem dX6_senseFor_12 : decode cX6_senseFor 12 = .ok (.iconst 0, 1) := dk_3 (dk_at dksX6_senseFor_0 12 rfl rfl)
theorem dX6_senseFor_13 : decode cX6_senseFor 13 = .ok (.goto 12, 3) := dk_167 0 12 (dk_at dksX6_senseFor_0 13 rfl rfl)
theorem dX6_senseFor_16 : decode cX6_senseFor 16 = .ok (.aload_n 0, 1) := dk_42 (dk_at dksX6_senseFor_0 16 rfl rfl)
theorem dX6_senseFor_17 : decode cX6_senseFor 17 = .ok (.getfield 7, 3) := dk_180 0 7 (dk_at dksX6_senseFor_0 17 rfl rfl)
theorem dX6_senseFor_20 : decode cX6_senseFor 20 = .ok (.bipush 10, 2) := dk_16 10 (dk_at dksX6_senseFor_0 20 rfl rfl)
theorem dX6_senseFor_22 : decode cX6_senseFor 22 = .ok (.iload_n 3, 1) := dk_29 (dk_at dksX6_senseFor_0 22 rfl rfl)
theorem dX6_senseFor_23 : decode cX6_senseFor 23 = .ok (.iadd, 1) := dk_96 (dk_at dksX6_senseFor_0 23 rfl rfl)
theorem dX6_senseFor_24 : decode cX6_senseFor 24 = .ok (.iaload, 1) := dk_46 (dk_at dksX6_senseFor_1 0 rfl rfl)
theorem dX6_senseFor_25 : decode cX6_senseFor 25 = .ok (.ireturn, 1) := dk_172 (dk_at dksX6_senseFor_1 1 rfl rfl)
abbrev cX6_struck : ByteArray := prog_16_method_141_code
def yX6_struck : MethodName := ⟨RX6, "struck", "()I"⟩
def dkwX6_struck_0 : List UInt8 := [42, 42, 182, 1, 196, 184, 1, 88, 182, 0, 95, 172]
abbrev dktX6_struck_0 : List UInt8 := dkwX6_struck_0 ++ []
theorem dksX6_struck_0 : cX6_struck.data.toList.drop 0 = dktX6_struck_0 := by decide +kernel
theorem dX6_struck_0 : decode cX6_struck 0 = .ok (.aload_n 0, 1) := dk_42 (dk_at dksX6_struck_0 0 rfl rfl)
theorem dX6_struck_1 : decode cX6_struck 1 = .ok (.aload_n 0, 1) := dk_42 (dk_at dksX6_struck_0 1 rfl rfl)
theorem dX6_struck_2 : decode cX6_struck 2 = .ok (.invokevirtual 452, 3) := dk_182 1 196 (dk_at dksX6_struck_0 2 rfl rfl)
theorem dX6_struck_5 : decode cX6_struck 5 = .ok (.invokestatic 344, 3) := dk_184 1 88 (dk_at dksX6_struck_0 5 rfl rfl)
theorem dX6_struck_8 : decode cX6_struck 8 = .ok (.invokevirtual 95, 3) := dk_182 0 95 (dk_at dksX6_struck_0 8 rfl rfl)
theorem dX6_struck_11 : decode cX6_struck 11 = .ok (.ireturn, 1) := dk_172 (dk_at dksX6_struck_0 11 rfl rfl)
abbrev cX6_striking : ByteArray := prog_16_method_140_code
def yX6_striking : MethodName := ⟨RX6, "striking", "()I"⟩
def dkwX6_striking_3 : List UInt8 := [154, 0, 5, 29, 61, 132, 3, 1, 167, 255, 193, 28, 172]
abbrev dktX6_striking_3 : List UInt8 := dkwX6_striking_3 ++ []
def dkwX6_striking_2 : List UInt8 := [167, 0, 28, 42, 182, 1, 190, 29, 2, 130, 126, 154, 0, 17, 42, 27, 29, 2, 130, 126, 182, 1, 193]
abbrev dktX6_striking_2 : List UInt8 := dkwX6_striking_2 ++ dktX6_striking_3
def dkwX6_striking_1 : List UInt8 := [28, 184, 1, 88, 163, 0, 47, 29, 184, 1, 88, 28, 184, 1, 88, 160, 0, 11, 29, 28, 161, 0, 6]
abbrev dktX6_striking_1 : List UInt8 := dkwX6_striking_1 ++ dktX6_striking_2
def dkwX6_striking_0 : List UInt8 := [4, 42, 180, 0, 7, 8, 46, 120, 4, 100, 60, 27, 61, 3, 62, 29, 27, 163, 0, 64, 29, 184, 1, 88]
abbrev dktX6_striking_0 : List UInt8 := dkwX6_striking_0 ++ dktX6_striking_1
theorem dksX6_striking_0 : cX6_striking.data.toList.drop 0 = dktX6_striking_0 := by decide +kernel
theorem dksX6_striking_1 : cX6_striking.data.toList.drop 24 = dktX6_striking_1 := dk_seg dksX6_striking_0 24 rfl rfl
theorem dksX6_striking_2 : cX6_striking.data.toList.drop 47 = dktX6_striking_2 := dk_seg dksX6_striking_1 23 rfl rfl
theorem dksX6_striking_3 : cX6_striking.data.toList.drop 70 = dktX6_striking_3 := dk_seg dksX6_striking_2 23 rfl rfl
theorem dX6_striking_0 : decode cX6_striking 0 = .ok (.iconst 1, 1) := dk_4 (dk_at dksX6_striking_0 0 rfl rfl)
theorem dX6_striking_1 : decode cX6_striking 1 = .ok (.aload_n 0, 1) := dk_42 (dk_at dksX6_striking_0 1 rfl rfl)
theorem dX6_striking_2 : decode cX6_striking 2 = .ok (.getfield 7, 3) := dk_180 0 7 (dk_at dksX6_striking_0 2 rfl rfl)
theorem dX6_striking_5 : decode cX6_striking 5 = .ok (.iconst 5, 1) := dk_8 (dk_at dksX6_striking_0 5 rfl rfl)
theorem dX6_striking_6 : decode cX6_striking 6 = .ok (.iaload, 1) := dk_46 (dk_at dksX6_striking_0 6 rfl rfl)
theorem dX6_striking_7 : decode cX6_striking 7 = .ok (.ishl, 1) := dk_120 (dk_at dksX6_striking_0 7 rfl rfl)
theorem dX6_striking_8 : decode cX6_striking 8 = .ok (.iconst 1, 1) := dk_4 (dk_at dksX6_striking_0 8 rfl rfl)
theorem dX6_striking_9 : decode cX6_striking 9 = .ok (.isub, 1) := dk_100 (dk_at dksX6_striking_0 9 rfl rfl)
theorem dX6_striking_10 : decode cX6_striking 10 = .ok (.istore_n 1, 1) := dk_60 (dk_at dksX6_striking_0 10 rfl rfl)
theorem dX6_striking_11 : decode cX6_striking 11 = .ok (.iload_n 1, 1) := dk_27 (dk_at dksX6_striking_0 11 rfl rfl)
theorem dX6_striking_12 : decode cX6_striking 12 = .ok (.istore_n 2, 1) := dk_61 (dk_at dksX6_striking_0 12 rfl rfl)
theorem dX6_striking_13 : decode cX6_striking 13 = .ok (.iconst 0, 1) := dk_3 (dk_at dksX6_striking_0 13 rfl rfl)
theorem dX6_striking_14 : decode cX6_striking 14 = .ok (.istore_n 3, 1) := dk_62 (dk_at dksX6_striking_0 14 rfl rfl)
theorem dX6_striking_15 : decode cX6_striking 15 = .ok (.iload_n 3, 1) := dk_29 (dk_at dksX6_striking_0 15 rfl rfl)
theorem dX6_striking_16 : decode cX6_striking 16 = .ok (.iload_n 1, 1) := dk_27 (dk_at dksX6_striking_0 16 rfl rfl)
theorem dX6_striking_17 : decode cX6_striking 17 = .ok (.if_icmp .gt 64, 3) := dk_163 0 64 (dk_at dksX6_striking_0 17 rfl rfl)
theorem dX6_striking_20 : decode cX6_striking 20 = .ok (.iload_n 3, 1) := dk_29 (dk_at dksX6_striking_0 20 rfl rfl)
theorem dX6_striking_21 : decode cX6_striking 21 = .ok (.invokestatic 344, 3) := dk_184 1 88 (dk_at dksX6_striking_0 21 rfl rfl)
theorem dX6_striking_24 : decode cX6_striking 24 = .ok (.iload_n 2, 1) := dk_28 (dk_at dksX6_striking_1 0 rfl rfl)
theorem dX6_striking_25 : decode cX6_striking 25 = .ok (.invokestatic 344, 3) := dk_184 1 88 (dk_at dksX6_striking_1 1 rfl rfl)
theorem dX6_striking_28 : decode cX6_striking 28 = .ok (.if_icmp .gt 47, 3) := dk_163 0 47 (dk_at dksX6_striking_1 4 rfl rfl)
theorem dX6_striking_31 : decode cX6_striking 31 = .ok (.iload_n 3, 1) := dk_29 (dk_at dksX6_striking_1 7 rfl rfl)
theorem dX6_striking_32 : decode cX6_striking 32 = .ok (.invokestatic 344, 3) := dk_184 1 88 (dk_at dksX6_striking_1 8 rfl rfl)
theorem dX6_striking_35 : decode cX6_striking 35 = .ok (.iload_n 2, 1) := dk_28 (dk_at dksX6_striking_1 11 rfl rfl)
theorem dX6_striking_36 : decode cX6_striking 36 = .ok (.invokestatic 344, 3) := dk_184 1 88 (dk_at dksX6_striking_1 12 rfl rfl)
theorem dX6_striking_39 : decode cX6_striking 39 = .ok (.if_icmp .ne 11, 3) := dk_160 0 11 (dk_at dksX6_striking_1 15 rfl rfl)
theorem dX6_striking_42 : decode cX6_striking 42 = .ok (.iload_n 3, 1) := dk_29 (dk_at dksX6_striking_1 18 rfl rfl)
theorem dX6_striking_43 : decode cX6_striking 43 = .ok (.iload_n 2, 1) := dk_28 (dk_at dksX6_striking_1 19 rfl rfl)
theorem dX6_striking_44 : decode cX6_striking 44 = .ok (.if_icmp .lt 6, 3) := dk_161 0 6 (dk_at dksX6_striking_1 20 rfl rfl)
theorem dX6_striking_47 : decode cX6_striking 47 = .ok (.goto 28, 3) := dk_167 0 28 (dk_at dksX6_striking_2 0 rfl rfl)
theorem dX6_striking_50 : decode cX6_striking 50 = .ok (.aload_n 0, 1) := dk_42 (dk_at dksX6_striking_2 3 rfl rfl)
theorem dX6_striking_51 : decode cX6_striking 51 = .ok (.invokevirtual 446, 3) := dk_182 1 190 (dk_at dksX6_striking_2 4 rfl rfl)
theorem dX6_striking_54 : decode cX6_striking 54 = .ok (.iload_n 3, 1) := dk_29 (dk_at dksX6_striking_2 7 rfl rfl)
theorem dX6_striking_55 : decode cX6_striking 55 = .ok (.iconst (-1), 1) := dk_2 (dk_at dksX6_striking_2 8 rfl rfl)
theorem dX6_striking_56 : decode cX6_striking 56 = .ok (.ixor, 1) := dk_130 (dk_at dksX6_striking_2 9 rfl rfl)
theorem dX6_striking_57 : decode cX6_striking 57 = .ok (.iand, 1) := dk_126 (dk_at dksX6_striking_2 10 rfl rfl)
theorem dX6_striking_58 : decode cX6_striking 58 = .ok (.ifCond .ne 17, 3) := dk_154 0 17 (dk_at dksX6_striking_2 11 rfl rfl)
theorem dX6_striking_61 : decode cX6_striking 61 = .ok (.aload_n 0, 1) := dk_42 (dk_at dksX6_striking_2 14 rfl rfl)
theorem dX6_striking_62 : decode cX6_striking 62 = .ok (.iload_n 1, 1) := dk_27 (dk_at dksX6_striking_2 15 rfl rfl)
theorem dX6_striking_63 : decode cX6_striking 63 = .ok (.iload_n 3, 1) := dk_29 (dk_at dksX6_striking_2 16 rfl rfl)
theorem dX6_striking_64 : decode cX6_striking 64 = .ok (.iconst (-1), 1) := dk_2 (dk_at dksX6_striking_2 17 rfl rfl)
theorem dX6_striking_65 : decode cX6_striking 65 = .ok (.ixor, 1) := dk_130 (dk_at dksX6_striking_2 18 rfl rfl)
theorem dX6_striking_66 : decode cX6_striking 66 = .ok (.iand, 1) := dk_126 (dk_at dksX6_striking_2 19 rfl rfl)
theorem dX6_striking_67 : decode cX6_striking 67 = .ok (.invokevirtual 449, 3) := dk_182 1 193 (dk_at dksX6_striking_2 20 rfl rfl)
theorem dX6_striking_70 : decode cX6_striking 70 = .ok (.ifCond .ne 5, 3) := dk_154 0 5 (dk_at dksX6_striking_3 0 rfl rfl)
theorem dX6_striking_73 : decode cX6_striking 73 = .ok (.iload_n 3, 1) := dk_29 (dk_at dksX6_striking_3 3 rfl rfl)
theorem dX6_striking_74 : decode cX6_striking 74 = .ok (.istore_n 2, 1) := dk_61 (dk_at dksX6_striking_3 4 rfl rfl)
theorem dX6_striking_75 : decode cX6_striking 75 = .ok (.iinc 3 1, 3) := dk_132 3 1 (dk_at dksX6_striking_3 5 rfl rfl)
theorem dX6_striking_78 : decode cX6_striking 78 = .ok (.goto (-63), 3) := dk_167 255 193 (dk_at dksX6_striking_3 8 rfl rfl)
theorem dX6_striking_81 : decode cX6_striking 81 = .ok (.iload_n 2, 1) := dk_28 (dk_at dksX6_striking_3 11 rfl rfl)
theorem dX6_striking_82 : decode cX6_striking 82 = .ok (.ireturn, 1) := dk_172 (dk_at dksX6_striking_3 12 rfl rfl)
abbrev cX6_areUnlike : ByteArray := prog_16_method_139_code
def yX6_areUnlike : MethodName := ⟨RX6, "areUnlike", "(I)Z"⟩
def dkwX6_areUnlike_3 : List UInt8 := [159, 0, 5, 4, 172, 132, 3, 1, 167, 255, 193, 132, 2, 1, 167, 255, 173, 3, 172]
abbrev dktX6_areUnlike_3 : List UInt8 := dkwX6_areUnlike_3 ++ []
def dkwX6_areUnlike_2 : List UInt8 := [182, 1, 184, 42, 29, 3, 182, 1, 184, 160, 0, 20, 42, 28, 4, 182, 1, 184, 42, 29, 4, 182, 1, 184]
abbrev dktX6_areUnlike_2 : List UInt8 := dkwX6_areUnlike_2 ++ dktX6_areUnlike_3
def dkwX6_areUnlike_1 : List UInt8 := [162, 0, 59, 42, 27, 28, 182, 1, 59, 153, 0, 44, 42, 27, 29, 182, 1, 59, 153, 0, 35, 42, 28, 3]
abbrev dktX6_areUnlike_1 : List UInt8 := dkwX6_areUnlike_1 ++ dktX6_areUnlike_2
def dkwX6_areUnlike_0 : List UInt8 := [3, 61, 28, 42, 180, 0, 7, 8, 46, 162, 0, 79, 28, 4, 96, 62, 29, 42, 180, 0, 7, 8, 46]
abbrev dktX6_areUnlike_0 : List UInt8 := dkwX6_areUnlike_0 ++ dktX6_areUnlike_1
theorem dksX6_areUnlike_0 : cX6_areUnlike.data.toList.drop 0 = dktX6_areUnlike_0 := by decide +kernel
theorem dksX6_areUnlike_1 : cX6_areUnlike.data.toList.drop 23 = dktX6_areUnlike_1 := dk_seg dksX6_areUnlike_0 23 rfl rfl
theorem dksX6_areUnlike_2 : cX6_areUnlike.data.toList.drop 47 = dktX6_areUnlike_2 := dk_seg dksX6_areUnlike_1 24 rfl rfl
theorem dksX6_areUnlike_3 : cX6_areUnlike.data.toList.drop 71 = dktX6_areUnlike_3 := dk_seg dksX6_areUnlike_2 24 rfl rfl
theorem dX6_areUnlike_0 : decode cX6_areUnlike 0 = .ok (.iconst 0, 1) := dk_3 (dk_at dksX6_areUnlike_0 0 rfl rfl)
theorem dX6_areUnlike_1 : decode cX6_areUnlike 1 = .ok (.istore_n 2, 1) := dk_61 (dk_at dksX6_areUnlike_0 1 rfl rfl)
theorem dX6_areUnlike_2 : decode cX6_areUnlike 2 = .ok (.iload_n 2, 1) := dk_28 (dk_at dksX6_areUnlike_0 2 rfl rfl)
theorem dX6_areUnlike_3 : decode cX6_areUnlike 3 = .ok (.aload_n 0, 1) := dk_42 (dk_at dksX6_areUnlike_0 3 rfl rfl)
theorem dX6_areUnlike_4 : decode cX6_areUnlike 4 = .ok (.getfield 7, 3) := dk_180 0 7 (dk_at dksX6_areUnlike_0 4 rfl rfl)
theorem dX6_areUnlike_7 : decode cX6_areUnlike 7 = .ok (.iconst 5, 1) := dk_8 (dk_at dksX6_areUnlike_0 7 rfl rfl)
theorem dX6_areUnlike_8 : decode cX6_areUnlike 8 = .ok (.iaload, 1) := dk_46 (dk_at dksX6_areUnlike_0 8 rfl rfl)
theorem dX6_areUnlike_9 : decode cX6_areUnlike 9 = .ok (.if_icmp .ge 79, 3) := dk_162 0 79 (dk_at dksX6_areUnlike_0 9 rfl rfl)
theorem dX6_areUnlike_12 : decode cX6_areUnlike 12 = .ok (.iload_n 2, 1) := dk_28 (dk_at dksX6_areUnlike_0 12 rfl rfl)
theorem dX6_areUnlike_13 : decode cX6_areUnlike 13 = .ok (.iconst 1, 1) := dk_4 (dk_at dksX6_areUnlike_0 13 rfl rfl)
theorem dX6_areUnlike_14 : decode cX6_areUnlike 14 = .ok (.iadd, 1) := dk_96 (dk_at dksX6_areUnlike_0 14 rfl rfl)
theorem dX6_areUnlike_15 : decode cX6_areUnlike 15 = .ok (.istore_n 3, 1) := dk_62 (dk_at dksX6_areUnlike_0 15 rfl rfl)
theorem dX6_areUnlike_16 : decode cX6_areUnlike 16 = .ok (.iload_n 3, 1) := dk_29 (dk_at dksX6_areUnlike_0 16 rfl rfl)
theorem dX6_areUnlike_17 : decode cX6_areUnlike 17 = .ok (.aload_n 0, 1) := dk_42 (dk_at dksX6_areUnlike_0 17 rfl rfl)
theorem dX6_areUnlike_18 : decode cX6_areUnlike 18 = .ok (.getfield 7, 3) := dk_180 0 7 (dk_at dksX6_areUnlike_0 18 rfl rfl)
theorem dX6_areUnlike_21 : decode cX6_areUnlike 21 = .ok (.iconst 5, 1) := dk_8 (dk_at dksX6_areUnlike_0 21 rfl rfl)
theorem dX6_areUnlike_22 : decode cX6_areUnlike 22 = .ok (.iaload, 1) := dk_46 (dk_at dksX6_areUnlike_0 22 rfl rfl)
theorem dX6_areUnlike_23 : decode cX6_areUnlike 23 = .ok (.if_icmp .ge 59, 3) := dk_162 0 59 (dk_at dksX6_areUnlike_1 0 rfl rfl)
theorem dX6_areUnlike_26 : decode cX6_areUnlike 26 = .ok (.aload_n 0, 1) := dk_42 (dk_at dksX6_areUnlike_1 3 rfl rfl)
theorem dX6_areUnlike_27 : decode cX6_areUnlike 27 = .ok (.iload_n 1, 1) := dk_27 (dk_at dksX6_areUnlike_1 4 rfl rfl)
theorem dX6_areUnlike_28 : decode cX6_areUnlike 28 = .ok (.iload_n 2, 1) := dk_28 (dk_at dksX6_areUnlike_1 5 rfl rfl)
theorem dX6_areUnlike_29 : decode cX6_areUnlike 29 = .ok (.invokevirtual 315, 3) := dk_182 1 59 (dk_at dksX6_areUnlike_1 6 rfl rfl)
theorem dX6_areUnlike_32 : decode cX6_areUnlike 32 = .ok (.ifCond .eq 44, 3) := dk_153 0 44 (dk_at dksX6_areUnlike_1 9 rfl rfl)
theorem dX6_areUnlike_35 : decode cX6_areUnlike 35 = .ok (.aload_n 0, 1) := dk_42 (dk_at dksX6_areUnlike_1 12 rfl rfl)
theorem dX6_areUnlike_36 : decode cX6_areUnlike 36 = .ok (.iload_n 1, 1) := dk_27 (dk_at dksX6_areUnlike_1 13 rfl rfl)
theorem dX6_areUnlike_37 : decode cX6_areUnlike 37 = .ok (.iload_n 3, 1) := dk_29 (dk_at dksX6_areUnlike_1 14 rfl rfl)
theorem dX6_areUnlike_38 : decode cX6_areUnlike 38 = .ok (.invokevirtual 315, 3) := dk_182 1 59 (dk_at dksX6_areUnlike_1 15 rfl rfl)
theorem dX6_areUnlike_41 : decode cX6_areUnlike 41 = .ok (.ifCond .eq 35, 3) := dk_153 0 35 (dk_at dksX6_areUnlike_1 18 rfl rfl)
theorem dX6_areUnlike_44 : decode cX6_areUnlike 44 = .ok (.aload_n 0, 1) := dk_42 (dk_at dksX6_areUnlike_1 21 rfl rfl)
theorem dX6_areUnlike_45 : decode cX6_areUnlike 45 = .ok (.iload_n 2, 1) := dk_28 (dk_at dksX6_areUnlike_1 22 rfl rfl)
theorem dX6_areUnlike_46 : decode cX6_areUnlike 46 = .ok (.iconst 0, 1) := dk_3 (dk_at dksX6_areUnlike_1 23 rfl rfl)
theorem dX6_areUnlike_47 : decode cX6_areUnlike 47 = .ok (.invokevirtual 440, 3) := dk_182 1 184 (dk_at dksX6_areUnlike_2 0 rfl rfl)
theorem dX6_areUnlike_50 : decode cX6_areUnlike 50 = .ok (.aload_n 0, 1) := dk_42 (dk_at dksX6_areUnlike_2 3 rfl rfl)
theorem dX6_areUnlike_51 : decode cX6_areUnlike 51 = .ok (.iload_n 3, 1) := dk_29 (dk_at dksX6_areUnlike_2 4 rfl rfl)
theorem dX6_areUnlike_52 : decode cX6_areUnlike 52 = .ok (.iconst 0, 1) := dk_3 (dk_at dksX6_areUnlike_2 5 rfl rfl)
theorem dX6_areUnlike_53 : decode cX6_areUnlike 53 = .ok (.invokevirtual 440, 3) := dk_182 1 184 (dk_at dksX6_areUnlike_2 6 rfl rfl)
theorem dX6_areUnlike_56 : decode cX6_areUnlike 56 = .ok (.if_icmp .ne 20, 3) := dk_160 0 20 (dk_at dksX6_areUnlike_2 9 rfl rfl)
theorem dX6_areUnlike_59 : decode cX6_areUnlike 59 = .ok (.aload_n 0, 1) := dk_42 (dk_at dksX6_areUnlike_2 12 rfl rfl)
theorem dX6_areUnlike_60 : decode cX6_areUnlike 60 = .ok (.iload_n 2, 1) := dk_28 (dk_at dksX6_areUnlike_2 13 rfl rfl)
theorem dX6_areUnlike_61 : decode cX6_areUnlike 61 = .ok (.iconst 1, 1) := dk_4 (dk_at dksX6_areUnlike_2 14 rfl rfl)
theorem dX6_areUnlike_62 : decode cX6_areUnlike 62 = .ok (.invokevirtual 440, 3) := dk_182 1 184 (dk_at dksX6_areUnlike_2 15 rfl rfl)
theorem dX6_areUnlike_65 : decode cX6_areUnlike 65 = .ok (.aload_n 0, 1) := dk_42 (dk_at dksX6_areUnlike_2 18 rfl rfl)
theorem dX6_areUnlike_66 : decode cX6_areUnlike 66 = .ok (.iload_n 3, 1) := dk_29 (dk_at dksX6_areUnlike_2 19 rfl rfl)
theorem dX6_areUnlike_67 : decode cX6_areUnlike 67 = .ok (.iconst 1, 1) := dk_4 (dk_at dksX6_areUnlike_2 20 rfl rfl)
theorem dX6_areUnlike_68 : decode cX6_areUnlike 68 = .ok (.invokevirtual 440, 3) := dk_182 1 184 (dk_at dksX6_areUnlike_2 21 rfl rfl)
theorem dX6_areUnlike_71 : decode cX6_areUnlike 71 = .ok (.if_icmp .eq 5, 3) := dk_159 0 5 (dk_at dksX6_areUnlike_3 0 rfl rfl)
theorem dX6_areUnlike_74 : decode cX6_areUnlike 74 = .ok (.iconst 1, 1) := dk_4 (dk_at dksX6_areUnlike_3 3 rfl rfl)
theorem dX6_areUnlike_75 : decode cX6_areUnlike 75 = .ok (.ireturn, 1) := dk_172 (dk_at dksX6_areUnlike_3 4 rfl rfl)
theorem dX6_areUnlike_76 : decode cX6_areUnlike 76 = .ok (.iinc 3 1, 3) := dk_132 3 1 (dk_at dksX6_areUnlike_3 5 rfl rfl)
theorem dX6_areUnlike_79 : decode cX6_areUnlike 79 = .ok (.goto (-63), 3) := dk_167 255 193 (dk_at dksX6_areUnlike_3 8 rfl rfl)
theorem dX6_areUnlike_82 : decode cX6_areUnlike 82 = .ok (.iinc 2 1, 3) := dk_132 2 1 (dk_at dksX6_areUnlike_3 11 rfl rfl)
theorem dX6_areUnlike_85 : decode cX6_areUnlike 85 = .ok (.goto (-83), 3) := dk_167 255 173 (dk_at dksX6_areUnlike_3 14 rfl rfl)
theorem dX6_areUnlike_88 : decode cX6_areUnlike 88 = .ok (.iconst 0, 1) := dk_3 (dk_at dksX6_areUnlike_3 17 rfl rfl)
theorem dX6_areUnlike_89 : decode cX6_areUnlike 89 = .ok (.ireturn, 1) := dk_172 (dk_at dksX6_areUnlike_3 18 rfl rfl)
abbrev cX6_struckSet : ByteArray := prog_16_method_142_code
def yX6_struckSet : MethodName := ⟨RX6, "struckSet", "()I"⟩
def dkwX6_struckSet_0 : List UInt8 := [42, 42, 182, 1, 196, 182, 0, 95, 172]
abbrev dktX6_struckSet_0 : List UInt8 := dkwX6_struckSet_0 ++ []
theorem dksX6_struckSet_0 : cX6_struckSet.data.toList.drop 0 = dktX6_struckSet_0 := by decide +kernel
theorem dX6_struckSet_0 : decode cX6_struckSet 0 = .ok (.aload_n 0, 1) := dk_42 (dk_at dksX6_struckSet_0 0 rfl rfl)
theorem dX6_struckSet_1 : decode cX6_struckSet 1 = .ok (.aload_n 0, 1) := dk_42 (dk_at dksX6_struckSet_0 1 rfl rfl)
theorem dX6_struckSet_2 : decode cX6_struckSet 2 = .ok (.invokevirtual 452, 3) := dk_182 1 196 (dk_at dksX6_struckSet_0 2 rfl rfl)
theorem dX6_struckSet_5 : decode cX6_struckSet 5 = .ok (.invokevirtual 95, 3) := dk_182 0 95 (dk_at dksX6_struckSet_0 5 rfl rfl)
theorem dX6_struckSet_8 : decode cX6_struckSet 8 = .ok (.ireturn, 1) := dk_172 (dk_at dksX6_struckSet_0 8 rfl rfl)
abbrev cX6_best : ByteArray := prog_16_method_144_code
def yX6_best : MethodName := ⟨RX6, "best", "()I"⟩
def dkwX6_best_0 : List UInt8 := [42, 182, 1, 199, 87, 42, 42, 180, 0, 60, 3, 46, 182, 0, 95, 172]
abbrev dktX6_best_0 : List UInt8 := dkwX6_best_0 ++ []
theorem dksX6_best_0 : cX6_best.data.toList.drop 0 = dktX6_best_0 := by decide +kernel
theorem dX6_best_0 : decode cX6_best 0 = .ok (.aload_n 0, 1) := dk_42 (dk_at dksX6_best_0 0 rfl rfl)
theorem dX6_best_1 : decode cX6_best 1 = .ok (.invokevirtual 455, 3) := dk_182 1 199 (dk_at dksX6_best_0 1 rfl rfl)
theorem dX6_best_4 : decode cX6_best 4 = .ok (.pop, 1) := dk_87 (dk_at dksX6_best_0 4 rfl rfl)
theorem dX6_best_5 : decode cX6_best 5 = .ok (.aload_n 0, 1) := dk_42 (dk_at dksX6_best_0 5 rfl rfl)
theorem dX6_best_6 : decode cX6_best 6 = .ok (.aload_n 0, 1) := dk_42 (dk_at dksX6_best_0 6 rfl rfl)
theorem dX6_best_7 : decode cX6_best 7 = .ok (.getfield 60, 3) := dk_180 0 60 (dk_at dksX6_best_0 7 rfl rfl)
theorem dX6_best_10 : decode cX6_best 10 = .ok (.iconst 0, 1) := dk_3 (dk_at dksX6_best_0 10 rfl rfl)
theorem dX6_best_11 : decode cX6_best 11 = .ok (.iaload, 1) := dk_46 (dk_at dksX6_best_0 11 rfl rfl)
theorem dX6_best_12 : decode cX6_best 12 = .ok (.invokevirtual 95, 3) := dk_182 0 95 (dk_at dksX6_best_0 12 rfl rfl)
theorem dX6_best_15 : decode cX6_best 15 = .ok (.ireturn, 1) := dk_172 (dk_at dksX6_best_0 15 rfl rfl)
abbrev cX6_laysOrders : ByteArray := prog_16_method_143_code
def yX6_laysOrders : MethodName := ⟨RX6, "laysOrders", "()I"⟩
def dkwX6_laysOrders_5 : List UInt8 := [184, 1, 153, 79, 132, 4, 1, 167, 255, 182, 132, 2, 255, 167, 255, 133, 27, 172]
abbrev dktX6_laysOrders_5 : List UInt8 := dkwX6_laysOrders_5 ++ []
def dkwX6_laysOrders_4 : List UInt8 := [28, 4, 21, 4, 120, 128, 46, 42, 21, 4, 29, 182, 1, 187, 5, 160, 0, 7, 4, 167, 0, 4, 3, 96]
abbrev dktX6_laysOrders_4 : List UInt8 := dkwX6_laysOrders_4 ++ dktX6_laysOrders_5
def dkwX6_laysOrders_3 : List UInt8 := [182, 1, 59, 154, 0, 6, 167, 0, 46, 42, 180, 0, 60, 28, 42, 180, 0, 60, 28, 46, 42, 180, 0, 60]
abbrev dktX6_laysOrders_3 : List UInt8 := dkwX6_laysOrders_3 ++ dktX6_laysOrders_4
def dkwX6_laysOrders_2 : List UInt8 := [3, 54, 4, 21, 4, 42, 180, 0, 7, 6, 46, 162, 0, 69, 42, 27, 28, 2, 130, 126, 21, 4]
abbrev dktX6_laysOrders_2 : List UInt8 := dkwX6_laysOrders_2 ++ dktX6_laysOrders_3
def dkwX6_laysOrders_1 : List UInt8 := [180, 0, 60, 28, 3, 79, 16, 9, 42, 180, 0, 7, 16, 6, 46, 28, 184, 1, 88, 96, 184, 0, 146, 62]
abbrev dktX6_laysOrders_1 : List UInt8 := dkwX6_laysOrders_1 ++ dktX6_laysOrders_2
def dkwX6_laysOrders_0 : List UInt8 := [42, 3, 182, 1, 34, 60, 27, 61, 28, 155, 0, 125, 28, 27, 2, 130, 126, 153, 0, 6, 167, 0, 108, 42]
abbrev dktX6_laysOrders_0 : List UInt8 := dkwX6_laysOrders_0 ++ dktX6_laysOrders_1
theorem dksX6_laysOrders_0 : cX6_laysOrders.data.toList.drop 0 = dktX6_laysOrders_0 := by decide +kernel
theorem dksX6_laysOrders_1 : cX6_laysOrders.data.toList.drop 24 = dktX6_laysOrders_1 := dk_seg dksX6_laysOrders_0 24 rfl rfl
theorem dksX6_laysOrders_2 : cX6_laysOrders.data.toList.drop 48 = dktX6_laysOrders_2 := dk_seg dksX6_laysOrders_1 24 rfl rfl
theorem dksX6_laysOrders_3 : cX6_laysOrders.data.toList.drop 70 = dktX6_laysOrders_3 := dk_seg dksX6_laysOrders_2 22 rfl rfl
theorem dksX6_laysOrders_4 : cX6_laysOrders.data.toList.drop 94 = dktX6_laysOrders_4 := dk_seg dksX6_laysOrders_3 24 rfl rfl
theorem dksX6_laysOrders_5 : cX6_laysOrders.data.toList.drop 118 = dktX6_laysOrders_5 := dk_seg dksX6_laysOrders_4 24 rfl rfl
theorem dX6_laysOrders_0 : decode cX6_laysOrders 0 = .ok (.aload_n 0, 1) := dk_42 (dk_at dksX6_laysOrders_0 0 rfl rfl)
theorem dX6_laysOrders_1 : decode cX6_laysOrders 1 = .ok (.iconst 0, 1) := dk_3 (dk_at dksX6_laysOrders_0 1 rfl rfl)
theorem dX6_laysOrders_2 : decode cX6_laysOrders 2 = .ok (.invokevirtual 290, 3) := dk_182 1 34 (dk_at dksX6_laysOrders_0 2 rfl rfl)
theorem dX6_laysOrders_5 : decode cX6_laysOrders 5 = .ok (.istore_n 1, 1) := dk_60 (dk_at dksX6_laysOrders_0 5 rfl rfl)
theorem dX6_laysOrders_6 : decode cX6_laysOrders 6 = .ok (.iload_n 1, 1) := dk_27 (dk_at dksX6_laysOrders_0 6 rfl rfl)
theorem dX6_laysOrders_7 : decode cX6_laysOrders 7 = .ok (.istore_n 2, 1) := dk_61 (dk_at dksX6_laysOrders_0 7 rfl rfl)
theorem dX6_laysOrders_8 : decode cX6_laysOrders 8 = .ok (.iload_n 2, 1) := dk_28 (dk_at dksX6_laysOrders_0 8 rfl rfl)
theorem dX6_laysOrders_9 : decode cX6_laysOrders 9 = .ok (.ifCond .lt 125, 3) := dk_155 0 125 (dk_at dksX6_laysOrders_0 9 rfl rfl)
theorem dX6_laysOrders_12 : decode cX6_laysOrders 12 = .ok (.iload_n 2, 1) := dk_28 (dk_at dksX6_laysOrders_0 12 rfl rfl)
theorem dX6_laysOrders_13 : decode cX6_laysOrders 13 = .ok (.iload_n 1, 1) := dk_27 (dk_at dksX6_laysOrders_0 13 rfl rfl)
theorem dX6_laysOrders_14 : decode cX6_laysOrders 14 = .ok (.iconst (-1), 1) := dk_2 (dk_at dksX6_laysOrders_0 14 rfl rfl)
theorem dX6_laysOrders_15 : decode cX6_laysOrders 15 = .ok (.ixor, 1) := dk_130 (dk_at dksX6_laysOrders_0 15 rfl rfl)
theorem dX6_laysOrders_16 : decode cX6_laysOrders 16 = .ok (.iand, 1) := dk_126 (dk_at dksX6_laysOrders_0 16 rfl rfl)
theorem dX6_laysOrders_17 : decode cX6_laysOrders 17 = .ok (.ifCond .eq 6, 3) := dk_153 0 6 (dk_at dksX6_laysOrders_0 17 rfl rfl)
theorem dX6_laysOrders_20 : decode cX6_laysOrders 20 = .ok (.goto 108, 3) := dk_167 0 108 (dk_at dksX6_laysOrders_0 20 rfl rfl)
theorem dX6_laysOrders_23 : decode cX6_laysOrders 23 = .ok (.aload_n 0, 1) := dk_42 (dk_at dksX6_laysOrders_0 23 rfl rfl)
theorem dX6_laysOrders_24 : decode cX6_laysOrders 24 = .ok (.getfield 60, 3) := dk_180 0 60 (dk_at dksX6_laysOrders_1 0 rfl rfl)
theorem dX6_laysOrders_27 : decode cX6_laysOrders 27 = .ok (.iload_n 2, 1) := dk_28 (dk_at dksX6_laysOrders_1 3 rfl rfl)
theorem dX6_laysOrders_28 : decode cX6_laysOrders 28 = .ok (.iconst 0, 1) := dk_3 (dk_at dksX6_laysOrders_1 4 rfl rfl)
theorem dX6_laysOrders_29 : decode cX6_laysOrders 29 = .ok (.iastore, 1) := dk_79 (dk_at dksX6_laysOrders_1 5 rfl rfl)
theorem dX6_laysOrders_30 : decode cX6_laysOrders 30 = .ok (.bipush 9, 2) := dk_16 9 (dk_at dksX6_laysOrders_1 6 rfl rfl)
theorem dX6_laysOrders_32 : decode cX6_laysOrders 32 = .ok (.aload_n 0, 1) := dk_42 (dk_at dksX6_laysOrders_1 8 rfl rfl)
theorem dX6_laysOrders_33 : decode cX6_laysOrders 33 = .ok (.getfield 7, 3) := dk_180 0 7 (dk_at dksX6_laysOrders_1 9 rfl rfl)
theorem dX6_laysOrders_36 : decode cX6_laysOrders 36 = .ok (.bipush 6, 2) := dk_16 6 (dk_at dksX6_laysOrders_1 12 rfl rfl)
theorem dX6_laysOrders_38 : decode cX6_laysOrders 38 = .ok (.iaload, 1) := dk_46 (dk_at dksX6_laysOrders_1 14 rfl rfl)
theorem dX6_laysOrders_39 : decode cX6_laysOrders 39 = .ok (.iload_n 2, 1) := dk_28 (dk_at dksX6_laysOrders_1 15 rfl rfl)
theorem dX6_laysOrders_40 : decode cX6_laysOrders 40 = .ok (.invokestatic 344, 3) := dk_184 1 88 (dk_at dksX6_laysOrders_1 16 rfl rfl)
theorem dX6_laysOrders_43 : decode cX6_laysOrders 43 = .ok (.iadd, 1) := dk_96 (dk_at dksX6_laysOrders_1 19 rfl rfl)
theorem dX6_laysOrders_44 : decode cX6_laysOrders 44 = .ok (.invokestatic 146, 3) := dk_184 0 146 (dk_at dksX6_laysOrders_1 20 rfl rfl)
theorem dX6_laysOrders_47 : decode cX6_laysOrders 47 = .ok (.istore_n 3, 1) := dk_62 (dk_at dksX6_laysOrders_1 23 rfl rfl)
theorem dX6_laysOrders_48 : decode cX6_laysOrders 48 = .ok (.iconst 0, 1) := dk_3 (dk_at dksX6_laysOrders_2 0 rfl rfl)
theorem dX6_laysOrders_49 : decode cX6_laysOrders 49 = .ok (.istore 4, 2) := dk_54 4 (dk_at dksX6_laysOrders_2 1 rfl rfl)
theorem dX6_laysOrders_51 : decode cX6_laysOrders 51 = .ok (.iload 4, 2) := dk_21 4 (dk_at dksX6_laysOrders_2 3 rfl rfl)
theorem dX6_laysOrders_53 : decode cX6_laysOrders 53 = .ok (.aload_n 0, 1) := dk_42 (dk_at dksX6_laysOrders_2 5 rfl rfl)
theorem dX6_laysOrders_54 : decode cX6_laysOrders 54 = .ok (.getfield 7, 3) := dk_180 0 7 (dk_at dksX6_laysOrders_2 6 rfl rfl)
theorem dX6_laysOrders_57 : decode cX6_laysOrders 57 = .ok (.iconst 3, 1) := dk_6 (dk_at dksX6_laysOrders_2 9 rfl rfl)
theorem dX6_laysOrders_58 : decode cX6_laysOrders 58 = .ok (.iaload, 1) := dk_46 (dk_at dksX6_laysOrders_2 10 rfl rfl)
theorem dX6_laysOrders_59 : decode cX6_laysOrders 59 = .ok (.if_icmp .ge 69, 3) := dk_162 0 69 (dk_at dksX6_laysOrders_2 11 rfl rfl)
theorem dX6_laysOrders_62 : decode cX6_laysOrders 62 = .ok (.aload_n 0, 1) := dk_42 (dk_at dksX6_laysOrders_2 14 rfl rfl)
theorem dX6_laysOrders_63 : decode cX6_laysOrders 63 = .ok (.iload_n 1, 1) := dk_27 (dk_at dksX6_laysOrders_2 15 rfl rfl)
theorem dX6_laysOrders_64 : decode cX6_laysOrders 64 = .ok (.iload_n 2, 1) := dk_28 (dk_at dksX6_laysOrders_2 16 rfl rfl)
theorem dX6_laysOrders_65 : decode cX6_laysOrders 65 = .ok (.iconst (-1), 1) := dk_2 (dk_at dksX6_laysOrders_2 17 rfl rfl)
theorem dX6_laysOrders_66 : decode cX6_laysOrders 66 = .ok (.ixor, 1) := dk_130 (dk_at dksX6_laysOrders_2 18 rfl rfl)
theorem dX6_laysOrders_67 : decode cX6_laysOrders 67 = .ok (.iand, 1) := dk_126 (dk_at dksX6_laysOrders_2 19 rfl rfl)
theorem dX6_laysOrders_68 : decode cX6_laysOrders 68 = .ok (.iload 4, 2) := dk_21 4 (dk_at dksX6_laysOrders_2 20 rfl rfl)
theorem dX6_laysOrders_70 : decode cX6_laysOrders 70 = .ok (.invokevirtual 315, 3) := dk_182 1 59 (dk_at dksX6_laysOrders_3 0 rfl rfl)
theorem dX6_laysOrders_73 : decode cX6_laysOrders 73 = .ok (.ifCond .ne 6, 3) := dk_154 0 6 (dk_at dksX6_laysOrders_3 3 rfl rfl)
theorem dX6_laysOrders_76 : decode cX6_laysOrders 76 = .ok (.goto 46, 3) := dk_167 0 46 (dk_at dksX6_laysOrders_3 6 rfl rfl)
theorem dX6_laysOrders_79 : decode cX6_laysOrders 79 = .ok (.aload_n 0, 1) := dk_42 (dk_at dksX6_laysOrders_3 9 rfl rfl)
theorem dX6_laysOrders_80 : decode cX6_laysOrders 80 = .ok (.getfield 60, 3) := dk_180 0 60 (dk_at dksX6_laysOrders_3 10 rfl rfl)
theorem dX6_laysOrders_83 : decode cX6_laysOrders 83 = .ok (.iload_n 2, 1) := dk_28 (dk_at dksX6_laysOrders_3 13 rfl rfl)
theorem dX6_laysOrders_84 : decode cX6_laysOrders 84 = .ok (.aload_n 0, 1) := dk_42 (dk_at dksX6_laysOrders_3 14 rfl rfl)
theorem dX6_laysOrders_85 : decode cX6_laysOrders 85 = .ok (.getfield 60, 3) := dk_180 0 60 (dk_at dksX6_laysOrders_3 15 rfl rfl)
theorem dX6_laysOrders_88 : decode cX6_laysOrders 88 = .ok (.iload_n 2, 1) := dk_28 (dk_at dksX6_laysOrders_3 18 rfl rfl)
theorem dX6_laysOrders_89 : decode cX6_laysOrders 89 = .ok (.iaload, 1) := dk_46 (dk_at dksX6_laysOrders_3 19 rfl rfl)
theorem dX6_laysOrders_90 : decode cX6_laysOrders 90 = .ok (.aload_n 0, 1) := dk_42 (dk_at dksX6_laysOrders_3 20 rfl rfl)
theorem dX6_laysOrders_91 : decode cX6_laysOrders 91 = .ok (.getfield 60, 3) := dk_180 0 60 (dk_at dksX6_laysOrders_3 21 rfl rfl)
theorem dX6_laysOrders_94 : decode cX6_laysOrders 94 = .ok (.iload_n 2, 1) := dk_28 (dk_at dksX6_laysOrders_4 0 rfl rfl)
theorem dX6_laysOrders_95 : decode cX6_laysOrders 95 = .ok (.iconst 1, 1) := dk_4 (dk_at dksX6_laysOrders_4 1 rfl rfl)
theorem dX6_laysOrders_96 : decode cX6_laysOrders 96 = .ok (.iload 4, 2) := dk_21 4 (dk_at dksX6_laysOrders_4 2 rfl rfl)
theorem dX6_laysOrders_98 : decode cX6_laysOrders 98 = .ok (.ishl, 1) := dk_120 (dk_at dksX6_laysOrders_4 4 rfl rfl)
theorem dX6_laysOrders_99 : decode cX6_laysOrders 99 = .ok (.ior, 1) := dk_128 (dk_at dksX6_laysOrders_4 5 rfl rfl)
theorem dX6_laysOrders_100 : decode cX6_laysOrders 100 = .ok (.iaload, 1) := dk_46 (dk_at dksX6_laysOrders_4 6 rfl rfl)
theorem dX6_laysOrders_101 : decode cX6_laysOrders 101 = .ok (.aload_n 0, 1) := dk_42 (dk_at dksX6_laysOrders_4 7 rfl rfl)
theorem dX6_laysOrders_102 : decode cX6_laysOrders 102 = .ok (.iload 4, 2) := dk_21 4 (dk_at dksX6_laysOrders_4 8 rfl rfl)
theorem dX6_laysOrders_104 : decode cX6_laysOrders 104 = .ok (.iload_n 3, 1) := dk_29 (dk_at dksX6_laysOrders_4 10 rfl rfl)
theorem dX6_laysOrders_105 : decode cX6_laysOrders 105 = .ok (.invokevirtual 443, 3) := dk_182 1 187 (dk_at dksX6_laysOrders_4 11 rfl rfl)
theorem dX6_laysOrders_108 : decode cX6_laysOrders 108 = .ok (.iconst 2, 1) := dk_5 (dk_at dksX6_laysOrders_4 14 rfl rfl)
theorem dX6_laysOrders_109 : decode cX6_laysOrders 109 = .ok (.if_icmp .ne 7, 3) := dk_160 0 7 (dk_at dksX6_laysOrders_4 15 rfl rfl)
theorem dX6_laysOrders_112 : decode cX6_laysOrders 112 = .ok (.iconst 1, 1) := dk_4 (dk_at dksX6_laysOrders_4 18 rfl rfl)
theorem dX6_laysOrders_113 : decode cX6_laysOrders 113 = .ok (.goto 4, 3) := dk_167 0 4 (dk_at dksX6_laysOrders_4 19 rfl rfl)
theorem dX6_laysOrders_116 : decode cX6_laysOrders 116 = .ok (.iconst 0, 1) := dk_3 (dk_at dksX6_laysOrders_4 22 rfl rfl)
theorem dX6_laysOrders_117 : decode cX6_laysOrders 117 = .ok (.iadd, 1) := dk_96 (dk_at dksX6_laysOrders_4 23 rfl rfl)
theorem dX6_laysOrders_118 : decode cX6_laysOrders 118 = .ok (.invokestatic 409, 3) := dk_184 1 153 (dk_at dksX6_laysOrders_5 0 rfl rfl)
theorem dX6_laysOrders_121 : decode cX6_laysOrders 121 = .ok (.iastore, 1) := dk_79 (dk_at dksX6_laysOrders_5 3 rfl rfl)
theorem dX6_laysOrders_122 : decode cX6_laysOrders 122 = .ok (.iinc 4 1, 3) := dk_132 4 1 (dk_at dksX6_laysOrders_5 4 rfl rfl)
theorem dX6_laysOrders_125 : decode cX6_laysOrders 125 = .ok (.goto (-74), 3) := dk_167 255 182 (dk_at dksX6_laysOrders_5 7 rfl rfl)
theorem dX6_laysOrders_128 : decode cX6_laysOrders 128 = .ok (.iinc 2 (-1), 3) := dk_132 2 255 (dk_at dksX6_laysOrders_5 10 rfl rfl)
theorem dX6_laysOrders_131 : decode cX6_laysOrders 131 = .ok (.goto (-123), 3) := dk_167 255 133 (dk_at dksX6_laysOrders_5 13 rfl rfl)
theorem dX6_laysOrders_134 : decode cX6_laysOrders 134 = .ok (.iload_n 1, 1) := dk_27 (dk_at dksX6_laysOrders_5 16 rfl rfl)
theorem dX6_laysOrders_135 : decode cX6_laysOrders 135 = .ok (.ireturn, 1) := dk_172 (dk_at dksX6_laysOrders_5 17 rfl rfl)
abbrev cX6_bestAt : ByteArray := prog_16_method_145_code
def yX6_bestAt : MethodName := ⟨RX6, "bestAt", "(I)I"⟩
def dkwX6_bestAt_6 : List UInt8 := [182, 0, 95, 172]
abbrev dktX6_bestAt_6 : List UInt8 := dkwX6_bestAt_6 ++ []
def dkwX6_bestAt_5 : List UInt8 := [132, 4, 1, 167, 255, 201, 29, 4, 21, 4, 120, 128, 62, 132, 5, 1, 167, 255, 160, 42, 21, 4]
abbrev dktX6_bestAt_5 : List UInt8 := dkwX6_bestAt_5 ++ dktX6_bestAt_6
def dkwX6_bestAt_4 : List UInt8 := [21, 6, 182, 1, 187, 5, 160, 0, 7, 4, 167, 0, 4, 3, 96, 42, 180, 0, 60, 29, 46, 159, 0, 9]
abbrev dktX6_bestAt_4 : List UInt8 := dkwX6_bestAt_4 ++ dktX6_bestAt_5
def dkwX6_bestAt_3 : List UInt8 := [126, 21, 4, 182, 1, 59, 153, 0, 41, 42, 180, 0, 60, 29, 4, 21, 4, 120, 128, 46, 42, 21, 4]
abbrev dktX6_bestAt_3 : List UInt8 := dkwX6_bestAt_3 ++ dktX6_bestAt_4
def dkwX6_bestAt_2 : List UInt8 := [180, 0, 7, 16, 6, 46, 29, 184, 1, 88, 96, 184, 0, 146, 54, 6, 3, 54, 4, 42, 28, 29, 2, 130]
abbrev dktX6_bestAt_2 : List UInt8 := dkwX6_bestAt_2 ++ dktX6_bestAt_3
def dkwX6_bestAt_1 : List UInt8 := [16, 6, 182, 0, 91, 172, 3, 62, 2, 54, 4, 3, 54, 5, 21, 5, 27, 163, 0, 96, 16, 9, 42]
abbrev dktX6_bestAt_1 : List UInt8 := dkwX6_bestAt_1 ++ dktX6_bestAt_2
def dkwX6_bestAt_0 : List UInt8 := [27, 156, 0, 9, 42, 4, 182, 0, 91, 172, 42, 182, 1, 199, 61, 27, 28, 184, 1, 88, 161, 0, 10, 42]
abbrev dktX6_bestAt_0 : List UInt8 := dkwX6_bestAt_0 ++ dktX6_bestAt_1
theorem dksX6_bestAt_0 : cX6_bestAt.data.toList.drop 0 = dktX6_bestAt_0 := by decide +kernel
theorem dksX6_bestAt_1 : cX6_bestAt.data.toList.drop 24 = dktX6_bestAt_1 := dk_seg dksX6_bestAt_0 24 rfl rfl
theorem dksX6_bestAt_2 : cX6_bestAt.data.toList.drop 47 = dktX6_bestAt_2 := dk_seg dksX6_bestAt_1 23 rfl rfl
theorem dksX6_bestAt_3 : cX6_bestAt.data.toList.drop 71 = dktX6_bestAt_3 := dk_seg dksX6_bestAt_2 24 rfl rfl
theorem dksX6_bestAt_4 : cX6_bestAt.data.toList.drop 94 = dktX6_bestAt_4 := dk_seg dksX6_bestAt_3 23 rfl rfl
theorem dksX6_bestAt_5 : cX6_bestAt.data.toList.drop 118 = dktX6_bestAt_5 := dk_seg dksX6_bestAt_4 24 rfl rfl
theorem dksX6_bestAt_6 : cX6_bestAt.data.toList.drop 140 = dktX6_bestAt_6 := dk_seg dksX6_bestAt_5 22 rfl rfl
theorem dX6_bestAt_0 : decode cX6_bestAt 0 = .ok (.iload_n 1, 1) := dk_27 (dk_at dksX6_bestAt_0 0 rfl rfl)
theorem dX6_bestAt_1 : decode cX6_bestAt 1 = .ok (.ifCond .ge 9, 3) := dk_156 0 9 (dk_at dksX6_bestAt_0 1 rfl rfl)
theorem dX6_bestAt_4 : decode cX6_bestAt 4 = .ok (.aload_n 0, 1) := dk_42 (dk_at dksX6_bestAt_0 4 rfl rfl)
theorem dX6_bestAt_5 : decode cX6_bestAt 5 = .ok (.iconst 1, 1) := dk_4 (dk_at dksX6_bestAt_0 5 rfl rfl)
theorem dX6_bestAt_6 : decode cX6_bestAt 6 = .ok (.invokevirtual 91, 3) := dk_182 0 91 (dk_at dksX6_bestAt_0 6 rfl rfl)
theorem dX6_bestAt_9 : decode cX6_bestAt 9 = .ok (.ireturn, 1) := dk_172 (dk_at dksX6_bestAt_0 9 rfl rfl)
theorem dX6_bestAt_10 : decode cX6_bestAt 10 = .ok (.aload_n 0, 1) := dk_42 (dk_at dksX6_bestAt_0 10 rfl rfl)
theorem dX6_bestAt_11 : decode cX6_bestAt 11 = .ok (.invokevirtual 455, 3) := dk_182 1 199 (dk_at dksX6_bestAt_0 11 rfl rfl)
theorem dX6_bestAt_14 : decode cX6_bestAt 14 = .ok (.istore_n 2, 1) := dk_61 (dk_at dksX6_bestAt_0 14 rfl rfl)
theorem dX6_bestAt_15 : decode cX6_bestAt 15 = .ok (.iload_n 1, 1) := dk_27 (dk_at dksX6_bestAt_0 15 rfl rfl)
theorem dX6_bestAt_16 : decode cX6_bestAt 16 = .ok (.iload_n 2, 1) := dk_28 (dk_at dksX6_bestAt_0 16 rfl rfl)
theorem dX6_bestAt_17 : decode cX6_bestAt 17 = .ok (.invokestatic 344, 3) := dk_184 1 88 (dk_at dksX6_bestAt_0 17 rfl rfl)
theorem dX6_bestAt_20 : decode cX6_bestAt 20 = .ok (.if_icmp .lt 10, 3) := dk_161 0 10 (dk_at dksX6_bestAt_0 20 rfl rfl)
theorem dX6_bestAt_23 : decode cX6_bestAt 23 = .ok (.aload_n 0, 1) := dk_42 (dk_at dksX6_bestAt_0 23 rfl rfl)
theorem dX6_bestAt_24 : decode cX6_bestAt 24 = .ok (.bipush 6, 2) := dk_16 6 (dk_at dksX6_bestAt_1 0 rfl rfl)
theorem dX6_bestAt_26 : decode cX6_bestAt 26 = .ok (.invokevirtual 91, 3) := dk_182 0 91 (dk_at dksX6_bestAt_1 2 rfl rfl)
theorem dX6_bestAt_29 : decode cX6_bestAt 29 = .ok (.ireturn, 1) := dk_172 (dk_at dksX6_bestAt_1 5 rfl rfl)
theorem dX6_bestAt_30 : decode cX6_bestAt 30 = .ok (.iconst 0, 1) := dk_3 (dk_at dksX6_bestAt_1 6 rfl rfl)
theorem dX6_bestAt_31 : decode cX6_bestAt 31 = .ok (.istore_n 3, 1) := dk_62 (dk_at dksX6_bestAt_1 7 rfl rfl)
theorem dX6_bestAt_32 : decode cX6_bestAt 32 = .ok (.iconst (-1), 1) := dk_2 (dk_at dksX6_bestAt_1 8 rfl rfl)
theorem dX6_bestAt_33 : decode cX6_bestAt 33 = .ok (.istore 4, 2) := dk_54 4 (dk_at dksX6_bestAt_1 9 rfl rfl)
theorem dX6_bestAt_35 : decode cX6_bestAt 35 = .ok (.iconst 0, 1) := dk_3 (dk_at dksX6_bestAt_1 11 rfl rfl)
theorem dX6_bestAt_36 : decode cX6_bestAt 36 = .ok (.istore 5, 2) := dk_54 5 (dk_at dksX6_bestAt_1 12 rfl rfl)
theorem dX6_bestAt_38 : decode cX6_bestAt 38 = .ok (.iload 5, 2) := dk_21 5 (dk_at dksX6_bestAt_1 14 rfl rfl)
theorem dX6_bestAt_40 : decode cX6_bestAt 40 = .ok (.iload_n 1, 1) := dk_27 (dk_at dksX6_bestAt_1 16 rfl rfl)
theorem dX6_bestAt_41 : decode cX6_bestAt 41 = .ok (.if_icmp .gt 96, 3) := dk_163 0 96 (dk_at dksX6_bestAt_1 17 rfl rfl)
theorem dX6_bestAt_44 : decode cX6_bestAt 44 = .ok (.bipush 9, 2) := dk_16 9 (dk_at dksX6_bestAt_1 20 rfl rfl)
theorem dX6_bestAt_46 : decode cX6_bestAt 46 = .ok (.aload_n 0, 1) := dk_42 (dk_at dksX6_bestAt_1 22 rfl rfl)
theorem dX6_bestAt_47 : decode cX6_bestAt 47 = .ok (.getfield 7, 3) := dk_180 0 7 (dk_at dksX6_bestAt_2 0 rfl rfl)
theorem dX6_bestAt_50 : decode cX6_bestAt 50 = .ok (.bipush 6, 2) := dk_16 6 (dk_at dksX6_bestAt_2 3 rfl rfl)
theorem dX6_bestAt_52 : decode cX6_bestAt 52 = .ok (.iaload, 1) := dk_46 (dk_at dksX6_bestAt_2 5 rfl rfl)
theorem dX6_bestAt_53 : decode cX6_bestAt 53 = .ok (.iload_n 3, 1) := dk_29 (dk_at dksX6_bestAt_2 6 rfl rfl)
theorem dX6_bestAt_54 : decode cX6_bestAt 54 = .ok (.invokestatic 344, 3) := dk_184 1 88 (dk_at dksX6_bestAt_2 7 rfl rfl)
theorem dX6_bestAt_57 : decode cX6_bestAt 57 = .ok (.iadd, 1) := dk_96 (dk_at dksX6_bestAt_2 10 rfl rfl)
theorem dX6_bestAt_58 : decode cX6_bestAt 58 = .ok (.invokestatic 146, 3) := dk_184 0 146 (dk_at dksX6_bestAt_2 11 rfl rfl)
theorem dX6_bestAt_61 : decode cX6_bestAt 61 = .ok (.istore 6, 2) := dk_54 6 (dk_at dksX6_bestAt_2 14 rfl rfl)
theorem dX6_bestAt_63 : decode cX6_bestAt 63 = .ok (.iconst 0, 1) := dk_3 (dk_at dksX6_bestAt_2 16 rfl rfl)
theorem dX6_bestAt_64 : decode cX6_bestAt 64 = .ok (.istore 4, 2) := dk_54 4 (dk_at dksX6_bestAt_2 17 rfl rfl)
theorem dX6_bestAt_66 : decode cX6_bestAt 66 = .ok (.aload_n 0, 1) := dk_42 (dk_at dksX6_bestAt_2 19 rfl rfl)
theorem dX6_bestAt_67 : decode cX6_bestAt 67 = .ok (.iload_n 2, 1) := dk_28 (dk_at dksX6_bestAt_2 20 rfl rfl)
theorem dX6_bestAt_68 : decode cX6_bestAt 68 = .ok (.iload_n 3, 1) := dk_29 (dk_at dksX6_bestAt_2 21 rfl rfl)
theorem dX6_bestAt_69 : decode cX6_bestAt 69 = .ok (.iconst (-1), 1) := dk_2 (dk_at dksX6_bestAt_2 22 rfl rfl)
theorem dX6_bestAt_70 : decode cX6_bestAt 70 = .ok (.ixor, 1) := dk_130 (dk_at dksX6_bestAt_2 23 rfl rfl)
theorem dX6_bestAt_71 : decode cX6_bestAt 71 = .ok (.iand, 1) := dk_126 (dk_at dksX6_bestAt_3 0 rfl rfl)
theorem dX6_bestAt_72 : decode cX6_bestAt 72 = .ok (.iload 4, 2) := dk_21 4 (dk_at dksX6_bestAt_3 1 rfl rfl)
theorem dX6_bestAt_74 : decode cX6_bestAt 74 = .ok (.invokevirtual 315, 3) := dk_182 1 59 (dk_at dksX6_bestAt_3 3 rfl rfl)
theorem dX6_bestAt_77 : decode cX6_bestAt 77 = .ok (.ifCond .eq 41, 3) := dk_153 0 41 (dk_at dksX6_bestAt_3 6 rfl rfl)
theorem dX6_bestAt_80 : decode cX6_bestAt 80 = .ok (.aload_n 0, 1) := dk_42 (dk_at dksX6_bestAt_3 9 rfl rfl)
theorem dX6_bestAt_81 : decode cX6_bestAt 81 = .ok (.getfield 60, 3) := dk_180 0 60 (dk_at dksX6_bestAt_3 10 rfl rfl)
theorem dX6_bestAt_84 : decode cX6_bestAt 84 = .ok (.iload_n 3, 1) := dk_29 (dk_at dksX6_bestAt_3 13 rfl rfl)
theorem dX6_bestAt_85 : decode cX6_bestAt 85 = .ok (.iconst 1, 1) := dk_4 (dk_at dksX6_bestAt_3 14 rfl rfl)
theorem dX6_bestAt_86 : decode cX6_bestAt 86 = .ok (.iload 4, 2) := dk_21 4 (dk_at dksX6_bestAt_3 15 rfl rfl)
theorem dX6_bestAt_88 : decode cX6_bestAt 88 = .ok (.ishl, 1) := dk_120 (dk_at dksX6_bestAt_3 17 rfl rfl)
theorem dX6_bestAt_89 : decode cX6_bestAt 89 = .ok (.ior, 1) := dk_128 (dk_at dksX6_bestAt_3 18 rfl rfl)
theorem dX6_bestAt_90 : decode cX6_bestAt 90 = .ok (.iaload, 1) := dk_46 (dk_at dksX6_bestAt_3 19 rfl rfl)
theorem dX6_bestAt_91 : decode cX6_bestAt 91 = .ok (.aload_n 0, 1) := dk_42 (dk_at dksX6_bestAt_3 20 rfl rfl)
theorem dX6_bestAt_92 : decode cX6_bestAt 92 = .ok (.iload 4, 2) := dk_21 4 (dk_at dksX6_bestAt_3 21 rfl rfl)
theorem dX6_bestAt_94 : decode cX6_bestAt 94 = .ok (.iload 6, 2) := dk_21 6 (dk_at dksX6_bestAt_4 0 rfl rfl)
theorem dX6_bestAt_96 : decode cX6_bestAt 96 = .ok (.invokevirtual 443, 3) := dk_182 1 187 (dk_at dksX6_bestAt_4 2 rfl rfl)
theorem dX6_bestAt_99 : decode cX6_bestAt 99 = .ok (.iconst 2, 1) := dk_5 (dk_at dksX6_bestAt_4 5 rfl rfl)
theorem dX6_bestAt_100 : decode cX6_bestAt 100 = .ok (.if_icmp .ne 7, 3) := dk_160 0 7 (dk_at dksX6_bestAt_4 6 rfl rfl)
theorem dX6_bestAt_103 : decode cX6_bestAt 103 = .ok (.iconst 1, 1) := dk_4 (dk_at dksX6_bestAt_4 9 rfl rfl)
theorem dX6_bestAt_104 : decode cX6_bestAt 104 = .ok (.goto 4, 3) := dk_167 0 4 (dk_at dksX6_bestAt_4 10 rfl rfl)
theorem dX6_bestAt_107 : decode cX6_bestAt 107 = .ok (.iconst 0, 1) := dk_3 (dk_at dksX6_bestAt_4 13 rfl rfl)
theorem dX6_bestAt_108 : decode cX6_bestAt 108 = .ok (.iadd, 1) := dk_96 (dk_at dksX6_bestAt_4 14 rfl rfl)
theorem dX6_bestAt_109 : decode cX6_bestAt 109 = .ok (.aload_n 0, 1) := dk_42 (dk_at dksX6_bestAt_4 15 rfl rfl)
theorem dX6_bestAt_110 : decode cX6_bestAt 110 = .ok (.getfield 60, 3) := dk_180 0 60 (dk_at dksX6_bestAt_4 16 rfl rfl)
theorem dX6_bestAt_113 : decode cX6_bestAt 113 = .ok (.iload_n 3, 1) := dk_29 (dk_at dksX6_bestAt_4 19 rfl rfl)
theorem dX6_bestAt_114 : decode cX6_bestAt 114 = .ok (.iaload, 1) := dk_46 (dk_at dksX6_bestAt_4 20 rfl rfl)
theorem dX6_bestAt_115 : decode cX6_bestAt 115 = .ok (.if_icmp .eq 9, 3) := dk_159 0 9 (dk_at dksX6_bestAt_4 21 rfl rfl)
theorem dX6_bestAt_118 : decode cX6_bestAt 118 = .ok (.iinc 4 1, 3) := dk_132 4 1 (dk_at dksX6_bestAt_5 0 rfl rfl)
theorem dX6_bestAt_121 : decode cX6_bestAt 121 = .ok (.goto (-55), 3) := dk_167 255 201 (dk_at dksX6_bestAt_5 3 rfl rfl)
theorem dX6_bestAt_124 : decode cX6_bestAt 124 = .ok (.iload_n 3, 1) := dk_29 (dk_at dksX6_bestAt_5 6 rfl rfl)
theorem dX6_bestAt_125 : decode cX6_bestAt 125 = .ok (.iconst 1, 1) := dk_4 (dk_at dksX6_bestAt_5 7 rfl rfl)
theorem dX6_bestAt_126 : decode cX6_bestAt 126 = .ok (.iload 4, 2) := dk_21 4 (dk_at dksX6_bestAt_5 8 rfl rfl)
theorem dX6_bestAt_128 : decode cX6_bestAt 128 = .ok (.ishl, 1) := dk_120 (dk_at dksX6_bestAt_5 10 rfl rfl)
theorem dX6_bestAt_129 : decode cX6_bestAt 129 = .ok (.ior, 1) := dk_128 (dk_at dksX6_bestAt_5 11 rfl rfl)
theorem dX6_bestAt_130 : decode cX6_bestAt 130 = .ok (.istore_n 3, 1) := dk_62 (dk_at dksX6_bestAt_5 12 rfl rfl)
theorem dX6_bestAt_131 : decode cX6_bestAt 131 = .ok (.iinc 5 1, 3) := dk_132 5 1 (dk_at dksX6_bestAt_5 13 rfl rfl)
theorem dX6_bestAt_134 : decode cX6_bestAt 134 = .ok (.goto (-96), 3) := dk_167 255 160 (dk_at dksX6_bestAt_5 16 rfl rfl)
theorem dX6_bestAt_137 : decode cX6_bestAt 137 = .ok (.aload_n 0, 1) := dk_42 (dk_at dksX6_bestAt_5 19 rfl rfl)
theorem dX6_bestAt_138 : decode cX6_bestAt 138 = .ok (.iload 4, 2) := dk_21 4 (dk_at dksX6_bestAt_5 20 rfl rfl)
theorem dX6_bestAt_140 : decode cX6_bestAt 140 = .ok (.invokevirtual 95, 3) := dk_182 0 95 (dk_at dksX6_bestAt_6 0 rfl rfl)
theorem dX6_bestAt_143 : decode cX6_bestAt 143 = .ok (.ireturn, 1) := dk_172 (dk_at dksX6_bestAt_6 3 rfl rfl)
abbrev cX6_game : ByteArray := prog_16_method_151_code
def yX6_game : MethodName := ⟨RX6, "game", "(I)I"⟩
def dkwX6_game_1 : List UInt8 := [42, 4, 182, 0, 91, 172]
abbrev dktX6_game_1 : List UInt8 := dkwX6_game_1 ++ []
def dkwX6_game_0 : List UInt8 := [27, 133, 9, 20, 1, 217, 184, 1, 81, 153, 0, 15, 42, 42, 27, 182, 1, 219, 182, 0, 95, 167, 0, 8]
abbrev dktX6_game_0 : List UInt8 := dkwX6_game_0 ++ dktX6_game_1
theorem dksX6_game_0 : cX6_game.data.toList.drop 0 = dktX6_game_0 := by decide +kernel
theorem dksX6_game_1 : cX6_game.data.toList.drop 24 = dktX6_game_1 := dk_seg dksX6_game_0 24 rfl rfl
theorem dX6_game_0 : decode cX6_game 0 = .ok (.iload_n 1, 1) := dk_27 (dk_at dksX6_game_0 0 rfl rfl)
theorem dX6_game_1 : decode cX6_game 1 = .ok (.i2l, 1) := dk_133 (dk_at dksX6_game_0 1 rfl rfl)
theorem dX6_game_2 : decode cX6_game 2 = .ok (.lconst 0, 1) := dk_9 (dk_at dksX6_game_0 2 rfl rfl)
theorem dX6_game_3 : decode cX6_game 3 = .ok (.ldc2_w 473, 3) := dk_20 1 217 (dk_at dksX6_game_0 3 rfl rfl)
theorem dX6_game_6 : decode cX6_game 6 = .ok (.invokestatic 337, 3) := dk_184 1 81 (dk_at dksX6_game_0 6 rfl rfl)
theorem dX6_game_9 : decode cX6_game 9 = .ok (.ifCond .eq 15, 3) := dk_153 0 15 (dk_at dksX6_game_0 9 rfl rfl)
theorem dX6_game_12 : decode cX6_game 12 = .ok (.aload_n 0, 1) := dk_42 (dk_at dksX6_game_0 12 rfl rfl)
theorem dX6_game_13 : decode cX6_game 13 = .ok (.aload_n 0, 1) := dk_42 (dk_at dksX6_game_0 13 rfl rfl)
theorem dX6_game_14 : decode cX6_game 14 = .ok (.iload_n 1, 1) := dk_27 (dk_at dksX6_game_0 14 rfl rfl)
theorem dX6_game_15 : decode cX6_game 15 = .ok (.invokevirtual 475, 3) := dk_182 1 219 (dk_at dksX6_game_0 15 rfl rfl)
theorem dX6_game_18 : decode cX6_game 18 = .ok (.invokevirtual 95, 3) := dk_182 0 95 (dk_at dksX6_game_0 18 rfl rfl)
theorem dX6_game_21 : decode cX6_game 21 = .ok (.goto 8, 3) := dk_167 0 8 (dk_at dksX6_game_0 21 rfl rfl)
theorem dX6_game_24 : decode cX6_game 24 = .ok (.aload_n 0, 1) := dk_42 (dk_at dksX6_game_1 0 rfl rfl)
theorem dX6_game_25 : decode cX6_game 25 = .ok (.iconst 1, 1) := dk_4 (dk_at dksX6_game_1 1 rfl rfl)
theorem dX6_game_26 : decode cX6_game 26 = .ok (.invokevirtual 91, 3) := dk_182 0 91 (dk_at dksX6_game_1 2 rfl rfl)
theorem dX6_game_29 : decode cX6_game 29 = .ok (.ireturn, 1) := dk_172 (dk_at dksX6_game_1 5 rfl rfl)
abbrev cX6_playing : ByteArray := prog_16_method_150_code
def yX6_playing : MethodName := ⟨RX6, "playing", "(I)I"⟩
def dkwX6_playing_7 : List UInt8 := [172]
abbrev dktX6_playing_7 : List UInt8 := dkwX6_playing_7 ++ []
def dkwX6_playing_6 : List UInt8 := [42, 180, 0, 69, 28, 2, 79, 167, 255, 139, 42, 3, 184, 1, 208, 182, 1, 121, 42, 180, 0, 66, 3, 46]
abbrev dktX6_playing_6 : List UInt8 := dkwX6_playing_6 ++ dktX6_playing_7
def dkwX6_playing_5 : List UInt8 := [182, 1, 211, 167, 255, 167, 132, 2, 1, 42, 28, 184, 1, 208, 182, 1, 118, 42, 180, 0, 63, 28, 2, 79]
abbrev dktX6_playing_5 : List UInt8 := dkwX6_playing_5 ++ dktX6_playing_6
def dkwX6_playing_4 : List UInt8 := [28, 46, 182, 1, 214, 154, 0, 6, 167, 255, 186, 28, 4, 96, 27, 160, 0, 15, 42, 28, 42, 182, 1, 205]
abbrev dktX6_playing_4 : List UInt8 := dkwX6_playing_4 ++ dktX6_playing_5
def dkwX6_playing_3 : List UInt8 := [132, 2, 255, 42, 28, 42, 180, 0, 66, 28, 4, 96, 46, 182, 1, 211, 167, 255, 202, 42, 42, 180, 0, 63]
abbrev dktX6_playing_3 : List UInt8 := dkwX6_playing_3 ++ dktX6_playing_4
def dkwX6_playing_2 : List UInt8 := [4, 96, 79, 42, 180, 0, 63, 28, 46, 42, 182, 1, 202, 164, 0, 29, 28, 154, 0, 6, 167, 0, 85]
abbrev dktX6_playing_2 : List UInt8 := dkwX6_playing_2 ++ dktX6_playing_3
def dkwX6_playing_1 : List UInt8 := [2, 79, 42, 180, 0, 69, 3, 2, 79, 42, 28, 184, 1, 208, 182, 1, 121, 42, 180, 0, 63, 28, 92, 46]
abbrev dktX6_playing_1 : List UInt8 := dkwX6_playing_1 ++ dktX6_playing_2
def dkwX6_playing_0 : List UInt8 := [27, 154, 0, 8, 42, 182, 1, 205, 172, 3, 61, 42, 3, 184, 1, 208, 182, 1, 118, 42, 180, 0, 63, 3]
abbrev dktX6_playing_0 : List UInt8 := dkwX6_playing_0 ++ dktX6_playing_1
theorem dksX6_playing_0 : cX6_playing.data.toList.drop 0 = dktX6_playing_0 := by decide +kernel
theorem dksX6_playing_1 : cX6_playing.data.toList.drop 24 = dktX6_playing_1 := dk_seg dksX6_playing_0 24 rfl rfl
theorem dksX6_playing_2 : cX6_playing.data.toList.drop 48 = dktX6_playing_2 := dk_seg dksX6_playing_1 24 rfl rfl
theorem dksX6_playing_3 : cX6_playing.data.toList.drop 71 = dktX6_playing_3 := dk_seg dksX6_playing_2 23 rfl rfl
theorem dksX6_playing_4 : cX6_playing.data.toList.drop 95 = dktX6_playing_4 := dk_seg dksX6_playing_3 24 rfl rfl
theorem dksX6_playing_5 : cX6_playing.data.toList.drop 119 = dktX6_playing_5 := dk_seg dksX6_playing_4 24 rfl rfl
theorem dksX6_playing_6 : cX6_playing.data.toList.drop 143 = dktX6_playing_6 := dk_seg dksX6_playing_5 24 rfl rfl
theorem dksX6_playing_7 : cX6_playing.data.toList.drop 167 = dktX6_playing_7 := dk_seg dksX6_playing_6 24 rfl rfl
theorem dX6_playing_0 : decode cX6_playing 0 = .ok (.iload_n 1, 1) := dk_27 (dk_at dksX6_playing_0 0 rfl rfl)
theorem dX6_playing_1 : decode cX6_playing 1 = .ok (.ifCond .ne 8, 3) := dk_154 0 8 (dk_at dksX6_playing_0 1 rfl rfl)
theorem dX6_playing_4 : decode cX6_playing 4 = .ok (.aload_n 0, 1) := dk_42 (dk_at dksX6_playing_0 4 rfl rfl)
theorem dX6_playing_5 : decode cX6_playing 5 = .ok (.invokevirtual 461, 3) := dk_182 1 205 (dk_at dksX6_playing_0 5 rfl rfl)
theorem dX6_playing_8 : decode cX6_playing 8 = .ok (.ireturn, 1) := dk_172 (dk_at dksX6_playing_0 8 rfl rfl)
theorem dX6_playing_9 : decode cX6_playing 9 = .ok (.iconst 0, 1) := dk_3 (dk_at dksX6_playing_0 9 rfl rfl)
theorem dX6_playing_10 : decode cX6_playing 10 = .ok (.istore_n 2, 1) := dk_61 (dk_at dksX6_playing_0 10 rfl rfl)
theorem dX6_playing_11 : decode cX6_playing 11 = .ok (.aload_n 0, 1) := dk_42 (dk_at dksX6_playing_0 11 rfl rfl)
theorem dX6_playing_12 : decode cX6_playing 12 = .ok (.iconst 0, 1) := dk_3 (dk_at dksX6_playing_0 12 rfl rfl)
theorem dX6_playing_13 : decode cX6_playing 13 = .ok (.invokestatic 464, 3) := dk_184 1 208 (dk_at dksX6_playing_0 13 rfl rfl)
theorem dX6_playing_16 : decode cX6_playing 16 = .ok (.invokevirtual 374, 3) := dk_182 1 118 (dk_at dksX6_playing_0 16 rfl rfl)
theorem dX6_playing_19 : decode cX6_playing 19 = .ok (.aload_n 0, 1) := dk_42 (dk_at dksX6_playing_0 19 rfl rfl)
theorem dX6_playing_20 : decode cX6_playing 20 = .ok (.getfield 63, 3) := dk_180 0 63 (dk_at dksX6_playing_0 20 rfl rfl)
theorem dX6_playing_23 : decode cX6_playing 23 = .ok (.iconst 0, 1) := dk_3 (dk_at dksX6_playing_0 23 rfl rfl)
theorem dX6_playing_24 : decode cX6_playing 24 = .ok (.iconst (-1), 1) := dk_2 (dk_at dksX6_playing_1 0 rfl rfl)
theorem dX6_playing_25 : decode cX6_playing 25 = .ok (.iastore, 1) := dk_79 (dk_at dksX6_playing_1 1 rfl rfl)
theorem dX6_playing_26 : decode cX6_playing 26 = .ok (.aload_n 0, 1) := dk_42 (dk_at dksX6_playing_1 2 rfl rfl)
theorem dX6_playing_27 : decode cX6_playing 27 = .ok (.getfield 69, 3) := dk_180 0 69 (dk_at dksX6_playing_1 3 rfl rfl)
theorem dX6_playing_30 : decode cX6_playing 30 = .ok (.iconst 0, 1) := dk_3 (dk_at dksX6_playing_1 6 rfl rfl)
theorem dX6_playing_31 : decode cX6_playing 31 = .ok (.iconst (-1), 1) := dk_2 (dk_at dksX6_playing_1 7 rfl rfl)
theorem dX6_playing_32 : decode cX6_playing 32 = .ok (.iastore, 1) := dk_79 (dk_at dksX6_playing_1 8 rfl rfl)
theorem dX6_playing_33 : decode cX6_playing 33 = .ok (.aload_n 0, 1) := dk_42 (dk_at dksX6_playing_1 9 rfl rfl)
theorem dX6_playing_34 : decode cX6_playing 34 = .ok (.iload_n 2, 1) := dk_28 (dk_at dksX6_playing_1 10 rfl rfl)
theorem dX6_playing_35 : decode cX6_playing 35 = .ok (.invokestatic 464, 3) := dk_184 1 208 (dk_at dksX6_playing_1 11 rfl rfl)
theorem dX6_playing_38 : decode cX6_playing 38 = .ok (.invokevirtual 377, 3) := dk_182 1 121 (dk_at dksX6_playing_1 14 rfl rfl)
theorem dX6_playing_41 : decode cX6_playing 41 = .ok (.aload_n 0, 1) := dk_42 (dk_at dksX6_playing_1 17 rfl rfl)
theorem dX6_playing_42 : decode cX6_playing 42 = .ok (.getfield 63, 3) := dk_180 0 63 (dk_at dksX6_playing_1 18 rfl rfl)
theorem dX6_playing_45 : decode cX6_playing 45 = .ok (.iload_n 2, 1) := dk_28 (dk_at dksX6_playing_1 21 rfl rfl)
theorem dX6_playing_46 : decode cX6_playing 46 = .ok (.dup2, 1) := dk_92 (dk_at dksX6_playing_1 22 rfl rfl)
theorem dX6_playing_47 : decode cX6_playing 47 = .ok (.iaload, 1) := dk_46 (dk_at dksX6_playing_1 23 rfl rfl)
theorem dX6_playing_48 : decode cX6_playing 48 = .ok (.iconst 1, 1) := dk_4 (dk_at dksX6_playing_2 0 rfl rfl)
theorem dX6_playing_49 : decode cX6_playing 49 = .ok (.iadd, 1) := dk_96 (dk_at dksX6_playing_2 1 rfl rfl)
theorem dX6_playing_50 : decode cX6_playing 50 = .ok (.iastore, 1) := dk_79 (dk_at dksX6_playing_2 2 rfl rfl)
theorem dX6_playing_51 : decode cX6_playing 51 = .ok (.aload_n 0, 1) := dk_42 (dk_at dksX6_playing_2 3 rfl rfl)
theorem dX6_playing_52 : decode cX6_playing 52 = .ok (.getfield 63, 3) := dk_180 0 63 (dk_at dksX6_playing_2 4 rfl rfl)
theorem dX6_playing_55 : decode cX6_playing 55 = .ok (.iload_n 2, 1) := dk_28 (dk_at dksX6_playing_2 7 rfl rfl)
theorem dX6_playing_56 : decode cX6_playing 56 = .ok (.iaload, 1) := dk_46 (dk_at dksX6_playing_2 8 rfl rfl)
theorem dX6_playing_57 : decode cX6_playing 57 = .ok (.aload_n 0, 1) := dk_42 (dk_at dksX6_playing_2 9 rfl rfl)
theorem dX6_playing_58 : decode cX6_playing 58 = .ok (.invokevirtual 458, 3) := dk_182 1 202 (dk_at dksX6_playing_2 10 rfl rfl)
theorem dX6_playing_61 : decode cX6_playing 61 = .ok (.if_icmp .le 29, 3) := dk_164 0 29 (dk_at dksX6_playing_2 13 rfl rfl)
theorem dX6_playing_64 : decode cX6_playing 64 = .ok (.iload_n 2, 1) := dk_28 (dk_at dksX6_playing_2 16 rfl rfl)
theorem dX6_playing_65 : decode cX6_playing 65 = .ok (.ifCond .ne 6, 3) := dk_154 0 6 (dk_at dksX6_playing_2 17 rfl rfl)
theorem dX6_playing_68 : decode cX6_playing 68 = .ok (.goto 85, 3) := dk_167 0 85 (dk_at dksX6_playing_2 20 rfl rfl)
theorem dX6_playing_71 : decode cX6_playing 71 = .ok (.iinc 2 (-1), 3) := dk_132 2 255 (dk_at dksX6_playing_3 0 rfl rfl)
theorem dX6_playing_74 : decode cX6_playing 74 = .ok (.aload_n 0, 1) := dk_42 (dk_at dksX6_playing_3 3 rfl rfl)
theorem dX6_playing_75 : decode cX6_playing 75 = .ok (.iload_n 2, 1) := dk_28 (dk_at dksX6_playing_3 4 rfl rfl)
theorem dX6_playing_76 : decode cX6_playing 76 = .ok (.aload_n 0, 1) := dk_42 (dk_at dksX6_playing_3 5 rfl rfl)
theorem dX6_playing_77 : decode cX6_playing 77 = .ok (.getfield 66, 3) := dk_180 0 66 (dk_at dksX6_playing_3 6 rfl rfl)
theorem dX6_playing_80 : decode cX6_playing 80 = .ok (.iload_n 2, 1) := dk_28 (dk_at dksX6_playing_3 9 rfl rfl)
theorem dX6_playing_81 : decode cX6_playing 81 = .ok (.iconst 1, 1) := dk_4 (dk_at dksX6_playing_3 10 rfl rfl)
theorem dX6_playing_82 : decode cX6_playing 82 = .ok (.iadd, 1) := dk_96 (dk_at dksX6_playing_3 11 rfl rfl)
theorem dX6_playing_83 : decode cX6_playing 83 = .ok (.iaload, 1) := dk_46 (dk_at dksX6_playing_3 12 rfl rfl)
theorem dX6_playing_84 : decode cX6_playing 84 = .ok (.invokevirtual 467, 3) := dk_182 1 211 (dk_at dksX6_playing_3 13 rfl rfl)
theorem dX6_playing_87 : decode cX6_playing 87 = .ok (.goto (-54), 3) := dk_167 255 202 (dk_at dksX6_playing_3 16 rfl rfl)
theorem dX6_playing_90 : decode cX6_playing 90 = .ok (.aload_n 0, 1) := dk_42 (dk_at dksX6_playing_3 19 rfl rfl)
theorem dX6_playing_91 : decode cX6_playing 91 = .ok (.aload_n 0, 1) := dk_42 (dk_at dksX6_playing_3 20 rfl rfl)
theorem dX6_playing_92 : decode cX6_playing 92 = .ok (.getfield 63, 3) := dk_180 0 63 (dk_at dksX6_playing_3 21 rfl rfl)
theorem dX6_playing_95 : decode cX6_playing 95 = .ok (.iload_n 2, 1) := dk_28 (dk_at dksX6_playing_4 0 rfl rfl)
theorem dX6_playing_96 : decode cX6_playing 96 = .ok (.iaload, 1) := dk_46 (dk_at dksX6_playing_4 1 rfl rfl)
theorem dX6_playing_97 : decode cX6_playing 97 = .ok (.invokevirtual 470, 3) := dk_182 1 214 (dk_at dksX6_playing_4 2 rfl rfl)
theorem dX6_playing_100 : decode cX6_playing 100 = .ok (.ifCond .ne 6, 3) := dk_154 0 6 (dk_at dksX6_playing_4 5 rfl rfl)
theorem dX6_playing_103 : decode cX6_playing 103 = .ok (.goto (-70), 3) := dk_167 255 186 (dk_at dksX6_playing_4 8 rfl rfl)
theorem dX6_playing_106 : decode cX6_playing 106 = .ok (.iload_n 2, 1) := dk_28 (dk_at dksX6_playing_4 11 rfl rfl)
theorem dX6_playing_107 : decode cX6_playing 107 = .ok (.iconst 1, 1) := dk_4 (dk_at dksX6_playing_4 12 rfl rfl)
theorem dX6_playing_108 : decode cX6_playing 108 = .ok (.iadd, 1) := dk_96 (dk_at dksX6_playing_4 13 rfl rfl)
theorem dX6_playing_109 : decode cX6_playing 109 = .ok (.iload_n 1, 1) := dk_27 (dk_at dksX6_playing_4 14 rfl rfl)
theorem dX6_playing_110 : decode cX6_playing 110 = .ok (.if_icmp .ne 15, 3) := dk_160 0 15 (dk_at dksX6_playing_4 15 rfl rfl)
theorem dX6_playing_113 : decode cX6_playing 113 = .ok (.aload_n 0, 1) := dk_42 (dk_at dksX6_playing_4 18 rfl rfl)
theorem dX6_playing_114 : decode cX6_playing 114 = .ok (.iload_n 2, 1) := dk_28 (dk_at dksX6_playing_4 19 rfl rfl)
theorem dX6_playing_115 : decode cX6_playing 115 = .ok (.aload_n 0, 1) := dk_42 (dk_at dksX6_playing_4 20 rfl rfl)
theorem dX6_playing_116 : decode cX6_playing 116 = .ok (.invokevirtual 461, 3) := dk_182 1 205 (dk_at dksX6_playing_4 21 rfl rfl)
theorem dX6_playing_119 : decode cX6_playing 119 = .ok (.invokevirtual 467, 3) := dk_182 1 211 (dk_at dksX6_playing_5 0 rfl rfl)
theorem dX6_playing_122 : decode cX6_playing 122 = .ok (.goto (-89), 3) := dk_167 255 167 (dk_at dksX6_playing_5 3 rfl rfl)
theorem dX6_playing_125 : decode cX6_playing 125 = .ok (.iinc 2 1, 3) := dk_132 2 1 (dk_at dksX6_playing_5 6 rfl rfl)
theorem dX6_playing_128 : decode cX6_playing 128 = .ok (.aload_n 0, 1) := dk_42 (dk_at dksX6_playing_5 9 rfl rfl)
theorem dX6_playing_129 : decode cX6_playing 129 = .ok (.iload_n 2, 1) := dk_28 (dk_at dksX6_playing_5 10 rfl rfl)
theorem dX6_playing_130 : decode cX6_playing 130 = .ok (.invokestatic 464, 3) := dk_184 1 208 (dk_at dksX6_playing_5 11 rfl rfl)
theorem dX6_playing_133 : decode cX6_playing 133 = .ok (.invokevirtual 374, 3) := dk_182 1 118 (dk_at dksX6_playing_5 14 rfl rfl)
theorem dX6_playing_136 : decode cX6_playing 136 = .ok (.aload_n 0, 1) := dk_42 (dk_at dksX6_playing_5 17 rfl rfl)
theorem dX6_playing_137 : decode cX6_playing 137 = .ok (.getfield 63, 3) := dk_180 0 63 (dk_at dksX6_playing_5 18 rfl rfl)
theorem dX6_playing_140 : decode cX6_playing 140 = .ok (.iload_n 2, 1) := dk_28 (dk_at dksX6_playing_5 21 rfl rfl)
theorem dX6_playing_141 : decode cX6_playing 141 = .ok (.iconst (-1), 1) := dk_2 (dk_at dksX6_playing_5 22 rfl rfl)
theorem dX6_playing_142 : decode cX6_playing 142 = .ok (.iastore, 1) := dk_79 (dk_at dksX6_playing_5 23 rfl rfl)
theorem dX6_playing_143 : decode cX6_playing 143 = .ok (.aload_n 0, 1) := dk_42 (dk_at dksX6_playing_6 0 rfl rfl)
theorem dX6_playing_144 : decode cX6_playing 144 = .ok (.getfield 69, 3) := dk_180 0 69 (dk_at dksX6_playing_6 1 rfl rfl)
theorem dX6_playing_147 : decode cX6_playing 147 = .ok (.iload_n 2, 1) := dk_28 (dk_at dksX6_playing_6 4 rfl rfl)
theorem dX6_playing_148 : decode cX6_playing 148 = .ok (.iconst (-1), 1) := dk_2 (dk_at dksX6_playing_6 5 rfl rfl)
theorem dX6_playing_149 : decode cX6_playing 149 = .ok (.iastore, 1) := dk_79 (dk_at dksX6_playing_6 6 rfl rfl)
theorem dX6_playing_150 : decode cX6_playing 150 = .ok (.goto (-117), 3) := dk_167 255 139 (dk_at dksX6_playing_6 7 rfl rfl)
theorem dX6_playing_153 : decode cX6_playing 153 = .ok (.aload_n 0, 1) := dk_42 (dk_at dksX6_playing_6 10 rfl rfl)
theorem dX6_playing_154 : decode cX6_playing 154 = .ok (.iconst 0, 1) := dk_3 (dk_at dksX6_playing_6 11 rfl rfl)
theorem dX6_playing_155 : decode cX6_playing 155 = .ok (.invokestatic 464, 3) := dk_184 1 208 (dk_at dksX6_playing_6 12 rfl rfl)
theorem dX6_playing_158 : decode cX6_playing 158 = .ok (.invokevirtual 377, 3) := dk_182 1 121 (dk_at dksX6_playing_6 15 rfl rfl)
theorem dX6_playing_161 : decode cX6_playing 161 = .ok (.aload_n 0, 1) := dk_42 (dk_at dksX6_playing_6 18 rfl rfl)
theorem dX6_playing_162 : decode cX6_playing 162 = .ok (.getfield 66, 3) := dk_180 0 66 (dk_at dksX6_playing_6 19 rfl rfl)
theorem dX6_playing_165 : decode cX6_playing 165 = .ok (.iconst 0, 1) := dk_3 (dk_at dksX6_playing_6 22 rfl rfl)
theorem dX6_playing_166 : decode cX6_playing 166 = .ok (.iaload, 1) := dk_46 (dk_at dksX6_playing_6 23 rfl rfl)
theorem dX6_playing_167 : decode cX6_playing 167 = .ok (.ireturn, 1) := dk_172 (dk_at dksX6_playing_7 0 rfl rfl)
abbrev cX6_standing : ByteArray := prog_16_method_146_code
def yX6_standing : MethodName := ⟨RX6, "standing", "()I"⟩
def dkwX6_standing_2 : List UInt8 := [96, 60, 132, 2, 1, 167, 255, 208, 27, 172]
abbrev dktX6_standing_2 : List UInt8 := dkwX6_standing_2 ++ []
def dkwX6_standing_1 : List UInt8 := [182, 1, 187, 62, 27, 29, 5, 160, 0, 7, 4, 167, 0, 13, 29, 4, 160, 0, 7, 2, 167, 0, 4, 3]
abbrev dktX6_standing_1 : List UInt8 := dkwX6_standing_1 ++ dktX6_standing_2
def dkwX6_standing_0 : List UInt8 := [3, 60, 3, 61, 28, 42, 180, 0, 7, 6, 46, 162, 0, 44, 42, 28, 42, 180, 0, 7, 16, 6, 46]
abbrev dktX6_standing_0 : List UInt8 := dkwX6_standing_0 ++ dktX6_standing_1
theorem dksX6_standing_0 : cX6_standing.data.toList.drop 0 = dktX6_standing_0 := by decide +kernel
theorem dksX6_standing_1 : cX6_standing.data.toList.drop 23 = dktX6_standing_1 := dk_seg dksX6_standing_0 23 rfl rfl
theorem dksX6_standing_2 : cX6_standing.data.toList.drop 47 = dktX6_standing_2 := dk_seg dksX6_standing_1 24 rfl rfl
theorem dX6_standing_0 : decode cX6_standing 0 = .ok (.iconst 0, 1) := dk_3 (dk_at dksX6_standing_0 0 rfl rfl)
theorem dX6_standing_1 : decode cX6_standing 1 = .ok (.istore_n 1, 1) := dk_60 (dk_at dksX6_standing_0 1 rfl rfl)
theorem dX6_standing_2 : decode cX6_standing 2 = .ok (.iconst 0, 1) := dk_3 (dk_at dksX6_standing_0 2 rfl rfl)
theorem dX6_standing_3 : decode cX6_standing 3 = .ok (.istore_n 2, 1) := dk_61 (dk_at dksX6_standing_0 3 rfl rfl)
theorem dX6_standing_4 : decode cX6_standing 4 = .ok (.iload_n 2, 1) := dk_28 (dk_at dksX6_standing_0 4 rfl rfl)
theorem dX6_standing_5 : decode cX6_standing 5 = .ok (.aload_n 0, 1) := dk_42 (dk_at dksX6_standing_0 5 rfl rfl)
theorem dX6_standing_6 : decode cX6_standing 6 = .ok (.getfield 7, 3) := dk_180 0 7 (dk_at dksX6_standing_0 6 rfl rfl)
theorem dX6_standing_9 : decode cX6_standing 9 = .ok (.iconst 3, 1) := dk_6 (dk_at dksX6_standing_0 9 rfl rfl)
theorem dX6_standing_10 : decode cX6_standing 10 = .ok (.iaload, 1) := dk_46 (dk_at dksX6_standing_0 10 rfl rfl)
theorem dX6_standing_11 : decode cX6_standing 11 = .ok (.if_icmp .ge 44, 3) := dk_162 0 44 (dk_at dksX6_standing_0 11 rfl rfl)
theorem dX6_standing_14 : decode cX6_standing 14 = .ok (.aload_n 0, 1) := dk_42 (dk_at dksX6_standing_0 14 rfl rfl)
theorem dX6_standing_15 : decode cX6_standing 15 = .ok (.iload_n 2, 1) := dk_28 (dk_at dksX6_standing_0 15 rfl rfl)
theorem dX6_standing_16 : decode cX6_standing 16 = .ok (.aload_n 0, 1) := dk_42 (dk_at dksX6_standing_0 16 rfl rfl)
theorem dX6_standing_17 : decode cX6_standing 17 = .ok (.getfield 7, 3) := dk_180 0 7 (dk_at dksX6_standing_0 17 rfl rfl)
theorem dX6_standing_20 : decode cX6_standing 20 = .ok (.bipush 6, 2) := dk_16 6 (dk_at dksX6_standing_0 20 rfl rfl)
theorem dX6_standing_22 : decode cX6_standing 22 = .ok (.iaload, 1) := dk_46 (dk_at dksX6_standing_0 22 rfl rfl)
theorem dX6_standing_23 : decode cX6_standing 23 = .ok (.invokevirtual 443, 3) := dk_182 1 187 (dk_at dksX6_standing_1 0 rfl rfl)
theorem dX6_standing_26 : decode cX6_standing 26 = .ok (.istore_n 3, 1) := dk_62 (dk_at dksX6_standing_1 3 rfl rfl)
theorem dX6_standing_27 : decode cX6_standing 27 = .ok (.iload_n 1, 1) := dk_27 (dk_at dksX6_standing_1 4 rfl rfl)
theorem dX6_standing_28 : decode cX6_standing 28 = .ok (.iload_n 3, 1) := dk_29 (dk_at dksX6_standing_1 5 rfl rfl)
theorem dX6_standing_29 : decode cX6_standing 29 = .ok (.iconst 2, 1) := dk_5 (dk_at dksX6_standing_1 6 rfl rfl)
theorem dX6_standing_30 : decode cX6_standing 30 = .ok (.if_icmp .ne 7, 3) := dk_160 0 7 (dk_at dksX6_standing_1 7 rfl rfl)
theorem dX6_standing_33 : decode cX6_standing 33 = .ok (.iconst 1, 1) := dk_4 (dk_at dksX6_standing_1 10 rfl rfl)
theorem dX6_standing_34 : decode cX6_standing 34 = .ok (.goto 13, 3) := dk_167 0 13 (dk_at dksX6_standing_1 11 rfl rfl)
theorem dX6_standing_37 : decode cX6_standing 37 = .ok (.iload_n 3, 1) := dk_29 (dk_at dksX6_standing_1 14 rfl rfl)
theorem dX6_standing_38 : decode cX6_standing 38 = .ok (.iconst 1, 1) := dk_4 (dk_at dksX6_standing_1 15 rfl rfl)
theorem dX6_standing_39 : decode cX6_standing 39 = .ok (.if_icmp .ne 7, 3) := dk_160 0 7 (dk_at dksX6_standing_1 16 rfl rfl)
theorem dX6_standing_42 : decode cX6_standing 42 = .ok (.iconst (-1), 1) := dk_2 (dk_at dksX6_standing_1 19 rfl rfl)
theorem dX6_standing_43 : decode cX6_standing 43 = .ok (.goto 4, 3) := dk_167 0 4 (dk_at dksX6_standing_1 20 rfl rfl)
theorem dX6_standing_46 : decode cX6_standing 46 = .ok (.iconst 0, 1) := dk_3 (dk_at dksX6_standing_1 23 rfl rfl)
theorem dX6_standing_47 : decode cX6_standing 47 = .ok (.iadd, 1) := dk_96 (dk_at dksX6_standing_2 0 rfl rfl)
theorem dX6_standing_48 : decode cX6_standing 48 = .ok (.istore_n 1, 1) := dk_60 (dk_at dksX6_standing_2 1 rfl rfl)
theorem dX6_standing_49 : decode cX6_standing 49 = .ok (.iinc 2 1, 3) := dk_132 2 1 (dk_at dksX6_standing_2 2 rfl rfl)
theorem dX6_standing_52 : decode cX6_standing 52 = .ok (.goto (-48), 3) := dk_167 255 208 (dk_at dksX6_standing_2 5 rfl rfl)
theorem dX6_standing_55 : decode cX6_standing 55 = .ok (.iload_n 1, 1) := dk_27 (dk_at dksX6_standing_2 8 rfl rfl)
theorem dX6_standing_56 : decode cX6_standing 56 = .ok (.ireturn, 1) := dk_172 (dk_at dksX6_standing_2 9 rfl rfl)
abbrev cX6_levelAt : ByteArray := prog_16_method_108_code
def yX6_levelAt : MethodName := ⟨RX6, "levelAt", "(I)I"⟩
def dkwX6_levelAt_0 : List UInt8 := [17, 11, 196, 17, 0, 134, 26, 104, 96, 172]
abbrev dktX6_levelAt_0 : List UInt8 := dkwX6_levelAt_0 ++ []
theorem dksX6_levelAt_0 : cX6_levelAt.data.toList.drop 0 = dktX6_levelAt_0 := by decide +kernel
theorem dX6_levelAt_0 : decode cX6_levelAt 0 = .ok (.sipush 3012, 3) := dk_17 11 196 (dk_at dksX6_levelAt_0 0 rfl rfl)
theorem dX6_levelAt_3 : decode cX6_levelAt 3 = .ok (.sipush 134, 3) := dk_17 0 134 (dk_at dksX6_levelAt_0 3 rfl rfl)
theorem dX6_levelAt_6 : decode cX6_levelAt 6 = .ok (.iload_n 0, 1) := dk_26 (dk_at dksX6_levelAt_0 6 rfl rfl)
theorem dX6_levelAt_7 : decode cX6_levelAt 7 = .ok (.imul, 1) := dk_104 (dk_at dksX6_levelAt_0 7 rfl rfl)
theorem dX6_levelAt_8 : decode cX6_levelAt 8 = .ok (.iadd, 1) := dk_96 (dk_at dksX6_levelAt_0 8 rfl rfl)
theorem dX6_levelAt_9 : decode cX6_levelAt 9 = .ok (.ireturn, 1) := dk_172 (dk_at dksX6_levelAt_0 9 rfl rfl)
abbrev cX6_deeds : ByteArray := prog_16_method_148_code
def yX6_deeds : MethodName := ⟨RX6, "deeds", "()I"⟩
def dkwX6_deeds_0 : List UInt8 := [42, 180, 0, 7, 6, 46, 4, 42, 180, 0, 7, 3, 46, 96, 104, 172]
abbrev dktX6_deeds_0 : List UInt8 := dkwX6_deeds_0 ++ []
theorem dksX6_deeds_0 : cX6_deeds.data.toList.drop 0 = dktX6_deeds_0 := by decide +kernel
theorem dX6_deeds_0 : decode cX6_deeds 0 = .ok (.aload_n 0, 1) := dk_42 (dk_at dksX6_deeds_0 0 rfl rfl)
theorem dX6_deeds_1 : decode cX6_deeds 1 = .ok (.getfield 7, 3) := dk_180 0 7 (dk_at dksX6_deeds_0 1 rfl rfl)
theorem dX6_deeds_4 : decode cX6_deeds 4 = .ok (.iconst 3, 1) := dk_6 (dk_at dksX6_deeds_0 4 rfl rfl)
theorem dX6_deeds_5 : decode cX6_deeds 5 = .ok (.iaload, 1) := dk_46 (dk_at dksX6_deeds_0 5 rfl rfl)
theorem dX6_deeds_6 : decode cX6_deeds 6 = .ok (.iconst 1, 1) := dk_4 (dk_at dksX6_deeds_0 6 rfl rfl)
theorem dX6_deeds_7 : decode cX6_deeds 7 = .ok (.aload_n 0, 1) := dk_42 (dk_at dksX6_deeds_0 7 rfl rfl)
theorem dX6_deeds_8 : decode cX6_deeds 8 = .ok (.getfield 7, 3) := dk_180 0 7 (dk_at dksX6_deeds_0 8 rfl rfl)
theorem dX6_deeds_11 : decode cX6_deeds 11 = .ok (.iconst 0, 1) := dk_3 (dk_at dksX6_deeds_0 11 rfl rfl)
theorem dX6_deeds_12 : decode cX6_deeds 12 = .ok (.iaload, 1) := dk_46 (dk_at dksX6_deeds_0 12 rfl rfl)
theorem dX6_deeds_13 : decode cX6_deeds 13 = .ok (.iadd, 1) := dk_96 (dk_at dksX6_deeds_0 13 rfl rfl)
theorem dX6_deeds_14 : decode cX6_deeds 14 = .ok (.imul, 1) := dk_104 (dk_at dksX6_deeds_0 14 rfl rfl)
theorem dX6_deeds_15 : decode cX6_deeds 15 = .ok (.ireturn, 1) := dk_172 (dk_at dksX6_deeds_0 15 rfl rfl)
abbrev cX6_settles : ByteArray := prog_16_method_147_code
def yX6_settles : MethodName := ⟨RX6, "settles", "(II)V"⟩
def dkwX6_settles_2 : List UInt8 := [161, 0, 4, 177, 42, 180, 0, 66, 27, 28, 79, 42, 180, 0, 69, 27, 42, 180, 0, 63, 27, 46, 79, 177]
abbrev dktX6_settles_2 : List UInt8 := dkwX6_settles_2 ++ []
def dkwX6_settles_1 : List UInt8 := [154, 0, 16, 28, 42, 180, 0, 66, 27, 46, 163, 0, 17, 167, 0, 13, 28, 42, 180, 0, 66, 27, 46]
abbrev dktX6_settles_1 : List UInt8 := dkwX6_settles_1 ++ dktX6_settles_2
def dkwX6_settles_0 : List UInt8 := [42, 180, 0, 69, 27, 46, 2, 160, 0, 7, 4, 167, 0, 4, 3, 62, 29, 154, 0, 33, 27, 5, 112]
abbrev dktX6_settles_0 : List UInt8 := dkwX6_settles_0 ++ dktX6_settles_1
theorem dksX6_settles_0 : cX6_settles.data.toList.drop 0 = dktX6_settles_0 := by decide +kernel
theorem dksX6_settles_1 : cX6_settles.data.toList.drop 23 = dktX6_settles_1 := dk_seg dksX6_settles_0 23 rfl rfl
theorem dksX6_settles_2 : cX6_settles.data.toList.drop 46 = dktX6_settles_2 := dk_seg dksX6_settles_1 23 rfl rfl
theorem dX6_settles_0 : decode cX6_settles 0 = .ok (.aload_n 0, 1) := dk_42 (dk_at dksX6_settles_0 0 rfl rfl)
theorem dX6_settles_1 : decode cX6_settles 1 = .ok (.getfield 69, 3) := dk_180 0 69 (dk_at dksX6_settles_0 1 rfl rfl)
theorem dX6_settles_4 : decode cX6_settles 4 = .ok (.iload_n 1, 1) := dk_27 (dk_at dksX6_settles_0 4 rfl rfl)
theorem dX6_settles_5 : decode cX6_settles 5 = .ok (.iaload, 1) := dk_46 (dk_at dksX6_settles_0 5 rfl rfl)
theorem dX6_settles_6 : decode cX6_settles 6 = .ok (.iconst (-1), 1) := dk_2 (dk_at dksX6_settles_0 6 rfl rfl)
theorem dX6_settles_7 : decode cX6_settles 7 = .ok (.if_icmp .ne 7, 3) := dk_160 0 7 (dk_at dksX6_settles_0 7 rfl rfl)
theorem dX6_settles_10 : decode cX6_settles 10 = .ok (.iconst 1, 1) := dk_4 (dk_at dksX6_settles_0 10 rfl rfl)
theorem dX6_settles_11 : decode cX6_settles 11 = .ok (.goto 4, 3) := dk_167 0 4 (dk_at dksX6_settles_0 11 rfl rfl)
theorem dX6_settles_14 : decode cX6_settles 14 = .ok (.iconst 0, 1) := dk_3 (dk_at dksX6_settles_0 14 rfl rfl)
theorem dX6_settles_15 : decode cX6_settles 15 = .ok (.istore_n 3, 1) := dk_62 (dk_at dksX6_settles_0 15 rfl rfl)
theorem dX6_settles_16 : decode cX6_settles 16 = .ok (.iload_n 3, 1) := dk_29 (dk_at dksX6_settles_0 16 rfl rfl)
theorem dX6_settles_17 : decode cX6_settles 17 = .ok (.ifCond .ne 33, 3) := dk_154 0 33 (dk_at dksX6_settles_0 17 rfl rfl)
theorem dX6_settles_20 : decode cX6_settles 20 = .ok (.iload_n 1, 1) := dk_27 (dk_at dksX6_settles_0 20 rfl rfl)
theorem dX6_settles_21 : decode cX6_settles 21 = .ok (.iconst 2, 1) := dk_5 (dk_at dksX6_settles_0 21 rfl rfl)
theorem dX6_settles_22 : decode cX6_settles 22 = .ok (.irem, 1) := dk_112 (dk_at dksX6_settles_0 22 rfl rfl)
theorem dX6_settles_23 : decode cX6_settles 23 = .ok (.ifCond .ne 16, 3) := dk_154 0 16 (dk_at dksX6_settles_1 0 rfl rfl)
theorem dX6_settles_26 : decode cX6_settles 26 = .ok (.iload_n 2, 1) := dk_28 (dk_at dksX6_settles_1 3 rfl rfl)
theorem dX6_settles_27 : decode cX6_settles 27 = .ok (.aload_n 0, 1) := dk_42 (dk_at dksX6_settles_1 4 rfl rfl)
theorem dX6_settles_28 : decode cX6_settles 28 = .ok (.getfield 66, 3) := dk_180 0 66 (dk_at dksX6_settles_1 5 rfl rfl)
theorem dX6_settles_31 : decode cX6_settles 31 = .ok (.iload_n 1, 1) := dk_27 (dk_at dksX6_settles_1 8 rfl rfl)
theorem dX6_settles_32 : decode cX6_settles 32 = .ok (.iaload, 1) := dk_46 (dk_at dksX6_settles_1 9 rfl rfl)
theorem dX6_settles_33 : decode cX6_settles 33 = .ok (.if_icmp .gt 17, 3) := dk_163 0 17 (dk_at dksX6_settles_1 10 rfl rfl)
theorem dX6_settles_36 : decode cX6_settles 36 = .ok (.goto 13, 3) := dk_167 0 13 (dk_at dksX6_settles_1 13 rfl rfl)
theorem dX6_settles_39 : decode cX6_settles 39 = .ok (.iload_n 2, 1) := dk_28 (dk_at dksX6_settles_1 16 rfl rfl)
theorem dX6_settles_40 : decode cX6_settles 40 = .ok (.aload_n 0, 1) := dk_42 (dk_at dksX6_settles_1 17 rfl rfl)
theorem dX6_settles_41 : decode cX6_settles 41 = .ok (.getfield 66, 3) := dk_180 0 66 (dk_at dksX6_settles_1 18 rfl rfl)
theorem dX6_settles_44 : decode cX6_settles 44 = .ok (.iload_n 1, 1) := dk_27 (dk_at dksX6_settles_1 21 rfl rfl)
theorem dX6_settles_45 : decode cX6_settles 45 = .ok (.iaload, 1) := dk_46 (dk_at dksX6_settles_1 22 rfl rfl)
theorem dX6_settles_46 : decode cX6_settles 46 = .ok (.if_icmp .lt 4, 3) := dk_161 0 4 (dk_at dksX6_settles_2 0 rfl rfl)
theorem dX6_settles_49 : decode cX6_settles 49 = .ok (.return_, 1) := dk_177 (dk_at dksX6_settles_2 3 rfl rfl)
theorem dX6_settles_50 : decode cX6_settles 50 = .ok (.aload_n 0, 1) := dk_42 (dk_at dksX6_settles_2 4 rfl rfl)
theorem dX6_settles_51 : decode cX6_settles 51 = .ok (.getfield 66, 3) := dk_180 0 66 (dk_at dksX6_settles_2 5 rfl rfl)
theorem dX6_settles_54 : decode cX6_settles 54 = .ok (.iload_n 1, 1) := dk_27 (dk_at dksX6_settles_2 8 rfl rfl)
theorem dX6_settles_55 : decode cX6_settles 55 = .ok (.iload_n 2, 1) := dk_28 (dk_at dksX6_settles_2 9 rfl rfl)
theorem dX6_settles_56 : decode cX6_settles 56 = .ok (.iastore, 1) := dk_79 (dk_at dksX6_settles_2 10 rfl rfl)
theorem dX6_settles_57 : decode cX6_settles 57 = .ok (.aload_n 0, 1) := dk_42 (dk_at dksX6_settles_2 11 rfl rfl)
theorem dX6_settles_58 : decode cX6_settles 58 = .ok (.getfield 69, 3) := dk_180 0 69 (dk_at dksX6_settles_2 12 rfl rfl)
theorem dX6_settles_61 : decode cX6_settles 61 = .ok (.iload_n 1, 1) := dk_27 (dk_at dksX6_settles_2 15 rfl rfl)
theorem dX6_settles_62 : decode cX6_settles 62 = .ok (.aload_n 0, 1) := dk_42 (dk_at dksX6_settles_2 16 rfl rfl)
theorem dX6_settles_63 : decode cX6_settles 63 = .ok (.getfield 63, 3) := dk_180 0 63 (dk_at dksX6_settles_2 17 rfl rfl)
theorem dX6_settles_66 : decode cX6_settles 66 = .ok (.iload_n 1, 1) := dk_27 (dk_at dksX6_settles_2 20 rfl rfl)
theorem dX6_settles_67 : decode cX6_settles 67 = .ok (.iaload, 1) := dk_46 (dk_at dksX6_settles_2 21 rfl rfl)
theorem dX6_settles_68 : decode cX6_settles 68 = .ok (.iastore, 1) := dk_79 (dk_at dksX6_settles_2 22 rfl rfl)
theorem dX6_settles_69 : decode cX6_settles 69 = .ok (.return_, 1) := dk_177 (dk_at dksX6_settles_2 23 rfl rfl)
abbrev cX6_doesDeed : ByteArray := prog_16_method_149_code
def yX6_doesDeed : MethodName := ⟨RX6, "doesDeed", "(I)Z"⟩
def dkwX6_doesDeed_3 : List UInt8 := [172]
abbrev dktX6_doesDeed_3 : List UInt8 := dkwX6_doesDeed_3 ++ []
def dkwX6_doesDeed_2 : List UInt8 := [28, 29, 42, 42, 28, 4, 182, 1, 25, 29, 182, 1, 59, 154, 0, 7, 4, 167, 0, 4, 3, 182, 1, 105]
abbrev dktX6_doesDeed_2 : List UInt8 := dkwX6_doesDeed_2 ++ dktX6_doesDeed_3
def dkwX6_doesDeed_1 : List UInt8 := [180, 0, 7, 3, 46, 96, 112, 4, 100, 62, 29, 156, 0, 12, 42, 28, 4, 182, 1, 99, 167, 0, 28, 42]
abbrev dktX6_doesDeed_1 : List UInt8 := dkwX6_doesDeed_1 ++ dktX6_doesDeed_2
def dkwX6_doesDeed_0 : List UInt8 := [27, 42, 182, 1, 202, 160, 0, 5, 4, 172, 27, 4, 42, 180, 0, 7, 3, 46, 96, 108, 61, 27, 4, 42]
abbrev dktX6_doesDeed_0 : List UInt8 := dkwX6_doesDeed_0 ++ dktX6_doesDeed_1
theorem dksX6_doesDeed_0 : cX6_doesDeed.data.toList.drop 0 = dktX6_doesDeed_0 := by decide +kernel
theorem dksX6_doesDeed_1 : cX6_doesDeed.data.toList.drop 24 = dktX6_doesDeed_1 := dk_seg dksX6_doesDeed_0 24 rfl rfl
theorem dksX6_doesDeed_2 : cX6_doesDeed.data.toList.drop 48 = dktX6_doesDeed_2 := dk_seg dksX6_doesDeed_1 24 rfl rfl
theorem dksX6_doesDeed_3 : cX6_doesDeed.data.toList.drop 72 = dktX6_doesDeed_3 := dk_seg dksX6_doesDeed_2 24 rfl rfl
theorem dX6_doesDeed_0 : decode cX6_doesDeed 0 = .ok (.iload_n 1, 1) := dk_27 (dk_at dksX6_doesDeed_0 0 rfl rfl)
theorem dX6_doesDeed_1 : decode cX6_doesDeed 1 = .ok (.aload_n 0, 1) := dk_42 (dk_at dksX6_doesDeed_0 1 rfl rfl)
theorem dX6_doesDeed_2 : decode cX6_doesDeed 2 = .ok (.invokevirtual 458, 3) := dk_182 1 202 (dk_at dksX6_doesDeed_0 2 rfl rfl)
theorem dX6_doesDeed_5 : decode cX6_doesDeed 5 = .ok (.if_icmp .ne 5, 3) := dk_160 0 5 (dk_at dksX6_doesDeed_0 5 rfl rfl)
theorem dX6_doesDeed_8 : decode cX6_doesDeed 8 = .ok (.iconst 1, 1) := dk_4 (dk_at dksX6_doesDeed_0 8 rfl rfl)
theorem dX6_doesDeed_9 : decode cX6_doesDeed 9 = .ok (.ireturn, 1) := dk_172 (dk_at dksX6_doesDeed_0 9 rfl rfl)
theorem dX6_doesDeed_10 : decode cX6_doesDeed 10 = .ok (.iload_n 1, 1) := dk_27 (dk_at dksX6_doesDeed_0 10 rfl rfl)
theorem dX6_doesDeed_11 : decode cX6_doesDeed 11 = .ok (.iconst 1, 1) := dk_4 (dk_at dksX6_doesDeed_0 11 rfl rfl)
theorem dX6_doesDeed_12 : decode cX6_doesDeed 12 = .ok (.aload_n 0, 1) := dk_42 (dk_at dksX6_doesDeed_0 12 rfl rfl)
theorem dX6_doesDeed_13 : decode cX6_doesDeed 13 = .ok (.getfield 7, 3) := dk_180 0 7 (dk_at dksX6_doesDeed_0 13 rfl rfl)
theorem dX6_doesDeed_16 : decode cX6_doesDeed 16 = .ok (.iconst 0, 1) := dk_3 (dk_at dksX6_doesDeed_0 16 rfl rfl)
theorem dX6_doesDeed_17 : decode cX6_doesDeed 17 = .ok (.iaload, 1) := dk_46 (dk_at dksX6_doesDeed_0 17 rfl rfl)
theorem dX6_doesDeed_18 : decode cX6_doesDeed 18 = .ok (.iadd, 1) := dk_96 (dk_at dksX6_doesDeed_0 18 rfl rfl)
theorem dX6_doesDeed_19 : decode cX6_doesDeed 19 = .ok (.idiv, 1) := dk_108 (dk_at dksX6_doesDeed_0 19 rfl rfl)
theorem dX6_doesDeed_20 : decode cX6_doesDeed 20 = .ok (.istore_n 2, 1) := dk_61 (dk_at dksX6_doesDeed_0 20 rfl rfl)
theorem dX6_doesDeed_21 : decode cX6_doesDeed 21 = .ok (.iload_n 1, 1) := dk_27 (dk_at dksX6_doesDeed_0 21 rfl rfl)
theorem dX6_doesDeed_22 : decode cX6_doesDeed 22 = .ok (.iconst 1, 1) := dk_4 (dk_at dksX6_doesDeed_0 22 rfl rfl)
theorem dX6_doesDeed_23 : decode cX6_doesDeed 23 = .ok (.aload_n 0, 1) := dk_42 (dk_at dksX6_doesDeed_0 23 rfl rfl)
theorem dX6_doesDeed_24 : decode cX6_doesDeed 24 = .ok (.getfield 7, 3) := dk_180 0 7 (dk_at dksX6_doesDeed_1 0 rfl rfl)
theorem dX6_doesDeed_27 : decode cX6_doesDeed 27 = .ok (.iconst 0, 1) := dk_3 (dk_at dksX6_doesDeed_1 3 rfl rfl)
theorem dX6_doesDeed_28 : decode cX6_doesDeed 28 = .ok (.iaload, 1) := dk_46 (dk_at dksX6_doesDeed_1 4 rfl rfl)
theorem dX6_doesDeed_29 : decode cX6_doesDeed 29 = .ok (.iadd, 1) := dk_96 (dk_at dksX6_doesDeed_1 5 rfl rfl)
theorem dX6_doesDeed_30 : decode cX6_doesDeed 30 = .ok (.irem, 1) := dk_112 (dk_at dksX6_doesDeed_1 6 rfl rfl)
theorem dX6_doesDeed_31 : decode cX6_doesDeed 31 = .ok (.iconst 1, 1) := dk_4 (dk_at dksX6_doesDeed_1 7 rfl rfl)
theorem dX6_doesDeed_32 : decode cX6_doesDeed 32 = .ok (.isub, 1) := dk_100 (dk_at dksX6_doesDeed_1 8 rfl rfl)
theorem dX6_doesDeed_33 : decode cX6_doesDeed 33 = .ok (.istore_n 3, 1) := dk_62 (dk_at dksX6_doesDeed_1 9 rfl rfl)
theorem dX6_doesDeed_34 : decode cX6_doesDeed 34 = .ok (.iload_n 3, 1) := dk_29 (dk_at dksX6_doesDeed_1 10 rfl rfl)
theorem dX6_doesDeed_35 : decode cX6_doesDeed 35 = .ok (.ifCond .ge 12, 3) := dk_156 0 12 (dk_at dksX6_doesDeed_1 11 rfl rfl)
theorem dX6_doesDeed_38 : decode cX6_doesDeed 38 = .ok (.aload_n 0, 1) := dk_42 (dk_at dksX6_doesDeed_1 14 rfl rfl)
theorem dX6_doesDeed_39 : decode cX6_doesDeed 39 = .ok (.iload_n 2, 1) := dk_28 (dk_at dksX6_doesDeed_1 15 rfl rfl)
theorem dX6_doesDeed_40 : decode cX6_doesDeed 40 = .ok (.iconst 1, 1) := dk_4 (dk_at dksX6_doesDeed_1 16 rfl rfl)
theorem dX6_doesDeed_41 : decode cX6_doesDeed 41 = .ok (.invokevirtual 355, 3) := dk_182 1 99 (dk_at dksX6_doesDeed_1 17 rfl rfl)
theorem dX6_doesDeed_44 : decode cX6_doesDeed 44 = .ok (.goto 28, 3) := dk_167 0 28 (dk_at dksX6_doesDeed_1 20 rfl rfl)
theorem dX6_doesDeed_47 : decode cX6_doesDeed 47 = .ok (.aload_n 0, 1) := dk_42 (dk_at dksX6_doesDeed_1 23 rfl rfl)
theorem dX6_doesDeed_48 : decode cX6_doesDeed 48 = .ok (.iload_n 2, 1) := dk_28 (dk_at dksX6_doesDeed_2 0 rfl rfl)
theorem dX6_doesDeed_49 : decode cX6_doesDeed 49 = .ok (.iload_n 3, 1) := dk_29 (dk_at dksX6_doesDeed_2 1 rfl rfl)
theorem dX6_doesDeed_50 : decode cX6_doesDeed 50 = .ok (.aload_n 0, 1) := dk_42 (dk_at dksX6_doesDeed_2 2 rfl rfl)
theorem dX6_doesDeed_51 : decode cX6_doesDeed 51 = .ok (.aload_n 0, 1) := dk_42 (dk_at dksX6_doesDeed_2 3 rfl rfl)
theorem dX6_doesDeed_52 : decode cX6_doesDeed 52 = .ok (.iload_n 2, 1) := dk_28 (dk_at dksX6_doesDeed_2 4 rfl rfl)
theorem dX6_doesDeed_53 : decode cX6_doesDeed 53 = .ok (.iconst 1, 1) := dk_4 (dk_at dksX6_doesDeed_2 5 rfl rfl)
theorem dX6_doesDeed_54 : decode cX6_doesDeed 54 = .ok (.invokevirtual 281, 3) := dk_182 1 25 (dk_at dksX6_doesDeed_2 6 rfl rfl)
theorem dX6_doesDeed_57 : decode cX6_doesDeed 57 = .ok (.iload_n 3, 1) := dk_29 (dk_at dksX6_doesDeed_2 9 rfl rfl)
theorem dX6_doesDeed_58 : decode cX6_doesDeed 58 = .ok (.invokevirtual 315, 3) := dk_182 1 59 (dk_at dksX6_doesDeed_2 10 rfl rfl)
theorem dX6_doesDeed_61 : decode cX6_doesDeed 61 = .ok (.ifCond .ne 7, 3) := dk_154 0 7 (dk_at dksX6_doesDeed_2 13 rfl rfl)
theorem dX6_doesDeed_64 : decode cX6_doesDeed 64 = .ok (.iconst 1, 1) := dk_4 (dk_at dksX6_doesDeed_2 16 rfl rfl)
theorem dX6_doesDeed_65 : decode cX6_doesDeed 65 = .ok (.goto 4, 3) := dk_167 0 4 (dk_at dksX6_doesDeed_2 17 rfl rfl)
theorem dX6_doesDeed_68 : decode cX6_doesDeed 68 = .ok (.iconst 0, 1) := dk_3 (dk_at dksX6_doesDeed_2 20 rfl rfl)
theorem dX6_doesDeed_69 : decode cX6_doesDeed 69 = .ok (.invokevirtual 361, 3) := dk_182 1 105 (dk_at dksX6_doesDeed_2 21 rfl rfl)
theorem dX6_doesDeed_72 : decode cX6_doesDeed 72 = .ok (.ireturn, 1) := dk_172 (dk_at dksX6_doesDeed_3 0 rfl rfl)
abbrev cX6_moveOf : ByteArray := prog_16_method_152_code
def yX6_moveOf : MethodName := ⟨RX6, "moveOf", "(II)I"⟩
def dkwX6_moveOf_3 : List UInt8 := [108, 167, 0, 13, 29, 4, 42, 180, 0, 7, 3, 46, 96, 112, 182, 0, 95, 172]
abbrev dktX6_moveOf_3 : List UInt8 := dkwX6_moveOf_3 ++ []
def dkwX6_moveOf_2 : List UInt8 := [160, 0, 10, 42, 16, 6, 182, 0, 91, 172, 42, 28, 154, 0, 16, 29, 4, 42, 180, 0, 7, 3, 46, 96]
abbrev dktX6_moveOf_2 : List UInt8 := dkwX6_moveOf_2 ++ dktX6_moveOf_3
def dkwX6_moveOf_1 : List UInt8 := [182, 0, 91, 172, 42, 27, 182, 1, 219, 87, 42, 180, 0, 69, 3, 46, 62, 29, 42, 182, 1, 202]
abbrev dktX6_moveOf_1 : List UInt8 := dkwX6_moveOf_1 ++ dktX6_moveOf_2
def dkwX6_moveOf_0 : List UInt8 := [27, 133, 10, 20, 1, 217, 184, 1, 81, 153, 0, 13, 28, 133, 9, 10, 184, 1, 81, 154, 0, 9, 42, 4]
abbrev dktX6_moveOf_0 : List UInt8 := dkwX6_moveOf_0 ++ dktX6_moveOf_1
theorem dksX6_moveOf_0 : cX6_moveOf.data.toList.drop 0 = dktX6_moveOf_0 := by decide +kernel
theorem dksX6_moveOf_1 : cX6_moveOf.data.toList.drop 24 = dktX6_moveOf_1 := dk_seg dksX6_moveOf_0 24 rfl rfl
theorem dksX6_moveOf_2 : cX6_moveOf.data.toList.drop 46 = dktX6_moveOf_2 := dk_seg dksX6_moveOf_1 22 rfl rfl
theorem dksX6_moveOf_3 : cX6_moveOf.data.toList.drop 70 = dktX6_moveOf_3 := dk_seg dksX6_moveOf_2 24 rfl rfl
theorem dX6_moveOf_0 : decode cX6_moveOf 0 = .ok (.iload_n 1, 1) := dk_27 (dk_at dksX6_moveOf_0 0 rfl rfl)
theorem dX6_moveOf_1 : decode cX6_moveOf 1 = .ok (.i2l, 1) := dk_133 (dk_at dksX6_moveOf_0 1 rfl rfl)
theorem dX6_moveOf_2 : decode cX6_moveOf 2 = .ok (.lconst 1, 1) := dk_10 (dk_at dksX6_moveOf_0 2 rfl rfl)
theorem dX6_moveOf_3 : decode cX6_moveOf 3 = .ok (.ldc2_w 473, 3) := dk_20 1 217 (dk_at dksX6_moveOf_0 3 rfl rfl)
theorem dX6_moveOf_6 : decode cX6_moveOf 6 = .ok (.invokestatic 337, 3) := dk_184 1 81 (dk_at dksX6_moveOf_0 6 rfl rfl)
theorem dX6_moveOf_9 : decode cX6_moveOf 9 = .ok (.ifCond .eq 13, 3) := dk_153 0 13 (dk_at dksX6_moveOf_0 9 rfl rfl)
theorem dX6_moveOf_12 : decode cX6_moveOf 12 = .ok (.iload_n 2, 1) := dk_28 (dk_at dksX6_moveOf_0 12 rfl rfl)
theorem dX6_moveOf_13 : decode cX6_moveOf 13 = .ok (.i2l, 1) := dk_133 (dk_at dksX6_moveOf_0 13 rfl rfl)
theorem dX6_moveOf_14 : decode cX6_moveOf 14 = .ok (.lconst 0, 1) := dk_9 (dk_at dksX6_moveOf_0 14 rfl rfl)
theorem dX6_moveOf_15 : decode cX6_moveOf 15 = .ok (.lconst 1, 1) := dk_10 (dk_at dksX6_moveOf_0 15 rfl rfl)
theorem dX6_moveOf_16 : decode cX6_moveOf 16 = .ok (.invokestatic 337, 3) := dk_184 1 81 (dk_at dksX6_moveOf_0 16 rfl rfl)
theorem dX6_moveOf_19 : decode cX6_moveOf 19 = .ok (.ifCond .ne 9, 3) := dk_154 0 9 (dk_at dksX6_moveOf_0 19 rfl rfl)
theorem dX6_moveOf_22 : decode cX6_moveOf 22 = .ok (.aload_n 0, 1) := dk_42 (dk_at dksX6_moveOf_0 22 rfl rfl)
theorem dX6_moveOf_23 : decode cX6_moveOf 23 = .ok (.iconst 1, 1) := dk_4 (dk_at dksX6_moveOf_0 23 rfl rfl)
theorem dX6_moveOf_24 : decode cX6_moveOf 24 = .ok (.invokevirtual 91, 3) := dk_182 0 91 (dk_at dksX6_moveOf_1 0 rfl rfl)
theorem dX6_moveOf_27 : decode cX6_moveOf 27 = .ok (.ireturn, 1) := dk_172 (dk_at dksX6_moveOf_1 3 rfl rfl)
theorem dX6_moveOf_28 : decode cX6_moveOf 28 = .ok (.aload_n 0, 1) := dk_42 (dk_at dksX6_moveOf_1 4 rfl rfl)
theorem dX6_moveOf_29 : decode cX6_moveOf 29 = .ok (.iload_n 1, 1) := dk_27 (dk_at dksX6_moveOf_1 5 rfl rfl)
theorem dX6_moveOf_30 : decode cX6_moveOf 30 = .ok (.invokevirtual 475, 3) := dk_182 1 219 (dk_at dksX6_moveOf_1 6 rfl rfl)
theorem dX6_moveOf_33 : decode cX6_moveOf 33 = .ok (.pop, 1) := dk_87 (dk_at dksX6_moveOf_1 9 rfl rfl)
theorem dX6_moveOf_34 : decode cX6_moveOf 34 = .ok (.aload_n 0, 1) := dk_42 (dk_at dksX6_moveOf_1 10 rfl rfl)
theorem dX6_moveOf_35 : decode cX6_moveOf 35 = .ok (.getfield 69, 3) := dk_180 0 69 (dk_at dksX6_moveOf_1 11 rfl rfl)
theorem dX6_moveOf_38 : decode cX6_moveOf 38 = .ok (.iconst 0, 1) := dk_3 (dk_at dksX6_moveOf_1 14 rfl rfl)
theorem dX6_moveOf_39 : decode cX6_moveOf 39 = .ok (.iaload, 1) := dk_46 (dk_at dksX6_moveOf_1 15 rfl rfl)
theorem dX6_moveOf_40 : decode cX6_moveOf 40 = .ok (.istore_n 3, 1) := dk_62 (dk_at dksX6_moveOf_1 16 rfl rfl)
theorem dX6_moveOf_41 : decode cX6_moveOf 41 = .ok (.iload_n 3, 1) := dk_29 (dk_at dksX6_moveOf_1 17 rfl rfl)
theorem dX6_moveOf_42 : decode cX6_moveOf 42 = .ok (.aload_n 0, 1) := dk_42 (dk_at dksX6_moveOf_1 18 rfl rfl)
theorem dX6_moveOf_43 : decode cX6_moveOf 43 = .ok (.invokevirtual 458, 3) := dk_182 1 202 (dk_at dksX6_moveOf_1 19 rfl rfl)
theorem dX6_moveOf_46 : decode cX6_moveOf 46 = .ok (.if_icmp .ne 10, 3) := dk_160 0 10 (dk_at dksX6_moveOf_2 0 rfl rfl)
theorem dX6_moveOf_49 : decode cX6_moveOf 49 = .ok (.aload_n 0, 1) := dk_42 (dk_at dksX6_moveOf_2 3 rfl rfl)
theorem dX6_moveOf_50 : decode cX6_moveOf 50 = .ok (.bipush 6, 2) := dk_16 6 (dk_at dksX6_moveOf_2 4 rfl rfl)
theorem dX6_moveOf_52 : decode cX6_moveOf 52 = .ok (.invokevirtual 91, 3) := dk_182 0 91 (dk_at dksX6_moveOf_2 6 rfl rfl)
theorem dX6_moveOf_55 : decode cX6_moveOf 55 = .ok (.ireturn, 1) := dk_172 (dk_at dksX6_moveOf_2 9 rfl rfl)
theorem dX6_moveOf_56 : decode cX6_moveOf 56 = .ok (.aload_n 0, 1) := dk_42 (dk_at dksX6_moveOf_2 10 rfl rfl)
theorem dX6_moveOf_57 : decode cX6_moveOf 57 = .ok (.iload_n 2, 1) := dk_28 (dk_at dksX6_moveOf_2 11 rfl rfl)
theorem dX6_moveOf_58 : decode cX6_moveOf 58 = .ok (.ifCond .ne 16, 3) := dk_154 0 16 (dk_at dksX6_moveOf_2 12 rfl rfl)
theorem dX6_moveOf_61 : decode cX6_moveOf 61 = .ok (.iload_n 3, 1) := dk_29 (dk_at dksX6_moveOf_2 15 rfl rfl)
theorem dX6_moveOf_62 : decode cX6_moveOf 62 = .ok (.iconst 1, 1) := dk_4 (dk_at dksX6_moveOf_2 16 rfl rfl)
theorem dX6_moveOf_63 : decode cX6_moveOf 63 = .ok (.aload_n 0, 1) := dk_42 (dk_at dksX6_moveOf_2 17 rfl rfl)
theorem dX6_moveOf_64 : decode cX6_moveOf 64 = .ok (.getfield 7, 3) := dk_180 0 7 (dk_at dksX6_moveOf_2 18 rfl rfl)
theorem dX6_moveOf_67 : decode cX6_moveOf 67 = .ok (.iconst 0, 1) := dk_3 (dk_at dksX6_moveOf_2 21 rfl rfl)
theorem dX6_moveOf_68 : decode cX6_moveOf 68 = .ok (.iaload, 1) := dk_46 (dk_at dksX6_moveOf_2 22 rfl rfl)
theorem dX6_moveOf_69 : decode cX6_moveOf 69 = .ok (.iadd, 1) := dk_96 (dk_at dksX6_moveOf_2 23 rfl rfl)
theorem dX6_moveOf_70 : decode cX6_moveOf 70 = .ok (.idiv, 1) := dk_108 (dk_at dksX6_moveOf_3 0 rfl rfl)
theorem dX6_moveOf_71 : decode cX6_moveOf 71 = .ok (.goto 13, 3) := dk_167 0 13 (dk_at dksX6_moveOf_3 1 rfl rfl)
theorem dX6_moveOf_74 : decode cX6_moveOf 74 = .ok (.iload_n 3, 1) := dk_29 (dk_at dksX6_moveOf_3 4 rfl rfl)
theorem dX6_moveOf_75 : decode cX6_moveOf 75 = .ok (.iconst 1, 1) := dk_4 (dk_at dksX6_moveOf_3 5 rfl rfl)
theorem dX6_moveOf_76 : decode cX6_moveOf 76 = .ok (.aload_n 0, 1) := dk_42 (dk_at dksX6_moveOf_3 6 rfl rfl)
theorem dX6_moveOf_77 : decode cX6_moveOf 77 = .ok (.getfield 7, 3) := dk_180 0 7 (dk_at dksX6_moveOf_3 7 rfl rfl)
theorem dX6_moveOf_80 : decode cX6_moveOf 80 = .ok (.iconst 0, 1) := dk_3 (dk_at dksX6_moveOf_3 10 rfl rfl)
theorem dX6_moveOf_81 : decode cX6_moveOf 81 = .ok (.iaload, 1) := dk_46 (dk_at dksX6_moveOf_3 11 rfl rfl)
theorem dX6_moveOf_82 : decode cX6_moveOf 82 = .ok (.iadd, 1) := dk_96 (dk_at dksX6_moveOf_3 12 rfl rfl)
theorem dX6_moveOf_83 : decode cX6_moveOf 83 = .ok (.irem, 1) := dk_112 (dk_at dksX6_moveOf_3 13 rfl rfl)
theorem dX6_moveOf_84 : decode cX6_moveOf 84 = .ok (.invokevirtual 95, 3) := dk_182 0 95 (dk_at dksX6_moveOf_3 14 rfl rfl)
theorem dX6_moveOf_87 : decode cX6_moveOf 87 = .ok (.ireturn, 1) := dk_172 (dk_at dksX6_moveOf_3 17 rfl rfl)
abbrev cX6_copyFed : ByteArray := prog_16_method_153_code
def yX6_copyFed : MethodName := ⟨RX6, "copyFed", "(I)I"⟩
def dkwX6_copyFed_4 : List UInt8 := [167, 255, 216, 42, 42, 180, 0, 7, 6, 46, 182, 0, 95, 172]
abbrev dktX6_copyFed_4 : List UInt8 := dkwX6_copyFed_4 ++ []
def dkwX6_copyFed_3 : List UInt8 := [28, 96, 42, 28, 3, 182, 1, 25, 133, 42, 180, 0, 21, 27, 46, 184, 0, 109, 80, 132, 2, 1]
abbrev dktX6_copyFed_3 : List UInt8 := dkwX6_copyFed_3 ++ dktX6_copyFed_4
def dkwX6_copyFed_2 : List UInt8 := [182, 0, 91, 172, 3, 61, 28, 42, 180, 0, 7, 6, 46, 162, 0, 36, 42, 180, 0, 27, 16, 60, 27, 104]
abbrev dktX6_copyFed_2 : List UInt8 := dkwX6_copyFed_2 ++ dktX6_copyFed_3
def dkwX6_copyFed_1 : List UInt8 := [5, 182, 0, 91, 172, 42, 180, 0, 24, 27, 46, 42, 180, 0, 7, 6, 46, 162, 0, 9, 42, 6]
abbrev dktX6_copyFed_1 : List UInt8 := dkwX6_copyFed_1 ++ dktX6_copyFed_2
def dkwX6_copyFed_0 : List UInt8 := [27, 184, 0, 102, 154, 0, 9, 42, 4, 182, 0, 91, 172, 42, 180, 0, 24, 27, 46, 2, 160, 0, 9, 42]
abbrev dktX6_copyFed_0 : List UInt8 := dkwX6_copyFed_0 ++ dktX6_copyFed_1
theorem dksX6_copyFed_0 : cX6_copyFed.data.toList.drop 0 = dktX6_copyFed_0 := by decide +kernel
theorem dksX6_copyFed_1 : cX6_copyFed.data.toList.drop 24 = dktX6_copyFed_1 := dk_seg dksX6_copyFed_0 24 rfl rfl
theorem dksX6_copyFed_2 : cX6_copyFed.data.toList.drop 46 = dktX6_copyFed_2 := dk_seg dksX6_copyFed_1 22 rfl rfl
theorem dksX6_copyFed_3 : cX6_copyFed.data.toList.drop 70 = dktX6_copyFed_3 := dk_seg dksX6_copyFed_2 24 rfl rfl
theorem dksX6_copyFed_4 : cX6_copyFed.data.toList.drop 92 = dktX6_copyFed_4 := dk_seg dksX6_copyFed_3 22 rfl rfl
theorem dX6_copyFed_0 : decode cX6_copyFed 0 = .ok (.iload_n 1, 1) := dk_27 (dk_at dksX6_copyFed_0 0 rfl rfl)
theorem dX6_copyFed_1 : decode cX6_copyFed 1 = .ok (.invokestatic 102, 3) := dk_184 0 102 (dk_at dksX6_copyFed_0 1 rfl rfl)
theorem dX6_copyFed_4 : decode cX6_copyFed 4 = .ok (.ifCond .ne 9, 3) := dk_154 0 9 (dk_at dksX6_copyFed_0 4 rfl rfl)
theorem dX6_copyFed_7 : decode cX6_copyFed 7 = .ok (.aload_n 0, 1) := dk_42 (dk_at dksX6_copyFed_0 7 rfl rfl)
theorem dX6_copyFed_8 : decode cX6_copyFed 8 = .ok (.iconst 1, 1) := dk_4 (dk_at dksX6_copyFed_0 8 rfl rfl)
theorem dX6_copyFed_9 : decode cX6_copyFed 9 = .ok (.invokevirtual 91, 3) := dk_182 0 91 (dk_at dksX6_copyFed_0 9 rfl rfl)
theorem dX6_copyFed_12 : decode cX6_copyFed 12 = .ok (.ireturn, 1) := dk_172 (dk_at dksX6_copyFed_0 12 rfl rfl)
theorem dX6_copyFed_13 : decode cX6_copyFed 13 = .ok (.aload_n 0, 1) := dk_42 (dk_at dksX6_copyFed_0 13 rfl rfl)
theorem dX6_copyFed_14 : decode cX6_copyFed 14 = .ok (.getfield 24, 3) := dk_180 0 24 (dk_at dksX6_copyFed_0 14 rfl rfl)
theorem dX6_copyFed_17 : decode cX6_copyFed 17 = .ok (.iload_n 1, 1) := dk_27 (dk_at dksX6_copyFed_0 17 rfl rfl)
theorem dX6_copyFed_18 : decode cX6_copyFed 18 = .ok (.iaload, 1) := dk_46 (dk_at dksX6_copyFed_0 18 rfl rfl)
theorem dX6_copyFed_19 : decode cX6_copyFed 19 = .ok (.iconst (-1), 1) := dk_2 (dk_at dksX6_copyFed_0 19 rfl rfl)
theorem dX6_copyFed_20 : decode cX6_copyFed 20 = .ok (.if_icmp .ne 9, 3) := dk_160 0 9 (dk_at dksX6_copyFed_0 20 rfl rfl)
theorem dX6_copyFed_23 : decode cX6_copyFed 23 = .ok (.aload_n 0, 1) := dk_42 (dk_at dksX6_copyFed_0 23 rfl rfl)
theorem dX6_copyFed_24 : decode cX6_copyFed 24 = .ok (.iconst 2, 1) := dk_5 (dk_at dksX6_copyFed_1 0 rfl rfl)
theorem dX6_copyFed_25 : decode cX6_copyFed 25 = .ok (.invokevirtual 91, 3) := dk_182 0 91 (dk_at dksX6_copyFed_1 1 rfl rfl)
theorem dX6_copyFed_28 : decode cX6_copyFed 28 = .ok (.ireturn, 1) := dk_172 (dk_at dksX6_copyFed_1 4 rfl rfl)
theorem dX6_copyFed_29 : decode cX6_copyFed 29 = .ok (.aload_n 0, 1) := dk_42 (dk_at dksX6_copyFed_1 5 rfl rfl)
theorem dX6_copyFed_30 : decode cX6_copyFed 30 = .ok (.getfield 24, 3) := dk_180 0 24 (dk_at dksX6_copyFed_1 6 rfl rfl)
theorem dX6_copyFed_33 : decode cX6_copyFed 33 = .ok (.iload_n 1, 1) := dk_27 (dk_at dksX6_copyFed_1 9 rfl rfl)
theorem dX6_copyFed_34 : decode cX6_copyFed 34 = .ok (.iaload, 1) := dk_46 (dk_at dksX6_copyFed_1 10 rfl rfl)
theorem dX6_copyFed_35 : decode cX6_copyFed 35 = .ok (.aload_n 0, 1) := dk_42 (dk_at dksX6_copyFed_1 11 rfl rfl)
theorem dX6_copyFed_36 : decode cX6_copyFed 36 = .ok (.getfield 7, 3) := dk_180 0 7 (dk_at dksX6_copyFed_1 12 rfl rfl)
theorem dX6_copyFed_39 : decode cX6_copyFed 39 = .ok (.iconst 3, 1) := dk_6 (dk_at dksX6_copyFed_1 15 rfl rfl)
theorem dX6_copyFed_40 : decode cX6_copyFed 40 = .ok (.iaload, 1) := dk_46 (dk_at dksX6_copyFed_1 16 rfl rfl)
theorem dX6_copyFed_41 : decode cX6_copyFed 41 = .ok (.if_icmp .ge 9, 3) := dk_162 0 9 (dk_at dksX6_copyFed_1 17 rfl rfl)
theorem dX6_copyFed_44 : decode cX6_copyFed 44 = .ok (.aload_n 0, 1) := dk_42 (dk_at dksX6_copyFed_1 20 rfl rfl)
theorem dX6_copyFed_45 : decode cX6_copyFed 45 = .ok (.iconst 3, 1) := dk_6 (dk_at dksX6_copyFed_1 21 rfl rfl)
theorem dX6_copyFed_46 : decode cX6_copyFed 46 = .ok (.invokevirtual 91, 3) := dk_182 0 91 (dk_at dksX6_copyFed_2 0 rfl rfl)
theorem dX6_copyFed_49 : decode cX6_copyFed 49 = .ok (.ireturn, 1) := dk_172 (dk_at dksX6_copyFed_2 3 rfl rfl)
theorem dX6_copyFed_50 : decode cX6_copyFed 50 = .ok (.iconst 0, 1) := dk_3 (dk_at dksX6_copyFed_2 4 rfl rfl)
theorem dX6_copyFed_51 : decode cX6_copyFed 51 = .ok (.istore_n 2, 1) := dk_61 (dk_at dksX6_copyFed_2 5 rfl rfl)
theorem dX6_copyFed_52 : decode cX6_copyFed 52 = .ok (.iload_n 2, 1) := dk_28 (dk_at dksX6_copyFed_2 6 rfl rfl)
theorem dX6_copyFed_53 : decode cX6_copyFed 53 = .ok (.aload_n 0, 1) := dk_42 (dk_at dksX6_copyFed_2 7 rfl rfl)
theorem dX6_copyFed_54 : decode cX6_copyFed 54 = .ok (.getfield 7, 3) := dk_180 0 7 (dk_at dksX6_copyFed_2 8 rfl rfl)
theorem dX6_copyFed_57 : decode cX6_copyFed 57 = .ok (.iconst 3, 1) := dk_6 (dk_at dksX6_copyFed_2 11 rfl rfl)
theorem dX6_copyFed_58 : decode cX6_copyFed 58 = .ok (.iaload, 1) := dk_46 (dk_at dksX6_copyFed_2 12 rfl rfl)
theorem dX6_copyFed_59 : decode cX6_copyFed 59 = .ok (.if_icmp .ge 36, 3) := dk_162 0 36 (dk_at dksX6_copyFed_2 13 rfl rfl)
theorem dX6_copyFed_62 : decode cX6_copyFed 62 = .ok (.aload_n 0, 1) := dk_42 (dk_at dksX6_copyFed_2 16 rfl rfl)
theorem dX6_copyFed_63 : decode cX6_copyFed 63 = .ok (.getfield 27, 3) := dk_180 0 27 (dk_at dksX6_copyFed_2 17 rfl rfl)
theorem dX6_copyFed_66 : decode cX6_copyFed 66 = .ok (.bipush 60, 2) := dk_16 60 (dk_at dksX6_copyFed_2 20 rfl rfl)
theorem dX6_copyFed_68 : decode cX6_copyFed 68 = .ok (.iload_n 1, 1) := dk_27 (dk_at dksX6_copyFed_2 22 rfl rfl)
theorem dX6_copyFed_69 : decode cX6_copyFed 69 = .ok (.imul, 1) := dk_104 (dk_at dksX6_copyFed_2 23 rfl rfl)
theorem dX6_copyFed_70 : decode cX6_copyFed 70 = .ok (.iload_n 2, 1) := dk_28 (dk_at dksX6_copyFed_3 0 rfl rfl)
theorem dX6_copyFed_71 : decode cX6_copyFed 71 = .ok (.iadd, 1) := dk_96 (dk_at dksX6_copyFed_3 1 rfl rfl)
theorem dX6_copyFed_72 : decode cX6_copyFed 72 = .ok (.aload_n 0, 1) := dk_42 (dk_at dksX6_copyFed_3 2 rfl rfl)
theorem dX6_copyFed_73 : decode cX6_copyFed 73 = .ok (.iload_n 2, 1) := dk_28 (dk_at dksX6_copyFed_3 3 rfl rfl)
theorem dX6_copyFed_74 : decode cX6_copyFed 74 = .ok (.iconst 0, 1) := dk_3 (dk_at dksX6_copyFed_3 4 rfl rfl)
theorem dX6_copyFed_75 : decode cX6_copyFed 75 = .ok (.invokevirtual 281, 3) := dk_182 1 25 (dk_at dksX6_copyFed_3 5 rfl rfl)
theorem dX6_copyFed_78 : decode cX6_copyFed 78 = .ok (.i2l, 1) := dk_133 (dk_at dksX6_copyFed_3 8 rfl rfl)
theorem dX6_copyFed_79 : decode cX6_copyFed 79 = .ok (.aload_n 0, 1) := dk_42 (dk_at dksX6_copyFed_3 9 rfl rfl)
theorem dX6_copyFed_80 : decode cX6_copyFed 80 = .ok (.getfield 21, 3) := dk_180 0 21 (dk_at dksX6_copyFed_3 10 rfl rfl)
theorem dX6_copyFed_83 : decode cX6_copyFed 83 = .ok (.iload_n 1, 1) := dk_27 (dk_at dksX6_copyFed_3 13 rfl rfl)
theorem dX6_copyFed_84 : decode cX6_copyFed 84 = .ok (.iaload, 1) := dk_46 (dk_at dksX6_copyFed_3 14 rfl rfl)
theorem dX6_copyFed_85 : decode cX6_copyFed 85 = .ok (.invokestatic 109, 3) := dk_184 0 109 (dk_at dksX6_copyFed_3 15 rfl rfl)
theorem dX6_copyFed_88 : decode cX6_copyFed 88 = .ok (.lastore, 1) := dk_80 (dk_at dksX6_copyFed_3 18 rfl rfl)
theorem dX6_copyFed_89 : decode cX6_copyFed 89 = .ok (.iinc 2 1, 3) := dk_132 2 1 (dk_at dksX6_copyFed_3 19 rfl rfl)
theorem dX6_copyFed_92 : decode cX6_copyFed 92 = .ok (.goto (-40), 3) := dk_167 255 216 (dk_at dksX6_copyFed_4 0 rfl rfl)
theorem dX6_copyFed_95 : decode cX6_copyFed 95 = .ok (.aload_n 0, 1) := dk_42 (dk_at dksX6_copyFed_4 3 rfl rfl)
theorem dX6_copyFed_96 : decode cX6_copyFed 96 = .ok (.aload_n 0, 1) := dk_42 (dk_at dksX6_copyFed_4 4 rfl rfl)
theorem dX6_copyFed_97 : decode cX6_copyFed 97 = .ok (.getfield 7, 3) := dk_180 0 7 (dk_at dksX6_copyFed_4 5 rfl rfl)
theorem dX6_copyFed_100 : decode cX6_copyFed 100 = .ok (.iconst 3, 1) := dk_6 (dk_at dksX6_copyFed_4 8 rfl rfl)
theorem dX6_copyFed_101 : decode cX6_copyFed 101 = .ok (.iaload, 1) := dk_46 (dk_at dksX6_copyFed_4 9 rfl rfl)
theorem dX6_copyFed_102 : decode cX6_copyFed 102 = .ok (.invokevirtual 95, 3) := dk_182 0 95 (dk_at dksX6_copyFed_4 10 rfl rfl)
theorem dX6_copyFed_105 : decode cX6_copyFed 105 = .ok (.ireturn, 1) := dk_172 (dk_at dksX6_copyFed_4 13 rfl rfl)
abbrev cX6_live : ByteArray := prog_16_method_162_code
def yX6_live : MethodName := ⟨RX6, "live", "(I)I"⟩
def dkwX6_live_3 : List UInt8 := [42, 180, 1, 238, 182, 0, 95, 172]
abbrev dktX6_live_3 : List UInt8 := dkwX6_live_3 ++ []
def dkwX6_live_2 : List UInt8 := [42, 180, 0, 78, 28, 42, 180, 0, 75, 28, 46, 79, 132, 2, 1, 167, 255, 236, 42, 4, 181, 1, 255, 42]
abbrev dktX6_live_2 : List UInt8 := dkwX6_live_2 ++ dktX6_live_3
def dkwX6_live_1 : List UInt8 := [46, 2, 160, 0, 10, 42, 16, 6, 182, 0, 91, 172, 42, 27, 182, 1, 252, 3, 61, 28, 8, 162, 0, 21]
abbrev dktX6_live_1 : List UInt8 := dkwX6_live_1 ++ dktX6_live_2
def dkwX6_live_0 : List UInt8 := [27, 133, 9, 20, 1, 250, 184, 1, 81, 154, 0, 9, 42, 4, 182, 0, 91, 172, 42, 180, 0, 7, 16, 8]
abbrev dktX6_live_0 : List UInt8 := dkwX6_live_0 ++ dktX6_live_1
theorem dksX6_live_0 : cX6_live.data.toList.drop 0 = dktX6_live_0 := by decide +kernel
theorem dksX6_live_1 : cX6_live.data.toList.drop 24 = dktX6_live_1 := dk_seg dksX6_live_0 24 rfl rfl
theorem dksX6_live_2 : cX6_live.data.toList.drop 48 = dktX6_live_2 := dk_seg dksX6_live_1 24 rfl rfl
theorem dksX6_live_3 : cX6_live.data.toList.drop 72 = dktX6_live_3 := dk_seg dksX6_live_2 24 rfl rfl
theorem dX6_live_0 : decode cX6_live 0 = .ok (.iload_n 1, 1) := dk_27 (dk_at dksX6_live_0 0 rfl rfl)
theorem dX6_live_1 : decode cX6_live 1 = .ok (.i2l, 1) := dk_133 (dk_at dksX6_live_0 1 rfl rfl)
theorem dX6_live_2 : decode cX6_live 2 = .ok (.lconst 0, 1) := dk_9 (dk_at dksX6_live_0 2 rfl rfl)
theorem dX6_live_3 : decode cX6_live 3 = .ok (.ldc2_w 506, 3) := dk_20 1 250 (dk_at dksX6_live_0 3 rfl rfl)
theorem dX6_live_6 : decode cX6_live 6 = .ok (.invokestatic 337, 3) := dk_184 1 81 (dk_at dksX6_live_0 6 rfl rfl)
theorem dX6_live_9 : decode cX6_live 9 = .ok (.ifCond .ne 9, 3) := dk_154 0 9 (dk_at dksX6_live_0 9 rfl rfl)
theorem dX6_live_12 : decode cX6_live 12 = .ok (.aload_n 0, 1) := dk_42 (dk_at dksX6_live_0 12 rfl rfl)
theorem dX6_live_13 : decode cX6_live 13 = .ok (.iconst 1, 1) := dk_4 (dk_at dksX6_live_0 13 rfl rfl)
theorem dX6_live_14 : decode cX6_live 14 = .ok (.invokevirtual 91, 3) := dk_182 0 91 (dk_at dksX6_live_0 14 rfl rfl)
theorem dX6_live_17 : decode cX6_live 17 = .ok (.ireturn, 1) := dk_172 (dk_at dksX6_live_0 17 rfl rfl)
theorem dX6_live_18 : decode cX6_live 18 = .ok (.aload_n 0, 1) := dk_42 (dk_at dksX6_live_0 18 rfl rfl)
theorem dX6_live_19 : decode cX6_live 19 = .ok (.getfield 7, 3) := dk_180 0 7 (dk_at dksX6_live_0 19 rfl rfl)
theorem dX6_live_22 : decode cX6_live 22 = .ok (.bipush 8, 2) := dk_16 8 (dk_at dksX6_live_0 22 rfl rfl)
theorem dX6_live_24 : decode cX6_live 24 = .ok (.iaload, 1) := dk_46 (dk_at dksX6_live_1 0 rfl rfl)
theorem dX6_live_25 : decode cX6_live 25 = .ok (.iconst (-1), 1) := dk_2 (dk_at dksX6_live_1 1 rfl rfl)
theorem dX6_live_26 : decode cX6_live 26 = .ok (.if_icmp .ne 10, 3) := dk_160 0 10 (dk_at dksX6_live_1 2 rfl rfl)
theorem dX6_live_29 : decode cX6_live 29 = .ok (.aload_n 0, 1) := dk_42 (dk_at dksX6_live_1 5 rfl rfl)
theorem dX6_live_30 : decode cX6_live 30 = .ok (.bipush 6, 2) := dk_16 6 (dk_at dksX6_live_1 6 rfl rfl)
theorem dX6_live_32 : decode cX6_live 32 = .ok (.invokevirtual 91, 3) := dk_182 0 91 (dk_at dksX6_live_1 8 rfl rfl)
theorem dX6_live_35 : decode cX6_live 35 = .ok (.ireturn, 1) := dk_172 (dk_at dksX6_live_1 11 rfl rfl)
theorem dX6_live_36 : decode cX6_live 36 = .ok (.aload_n 0, 1) := dk_42 (dk_at dksX6_live_1 12 rfl rfl)
theorem dX6_live_37 : decode cX6_live 37 = .ok (.iload_n 1, 1) := dk_27 (dk_at dksX6_live_1 13 rfl rfl)
theorem dX6_live_38 : decode cX6_live 38 = .ok (.invokevirtual 508, 3) := dk_182 1 252 (dk_at dksX6_live_1 14 rfl rfl)
theorem dX6_live_41 : decode cX6_live 41 = .ok (.iconst 0, 1) := dk_3 (dk_at dksX6_live_1 17 rfl rfl)
theorem dX6_live_42 : decode cX6_live 42 = .ok (.istore_n 2, 1) := dk_61 (dk_at dksX6_live_1 18 rfl rfl)
theorem dX6_live_43 : decode cX6_live 43 = .ok (.iload_n 2, 1) := dk_28 (dk_at dksX6_live_1 19 rfl rfl)
theorem dX6_live_44 : decode cX6_live 44 = .ok (.iconst 5, 1) := dk_8 (dk_at dksX6_live_1 20 rfl rfl)
theorem dX6_live_45 : decode cX6_live 45 = .ok (.if_icmp .ge 21, 3) := dk_162 0 21 (dk_at dksX6_live_1 21 rfl rfl)
theorem dX6_live_48 : decode cX6_live 48 = .ok (.aload_n 0, 1) := dk_42 (dk_at dksX6_live_2 0 rfl rfl)
theorem dX6_live_49 : decode cX6_live 49 = .ok (.getfield 78, 3) := dk_180 0 78 (dk_at dksX6_live_2 1 rfl rfl)
theorem dX6_live_52 : decode cX6_live 52 = .ok (.iload_n 2, 1) := dk_28 (dk_at dksX6_live_2 4 rfl rfl)
theorem dX6_live_53 : decode cX6_live 53 = .ok (.aload_n 0, 1) := dk_42 (dk_at dksX6_live_2 5 rfl rfl)
theorem dX6_live_54 : decode cX6_live 54 = .ok (.getfield 75, 3) := dk_180 0 75 (dk_at dksX6_live_2 6 rfl rfl)
theorem dX6_live_57 : decode cX6_live 57 = .ok (.iload_n 2, 1) := dk_28 (dk_at dksX6_live_2 9 rfl rfl)
theorem dX6_live_58 : decode cX6_live 58 = .ok (.iaload, 1) := dk_46 (dk_at dksX6_live_2 10 rfl rfl)
theorem dX6_live_59 : decode cX6_live 59 = .ok (.iastore, 1) := dk_79 (dk_at dksX6_live_2 11 rfl rfl)
theorem dX6_live_60 : decode cX6_live 60 = .ok (.iinc 2 1, 3) := dk_132 2 1 (dk_at dksX6_live_2 12 rfl rfl)
theorem dX6_live_63 : decode cX6_live 63 = .ok (.goto (-20), 3) := dk_167 255 236 (dk_at dksX6_live_2 15 rfl rfl)
theorem dX6_live_66 : decode cX6_live 66 = .ok (.aload_n 0, 1) := dk_42 (dk_at dksX6_live_2 18 rfl rfl)
theorem dX6_live_67 : decode cX6_live 67 = .ok (.iconst 1, 1) := dk_4 (dk_at dksX6_live_2 19 rfl rfl)
theorem dX6_live_68 : decode cX6_live 68 = .ok (.putfield 511, 3) := dk_181 1 255 (dk_at dksX6_live_2 20 rfl rfl)
theorem dX6_live_71 : decode cX6_live 71 = .ok (.aload_n 0, 1) := dk_42 (dk_at dksX6_live_2 23 rfl rfl)
theorem dX6_live_72 : decode cX6_live 72 = .ok (.aload_n 0, 1) := dk_42 (dk_at dksX6_live_3 0 rfl rfl)
theorem dX6_live_73 : decode cX6_live 73 = .ok (.getfield 494, 3) := dk_180 1 238 (dk_at dksX6_live_3 1 rfl rfl)
theorem dX6_live_76 : decode cX6_live 76 = .ok (.invokevirtual 95, 3) := dk_182 0 95 (dk_at dksX6_live_3 4 rfl rfl)
theorem dX6_live_79 : decode cX6_live 79 = .ok (.ireturn, 1) := dk_172 (dk_at dksX6_live_3 7 rfl rfl)
abbrev cX6_lives : ByteArray := prog_16_method_161_code
def yX6_lives : MethodName := ⟨RX6, "lives", "(I)V"⟩
def dkwX6_lives_7 : List UInt8 := [180, 0, 7, 29, 7, 96, 46, 4, 96, 167, 0, 6, 28, 4, 96, 182, 1, 247, 61, 167, 255, 106, 177]
abbrev dktX6_lives_7 : List UInt8 := dkwX6_lives_7 ++ []
def dkwX6_lives_6 : List UInt8 := [100, 79, 42, 42, 180, 0, 7, 29, 46, 17, 8, 152, 161, 0, 24, 42, 29, 182, 1, 244, 154, 0, 16, 42]
abbrev dktX6_lives_6 : List UInt8 := dkwX6_lives_6 ++ dktX6_lives_7
def dkwX6_lives_5 : List UInt8 := [180, 0, 7, 29, 46, 16, 23, 160, 0, 19, 42, 180, 0, 72, 28, 42, 180, 0, 7, 29, 4, 96, 46, 4]
abbrev dktX6_lives_5 : List UInt8 := dkwX6_lives_5 ++ dktX6_lives_6
def dkwX6_lives_4 : List UInt8 := [180, 0, 75, 3, 92, 46, 42, 29, 182, 1, 241, 153, 0, 7, 3, 167, 0, 4, 4, 96, 79, 42]
abbrev dktX6_lives_4 : List UInt8 := dkwX6_lives_4 ++ dktX6_lives_5
def dkwX6_lives_3 : List UInt8 := [89, 180, 1, 238, 4, 96, 181, 1, 238, 42, 180, 0, 7, 29, 46, 16, 25, 160, 0, 4, 177, 42]
abbrev dktX6_lives_3 : List UInt8 := dkwX6_lives_3 ++ dktX6_lives_4
def dkwX6_lives_2 : List UInt8 := [17, 1, 44, 160, 0, 11, 42, 180, 0, 75, 7, 4, 79, 177, 17, 0, 134, 16, 6, 28, 104, 96, 62, 42]
abbrev dktX6_lives_2 : List UInt8 := dkwX6_lives_2 ++ dktX6_lives_3
def dkwX6_lives_1 : List UInt8 := [132, 2, 1, 167, 255, 241, 3, 61, 28, 42, 180, 0, 7, 16, 8, 46, 162, 0, 145, 42, 180, 1, 238]
abbrev dktX6_lives_1 : List UInt8 := dkwX6_lives_1 ++ dktX6_lives_2
def dkwX6_lives_0 : List UInt8 := [42, 27, 181, 1, 222, 42, 3, 181, 1, 238, 3, 61, 28, 8, 162, 0, 16, 42, 180, 0, 75, 28, 3, 79]
abbrev dktX6_lives_0 : List UInt8 := dkwX6_lives_0 ++ dktX6_lives_1
theorem dksX6_lives_0 : cX6_lives.data.toList.drop 0 = dktX6_lives_0 := by decide +kernel
theorem dksX6_lives_1 : cX6_lives.data.toList.drop 24 = dktX6_lives_1 := dk_seg dksX6_lives_0 24 rfl rfl
theorem dksX6_lives_2 : cX6_lives.data.toList.drop 47 = dktX6_lives_2 := dk_seg dksX6_lives_1 23 rfl rfl
theorem dksX6_lives_3 : cX6_lives.data.toList.drop 71 = dktX6_lives_3 := dk_seg dksX6_lives_2 24 rfl rfl
theorem dksX6_lives_4 : cX6_lives.data.toList.drop 93 = dktX6_lives_4 := dk_seg dksX6_lives_3 22 rfl rfl
theorem dksX6_lives_5 : cX6_lives.data.toList.drop 115 = dktX6_lives_5 := dk_seg dksX6_lives_4 22 rfl rfl
theorem dksX6_lives_6 : cX6_lives.data.toList.drop 139 = dktX6_lives_6 := dk_seg dksX6_lives_5 24 rfl rfl
theorem dksX6_lives_7 : cX6_lives.data.toList.drop 163 = dktX6_lives_7 := dk_seg dksX6_lives_6 24 rfl rfl
theorem dX6_lives_0 : decode cX6_lives 0 = .ok (.aload_n 0, 1) := dk_42 (dk_at dksX6_lives_0 0 rfl rfl)
theorem dX6_lives_1 : decode cX6_lives 1 = .ok (.iload_n 1, 1) := dk_27 (dk_at dksX6_lives_0 1 rfl rfl)
theorem dX6_lives_2 : decode cX6_lives 2 = .ok (.putfield 478, 3) := dk_181 1 222 (dk_at dksX6_lives_0 2 rfl rfl)
theorem dX6_lives_5 : decode cX6_lives 5 = .ok (.aload_n 0, 1) := dk_42 (dk_at dksX6_lives_0 5 rfl rfl)
theorem dX6_lives_6 : decode cX6_lives 6 = .ok (.iconst 0, 1) := dk_3 (dk_at dksX6_lives_0 6 rfl rfl)
theorem dX6_lives_7 : decode cX6_lives 7 = .ok (.putfield 494, 3) := dk_181 1 238 (dk_at dksX6_lives_0 7 rfl rfl)
theorem dX6_lives_10 : decode cX6_lives 10 = .ok (.iconst 0, 1) := dk_3 (dk_at dksX6_lives_0 10 rfl rfl)
theorem dX6_lives_11 : decode cX6_lives 11 = .ok (.istore_n 2, 1) := dk_61 (dk_at dksX6_lives_0 11 rfl rfl)
theorem dX6_lives_12 : decode cX6_lives 12 = .ok (.iload_n 2, 1) := dk_28 (dk_at dksX6_lives_0 12 rfl rfl)
theorem dX6_lives_13 : decode cX6_lives 13 = .ok (.iconst 5, 1) := dk_8 (dk_at dksX6_lives_0 13 rfl rfl)
theorem dX6_lives_14 : decode cX6_lives 14 = .ok (.if_icmp .ge 16, 3) := dk_162 0 16 (dk_at dksX6_lives_0 14 rfl rfl)
theorem dX6_lives_17 : decode cX6_lives 17 = .ok (.aload_n 0, 1) := dk_42 (dk_at dksX6_lives_0 17 rfl rfl)
theorem dX6_lives_18 : decode cX6_lives 18 = .ok (.getfield 75, 3) := dk_180 0 75 (dk_at dksX6_lives_0 18 rfl rfl)
theorem dX6_lives_21 : decode cX6_lives 21 = .ok (.iload_n 2, 1) := dk_28 (dk_at dksX6_lives_0 21 rfl rfl)
theorem dX6_lives_22 : decode cX6_lives 22 = .ok (.iconst 0, 1) := dk_3 (dk_at dksX6_lives_0 22 rfl rfl)
theorem dX6_lives_23 : decode cX6_lives 23 = .ok (.iastore, 1) := dk_79 (dk_at dksX6_lives_0 23 rfl rfl)
theorem dX6_lives_24 : decode cX6_lives 24 = .ok (.iinc 2 1, 3) := dk_132 2 1 (dk_at dksX6_lives_1 0 rfl rfl)
theorem dX6_lives_27 : decode cX6_lives 27 = .ok (.goto (-15), 3) := dk_167 255 241 (dk_at dksX6_lives_1 3 rfl rfl)
theorem dX6_lives_30 : decode cX6_lives 30 = .ok (.iconst 0, 1) := dk_3 (dk_at dksX6_lives_1 6 rfl rfl)
theorem dX6_lives_31 : decode cX6_lives 31 = .ok (.istore_n 2, 1) := dk_61 (dk_at dksX6_lives_1 7 rfl rfl)
theorem dX6_lives_32 : decode cX6_lives 32 = .ok (.iload_n 2, 1) := dk_28 (dk_at dksX6_lives_1 8 rfl rfl)
theorem dX6_lives_33 : decode cX6_lives 33 = .ok (.aload_n 0, 1) := dk_42 (dk_at dksX6_lives_1 9 rfl rfl)
theorem dX6_lives_34 : decode cX6_lives 34 = .ok (.getfield 7, 3) := dk_180 0 7 (dk_at dksX6_lives_1 10 rfl rfl)
theorem dX6_lives_37 : decode cX6_lives 37 = .ok (.bipush 8, 2) := dk_16 8 (dk_at dksX6_lives_1 13 rfl rfl)
theorem dX6_lives_39 : decode cX6_lives 39 = .ok (.iaload, 1) := dk_46 (dk_at dksX6_lives_1 15 rfl rfl)
theorem dX6_lives_40 : decode cX6_lives 40 = .ok (.if_icmp .ge 145, 3) := dk_162 0 145 (dk_at dksX6_lives_1 16 rfl rfl)
theorem dX6_lives_43 : decode cX6_lives 43 = .ok (.aload_n 0, 1) := dk_42 (dk_at dksX6_lives_1 19 rfl rfl)
theorem dX6_lives_44 : decode cX6_lives 44 = .ok (.getfield 494, 3) := dk_180 1 238 (dk_at dksX6_lives_1 20 rfl rfl)
theorem dX6_lives_47 : decode cX6_lives 47 = .ok (.sipush 300, 3) := dk_17 1 44 (dk_at dksX6_lives_2 0 rfl rfl)
theorem dX6_lives_50 : decode cX6_lives 50 = .ok (.if_icmp .ne 11, 3) := dk_160 0 11 (dk_at dksX6_lives_2 3 rfl rfl)
theorem dX6_lives_53 : decode cX6_lives 53 = .ok (.aload_n 0, 1) := dk_42 (dk_at dksX6_lives_2 6 rfl rfl)
theorem dX6_lives_54 : decode cX6_lives 54 = .ok (.getfield 75, 3) := dk_180 0 75 (dk_at dksX6_lives_2 7 rfl rfl)
theorem dX6_lives_57 : decode cX6_lives 57 = .ok (.iconst 4, 1) := dk_7 (dk_at dksX6_lives_2 10 rfl rfl)
theorem dX6_lives_58 : decode cX6_lives 58 = .ok (.iconst 1, 1) := dk_4 (dk_at dksX6_lives_2 11 rfl rfl)
theorem dX6_lives_59 : decode cX6_lives 59 = .ok (.iastore, 1) := dk_79 (dk_at dksX6_lives_2 12 rfl rfl)
theorem dX6_lives_60 : decode cX6_lives 60 = .ok (.return_, 1) := dk_177 (dk_at dksX6_lives_2 13 rfl rfl)
theorem dX6_lives_61 : decode cX6_lives 61 = .ok (.sipush 134, 3) := dk_17 0 134 (dk_at dksX6_lives_2 14 rfl rfl)
theorem dX6_lives_64 : decode cX6_lives 64 = .ok (.bipush 6, 2) := dk_16 6 (dk_at dksX6_lives_2 17 rfl rfl)
theorem dX6_lives_66 : decode cX6_lives 66 = .ok (.iload_n 2, 1) := dk_28 (dk_at dksX6_lives_2 19 rfl rfl)
theorem dX6_lives_67 : decode cX6_lives 67 = .ok (.imul, 1) := dk_104 (dk_at dksX6_lives_2 20 rfl rfl)
theorem dX6_lives_68 : decode cX6_lives 68 = .ok (.iadd, 1) := dk_96 (dk_at dksX6_lives_2 21 rfl rfl)
theorem dX6_lives_69 : decode cX6_lives 69 = .ok (.istore_n 3, 1) := dk_62 (dk_at dksX6_lives_2 22 rfl rfl)
theorem dX6_lives_70 : decode cX6_lives 70 = .ok (.aload_n 0, 1) := dk_42 (dk_at dksX6_lives_2 23 rfl rfl)
theorem dX6_lives_71 : decode cX6_lives 71 = .ok (.dup, 1) := dk_89 (dk_at dksX6_lives_3 0 rfl rfl)
theorem dX6_lives_72 : decode cX6_lives 72 = .ok (.getfield 494, 3) := dk_180 1 238 (dk_at dksX6_lives_3 1 rfl rfl)
theorem dX6_lives_75 : decode cX6_lives 75 = .ok (.iconst 1, 1) := dk_4 (dk_at dksX6_lives_3 4 rfl rfl)
theorem dX6_lives_76 : decode cX6_lives 76 = .ok (.iadd, 1) := dk_96 (dk_at dksX6_lives_3 5 rfl rfl)
theorem dX6_lives_77 : decode cX6_lives 77 = .ok (.putfield 494, 3) := dk_181 1 238 (dk_at dksX6_lives_3 6 rfl rfl)
theorem dX6_lives_80 : decode cX6_lives 80 = .ok (.aload_n 0, 1) := dk_42 (dk_at dksX6_lives_3 9 rfl rfl)
theorem dX6_lives_81 : decode cX6_lives 81 = .ok (.getfield 7, 3) := dk_180 0 7 (dk_at dksX6_lives_3 10 rfl rfl)
theorem dX6_lives_84 : decode cX6_lives 84 = .ok (.iload_n 3, 1) := dk_29 (dk_at dksX6_lives_3 13 rfl rfl)
theorem dX6_lives_85 : decode cX6_lives 85 = .ok (.iaload, 1) := dk_46 (dk_at dksX6_lives_3 14 rfl rfl)
theorem dX6_lives_86 : decode cX6_lives 86 = .ok (.bipush 25, 2) := dk_16 25 (dk_at dksX6_lives_3 15 rfl rfl)
theorem dX6_lives_88 : decode cX6_lives 88 = .ok (.if_icmp .ne 4, 3) := dk_160 0 4 (dk_at dksX6_lives_3 17 rfl rfl)
theorem dX6_lives_91 : decode cX6_lives 91 = .ok (.return_, 1) := dk_177 (dk_at dksX6_lives_3 20 rfl rfl)
theorem dX6_lives_92 : decode cX6_lives 92 = .ok (.aload_n 0, 1) := dk_42 (dk_at dksX6_lives_3 21 rfl rfl)
theorem dX6_lives_93 : decode cX6_lives 93 = .ok (.getfield 75, 3) := dk_180 0 75 (dk_at dksX6_lives_4 0 rfl rfl)
theorem dX6_lives_96 : decode cX6_lives 96 = .ok (.iconst 0, 1) := dk_3 (dk_at dksX6_lives_4 3 rfl rfl)
theorem dX6_lives_97 : decode cX6_lives 97 = .ok (.dup2, 1) := dk_92 (dk_at dksX6_lives_4 4 rfl rfl)
theorem dX6_lives_98 : decode cX6_lives 98 = .ok (.iaload, 1) := dk_46 (dk_at dksX6_lives_4 5 rfl rfl)
theorem dX6_lives_99 : decode cX6_lives 99 = .ok (.aload_n 0, 1) := dk_42 (dk_at dksX6_lives_4 6 rfl rfl)
theorem dX6_lives_100 : decode cX6_lives 100 = .ok (.iload_n 3, 1) := dk_29 (dk_at dksX6_lives_4 7 rfl rfl)
theorem dX6_lives_101 : decode cX6_lives 101 = .ok (.invokevirtual 497, 3) := dk_182 1 241 (dk_at dksX6_lives_4 8 rfl rfl)
theorem dX6_lives_104 : decode cX6_lives 104 = .ok (.ifCond .eq 7, 3) := dk_153 0 7 (dk_at dksX6_lives_4 11 rfl rfl)
theorem dX6_lives_107 : decode cX6_lives 107 = .ok (.iconst 0, 1) := dk_3 (dk_at dksX6_lives_4 14 rfl rfl)
theorem dX6_lives_108 : decode cX6_lives 108 = .ok (.goto 4, 3) := dk_167 0 4 (dk_at dksX6_lives_4 15 rfl rfl)
theorem dX6_lives_111 : decode cX6_lives 111 = .ok (.iconst 1, 1) := dk_4 (dk_at dksX6_lives_4 18 rfl rfl)
theorem dX6_lives_112 : decode cX6_lives 112 = .ok (.iadd, 1) := dk_96 (dk_at dksX6_lives_4 19 rfl rfl)
theorem dX6_lives_113 : decode cX6_lives 113 = .ok (.iastore, 1) := dk_79 (dk_at dksX6_lives_4 20 rfl rfl)
theorem dX6_lives_114 : decode cX6_lives 114 = .ok (.aload_n 0, 1) := dk_42 (dk_at dksX6_lives_4 21 rfl rfl)
theorem dX6_lives_115 : decode cX6_lives 115 = .ok (.getfield 7, 3) := dk_180 0 7 (dk_at dksX6_lives_5 0 rfl rfl)
theorem dX6_lives_118 : decode cX6_lives 118 = .ok (.iload_n 3, 1) := dk_29 (dk_at dksX6_lives_5 3 rfl rfl)
theorem dX6_lives_119 : decode cX6_lives 119 = .ok (.iaload, 1) := dk_46 (dk_at dksX6_lives_5 4 rfl rfl)
theorem dX6_lives_120 : decode cX6_lives 120 = .ok (.bipush 23, 2) := dk_16 23 (dk_at dksX6_lives_5 5 rfl rfl)
theorem dX6_lives_122 : decode cX6_lives 122 = .ok (.if_icmp .ne 19, 3) := dk_160 0 19 (dk_at dksX6_lives_5 7 rfl rfl)
theorem dX6_lives_125 : decode cX6_lives 125 = .ok (.aload_n 0, 1) := dk_42 (dk_at dksX6_lives_5 10 rfl rfl)
theorem dX6_lives_126 : decode cX6_lives 126 = .ok (.getfield 72, 3) := dk_180 0 72 (dk_at dksX6_lives_5 11 rfl rfl)
theorem dX6_lives_129 : decode cX6_lives 129 = .ok (.iload_n 2, 1) := dk_28 (dk_at dksX6_lives_5 14 rfl rfl)
theorem dX6_lives_130 : decode cX6_lives 130 = .ok (.aload_n 0, 1) := dk_42 (dk_at dksX6_lives_5 15 rfl rfl)
theorem dX6_lives_131 : decode cX6_lives 131 = .ok (.getfield 7, 3) := dk_180 0 7 (dk_at dksX6_lives_5 16 rfl rfl)
theorem dX6_lives_134 : decode cX6_lives 134 = .ok (.iload_n 3, 1) := dk_29 (dk_at dksX6_lives_5 19 rfl rfl)
theorem dX6_lives_135 : decode cX6_lives 135 = .ok (.iconst 1, 1) := dk_4 (dk_at dksX6_lives_5 20 rfl rfl)
theorem dX6_lives_136 : decode cX6_lives 136 = .ok (.iadd, 1) := dk_96 (dk_at dksX6_lives_5 21 rfl rfl)
theorem dX6_lives_137 : decode cX6_lives 137 = .ok (.iaload, 1) := dk_46 (dk_at dksX6_lives_5 22 rfl rfl)
theorem dX6_lives_138 : decode cX6_lives 138 = .ok (.iconst 1, 1) := dk_4 (dk_at dksX6_lives_5 23 rfl rfl)
theorem dX6_lives_139 : decode cX6_lives 139 = .ok (.isub, 1) := dk_100 (dk_at dksX6_lives_6 0 rfl rfl)
theorem dX6_lives_140 : decode cX6_lives 140 = .ok (.iastore, 1) := dk_79 (dk_at dksX6_lives_6 1 rfl rfl)
theorem dX6_lives_141 : decode cX6_lives 141 = .ok (.aload_n 0, 1) := dk_42 (dk_at dksX6_lives_6 2 rfl rfl)
theorem dX6_lives_142 : decode cX6_lives 142 = .ok (.aload_n 0, 1) := dk_42 (dk_at dksX6_lives_6 3 rfl rfl)
theorem dX6_lives_143 : decode cX6_lives 143 = .ok (.getfield 7, 3) := dk_180 0 7 (dk_at dksX6_lives_6 4 rfl rfl)
theorem dX6_lives_146 : decode cX6_lives 146 = .ok (.iload_n 3, 1) := dk_29 (dk_at dksX6_lives_6 7 rfl rfl)
theorem dX6_lives_147 : decode cX6_lives 147 = .ok (.iaload, 1) := dk_46 (dk_at dksX6_lives_6 8 rfl rfl)
theorem dX6_lives_148 : decode cX6_lives 148 = .ok (.sipush 2200, 3) := dk_17 8 152 (dk_at dksX6_lives_6 9 rfl rfl)
theorem dX6_lives_151 : decode cX6_lives 151 = .ok (.if_icmp .lt 24, 3) := dk_161 0 24 (dk_at dksX6_lives_6 12 rfl rfl)
theorem dX6_lives_154 : decode cX6_lives 154 = .ok (.aload_n 0, 1) := dk_42 (dk_at dksX6_lives_6 15 rfl rfl)
theorem dX6_lives_155 : decode cX6_lives 155 = .ok (.iload_n 3, 1) := dk_29 (dk_at dksX6_lives_6 16 rfl rfl)
theorem dX6_lives_156 : decode cX6_lives 156 = .ok (.invokevirtual 500, 3) := dk_182 1 244 (dk_at dksX6_lives_6 17 rfl rfl)
theorem dX6_lives_159 : decode cX6_lives 159 = .ok (.ifCond .ne 16, 3) := dk_154 0 16 (dk_at dksX6_lives_6 20 rfl rfl)
theorem dX6_lives_162 : decode cX6_lives 162 = .ok (.aload_n 0, 1) := dk_42 (dk_at dksX6_lives_6 23 rfl rfl)
theorem dX6_lives_163 : decode cX6_lives 163 = .ok (.getfield 7, 3) := dk_180 0 7 (dk_at dksX6_lives_7 0 rfl rfl)
theorem dX6_lives_166 : decode cX6_lives 166 = .ok (.iload_n 3, 1) := dk_29 (dk_at dksX6_lives_7 3 rfl rfl)
theorem dX6_lives_167 : decode cX6_lives 167 = .ok (.iconst 4, 1) := dk_7 (dk_at dksX6_lives_7 4 rfl rfl)
theorem dX6_lives_168 : decode cX6_lives 168 = .ok (.iadd, 1) := dk_96 (dk_at dksX6_lives_7 5 rfl rfl)
theorem dX6_lives_169 : decode cX6_lives 169 = .ok (.iaload, 1) := dk_46 (dk_at dksX6_lives_7 6 rfl rfl)
theorem dX6_lives_170 : decode cX6_lives 170 = .ok (.iconst 1, 1) := dk_4 (dk_at dksX6_lives_7 7 rfl rfl)
theorem dX6_lives_171 : decode cX6_lives 171 = .ok (.iadd, 1) := dk_96 (dk_at dksX6_lives_7 8 rfl rfl)
theorem dX6_lives_172 : decode cX6_lives 172 = .ok (.goto 6, 3) := dk_167 0 6 (dk_at dksX6_lives_7 9 rfl rfl)
theorem dX6_lives_175 : decode cX6_lives 175 = .ok (.iload_n 2, 1) := dk_28 (dk_at dksX6_lives_7 12 rfl rfl)
theorem dX6_lives_176 : decode cX6_lives 176 = .ok (.iconst 1, 1) := dk_4 (dk_at dksX6_lives_7 13 rfl rfl)
theorem dX6_lives_177 : decode cX6_lives 177 = .ok (.iadd, 1) := dk_96 (dk_at dksX6_lives_7 14 rfl rfl)
theorem dX6_lives_178 : decode cX6_lives 178 = .ok (.invokevirtual 503, 3) := dk_182 1 247 (dk_at dksX6_lives_7 15 rfl rfl)
theorem dX6_lives_181 : decode cX6_lives 181 = .ok (.istore_n 2, 1) := dk_61 (dk_at dksX6_lives_7 18 rfl rfl)
theorem dX6_lives_182 : decode cX6_lives 182 = .ok (.goto (-150), 3) := dk_167 255 106 (dk_at dksX6_lives_7 19 rfl rfl)
theorem dX6_lives_185 : decode cX6_lives 185 = .ok (.return_, 1) := dk_177 (dk_at dksX6_lives_7 22 rfl rfl)
abbrev cX6_does : ByteArray := prog_16_method_158_code
def yX6_does : MethodName := ⟨RX6, "does", "(I)Z"⟩
def dkwX6_does_3 : List UInt8 := [182, 1, 105, 172, 42, 28, 29, 3, 182, 1, 105, 172, 42, 182, 1, 109, 172, 42, 182, 1, 235, 172, 4, 172]
abbrev dktX6_does_3 : List UInt8 := dkwX6_does_3 ++ []
def dkwX6_does_2 : List UInt8 := [42, 28, 182, 1, 229, 172, 42, 182, 1, 232, 172, 42, 28, 29, 182, 1, 99, 172, 42, 28, 29, 4]
abbrev dktX6_does_2 : List UInt8 := dkwX6_does_2 ++ dktX6_does_3
def dkwX6_does_1 : List UInt8 := [170, 0, 0, 0, 0, 0, 0, 88, 0, 0, 0, 15, 0, 0, 0, 21, 0, 0, 0, 44, 0, 0, 0, 50, 0, 0, 0, 55, 0, 0, 0, 62, 0, 0, 0, 70, 0, 0, 0, 78, 0, 0, 0, 83]
abbrev dktX6_does_1 : List UInt8 := dkwX6_does_1 ++ dktX6_does_2
def dkwX6_does_0 : List UInt8 := [42, 180, 0, 7, 27, 4, 96, 46, 61, 42, 180, 0, 7, 27, 5, 96, 46, 62, 42, 180, 0, 7, 27, 46]
abbrev dktX6_does_0 : List UInt8 := dkwX6_does_0 ++ dktX6_does_1
theorem dksX6_does_0 : cX6_does.data.toList.drop 0 = dktX6_does_0 := by decide +kernel
theorem dksX6_does_1 : cX6_does.data.toList.drop 24 = dktX6_does_1 := dk_seg dksX6_does_0 24 rfl rfl
theorem dksX6_does_2 : cX6_does.data.toList.drop 68 = dktX6_does_2 := dk_seg dksX6_does_1 44 rfl rfl
theorem dksX6_does_3 : cX6_does.data.toList.drop 90 = dktX6_does_3 := dk_seg dksX6_does_2 22 rfl rfl
theorem dX6_does_0 : decode cX6_does 0 = .ok (.aload_n 0, 1) := dk_42 (dk_at dksX6_does_0 0 rfl rfl)
theorem dX6_does_1 : decode cX6_does 1 = .ok (.getfield 7, 3) := dk_180 0 7 (dk_at dksX6_does_0 1 rfl rfl)
theorem dX6_does_4 : decode cX6_does 4 = .ok (.iload_n 1, 1) := dk_27 (dk_at dksX6_does_0 4 rfl rfl)
theorem dX6_does_5 : decode cX6_does 5 = .ok (.iconst 1, 1) := dk_4 (dk_at dksX6_does_0 5 rfl rfl)
theorem dX6_does_6 : decode cX6_does 6 = .ok (.iadd, 1) := dk_96 (dk_at dksX6_does_0 6 rfl rfl)
theorem dX6_does_7 : decode cX6_does 7 = .ok (.iaload, 1) := dk_46 (dk_at dksX6_does_0 7 rfl rfl)
theorem dX6_does_8 : decode cX6_does 8 = .ok (.istore_n 2, 1) := dk_61 (dk_at dksX6_does_0 8 rfl rfl)
theorem dX6_does_9 : decode cX6_does 9 = .ok (.aload_n 0, 1) := dk_42 (dk_at dksX6_does_0 9 rfl rfl)
theorem dX6_does_10 : decode cX6_does 10 = .ok (.getfield 7, 3) := dk_180 0 7 (dk_at dksX6_does_0 10 rfl rfl)
theorem dX6_does_13 : decode cX6_does 13 = .ok (.iload_n 1, 1) := dk_27 (dk_at dksX6_does_0 13 rfl rfl)
theorem dX6_does_14 : decode cX6_does 14 = .ok (.iconst 2, 1) := dk_5 (dk_at dksX6_does_0 14 rfl rfl)
theorem dX6_does_15 : decode cX6_does 15 = .ok (.iadd, 1) := dk_96 (dk_at dksX6_does_0 15 rfl rfl)
theorem dX6_does_16 : decode cX6_does 16 = .ok (.iaload, 1) := dk_46 (dk_at dksX6_does_0 16 rfl rfl)
theorem dX6_does_17 : decode cX6_does 17 = .ok (.istore_n 3, 1) := dk_62 (dk_at dksX6_does_0 17 rfl rfl)
theorem dX6_does_18 : decode cX6_does 18 = .ok (.aload_n 0, 1) := dk_42 (dk_at dksX6_does_0 18 rfl rfl)
theorem dX6_does_19 : decode cX6_does 19 = .ok (.getfield 7, 3) := dk_180 0 7 (dk_at dksX6_does_0 19 rfl rfl)
theorem dX6_does_22 : decode cX6_does 22 = .ok (.iload_n 1, 1) := dk_27 (dk_at dksX6_does_0 22 rfl rfl)
theorem dX6_does_23 : decode cX6_does 23 = .ok (.iaload, 1) := dk_46 (dk_at dksX6_does_0 23 rfl rfl)
theorem dX6_does_24 : decode cX6_does 24 = .ok (.tableswitch 88 15 21 #[44, 50, 55, 62, 70, 78, 83], 44) := by decide +kernel
theorem dX6_does_68 : decode cX6_does 68 = .ok (.aload_n 0, 1) := dk_42 (dk_at dksX6_does_2 0 rfl rfl)
theorem dX6_does_69 : decode cX6_does 69 = .ok (.iload_n 2, 1) := dk_28 (dk_at dksX6_does_2 1 rfl rfl)
theorem dX6_does_70 : decode cX6_does 70 = .ok (.invokevirtual 485, 3) := dk_182 1 229 (dk_at dksX6_does_2 2 rfl rfl)
theorem dX6_does_73 : decode cX6_does 73 = .ok (.ireturn, 1) := dk_172 (dk_at dksX6_does_2 5 rfl rfl)
theorem dX6_does_74 : decode cX6_does 74 = .ok (.aload_n 0, 1) := dk_42 (dk_at dksX6_does_2 6 rfl rfl)
theorem dX6_does_75 : decode cX6_does 75 = .ok (.invokevirtual 488, 3) := dk_182 1 232 (dk_at dksX6_does_2 7 rfl rfl)
theorem dX6_does_78 : decode cX6_does 78 = .ok (.ireturn, 1) := dk_172 (dk_at dksX6_does_2 10 rfl rfl)
theorem dX6_does_79 : decode cX6_does 79 = .ok (.aload_n 0, 1) := dk_42 (dk_at dksX6_does_2 11 rfl rfl)
theorem dX6_does_80 : decode cX6_does 80 = .ok (.iload_n 2, 1) := dk_28 (dk_at dksX6_does_2 12 rfl rfl)
theorem dX6_does_81 : decode cX6_does 81 = .ok (.iload_n 3, 1) := dk_29 (dk_at dksX6_does_2 13 rfl rfl)
theorem dX6_does_82 : decode cX6_does 82 = .ok (.invokevirtual 355, 3) := dk_182 1 99 (dk_at dksX6_does_2 14 rfl rfl)
theorem dX6_does_85 : decode cX6_does 85 = .ok (.ireturn, 1) := dk_172 (dk_at dksX6_does_2 17 rfl rfl)
theorem dX6_does_86 : decode cX6_does 86 = .ok (.aload_n 0, 1) := dk_42 (dk_at dksX6_does_2 18 rfl rfl)
theorem dX6_does_87 : decode cX6_does 87 = .ok (.iload_n 2, 1) := dk_28 (dk_at dksX6_does_2 19 rfl rfl)
theorem dX6_does_88 : decode cX6_does 88 = .ok (.iload_n 3, 1) := dk_29 (dk_at dksX6_does_2 20 rfl rfl)
theorem dX6_does_89 : decode cX6_does 89 = .ok (.iconst 1, 1) := dk_4 (dk_at dksX6_does_2 21 rfl rfl)
theorem dX6_does_90 : decode cX6_does 90 = .ok (.invokevirtual 361, 3) := dk_182 1 105 (dk_at dksX6_does_3 0 rfl rfl)
theorem dX6_does_93 : decode cX6_does 93 = .ok (.ireturn, 1) := dk_172 (dk_at dksX6_does_3 3 rfl rfl)
theorem dX6_does_94 : decode cX6_does 94 = .ok (.aload_n 0, 1) := dk_42 (dk_at dksX6_does_3 4 rfl rfl)
theorem dX6_does_95 : decode cX6_does 95 = .ok (.iload_n 2, 1) := dk_28 (dk_at dksX6_does_3 5 rfl rfl)
theorem dX6_does_96 : decode cX6_does 96 = .ok (.iload_n 3, 1) := dk_29 (dk_at dksX6_does_3 6 rfl rfl)
theorem dX6_does_97 : decode cX6_does 97 = .ok (.iconst 0, 1) := dk_3 (dk_at dksX6_does_3 7 rfl rfl)
theorem dX6_does_98 : decode cX6_does 98 = .ok (.invokevirtual 361, 3) := dk_182 1 105 (dk_at dksX6_does_3 8 rfl rfl)
theorem dX6_does_101 : decode cX6_does 101 = .ok (.ireturn, 1) := dk_172 (dk_at dksX6_does_3 11 rfl rfl)
theorem dX6_does_102 : decode cX6_does 102 = .ok (.aload_n 0, 1) := dk_42 (dk_at dksX6_does_3 12 rfl rfl)
theorem dX6_does_103 : decode cX6_does 103 = .ok (.invokevirtual 365, 3) := dk_182 1 109 (dk_at dksX6_does_3 13 rfl rfl)
theorem dX6_does_106 : decode cX6_does 106 = .ok (.ireturn, 1) := dk_172 (dk_at dksX6_does_3 16 rfl rfl)
theorem dX6_does_107 : decode cX6_does 107 = .ok (.aload_n 0, 1) := dk_42 (dk_at dksX6_does_3 17 rfl rfl)
theorem dX6_does_108 : decode cX6_does 108 = .ok (.invokevirtual 491, 3) := dk_182 1 235 (dk_at dksX6_does_3 18 rfl rfl)
theorem dX6_does_111 : decode cX6_does 111 = .ok (.ireturn, 1) := dk_172 (dk_at dksX6_does_3 21 rfl rfl)
theorem dX6_does_112 : decode cX6_does 112 = .ok (.iconst 1, 1) := dk_4 (dk_at dksX6_does_3 22 rfl rfl)
theorem dX6_does_113 : decode cX6_does 113 = .ok (.ireturn, 1) := dk_172 (dk_at dksX6_does_3 23 rfl rfl)
abbrev cX6_sitsBy : ByteArray := prog_16_method_155_code
def yX6_sitsBy : MethodName := ⟨RX6, "sitsBy", "(I)Z"⟩
def dkwX6_sitsBy_1 : List UInt8 := [180, 0, 75, 4, 92, 46, 4, 96, 79, 4, 172]
abbrev dktX6_sitsBy_1 : List UInt8 := dkwX6_sitsBy_1 ++ []
def dkwX6_sitsBy_0 : List UInt8 := [42, 180, 0, 7, 16, 7, 46, 17, 39, 15, 160, 0, 5, 3, 172, 42, 27, 182, 1, 85, 87, 42]
abbrev dktX6_sitsBy_0 : List UInt8 := dkwX6_sitsBy_0 ++ dktX6_sitsBy_1
theorem dksX6_sitsBy_0 : cX6_sitsBy.data.toList.drop 0 = dktX6_sitsBy_0 := by decide +kernel
theorem dksX6_sitsBy_1 : cX6_sitsBy.data.toList.drop 22 = dktX6_sitsBy_1 := dk_seg dksX6_sitsBy_0 22 rfl rfl
theorem dX6_sitsBy_0 : decode cX6_sitsBy 0 = .ok (.aload_n 0, 1) := dk_42 (dk_at dksX6_sitsBy_0 0 rfl rfl)
theorem dX6_sitsBy_1 : decode cX6_sitsBy 1 = .ok (.getfield 7, 3) := dk_180 0 7 (dk_at dksX6_sitsBy_0 1 rfl rfl)
theorem dX6_sitsBy_4 : decode cX6_sitsBy 4 = .ok (.bipush 7, 2) := dk_16 7 (dk_at dksX6_sitsBy_0 4 rfl rfl)
theorem dX6_sitsBy_6 : decode cX6_sitsBy 6 = .ok (.iaload, 1) := dk_46 (dk_at dksX6_sitsBy_0 6 rfl rfl)
theorem dX6_sitsBy_7 : decode cX6_sitsBy 7 = .ok (.sipush 9999, 3) := dk_17 39 15 (dk_at dksX6_sitsBy_0 7 rfl rfl)
theorem dX6_sitsBy_10 : decode cX6_sitsBy 10 = .ok (.if_icmp .ne 5, 3) := dk_160 0 5 (dk_at dksX6_sitsBy_0 10 rfl rfl)
theorem dX6_sitsBy_13 : decode cX6_sitsBy 13 = .ok (.iconst 0, 1) := dk_3 (dk_at dksX6_sitsBy_0 13 rfl rfl)
theorem dX6_sitsBy_14 : decode cX6_sitsBy 14 = .ok (.ireturn, 1) := dk_172 (dk_at dksX6_sitsBy_0 14 rfl rfl)
theorem dX6_sitsBy_15 : decode cX6_sitsBy 15 = .ok (.aload_n 0, 1) := dk_42 (dk_at dksX6_sitsBy_0 15 rfl rfl)
theorem dX6_sitsBy_16 : decode cX6_sitsBy 16 = .ok (.iload_n 1, 1) := dk_27 (dk_at dksX6_sitsBy_0 16 rfl rfl)
theorem dX6_sitsBy_17 : decode cX6_sitsBy 17 = .ok (.invokevirtual 341, 3) := dk_182 1 85 (dk_at dksX6_sitsBy_0 17 rfl rfl)
theorem dX6_sitsBy_20 : decode cX6_sitsBy 20 = .ok (.pop, 1) := dk_87 (dk_at dksX6_sitsBy_0 20 rfl rfl)
theorem dX6_sitsBy_21 : decode cX6_sitsBy 21 = .ok (.aload_n 0, 1) := dk_42 (dk_at dksX6_sitsBy_0 21 rfl rfl)
theorem dX6_sitsBy_22 : decode cX6_sitsBy 22 = .ok (.getfield 75, 3) := dk_180 0 75 (dk_at dksX6_sitsBy_1 0 rfl rfl)
theorem dX6_sitsBy_25 : decode cX6_sitsBy 25 = .ok (.iconst 1, 1) := dk_4 (dk_at dksX6_sitsBy_1 3 rfl rfl)
theorem dX6_sitsBy_26 : decode cX6_sitsBy 26 = .ok (.dup2, 1) := dk_92 (dk_at dksX6_sitsBy_1 4 rfl rfl)
theorem dX6_sitsBy_27 : decode cX6_sitsBy 27 = .ok (.iaload, 1) := dk_46 (dk_at dksX6_sitsBy_1 5 rfl rfl)
theorem dX6_sitsBy_28 : decode cX6_sitsBy 28 = .ok (.iconst 1, 1) := dk_4 (dk_at dksX6_sitsBy_1 6 rfl rfl)
theorem dX6_sitsBy_29 : decode cX6_sitsBy 29 = .ok (.iadd, 1) := dk_96 (dk_at dksX6_sitsBy_1 7 rfl rfl)
theorem dX6_sitsBy_30 : decode cX6_sitsBy 30 = .ok (.iastore, 1) := dk_79 (dk_at dksX6_sitsBy_1 8 rfl rfl)
theorem dX6_sitsBy_31 : decode cX6_sitsBy 31 = .ok (.iconst 1, 1) := dk_4 (dk_at dksX6_sitsBy_1 9 rfl rfl)
theorem dX6_sitsBy_32 : decode cX6_sitsBy 32 = .ok (.ireturn, 1) := dk_172 (dk_at dksX6_sitsBy_1 10 rfl rfl)
abbrev cX6_termsBy : ByteArray := prog_16_method_156_code
def yX6_termsBy : MethodName := ⟨RX6, "termsBy", "()Z"⟩
def dkwX6_termsBy_2 : List UInt8 := [42, 180, 0, 75, 6, 92, 46, 27, 42, 5, 182, 1, 34, 126, 184, 1, 88, 96, 79, 4, 172]
abbrev dktX6_termsBy_2 : List UInt8 := dkwX6_termsBy_2 ++ []
def dkwX6_termsBy_1 : List UInt8 := [92, 46, 27, 184, 1, 88, 96, 79, 42, 180, 0, 75, 5, 92, 46, 42, 182, 1, 94, 184, 1, 88, 96, 79]
abbrev dktX6_termsBy_1 : List UInt8 := dkwX6_termsBy_1 ++ dktX6_termsBy_2
def dkwX6_termsBy_0 : List UInt8 := [42, 3, 182, 1, 34, 60, 27, 153, 0, 10, 42, 182, 1, 91, 153, 0, 5, 3, 172, 42, 180, 0, 75, 4]
abbrev dktX6_termsBy_0 : List UInt8 := dkwX6_termsBy_0 ++ dktX6_termsBy_1
theorem dksX6_termsBy_0 : cX6_termsBy.data.toList.drop 0 = dktX6_termsBy_0 := by decide +kernel
theorem dksX6_termsBy_1 : cX6_termsBy.data.toList.drop 24 = dktX6_termsBy_1 := dk_seg dksX6_termsBy_0 24 rfl rfl
theorem dksX6_termsBy_2 : cX6_termsBy.data.toList.drop 48 = dktX6_termsBy_2 := dk_seg dksX6_termsBy_1 24 rfl rfl
theorem dX6_termsBy_0 : decode cX6_termsBy 0 = .ok (.aload_n 0, 1) := dk_42 (dk_at dksX6_termsBy_0 0 rfl rfl)
theorem dX6_termsBy_1 : decode cX6_termsBy 1 = .ok (.iconst 0, 1) := dk_3 (dk_at dksX6_termsBy_0 1 rfl rfl)
theorem dX6_termsBy_2 : decode cX6_termsBy 2 = .ok (.invokevirtual 290, 3) := dk_182 1 34 (dk_at dksX6_termsBy_0 2 rfl rfl)
theorem dX6_termsBy_5 : decode cX6_termsBy 5 = .ok (.istore_n 1, 1) := dk_60 (dk_at dksX6_termsBy_0 5 rfl rfl)
theorem dX6_termsBy_6 : decode cX6_termsBy 6 = .ok (.iload_n 1, 1) := dk_27 (dk_at dksX6_termsBy_0 6 rfl rfl)
theorem dX6_termsBy_7 : decode cX6_termsBy 7 = .ok (.ifCond .eq 10, 3) := dk_153 0 10 (dk_at dksX6_termsBy_0 7 rfl rfl)
theorem dX6_termsBy_10 : decode cX6_termsBy 10 = .ok (.aload_n 0, 1) := dk_42 (dk_at dksX6_termsBy_0 10 rfl rfl)
theorem dX6_termsBy_11 : decode cX6_termsBy 11 = .ok (.invokevirtual 347, 3) := dk_182 1 91 (dk_at dksX6_termsBy_0 11 rfl rfl)
theorem dX6_termsBy_14 : decode cX6_termsBy 14 = .ok (.ifCond .eq 5, 3) := dk_153 0 5 (dk_at dksX6_termsBy_0 14 rfl rfl)
theorem dX6_termsBy_17 : decode cX6_termsBy 17 = .ok (.iconst 0, 1) := dk_3 (dk_at dksX6_termsBy_0 17 rfl rfl)
theorem dX6_termsBy_18 : decode cX6_termsBy 18 = .ok (.ireturn, 1) := dk_172 (dk_at dksX6_termsBy_0 18 rfl rfl)
theorem dX6_termsBy_19 : decode cX6_termsBy 19 = .ok (.aload_n 0, 1) := dk_42 (dk_at dksX6_termsBy_0 19 rfl rfl)
theorem dX6_termsBy_20 : decode cX6_termsBy 20 = .ok (.getfield 75, 3) := dk_180 0 75 (dk_at dksX6_termsBy_0 20 rfl rfl)
theorem dX6_termsBy_23 : decode cX6_termsBy 23 = .ok (.iconst 1, 1) := dk_4 (dk_at dksX6_termsBy_0 23 rfl rfl)
theorem dX6_termsBy_24 : decode cX6_termsBy 24 = .ok (.dup2, 1) := dk_92 (dk_at dksX6_termsBy_1 0 rfl rfl)
theorem dX6_termsBy_25 : decode cX6_termsBy 25 = .ok (.iaload, 1) := dk_46 (dk_at dksX6_termsBy_1 1 rfl rfl)
theorem dX6_termsBy_26 : decode cX6_termsBy 26 = .ok (.iload_n 1, 1) := dk_27 (dk_at dksX6_termsBy_1 2 rfl rfl)
theorem dX6_termsBy_27 : decode cX6_termsBy 27 = .ok (.invokestatic 344, 3) := dk_184 1 88 (dk_at dksX6_termsBy_1 3 rfl rfl)
theorem dX6_termsBy_30 : decode cX6_termsBy 30 = .ok (.iadd, 1) := dk_96 (dk_at dksX6_termsBy_1 6 rfl rfl)
theorem dX6_termsBy_31 : decode cX6_termsBy 31 = .ok (.iastore, 1) := dk_79 (dk_at dksX6_termsBy_1 7 rfl rfl)
theorem dX6_termsBy_32 : decode cX6_termsBy 32 = .ok (.aload_n 0, 1) := dk_42 (dk_at dksX6_termsBy_1 8 rfl rfl)
theorem dX6_termsBy_33 : decode cX6_termsBy 33 = .ok (.getfield 75, 3) := dk_180 0 75 (dk_at dksX6_termsBy_1 9 rfl rfl)
theorem dX6_termsBy_36 : decode cX6_termsBy 36 = .ok (.iconst 2, 1) := dk_5 (dk_at dksX6_termsBy_1 12 rfl rfl)
theorem dX6_termsBy_37 : decode cX6_termsBy 37 = .ok (.dup2, 1) := dk_92 (dk_at dksX6_termsBy_1 13 rfl rfl)
theorem dX6_termsBy_38 : decode cX6_termsBy 38 = .ok (.iaload, 1) := dk_46 (dk_at dksX6_termsBy_1 14 rfl rfl)
theorem dX6_termsBy_39 : decode cX6_termsBy 39 = .ok (.aload_n 0, 1) := dk_42 (dk_at dksX6_termsBy_1 15 rfl rfl)
theorem dX6_termsBy_40 : decode cX6_termsBy 40 = .ok (.invokevirtual 350, 3) := dk_182 1 94 (dk_at dksX6_termsBy_1 16 rfl rfl)
theorem dX6_termsBy_43 : decode cX6_termsBy 43 = .ok (.invokestatic 344, 3) := dk_184 1 88 (dk_at dksX6_termsBy_1 19 rfl rfl)
theorem dX6_termsBy_46 : decode cX6_termsBy 46 = .ok (.iadd, 1) := dk_96 (dk_at dksX6_termsBy_1 22 rfl rfl)
theorem dX6_termsBy_47 : decode cX6_termsBy 47 = .ok (.iastore, 1) := dk_79 (dk_at dksX6_termsBy_1 23 rfl rfl)
theorem dX6_termsBy_48 : decode cX6_termsBy 48 = .ok (.aload_n 0, 1) := dk_42 (dk_at dksX6_termsBy_2 0 rfl rfl)
theorem dX6_termsBy_49 : decode cX6_termsBy 49 = .ok (.getfield 75, 3) := dk_180 0 75 (dk_at dksX6_termsBy_2 1 rfl rfl)
theorem dX6_termsBy_52 : decode cX6_termsBy 52 = .ok (.iconst 3, 1) := dk_6 (dk_at dksX6_termsBy_2 4 rfl rfl)
theorem dX6_termsBy_53 : decode cX6_termsBy 53 = .ok (.dup2, 1) := dk_92 (dk_at dksX6_termsBy_2 5 rfl rfl)
theorem dX6_termsBy_54 : decode cX6_termsBy 54 = .ok (.iaload, 1) := dk_46 (dk_at dksX6_termsBy_2 6 rfl rfl)
theorem dX6_termsBy_55 : decode cX6_termsBy 55 = .ok (.iload_n 1, 1) := dk_27 (dk_at dksX6_termsBy_2 7 rfl rfl)
theorem dX6_termsBy_56 : decode cX6_termsBy 56 = .ok (.aload_n 0, 1) := dk_42 (dk_at dksX6_termsBy_2 8 rfl rfl)
theorem dX6_termsBy_57 : decode cX6_termsBy 57 = .ok (.iconst 2, 1) := dk_5 (dk_at dksX6_termsBy_2 9 rfl rfl)
theorem dX6_termsBy_58 : decode cX6_termsBy 58 = .ok (.invokevirtual 290, 3) := dk_182 1 34 (dk_at dksX6_termsBy_2 10 rfl rfl)
theorem dX6_termsBy_61 : decode cX6_termsBy 61 = .ok (.iand, 1) := dk_126 (dk_at dksX6_termsBy_2 13 rfl rfl)
theorem dX6_termsBy_62 : decode cX6_termsBy 62 = .ok (.invokestatic 344, 3) := dk_184 1 88 (dk_at dksX6_termsBy_2 14 rfl rfl)
theorem dX6_termsBy_65 : decode cX6_termsBy 65 = .ok (.iadd, 1) := dk_96 (dk_at dksX6_termsBy_2 17 rfl rfl)
theorem dX6_termsBy_66 : decode cX6_termsBy 66 = .ok (.iastore, 1) := dk_79 (dk_at dksX6_termsBy_2 18 rfl rfl)
theorem dX6_termsBy_67 : decode cX6_termsBy 67 = .ok (.iconst 1, 1) := dk_4 (dk_at dksX6_termsBy_2 19 rfl rfl)
theorem dX6_termsBy_68 : decode cX6_termsBy 68 = .ok (.ireturn, 1) := dk_172 (dk_at dksX6_termsBy_2 20 rfl rfl)
abbrev cX6_feedsAny : ByteArray := prog_16_method_157_code
def yX6_feedsAny : MethodName := ⟨RX6, "feedsAny", "()Z"⟩
def dkwX6_feedsAny_1 : List UInt8 := [182, 1, 226, 61, 28, 158, 0, 16, 42, 27, 28, 182, 1, 99, 153, 0, 7, 4, 167, 0, 4, 3, 172]
abbrev dktX6_feedsAny_1 : List UInt8 := dkwX6_feedsAny_1 ++ []
def dkwX6_feedsAny_0 : List UInt8 := [42, 180, 0, 7, 6, 46, 154, 0, 5, 3, 172, 42, 42, 180, 0, 7, 6, 46, 182, 1, 226, 60, 42, 7]
abbrev dktX6_feedsAny_0 : List UInt8 := dkwX6_feedsAny_0 ++ dktX6_feedsAny_1
theorem dksX6_feedsAny_0 : cX6_feedsAny.data.toList.drop 0 = dktX6_feedsAny_0 := by decide +kernel
theorem dksX6_feedsAny_1 : cX6_feedsAny.data.toList.drop 24 = dktX6_feedsAny_1 := dk_seg dksX6_feedsAny_0 24 rfl rfl
theorem dX6_feedsAny_0 : decode cX6_feedsAny 0 = .ok (.aload_n 0, 1) := dk_42 (dk_at dksX6_feedsAny_0 0 rfl rfl)
theorem dX6_feedsAny_1 : decode cX6_feedsAny 1 = .ok (.getfield 7, 3) := dk_180 0 7 (dk_at dksX6_feedsAny_0 1 rfl rfl)
theorem dX6_feedsAny_4 : decode cX6_feedsAny 4 = .ok (.iconst 3, 1) := dk_6 (dk_at dksX6_feedsAny_0 4 rfl rfl)
theorem dX6_feedsAny_5 : decode cX6_feedsAny 5 = .ok (.iaload, 1) := dk_46 (dk_at dksX6_feedsAny_0 5 rfl rfl)
theorem dX6_feedsAny_6 : decode cX6_feedsAny 6 = .ok (.ifCond .ne 5, 3) := dk_154 0 5 (dk_at dksX6_feedsAny_0 6 rfl rfl)
theorem dX6_feedsAny_9 : decode cX6_feedsAny 9 = .ok (.iconst 0, 1) := dk_3 (dk_at dksX6_feedsAny_0 9 rfl rfl)
theorem dX6_feedsAny_10 : decode cX6_feedsAny 10 = .ok (.ireturn, 1) := dk_172 (dk_at dksX6_feedsAny_0 10 rfl rfl)
theorem dX6_feedsAny_11 : decode cX6_feedsAny 11 = .ok (.aload_n 0, 1) := dk_42 (dk_at dksX6_feedsAny_0 11 rfl rfl)
theorem dX6_feedsAny_12 : decode cX6_feedsAny 12 = .ok (.aload_n 0, 1) := dk_42 (dk_at dksX6_feedsAny_0 12 rfl rfl)
theorem dX6_feedsAny_13 : decode cX6_feedsAny 13 = .ok (.getfield 7, 3) := dk_180 0 7 (dk_at dksX6_feedsAny_0 13 rfl rfl)
theorem dX6_feedsAny_16 : decode cX6_feedsAny 16 = .ok (.iconst 3, 1) := dk_6 (dk_at dksX6_feedsAny_0 16 rfl rfl)
theorem dX6_feedsAny_17 : decode cX6_feedsAny 17 = .ok (.iaload, 1) := dk_46 (dk_at dksX6_feedsAny_0 17 rfl rfl)
theorem dX6_feedsAny_18 : decode cX6_feedsAny 18 = .ok (.invokevirtual 482, 3) := dk_182 1 226 (dk_at dksX6_feedsAny_0 18 rfl rfl)
theorem dX6_feedsAny_21 : decode cX6_feedsAny 21 = .ok (.istore_n 1, 1) := dk_60 (dk_at dksX6_feedsAny_0 21 rfl rfl)
theorem dX6_feedsAny_22 : decode cX6_feedsAny 22 = .ok (.aload_n 0, 1) := dk_42 (dk_at dksX6_feedsAny_0 22 rfl rfl)
theorem dX6_feedsAny_23 : decode cX6_feedsAny 23 = .ok (.iconst 4, 1) := dk_7 (dk_at dksX6_feedsAny_0 23 rfl rfl)
theorem dX6_feedsAny_24 : decode cX6_feedsAny 24 = .ok (.invokevirtual 482, 3) := dk_182 1 226 (dk_at dksX6_feedsAny_1 0 rfl rfl)
theorem dX6_feedsAny_27 : decode cX6_feedsAny 27 = .ok (.istore_n 2, 1) := dk_61 (dk_at dksX6_feedsAny_1 3 rfl rfl)
theorem dX6_feedsAny_28 : decode cX6_feedsAny 28 = .ok (.iload_n 2, 1) := dk_28 (dk_at dksX6_feedsAny_1 4 rfl rfl)
theorem dX6_feedsAny_29 : decode cX6_feedsAny 29 = .ok (.ifCond .le 16, 3) := dk_158 0 16 (dk_at dksX6_feedsAny_1 5 rfl rfl)
theorem dX6_feedsAny_32 : decode cX6_feedsAny 32 = .ok (.aload_n 0, 1) := dk_42 (dk_at dksX6_feedsAny_1 8 rfl rfl)
theorem dX6_feedsAny_33 : decode cX6_feedsAny 33 = .ok (.iload_n 1, 1) := dk_27 (dk_at dksX6_feedsAny_1 9 rfl rfl)
theorem dX6_feedsAny_34 : decode cX6_feedsAny 34 = .ok (.iload_n 2, 1) := dk_28 (dk_at dksX6_feedsAny_1 10 rfl rfl)
theorem dX6_feedsAny_35 : decode cX6_feedsAny 35 = .ok (.invokevirtual 355, 3) := dk_182 1 99 (dk_at dksX6_feedsAny_1 11 rfl rfl)
theorem dX6_feedsAny_38 : decode cX6_feedsAny 38 = .ok (.ifCond .eq 7, 3) := dk_153 0 7 (dk_at dksX6_feedsAny_1 14 rfl rfl)
theorem dX6_feedsAny_41 : decode cX6_feedsAny 41 = .ok (.iconst 1, 1) := dk_4 (dk_at dksX6_feedsAny_1 17 rfl rfl)
theorem dX6_feedsAny_42 : decode cX6_feedsAny 42 = .ok (.goto 4, 3) := dk_167 0 4 (dk_at dksX6_feedsAny_1 18 rfl rfl)
theorem dX6_feedsAny_45 : decode cX6_feedsAny 45 = .ok (.iconst 0, 1) := dk_3 (dk_at dksX6_feedsAny_1 21 rfl rfl)
theorem dX6_feedsAny_46 : decode cX6_feedsAny 46 = .ok (.ireturn, 1) := dk_172 (dk_at dksX6_feedsAny_1 22 rfl rfl)
abbrev cX6_draw : ByteArray := prog_16_method_154_code
def yX6_draw : MethodName := ⟨RX6, "draw", "(I)I"⟩
def dkwX6_draw_1 : List UInt8 := [16, 8, 108, 27, 112, 172]
abbrev dktX6_draw_1 : List UInt8 := dkwX6_draw_1 ++ []
def dkwX6_draw_0 : List UInt8 := [42, 42, 180, 1, 222, 17, 12, 109, 104, 17, 44, 135, 96, 19, 1, 225, 112, 181, 1, 222, 42, 180, 1, 222]
abbrev dktX6_draw_0 : List UInt8 := dkwX6_draw_0 ++ dktX6_draw_1
theorem dksX6_draw_0 : cX6_draw.data.toList.drop 0 = dktX6_draw_0 := by decide +kernel
theorem dksX6_draw_1 : cX6_draw.data.toList.drop 24 = dktX6_draw_1 := dk_seg dksX6_draw_0 24 rfl rfl
theorem dX6_draw_0 : decode cX6_draw 0 = .ok (.aload_n 0, 1) := dk_42 (dk_at dksX6_draw_0 0 rfl rfl)
theorem dX6_draw_1 : decode cX6_draw 1 = .ok (.aload_n 0, 1) := dk_42 (dk_at dksX6_draw_0 1 rfl rfl)
theorem dX6_draw_2 : decode cX6_draw 2 = .ok (.getfield 478, 3) := dk_180 1 222 (dk_at dksX6_draw_0 2 rfl rfl)
theorem dX6_draw_5 : decode cX6_draw 5 = .ok (.sipush 3181, 3) := dk_17 12 109 (dk_at dksX6_draw_0 5 rfl rfl)
theorem dX6_draw_8 : decode cX6_draw 8 = .ok (.imul, 1) := dk_104 (dk_at dksX6_draw_0 8 rfl rfl)
theorem dX6_draw_9 : decode cX6_draw 9 = .ok (.sipush 11399, 3) := dk_17 44 135 (dk_at dksX6_draw_0 9 rfl rfl)
theorem dX6_draw_12 : decode cX6_draw 12 = .ok (.iadd, 1) := dk_96 (dk_at dksX6_draw_0 12 rfl rfl)
theorem dX6_draw_13 : decode cX6_draw 13 = .ok (.ldc_w 481, 3) := dk_19 1 225 (dk_at dksX6_draw_0 13 rfl rfl)
theorem dX6_draw_16 : decode cX6_draw 16 = .ok (.irem, 1) := dk_112 (dk_at dksX6_draw_0 16 rfl rfl)
theorem dX6_draw_17 : decode cX6_draw 17 = .ok (.putfield 478, 3) := dk_181 1 222 (dk_at dksX6_draw_0 17 rfl rfl)
theorem dX6_draw_20 : decode cX6_draw 20 = .ok (.aload_n 0, 1) := dk_42 (dk_at dksX6_draw_0 20 rfl rfl)
theorem dX6_draw_21 : decode cX6_draw 21 = .ok (.getfield 478, 3) := dk_180 1 222 (dk_at dksX6_draw_0 21 rfl rfl)
theorem dX6_draw_24 : decode cX6_draw 24 = .ok (.bipush 8, 2) := dk_16 8 (dk_at dksX6_draw_1 0 rfl rfl)
theorem dX6_draw_26 : decode cX6_draw 26 = .ok (.idiv, 1) := dk_108 (dk_at dksX6_draw_1 2 rfl rfl)
theorem dX6_draw_27 : decode cX6_draw 27 = .ok (.iload_n 1, 1) := dk_27 (dk_at dksX6_draw_1 3 rfl rfl)
theorem dX6_draw_28 : decode cX6_draw 28 = .ok (.irem, 1) := dk_112 (dk_at dksX6_draw_1 4 rfl rfl)
theorem dX6_draw_29 : decode cX6_draw 29 = .ok (.ireturn, 1) := dk_172 (dk_at dksX6_draw_1 5 rfl rfl)
abbrev cX6_holds : ByteArray := prog_16_method_159_code
def yX6_holds : MethodName := ⟨RX6, "holds", "(I)Z"⟩
def dkwX6_holds_5 : List UInt8 := [42, 180, 0, 7, 27, 5, 96, 46, 184, 1, 62, 172]
abbrev dktX6_holds_5 : List UInt8 := dkwX6_holds_5 ++ []
def dkwX6_holds_4 : List UInt8 := [160, 0, 7, 4, 167, 0, 4, 3, 172, 42, 180, 0, 7, 27, 8, 96, 46, 42, 180, 0, 7, 16, 6, 46]
abbrev dktX6_holds_4 : List UInt8 := dkwX6_holds_4 ++ dktX6_holds_5
def dkwX6_holds_3 : List UInt8 := [160, 0, 7, 4, 167, 0, 4, 3, 172, 28, 16, 28, 160, 0, 19, 42, 29, 5, 182, 1, 25, 4]
abbrev dktX6_holds_3 : List UInt8 := dkwX6_holds_3 ++ dktX6_holds_4
def dkwX6_holds_2 : List UInt8 := [160, 0, 7, 4, 167, 0, 4, 3, 172, 28, 16, 27, 160, 0, 19, 42, 29, 5, 182, 1, 25, 5]
abbrev dktX6_holds_2 : List UInt8 := dkwX6_holds_2 ++ dktX6_holds_3
def dkwX6_holds_1 : List UInt8 := [160, 0, 32, 42, 29, 42, 180, 0, 7, 16, 6, 46, 182, 1, 76, 42, 180, 0, 7, 27, 5, 96, 46]
abbrev dktX6_holds_1 : List UInt8 := dkwX6_holds_1 ++ dktX6_holds_2
def dkwX6_holds_0 : List UInt8 := [42, 180, 0, 7, 27, 46, 17, 8, 152, 100, 61, 42, 180, 0, 7, 27, 4, 96, 46, 62, 28, 16, 26]
abbrev dktX6_holds_0 : List UInt8 := dkwX6_holds_0 ++ dktX6_holds_1
theorem dksX6_holds_0 : cX6_holds.data.toList.drop 0 = dktX6_holds_0 := by decide +kernel
theorem dksX6_holds_1 : cX6_holds.data.toList.drop 23 = dktX6_holds_1 := dk_seg dksX6_holds_0 23 rfl rfl
theorem dksX6_holds_2 : cX6_holds.data.toList.drop 46 = dktX6_holds_2 := dk_seg dksX6_holds_1 23 rfl rfl
theorem dksX6_holds_3 : cX6_holds.data.toList.drop 68 = dktX6_holds_3 := dk_seg dksX6_holds_2 22 rfl rfl
theorem dksX6_holds_4 : cX6_holds.data.toList.drop 90 = dktX6_holds_4 := dk_seg dksX6_holds_3 22 rfl rfl
theorem dksX6_holds_5 : cX6_holds.data.toList.drop 114 = dktX6_holds_5 := dk_seg dksX6_holds_4 24 rfl rfl
theorem dX6_holds_0 : decode cX6_holds 0 = .ok (.aload_n 0, 1) := dk_42 (dk_at dksX6_holds_0 0 rfl rfl)
theorem dX6_holds_1 : decode cX6_holds 1 = .ok (.getfield 7, 3) := dk_180 0 7 (dk_at dksX6_holds_0 1 rfl rfl)
theorem dX6_holds_4 : decode cX6_holds 4 = .ok (.iload_n 1, 1) := dk_27 (dk_at dksX6_holds_0 4 rfl rfl)
theorem dX6_holds_5 : decode cX6_holds 5 = .ok (.iaload, 1) := dk_46 (dk_at dksX6_holds_0 5 rfl rfl)
theorem dX6_holds_6 : decode cX6_holds 6 = .ok (.sipush 2200, 3) := dk_17 8 152 (dk_at dksX6_holds_0 6 rfl rfl)
theorem dX6_holds_9 : decode cX6_holds 9 = .ok (.isub, 1) := dk_100 (dk_at dksX6_holds_0 9 rfl rfl)
theorem dX6_holds_10 : decode cX6_holds 10 = .ok (.istore_n 2, 1) := dk_61 (dk_at dksX6_holds_0 10 rfl rfl)
theorem dX6_holds_11 : decode cX6_holds 11 = .ok (.aload_n 0, 1) := dk_42 (dk_at dksX6_holds_0 11 rfl rfl)
theorem dX6_holds_12 : decode cX6_holds 12 = .ok (.getfield 7, 3) := dk_180 0 7 (dk_at dksX6_holds_0 12 rfl rfl)
theorem dX6_holds_15 : decode cX6_holds 15 = .ok (.iload_n 1, 1) := dk_27 (dk_at dksX6_holds_0 15 rfl rfl)
theorem dX6_holds_16 : decode cX6_holds 16 = .ok (.iconst 1, 1) := dk_4 (dk_at dksX6_holds_0 16 rfl rfl)
theorem dX6_holds_17 : decode cX6_holds 17 = .ok (.iadd, 1) := dk_96 (dk_at dksX6_holds_0 17 rfl rfl)
theorem dX6_holds_18 : decode cX6_holds 18 = .ok (.iaload, 1) := dk_46 (dk_at dksX6_holds_0 18 rfl rfl)
theorem dX6_holds_19 : decode cX6_holds 19 = .ok (.istore_n 3, 1) := dk_62 (dk_at dksX6_holds_0 19 rfl rfl)
theorem dX6_holds_20 : decode cX6_holds 20 = .ok (.iload_n 2, 1) := dk_28 (dk_at dksX6_holds_0 20 rfl rfl)
theorem dX6_holds_21 : decode cX6_holds 21 = .ok (.bipush 26, 2) := dk_16 26 (dk_at dksX6_holds_0 21 rfl rfl)
theorem dX6_holds_23 : decode cX6_holds 23 = .ok (.if_icmp .ne 32, 3) := dk_160 0 32 (dk_at dksX6_holds_1 0 rfl rfl)
theorem dX6_holds_26 : decode cX6_holds 26 = .ok (.aload_n 0, 1) := dk_42 (dk_at dksX6_holds_1 3 rfl rfl)
theorem dX6_holds_27 : decode cX6_holds 27 = .ok (.iload_n 3, 1) := dk_29 (dk_at dksX6_holds_1 4 rfl rfl)
theorem dX6_holds_28 : decode cX6_holds 28 = .ok (.aload_n 0, 1) := dk_42 (dk_at dksX6_holds_1 5 rfl rfl)
theorem dX6_holds_29 : decode cX6_holds 29 = .ok (.getfield 7, 3) := dk_180 0 7 (dk_at dksX6_holds_1 6 rfl rfl)
theorem dX6_holds_32 : decode cX6_holds 32 = .ok (.bipush 6, 2) := dk_16 6 (dk_at dksX6_holds_1 9 rfl rfl)
theorem dX6_holds_34 : decode cX6_holds 34 = .ok (.iaload, 1) := dk_46 (dk_at dksX6_holds_1 11 rfl rfl)
theorem dX6_holds_35 : decode cX6_holds 35 = .ok (.invokevirtual 332, 3) := dk_182 1 76 (dk_at dksX6_holds_1 12 rfl rfl)
theorem dX6_holds_38 : decode cX6_holds 38 = .ok (.aload_n 0, 1) := dk_42 (dk_at dksX6_holds_1 15 rfl rfl)
theorem dX6_holds_39 : decode cX6_holds 39 = .ok (.getfield 7, 3) := dk_180 0 7 (dk_at dksX6_holds_1 16 rfl rfl)
theorem dX6_holds_42 : decode cX6_holds 42 = .ok (.iload_n 1, 1) := dk_27 (dk_at dksX6_holds_1 19 rfl rfl)
theorem dX6_holds_43 : decode cX6_holds 43 = .ok (.iconst 2, 1) := dk_5 (dk_at dksX6_holds_1 20 rfl rfl)
theorem dX6_holds_44 : decode cX6_holds 44 = .ok (.iadd, 1) := dk_96 (dk_at dksX6_holds_1 21 rfl rfl)
theorem dX6_holds_45 : decode cX6_holds 45 = .ok (.iaload, 1) := dk_46 (dk_at dksX6_holds_1 22 rfl rfl)
theorem dX6_holds_46 : decode cX6_holds 46 = .ok (.if_icmp .ne 7, 3) := dk_160 0 7 (dk_at dksX6_holds_2 0 rfl rfl)
theorem dX6_holds_49 : decode cX6_holds 49 = .ok (.iconst 1, 1) := dk_4 (dk_at dksX6_holds_2 3 rfl rfl)
theorem dX6_holds_50 : decode cX6_holds 50 = .ok (.goto 4, 3) := dk_167 0 4 (dk_at dksX6_holds_2 4 rfl rfl)
theorem dX6_holds_53 : decode cX6_holds 53 = .ok (.iconst 0, 1) := dk_3 (dk_at dksX6_holds_2 7 rfl rfl)
theorem dX6_holds_54 : decode cX6_holds 54 = .ok (.ireturn, 1) := dk_172 (dk_at dksX6_holds_2 8 rfl rfl)
theorem dX6_holds_55 : decode cX6_holds 55 = .ok (.iload_n 2, 1) := dk_28 (dk_at dksX6_holds_2 9 rfl rfl)
theorem dX6_holds_56 : decode cX6_holds 56 = .ok (.bipush 27, 2) := dk_16 27 (dk_at dksX6_holds_2 10 rfl rfl)
theorem dX6_holds_58 : decode cX6_holds 58 = .ok (.if_icmp .ne 19, 3) := dk_160 0 19 (dk_at dksX6_holds_2 12 rfl rfl)
theorem dX6_holds_61 : decode cX6_holds 61 = .ok (.aload_n 0, 1) := dk_42 (dk_at dksX6_holds_2 15 rfl rfl)
theorem dX6_holds_62 : decode cX6_holds 62 = .ok (.iload_n 3, 1) := dk_29 (dk_at dksX6_holds_2 16 rfl rfl)
theorem dX6_holds_63 : decode cX6_holds 63 = .ok (.iconst 2, 1) := dk_5 (dk_at dksX6_holds_2 17 rfl rfl)
theorem dX6_holds_64 : decode cX6_holds 64 = .ok (.invokevirtual 281, 3) := dk_182 1 25 (dk_at dksX6_holds_2 18 rfl rfl)
theorem dX6_holds_67 : decode cX6_holds 67 = .ok (.iconst 2, 1) := dk_5 (dk_at dksX6_holds_2 21 rfl rfl)
theorem dX6_holds_68 : decode cX6_holds 68 = .ok (.if_icmp .ne 7, 3) := dk_160 0 7 (dk_at dksX6_holds_3 0 rfl rfl)
theorem dX6_holds_71 : decode cX6_holds 71 = .ok (.iconst 1, 1) := dk_4 (dk_at dksX6_holds_3 3 rfl rfl)
theorem dX6_holds_72 : decode cX6_holds 72 = .ok (.goto 4, 3) := dk_167 0 4 (dk_at dksX6_holds_3 4 rfl rfl)
theorem dX6_holds_75 : decode cX6_holds 75 = .ok (.iconst 0, 1) := dk_3 (dk_at dksX6_holds_3 7 rfl rfl)
theorem dX6_holds_76 : decode cX6_holds 76 = .ok (.ireturn, 1) := dk_172 (dk_at dksX6_holds_3 8 rfl rfl)
theorem dX6_holds_77 : decode cX6_holds 77 = .ok (.iload_n 2, 1) := dk_28 (dk_at dksX6_holds_3 9 rfl rfl)
theorem dX6_holds_78 : decode cX6_holds 78 = .ok (.bipush 28, 2) := dk_16 28 (dk_at dksX6_holds_3 10 rfl rfl)
theorem dX6_holds_80 : decode cX6_holds 80 = .ok (.if_icmp .ne 19, 3) := dk_160 0 19 (dk_at dksX6_holds_3 12 rfl rfl)
theorem dX6_holds_83 : decode cX6_holds 83 = .ok (.aload_n 0, 1) := dk_42 (dk_at dksX6_holds_3 15 rfl rfl)
theorem dX6_holds_84 : decode cX6_holds 84 = .ok (.iload_n 3, 1) := dk_29 (dk_at dksX6_holds_3 16 rfl rfl)
theorem dX6_holds_85 : decode cX6_holds 85 = .ok (.iconst 2, 1) := dk_5 (dk_at dksX6_holds_3 17 rfl rfl)
theorem dX6_holds_86 : decode cX6_holds 86 = .ok (.invokevirtual 281, 3) := dk_182 1 25 (dk_at dksX6_holds_3 18 rfl rfl)
theorem dX6_holds_89 : decode cX6_holds 89 = .ok (.iconst 1, 1) := dk_4 (dk_at dksX6_holds_3 21 rfl rfl)
theorem dX6_holds_90 : decode cX6_holds 90 = .ok (.if_icmp .ne 7, 3) := dk_160 0 7 (dk_at dksX6_holds_4 0 rfl rfl)
theorem dX6_holds_93 : decode cX6_holds 93 = .ok (.iconst 1, 1) := dk_4 (dk_at dksX6_holds_4 3 rfl rfl)
theorem dX6_holds_94 : decode cX6_holds 94 = .ok (.goto 4, 3) := dk_167 0 4 (dk_at dksX6_holds_4 4 rfl rfl)
theorem dX6_holds_97 : decode cX6_holds 97 = .ok (.iconst 0, 1) := dk_3 (dk_at dksX6_holds_4 7 rfl rfl)
theorem dX6_holds_98 : decode cX6_holds 98 = .ok (.ireturn, 1) := dk_172 (dk_at dksX6_holds_4 8 rfl rfl)
theorem dX6_holds_99 : decode cX6_holds 99 = .ok (.aload_n 0, 1) := dk_42 (dk_at dksX6_holds_4 9 rfl rfl)
theorem dX6_holds_100 : decode cX6_holds 100 = .ok (.getfield 7, 3) := dk_180 0 7 (dk_at dksX6_holds_4 10 rfl rfl)
theorem dX6_holds_103 : decode cX6_holds 103 = .ok (.iload_n 1, 1) := dk_27 (dk_at dksX6_holds_4 13 rfl rfl)
theorem dX6_holds_104 : decode cX6_holds 104 = .ok (.iconst 5, 1) := dk_8 (dk_at dksX6_holds_4 14 rfl rfl)
theorem dX6_holds_105 : decode cX6_holds 105 = .ok (.iadd, 1) := dk_96 (dk_at dksX6_holds_4 15 rfl rfl)
theorem dX6_holds_106 : decode cX6_holds 106 = .ok (.iaload, 1) := dk_46 (dk_at dksX6_holds_4 16 rfl rfl)
theorem dX6_holds_107 : decode cX6_holds 107 = .ok (.aload_n 0, 1) := dk_42 (dk_at dksX6_holds_4 17 rfl rfl)
theorem dX6_holds_108 : decode cX6_holds 108 = .ok (.getfield 7, 3) := dk_180 0 7 (dk_at dksX6_holds_4 18 rfl rfl)
theorem dX6_holds_111 : decode cX6_holds 111 = .ok (.bipush 6, 2) := dk_16 6 (dk_at dksX6_holds_4 21 rfl rfl)
theorem dX6_holds_113 : decode cX6_holds 113 = .ok (.iaload, 1) := dk_46 (dk_at dksX6_holds_4 23 rfl rfl)
theorem dX6_holds_114 : decode cX6_holds 114 = .ok (.aload_n 0, 1) := dk_42 (dk_at dksX6_holds_5 0 rfl rfl)
theorem dX6_holds_115 : decode cX6_holds 115 = .ok (.getfield 7, 3) := dk_180 0 7 (dk_at dksX6_holds_5 1 rfl rfl)
theorem dX6_holds_118 : decode cX6_holds 118 = .ok (.iload_n 1, 1) := dk_27 (dk_at dksX6_holds_5 4 rfl rfl)
theorem dX6_holds_119 : decode cX6_holds 119 = .ok (.iconst 2, 1) := dk_5 (dk_at dksX6_holds_5 5 rfl rfl)
theorem dX6_holds_120 : decode cX6_holds 120 = .ok (.iadd, 1) := dk_96 (dk_at dksX6_holds_5 6 rfl rfl)
theorem dX6_holds_121 : decode cX6_holds 121 = .ok (.iaload, 1) := dk_46 (dk_at dksX6_holds_5 7 rfl rfl)
theorem dX6_holds_122 : decode cX6_holds 122 = .ok (.invokestatic 318, 3) := dk_184 1 62 (dk_at dksX6_holds_5 8 rfl rfl)
theorem dX6_holds_125 : decode cX6_holds 125 = .ok (.ireturn, 1) := dk_172 (dk_at dksX6_holds_5 11 rfl rfl)
abbrev cX6_behindEnds : ByteArray := prog_16_method_160_code
def yX6_behindEnds : MethodName := ⟨RX6, "behindEnds", "(I)I"⟩
def dkwX6_behindEnds_5 : List UInt8 := [28, 172]
abbrev dktX6_behindEnds_5 : List UInt8 := dkwX6_behindEnds_5 ++ []
def dkwX6_behindEnds_4 : List UInt8 := [167, 0, 4, 3, 100, 79, 21, 4, 153, 0, 9, 29, 4, 96, 167, 0, 6, 28, 4, 96, 61, 167, 255, 143]
abbrev dktX6_behindEnds_4 : List UInt8 := dkwX6_behindEnds_4 ++ dktX6_behindEnds_5
def dkwX6_behindEnds_3 : List UInt8 := [158, 0, 7, 4, 167, 0, 4, 3, 54, 4, 42, 180, 0, 72, 29, 92, 46, 21, 4, 153, 0, 7, 4]
abbrev dktX6_behindEnds_3 : List UInt8 := dkwX6_behindEnds_3 ++ dktX6_behindEnds_4
def dkwX6_behindEnds_2 : List UInt8 := [180, 0, 7, 17, 0, 134, 16, 6, 29, 104, 96, 46, 16, 23, 160, 0, 16, 42, 180, 0, 72, 29, 46]
abbrev dktX6_behindEnds_2 : List UInt8 := dkwX6_behindEnds_2 ++ dktX6_behindEnds_3
def dkwX6_behindEnds_1 : List UInt8 := [96, 46, 16, 24, 160, 0, 90, 42, 180, 0, 7, 17, 0, 134, 16, 6, 28, 104, 96, 7, 96, 46, 62, 42]
abbrev dktX6_behindEnds_1 : List UInt8 := dkwX6_behindEnds_1 ++ dktX6_behindEnds_2
def dkwX6_behindEnds_0 : List UInt8 := [27, 61, 28, 42, 180, 0, 7, 16, 8, 46, 162, 0, 108, 42, 180, 0, 7, 17, 0, 134, 16, 6, 28, 104]
abbrev dktX6_behindEnds_0 : List UInt8 := dkwX6_behindEnds_0 ++ dktX6_behindEnds_1
theorem dksX6_behindEnds_0 : cX6_behindEnds.data.toList.drop 0 = dktX6_behindEnds_0 := by decide +kernel
theorem dksX6_behindEnds_1 : cX6_behindEnds.data.toList.drop 24 = dktX6_behindEnds_1 := dk_seg dksX6_behindEnds_0 24 rfl rfl
theorem dksX6_behindEnds_2 : cX6_behindEnds.data.toList.drop 48 = dktX6_behindEnds_2 := dk_seg dksX6_behindEnds_1 24 rfl rfl
theorem dksX6_behindEnds_3 : cX6_behindEnds.data.toList.drop 71 = dktX6_behindEnds_3 := dk_seg dksX6_behindEnds_2 23 rfl rfl
theorem dksX6_behindEnds_4 : cX6_behindEnds.data.toList.drop 94 = dktX6_behindEnds_4 := dk_seg dksX6_behindEnds_3 23 rfl rfl
theorem dksX6_behindEnds_5 : cX6_behindEnds.data.toList.drop 118 = dktX6_behindEnds_5 := dk_seg dksX6_behindEnds_4 24 rfl rfl
theorem dX6_behindEnds_0 : decode cX6_behindEnds 0 = .ok (.iload_n 1, 1) := dk_27 (dk_at dksX6_behindEnds_0 0 rfl rfl)
theorem dX6_behindEnds_1 : decode cX6_behindEnds 1 = .ok (.istore_n 2, 1) := dk_61 (dk_at dksX6_behindEnds_0 1 rfl rfl)
theorem dX6_behindEnds_2 : decode cX6_behindEnds 2 = .ok (.iload_n 2, 1) := dk_28 (dk_at dksX6_behindEnds_0 2 rfl rfl)
theorem dX6_behindEnds_3 : decode cX6_behindEnds 3 = .ok (.aload_n 0, 1) := dk_42 (dk_at dksX6_behindEnds_0 3 rfl rfl)
theorem dX6_behindEnds_4 : decode cX6_behindEnds 4 = .ok (.getfield 7, 3) := dk_180 0 7 (dk_at dksX6_behindEnds_0 4 rfl rfl)
theorem dX6_behindEnds_7 : decode cX6_behindEnds 7 = .ok (.bipush 8, 2) := dk_16 8 (dk_at dksX6_behindEnds_0 7 rfl rfl)
theorem dX6_behindEnds_9 : decode cX6_behindEnds 9 = .ok (.iaload, 1) := dk_46 (dk_at dksX6_behindEnds_0 9 rfl rfl)
theorem dX6_behindEnds_10 : decode cX6_behindEnds 10 = .ok (.if_icmp .ge 108, 3) := dk_162 0 108 (dk_at dksX6_behindEnds_0 10 rfl rfl)
theorem dX6_behindEnds_13 : decode cX6_behindEnds 13 = .ok (.aload_n 0, 1) := dk_42 (dk_at dksX6_behindEnds_0 13 rfl rfl)
theorem dX6_behindEnds_14 : decode cX6_behindEnds 14 = .ok (.getfield 7, 3) := dk_180 0 7 (dk_at dksX6_behindEnds_0 14 rfl rfl)
theorem dX6_behindEnds_17 : decode cX6_behindEnds 17 = .ok (.sipush 134, 3) := dk_17 0 134 (dk_at dksX6_behindEnds_0 17 rfl rfl)
theorem dX6_behindEnds_20 : decode cX6_behindEnds 20 = .ok (.bipush 6, 2) := dk_16 6 (dk_at dksX6_behindEnds_0 20 rfl rfl)
theorem dX6_behindEnds_22 : decode cX6_behindEnds 22 = .ok (.iload_n 2, 1) := dk_28 (dk_at dksX6_behindEnds_0 22 rfl rfl)
theorem dX6_behindEnds_23 : decode cX6_behindEnds 23 = .ok (.imul, 1) := dk_104 (dk_at dksX6_behindEnds_0 23 rfl rfl)
theorem dX6_behindEnds_24 : decode cX6_behindEnds 24 = .ok (.iadd, 1) := dk_96 (dk_at dksX6_behindEnds_1 0 rfl rfl)
theorem dX6_behindEnds_25 : decode cX6_behindEnds 25 = .ok (.iaload, 1) := dk_46 (dk_at dksX6_behindEnds_1 1 rfl rfl)
theorem dX6_behindEnds_26 : decode cX6_behindEnds 26 = .ok (.bipush 24, 2) := dk_16 24 (dk_at dksX6_behindEnds_1 2 rfl rfl)
theorem dX6_behindEnds_28 : decode cX6_behindEnds 28 = .ok (.if_icmp .ne 90, 3) := dk_160 0 90 (dk_at dksX6_behindEnds_1 4 rfl rfl)
theorem dX6_behindEnds_31 : decode cX6_behindEnds 31 = .ok (.aload_n 0, 1) := dk_42 (dk_at dksX6_behindEnds_1 7 rfl rfl)
theorem dX6_behindEnds_32 : decode cX6_behindEnds 32 = .ok (.getfield 7, 3) := dk_180 0 7 (dk_at dksX6_behindEnds_1 8 rfl rfl)
theorem dX6_behindEnds_35 : decode cX6_behindEnds 35 = .ok (.sipush 134, 3) := dk_17 0 134 (dk_at dksX6_behindEnds_1 11 rfl rfl)
theorem dX6_behindEnds_38 : decode cX6_behindEnds 38 = .ok (.bipush 6, 2) := dk_16 6 (dk_at dksX6_behindEnds_1 14 rfl rfl)
theorem dX6_behindEnds_40 : decode cX6_behindEnds 40 = .ok (.iload_n 2, 1) := dk_28 (dk_at dksX6_behindEnds_1 16 rfl rfl)
theorem dX6_behindEnds_41 : decode cX6_behindEnds 41 = .ok (.imul, 1) := dk_104 (dk_at dksX6_behindEnds_1 17 rfl rfl)
theorem dX6_behindEnds_42 : decode cX6_behindEnds 42 = .ok (.iadd, 1) := dk_96 (dk_at dksX6_behindEnds_1 18 rfl rfl)
theorem dX6_behindEnds_43 : decode cX6_behindEnds 43 = .ok (.iconst 4, 1) := dk_7 (dk_at dksX6_behindEnds_1 19 rfl rfl)
theorem dX6_behindEnds_44 : decode cX6_behindEnds 44 = .ok (.iadd, 1) := dk_96 (dk_at dksX6_behindEnds_1 20 rfl rfl)
theorem dX6_behindEnds_45 : decode cX6_behindEnds 45 = .ok (.iaload, 1) := dk_46 (dk_at dksX6_behindEnds_1 21 rfl rfl)
theorem dX6_behindEnds_46 : decode cX6_behindEnds 46 = .ok (.istore_n 3, 1) := dk_62 (dk_at dksX6_behindEnds_1 22 rfl rfl)
theorem dX6_behindEnds_47 : decode cX6_behindEnds 47 = .ok (.aload_n 0, 1) := dk_42 (dk_at dksX6_behindEnds_1 23 rfl rfl)
theorem dX6_behindEnds_48 : decode cX6_behindEnds 48 = .ok (.getfield 7, 3) := dk_180 0 7 (dk_at dksX6_behindEnds_2 0 rfl rfl)
theorem dX6_behindEnds_51 : decode cX6_behindEnds 51 = .ok (.sipush 134, 3) := dk_17 0 134 (dk_at dksX6_behindEnds_2 3 rfl rfl)
theorem dX6_behindEnds_54 : decode cX6_behindEnds 54 = .ok (.bipush 6, 2) := dk_16 6 (dk_at dksX6_behindEnds_2 6 rfl rfl)
theorem dX6_behindEnds_56 : decode cX6_behindEnds 56 = .ok (.iload_n 3, 1) := dk_29 (dk_at dksX6_behindEnds_2 8 rfl rfl)
theorem dX6_behindEnds_57 : decode cX6_behindEnds 57 = .ok (.imul, 1) := dk_104 (dk_at dksX6_behindEnds_2 9 rfl rfl)
theorem dX6_behindEnds_58 : decode cX6_behindEnds 58 = .ok (.iadd, 1) := dk_96 (dk_at dksX6_behindEnds_2 10 rfl rfl)
theorem dX6_behindEnds_59 : decode cX6_behindEnds 59 = .ok (.iaload, 1) := dk_46 (dk_at dksX6_behindEnds_2 11 rfl rfl)
theorem dX6_behindEnds_60 : decode cX6_behindEnds 60 = .ok (.bipush 23, 2) := dk_16 23 (dk_at dksX6_behindEnds_2 12 rfl rfl)
theorem dX6_behindEnds_62 : decode cX6_behindEnds 62 = .ok (.if_icmp .ne 16, 3) := dk_160 0 16 (dk_at dksX6_behindEnds_2 14 rfl rfl)
theorem dX6_behindEnds_65 : decode cX6_behindEnds 65 = .ok (.aload_n 0, 1) := dk_42 (dk_at dksX6_behindEnds_2 17 rfl rfl)
theorem dX6_behindEnds_66 : decode cX6_behindEnds 66 = .ok (.getfield 72, 3) := dk_180 0 72 (dk_at dksX6_behindEnds_2 18 rfl rfl)
theorem dX6_behindEnds_69 : decode cX6_behindEnds 69 = .ok (.iload_n 3, 1) := dk_29 (dk_at dksX6_behindEnds_2 21 rfl rfl)
theorem dX6_behindEnds_70 : decode cX6_behindEnds 70 = .ok (.iaload, 1) := dk_46 (dk_at dksX6_behindEnds_2 22 rfl rfl)
theorem dX6_behindEnds_71 : decode cX6_behindEnds 71 = .ok (.ifCond .le 7, 3) := dk_158 0 7 (dk_at dksX6_behindEnds_3 0 rfl rfl)
theorem dX6_behindEnds_74 : decode cX6_behindEnds 74 = .ok (.iconst 1, 1) := dk_4 (dk_at dksX6_behindEnds_3 3 rfl rfl)
theorem dX6_behindEnds_75 : decode cX6_behindEnds 75 = .ok (.goto 4, 3) := dk_167 0 4 (dk_at dksX6_behindEnds_3 4 rfl rfl)
theorem dX6_behindEnds_78 : decode cX6_behindEnds 78 = .ok (.iconst 0, 1) := dk_3 (dk_at dksX6_behindEnds_3 7 rfl rfl)
theorem dX6_behindEnds_79 : decode cX6_behindEnds 79 = .ok (.istore 4, 2) := dk_54 4 (dk_at dksX6_behindEnds_3 8 rfl rfl)
theorem dX6_behindEnds_81 : decode cX6_behindEnds 81 = .ok (.aload_n 0, 1) := dk_42 (dk_at dksX6_behindEnds_3 10 rfl rfl)
theorem dX6_behindEnds_82 : decode cX6_behindEnds 82 = .ok (.getfield 72, 3) := dk_180 0 72 (dk_at dksX6_behindEnds_3 11 rfl rfl)
theorem dX6_behindEnds_85 : decode cX6_behindEnds 85 = .ok (.iload_n 3, 1) := dk_29 (dk_at dksX6_behindEnds_3 14 rfl rfl)
theorem dX6_behindEnds_86 : decode cX6_behindEnds 86 = .ok (.dup2, 1) := dk_92 (dk_at dksX6_behindEnds_3 15 rfl rfl)
theorem dX6_behindEnds_87 : decode cX6_behindEnds 87 = .ok (.iaload, 1) := dk_46 (dk_at dksX6_behindEnds_3 16 rfl rfl)
theorem dX6_behindEnds_88 : decode cX6_behindEnds 88 = .ok (.iload 4, 2) := dk_21 4 (dk_at dksX6_behindEnds_3 17 rfl rfl)
theorem dX6_behindEnds_90 : decode cX6_behindEnds 90 = .ok (.ifCond .eq 7, 3) := dk_153 0 7 (dk_at dksX6_behindEnds_3 19 rfl rfl)
theorem dX6_behindEnds_93 : decode cX6_behindEnds 93 = .ok (.iconst 1, 1) := dk_4 (dk_at dksX6_behindEnds_3 22 rfl rfl)
theorem dX6_behindEnds_94 : decode cX6_behindEnds 94 = .ok (.goto 4, 3) := dk_167 0 4 (dk_at dksX6_behindEnds_4 0 rfl rfl)
theorem dX6_behindEnds_97 : decode cX6_behindEnds 97 = .ok (.iconst 0, 1) := dk_3 (dk_at dksX6_behindEnds_4 3 rfl rfl)
theorem dX6_behindEnds_98 : decode cX6_behindEnds 98 = .ok (.isub, 1) := dk_100 (dk_at dksX6_behindEnds_4 4 rfl rfl)
theorem dX6_behindEnds_99 : decode cX6_behindEnds 99 = .ok (.iastore, 1) := dk_79 (dk_at dksX6_behindEnds_4 5 rfl rfl)
theorem dX6_behindEnds_100 : decode cX6_behindEnds 100 = .ok (.iload 4, 2) := dk_21 4 (dk_at dksX6_behindEnds_4 6 rfl rfl)
theorem dX6_behindEnds_102 : decode cX6_behindEnds 102 = .ok (.ifCond .eq 9, 3) := dk_153 0 9 (dk_at dksX6_behindEnds_4 8 rfl rfl)
theorem dX6_behindEnds_105 : decode cX6_behindEnds 105 = .ok (.iload_n 3, 1) := dk_29 (dk_at dksX6_behindEnds_4 11 rfl rfl)
theorem dX6_behindEnds_106 : decode cX6_behindEnds 106 = .ok (.iconst 1, 1) := dk_4 (dk_at dksX6_behindEnds_4 12 rfl rfl)
theorem dX6_behindEnds_107 : decode cX6_behindEnds 107 = .ok (.iadd, 1) := dk_96 (dk_at dksX6_behindEnds_4 13 rfl rfl)
theorem dX6_behindEnds_108 : decode cX6_behindEnds 108 = .ok (.goto 6, 3) := dk_167 0 6 (dk_at dksX6_behindEnds_4 14 rfl rfl)
theorem dX6_behindEnds_111 : decode cX6_behindEnds 111 = .ok (.iload_n 2, 1) := dk_28 (dk_at dksX6_behindEnds_4 17 rfl rfl)
theorem dX6_behindEnds_112 : decode cX6_behindEnds 112 = .ok (.iconst 1, 1) := dk_4 (dk_at dksX6_behindEnds_4 18 rfl rfl)
theorem dX6_behindEnds_113 : decode cX6_behindEnds 113 = .ok (.iadd, 1) := dk_96 (dk_at dksX6_behindEnds_4 19 rfl rfl)
theorem dX6_behindEnds_114 : decode cX6_behindEnds 114 = .ok (.istore_n 2, 1) := dk_61 (dk_at dksX6_behindEnds_4 20 rfl rfl)
theorem dX6_behindEnds_115 : decode cX6_behindEnds 115 = .ok (.goto (-113), 3) := dk_167 255 143 (dk_at dksX6_behindEnds_4 21 rfl rfl)
theorem dX6_behindEnds_118 : decode cX6_behindEnds 118 = .ok (.iload_n 2, 1) := dk_28 (dk_at dksX6_behindEnds_5 0 rfl rfl)
theorem dX6_behindEnds_119 : decode cX6_behindEnds 119 = .ok (.ireturn, 1) := dk_172 (dk_at dksX6_behindEnds_5 1 rfl rfl)
abbrev cX6_lived : ByteArray := prog_16_method_163_code
def yX6_lived : MethodName := ⟨RX6, "lived", "(I)I"⟩
def dkwX6_lived_1 : List UInt8 := [42, 42, 180, 0, 78, 27, 46, 182, 0, 95, 167, 0, 9, 42, 16, 6, 182, 0, 91, 172]
abbrev dktX6_lived_1 : List UInt8 := dkwX6_lived_1 ++ []
def dkwX6_lived_0 : List UInt8 := [27, 155, 0, 8, 27, 7, 164, 0, 11, 42, 4, 182, 0, 91, 167, 0, 29, 42, 180, 1, 255, 153, 0, 16]
abbrev dktX6_lived_0 : List UInt8 := dkwX6_lived_0 ++ dktX6_lived_1
theorem dksX6_lived_0 : cX6_lived.data.toList.drop 0 = dktX6_lived_0 := by decide +kernel
theorem dksX6_lived_1 : cX6_lived.data.toList.drop 24 = dktX6_lived_1 := dk_seg dksX6_lived_0 24 rfl rfl
theorem dX6_lived_0 : decode cX6_lived 0 = .ok (.iload_n 1, 1) := dk_27 (dk_at dksX6_lived_0 0 rfl rfl)
theorem dX6_lived_1 : decode cX6_lived 1 = .ok (.ifCond .lt 8, 3) := dk_155 0 8 (dk_at dksX6_lived_0 1 rfl rfl)
theorem dX6_lived_4 : decode cX6_lived 4 = .ok (.iload_n 1, 1) := dk_27 (dk_at dksX6_lived_0 4 rfl rfl)
theorem dX6_lived_5 : decode cX6_lived 5 = .ok (.iconst 4, 1) := dk_7 (dk_at dksX6_lived_0 5 rfl rfl)
theorem dX6_lived_6 : decode cX6_lived 6 = .ok (.if_icmp .le 11, 3) := dk_164 0 11 (dk_at dksX6_lived_0 6 rfl rfl)
theorem dX6_lived_9 : decode cX6_lived 9 = .ok (.aload_n 0, 1) := dk_42 (dk_at dksX6_lived_0 9 rfl rfl)
theorem dX6_lived_10 : decode cX6_lived 10 = .ok (.iconst 1, 1) := dk_4 (dk_at dksX6_lived_0 10 rfl rfl)
theorem dX6_lived_11 : decode cX6_lived 11 = .ok (.invokevirtual 91, 3) := dk_182 0 91 (dk_at dksX6_lived_0 11 rfl rfl)
theorem dX6_lived_14 : decode cX6_lived 14 = .ok (.goto 29, 3) := dk_167 0 29 (dk_at dksX6_lived_0 14 rfl rfl)
theorem dX6_lived_17 : decode cX6_lived 17 = .ok (.aload_n 0, 1) := dk_42 (dk_at dksX6_lived_0 17 rfl rfl)
theorem dX6_lived_18 : decode cX6_lived 18 = .ok (.getfield 511, 3) := dk_180 1 255 (dk_at dksX6_lived_0 18 rfl rfl)
theorem dX6_lived_21 : decode cX6_lived 21 = .ok (.ifCond .eq 16, 3) := dk_153 0 16 (dk_at dksX6_lived_0 21 rfl rfl)
theorem dX6_lived_24 : decode cX6_lived 24 = .ok (.aload_n 0, 1) := dk_42 (dk_at dksX6_lived_1 0 rfl rfl)
theorem dX6_lived_25 : decode cX6_lived 25 = .ok (.aload_n 0, 1) := dk_42 (dk_at dksX6_lived_1 1 rfl rfl)
theorem dX6_lived_26 : decode cX6_lived 26 = .ok (.getfield 78, 3) := dk_180 0 78 (dk_at dksX6_lived_1 2 rfl rfl)
theorem dX6_lived_29 : decode cX6_lived 29 = .ok (.iload_n 1, 1) := dk_27 (dk_at dksX6_lived_1 5 rfl rfl)
theorem dX6_lived_30 : decode cX6_lived 30 = .ok (.iaload, 1) := dk_46 (dk_at dksX6_lived_1 6 rfl rfl)
theorem dX6_lived_31 : decode cX6_lived 31 = .ok (.invokevirtual 95, 3) := dk_182 0 95 (dk_at dksX6_lived_1 7 rfl rfl)
theorem dX6_lived_34 : decode cX6_lived 34 = .ok (.goto 9, 3) := dk_167 0 9 (dk_at dksX6_lived_1 10 rfl rfl)
theorem dX6_lived_37 : decode cX6_lived 37 = .ok (.aload_n 0, 1) := dk_42 (dk_at dksX6_lived_1 13 rfl rfl)
theorem dX6_lived_38 : decode cX6_lived 38 = .ok (.bipush 6, 2) := dk_16 6 (dk_at dksX6_lived_1 14 rfl rfl)
theorem dX6_lived_40 : decode cX6_lived 40 = .ok (.invokevirtual 91, 3) := dk_182 0 91 (dk_at dksX6_lived_1 16 rfl rfl)
theorem dX6_lived_43 : decode cX6_lived 43 = .ok (.ireturn, 1) := dk_172 (dk_at dksX6_lived_1 19 rfl rfl)
abbrev cX6_mean : ByteArray := prog_16_method_164_code
def yX6_mean : MethodName := ⟨RX6, "mean", "(II)Z"⟩
def dkwX6_mean_5 : List UInt8 := [17, 9, 206, 182, 1, 121, 132, 5, 1, 167, 255, 201, 42, 33, 28, 133, 182, 1, 149, 172]
abbrev dktX6_mean_5 : List UInt8 := dkwX6_mean_5 ++ []
def dkwX6_mean_4 : List UInt8 := [46, 162, 0, 20, 33, 42, 21, 6, 3, 182, 1, 25, 133, 97, 66, 132, 6, 1, 167, 255, 231, 42]
abbrev dktX6_mean_4 : List UInt8 := dkwX6_mean_4 ++ dktX6_mean_5
def dkwX6_mean_3 : List UInt8 := [21, 5, 28, 162, 0, 55, 42, 27, 21, 5, 96, 182, 1, 252, 3, 54, 6, 21, 6, 42, 180, 0, 7, 6]
abbrev dktX6_mean_3 : List UInt8 := dkwX6_mean_3 ++ dktX6_mean_4
def dkwX6_mean_2 : List UInt8 := [2, 160, 0, 10, 42, 16, 6, 182, 0, 98, 172, 42, 17, 9, 206, 182, 1, 118, 9, 66, 3, 54, 5]
abbrev dktX6_mean_2 : List UInt8 := dkwX6_mean_2 ++ dktX6_mean_3
def dkwX6_mean_1 : List UInt8 := [27, 28, 96, 4, 100, 17, 39, 15, 164, 0, 9, 42, 4, 182, 0, 98, 172, 42, 180, 0, 7, 16, 8, 46]
abbrev dktX6_mean_1 : List UInt8 := dkwX6_mean_1 ++ dktX6_mean_2
def dkwX6_mean_0 : List UInt8 := [27, 133, 9, 20, 1, 250, 184, 1, 81, 153, 0, 26, 28, 133, 10, 20, 1, 124, 184, 1, 81, 153, 0, 14]
abbrev dktX6_mean_0 : List UInt8 := dkwX6_mean_0 ++ dktX6_mean_1
theorem dksX6_mean_0 : cX6_mean.data.toList.drop 0 = dktX6_mean_0 := by decide +kernel
theorem dksX6_mean_1 : cX6_mean.data.toList.drop 24 = dktX6_mean_1 := dk_seg dksX6_mean_0 24 rfl rfl
theorem dksX6_mean_2 : cX6_mean.data.toList.drop 48 = dktX6_mean_2 := dk_seg dksX6_mean_1 24 rfl rfl
theorem dksX6_mean_3 : cX6_mean.data.toList.drop 71 = dktX6_mean_3 := dk_seg dksX6_mean_2 23 rfl rfl
theorem dksX6_mean_4 : cX6_mean.data.toList.drop 95 = dktX6_mean_4 := dk_seg dksX6_mean_3 24 rfl rfl
theorem dksX6_mean_5 : cX6_mean.data.toList.drop 117 = dktX6_mean_5 := dk_seg dksX6_mean_4 22 rfl rfl
theorem dX6_mean_0 : decode cX6_mean 0 = .ok (.iload_n 1, 1) := dk_27 (dk_at dksX6_mean_0 0 rfl rfl)
theorem dX6_mean_1 : decode cX6_mean 1 = .ok (.i2l, 1) := dk_133 (dk_at dksX6_mean_0 1 rfl rfl)
theorem dX6_mean_2 : decode cX6_mean 2 = .ok (.lconst 0, 1) := dk_9 (dk_at dksX6_mean_0 2 rfl rfl)
theorem dX6_mean_3 : decode cX6_mean 3 = .ok (.ldc2_w 506, 3) := dk_20 1 250 (dk_at dksX6_mean_0 3 rfl rfl)
theorem dX6_mean_6 : decode cX6_mean 6 = .ok (.invokestatic 337, 3) := dk_184 1 81 (dk_at dksX6_mean_0 6 rfl rfl)
theorem dX6_mean_9 : decode cX6_mean 9 = .ok (.ifCond .eq 26, 3) := dk_153 0 26 (dk_at dksX6_mean_0 9 rfl rfl)
theorem dX6_mean_12 : decode cX6_mean 12 = .ok (.iload_n 2, 1) := dk_28 (dk_at dksX6_mean_0 12 rfl rfl)
theorem dX6_mean_13 : decode cX6_mean 13 = .ok (.i2l, 1) := dk_133 (dk_at dksX6_mean_0 13 rfl rfl)
theorem dX6_mean_14 : decode cX6_mean 14 = .ok (.lconst 1, 1) := dk_10 (dk_at dksX6_mean_0 14 rfl rfl)
theorem dX6_mean_15 : decode cX6_mean 15 = .ok (.ldc2_w 380, 3) := dk_20 1 124 (dk_at dksX6_mean_0 15 rfl rfl)
theorem dX6_mean_18 : decode cX6_mean 18 = .ok (.invokestatic 337, 3) := dk_184 1 81 (dk_at dksX6_mean_0 18 rfl rfl)
theorem dX6_mean_21 : decode cX6_mean 21 = .ok (.ifCond .eq 14, 3) := dk_153 0 14 (dk_at dksX6_mean_0 21 rfl rfl)
theorem dX6_mean_24 : decode cX6_mean 24 = .ok (.iload_n 1, 1) := dk_27 (dk_at dksX6_mean_1 0 rfl rfl)
theorem dX6_mean_25 : decode cX6_mean 25 = .ok (.iload_n 2, 1) := dk_28 (dk_at dksX6_mean_1 1 rfl rfl)
theorem dX6_mean_26 : decode cX6_mean 26 = .ok (.iadd, 1) := dk_96 (dk_at dksX6_mean_1 2 rfl rfl)
theorem dX6_mean_27 : decode cX6_mean 27 = .ok (.iconst 1, 1) := dk_4 (dk_at dksX6_mean_1 3 rfl rfl)
theorem dX6_mean_28 : decode cX6_mean 28 = .ok (.isub, 1) := dk_100 (dk_at dksX6_mean_1 4 rfl rfl)
theorem dX6_mean_29 : decode cX6_mean 29 = .ok (.sipush 9999, 3) := dk_17 39 15 (dk_at dksX6_mean_1 5 rfl rfl)
theorem dX6_mean_32 : decode cX6_mean 32 = .ok (.if_icmp .le 9, 3) := dk_164 0 9 (dk_at dksX6_mean_1 8 rfl rfl)
theorem dX6_mean_35 : decode cX6_mean 35 = .ok (.aload_n 0, 1) := dk_42 (dk_at dksX6_mean_1 11 rfl rfl)
theorem dX6_mean_36 : decode cX6_mean 36 = .ok (.iconst 1, 1) := dk_4 (dk_at dksX6_mean_1 12 rfl rfl)
theorem dX6_mean_37 : decode cX6_mean 37 = .ok (.invokevirtual 98, 3) := dk_182 0 98 (dk_at dksX6_mean_1 13 rfl rfl)
theorem dX6_mean_40 : decode cX6_mean 40 = .ok (.ireturn, 1) := dk_172 (dk_at dksX6_mean_1 16 rfl rfl)
theorem dX6_mean_41 : decode cX6_mean 41 = .ok (.aload_n 0, 1) := dk_42 (dk_at dksX6_mean_1 17 rfl rfl)
theorem dX6_mean_42 : decode cX6_mean 42 = .ok (.getfield 7, 3) := dk_180 0 7 (dk_at dksX6_mean_1 18 rfl rfl)
theorem dX6_mean_45 : decode cX6_mean 45 = .ok (.bipush 8, 2) := dk_16 8 (dk_at dksX6_mean_1 21 rfl rfl)
theorem dX6_mean_47 : decode cX6_mean 47 = .ok (.iaload, 1) := dk_46 (dk_at dksX6_mean_1 23 rfl rfl)
theorem dX6_mean_48 : decode cX6_mean 48 = .ok (.iconst (-1), 1) := dk_2 (dk_at dksX6_mean_2 0 rfl rfl)
theorem dX6_mean_49 : decode cX6_mean 49 = .ok (.if_icmp .ne 10, 3) := dk_160 0 10 (dk_at dksX6_mean_2 1 rfl rfl)
theorem dX6_mean_52 : decode cX6_mean 52 = .ok (.aload_n 0, 1) := dk_42 (dk_at dksX6_mean_2 4 rfl rfl)
theorem dX6_mean_53 : decode cX6_mean 53 = .ok (.bipush 6, 2) := dk_16 6 (dk_at dksX6_mean_2 5 rfl rfl)
theorem dX6_mean_55 : decode cX6_mean 55 = .ok (.invokevirtual 98, 3) := dk_182 0 98 (dk_at dksX6_mean_2 7 rfl rfl)
theorem dX6_mean_58 : decode cX6_mean 58 = .ok (.ireturn, 1) := dk_172 (dk_at dksX6_mean_2 10 rfl rfl)
theorem dX6_mean_59 : decode cX6_mean 59 = .ok (.aload_n 0, 1) := dk_42 (dk_at dksX6_mean_2 11 rfl rfl)
theorem dX6_mean_60 : decode cX6_mean 60 = .ok (.sipush 2510, 3) := dk_17 9 206 (dk_at dksX6_mean_2 12 rfl rfl)
theorem dX6_mean_63 : decode cX6_mean 63 = .ok (.invokevirtual 374, 3) := dk_182 1 118 (dk_at dksX6_mean_2 15 rfl rfl)
theorem dX6_mean_66 : decode cX6_mean 66 = .ok (.lconst 0, 1) := dk_9 (dk_at dksX6_mean_2 18 rfl rfl)
theorem dX6_mean_67 : decode cX6_mean 67 = .ok (.lstore_n 3, 1) := dk_66 (dk_at dksX6_mean_2 19 rfl rfl)
theorem dX6_mean_68 : decode cX6_mean 68 = .ok (.iconst 0, 1) := dk_3 (dk_at dksX6_mean_2 20 rfl rfl)
theorem dX6_mean_69 : decode cX6_mean 69 = .ok (.istore 5, 2) := dk_54 5 (dk_at dksX6_mean_2 21 rfl rfl)
theorem dX6_mean_71 : decode cX6_mean 71 = .ok (.iload 5, 2) := dk_21 5 (dk_at dksX6_mean_3 0 rfl rfl)
theorem dX6_mean_73 : decode cX6_mean 73 = .ok (.iload_n 2, 1) := dk_28 (dk_at dksX6_mean_3 2 rfl rfl)
theorem dX6_mean_74 : decode cX6_mean 74 = .ok (.if_icmp .ge 55, 3) := dk_162 0 55 (dk_at dksX6_mean_3 3 rfl rfl)
theorem dX6_mean_77 : decode cX6_mean 77 = .ok (.aload_n 0, 1) := dk_42 (dk_at dksX6_mean_3 6 rfl rfl)
theorem dX6_mean_78 : decode cX6_mean 78 = .ok (.iload_n 1, 1) := dk_27 (dk_at dksX6_mean_3 7 rfl rfl)
theorem dX6_mean_79 : decode cX6_mean 79 = .ok (.iload 5, 2) := dk_21 5 (dk_at dksX6_mean_3 8 rfl rfl)
theorem dX6_mean_81 : decode cX6_mean 81 = .ok (.iadd, 1) := dk_96 (dk_at dksX6_mean_3 10 rfl rfl)
theorem dX6_mean_82 : decode cX6_mean 82 = .ok (.invokevirtual 508, 3) := dk_182 1 252 (dk_at dksX6_mean_3 11 rfl rfl)
theorem dX6_mean_85 : decode cX6_mean 85 = .ok (.iconst 0, 1) := dk_3 (dk_at dksX6_mean_3 14 rfl rfl)
theorem dX6_mean_86 : decode cX6_mean 86 = .ok (.istore 6, 2) := dk_54 6 (dk_at dksX6_mean_3 15 rfl rfl)
theorem dX6_mean_88 : decode cX6_mean 88 = .ok (.iload 6, 2) := dk_21 6 (dk_at dksX6_mean_3 17 rfl rfl)
theorem dX6_mean_90 : decode cX6_mean 90 = .ok (.aload_n 0, 1) := dk_42 (dk_at dksX6_mean_3 19 rfl rfl)
theorem dX6_mean_91 : decode cX6_mean 91 = .ok (.getfield 7, 3) := dk_180 0 7 (dk_at dksX6_mean_3 20 rfl rfl)
theorem dX6_mean_94 : decode cX6_mean 94 = .ok (.iconst 3, 1) := dk_6 (dk_at dksX6_mean_3 23 rfl rfl)
theorem dX6_mean_95 : decode cX6_mean 95 = .ok (.iaload, 1) := dk_46 (dk_at dksX6_mean_4 0 rfl rfl)
theorem dX6_mean_96 : decode cX6_mean 96 = .ok (.if_icmp .ge 20, 3) := dk_162 0 20 (dk_at dksX6_mean_4 1 rfl rfl)
theorem dX6_mean_99 : decode cX6_mean 99 = .ok (.lload_n 3, 1) := dk_33 (dk_at dksX6_mean_4 4 rfl rfl)
theorem dX6_mean_100 : decode cX6_mean 100 = .ok (.aload_n 0, 1) := dk_42 (dk_at dksX6_mean_4 5 rfl rfl)
theorem dX6_mean_101 : decode cX6_mean 101 = .ok (.iload 6, 2) := dk_21 6 (dk_at dksX6_mean_4 6 rfl rfl)
theorem dX6_mean_103 : decode cX6_mean 103 = .ok (.iconst 0, 1) := dk_3 (dk_at dksX6_mean_4 8 rfl rfl)
theorem dX6_mean_104 : decode cX6_mean 104 = .ok (.invokevirtual 281, 3) := dk_182 1 25 (dk_at dksX6_mean_4 9 rfl rfl)
theorem dX6_mean_107 : decode cX6_mean 107 = .ok (.i2l, 1) := dk_133 (dk_at dksX6_mean_4 12 rfl rfl)
theorem dX6_mean_108 : decode cX6_mean 108 = .ok (.ladd, 1) := dk_97 (dk_at dksX6_mean_4 13 rfl rfl)
theorem dX6_mean_109 : decode cX6_mean 109 = .ok (.lstore_n 3, 1) := dk_66 (dk_at dksX6_mean_4 14 rfl rfl)
theorem dX6_mean_110 : decode cX6_mean 110 = .ok (.iinc 6 1, 3) := dk_132 6 1 (dk_at dksX6_mean_4 15 rfl rfl)
theorem dX6_mean_113 : decode cX6_mean 113 = .ok (.goto (-25), 3) := dk_167 255 231 (dk_at dksX6_mean_4 18 rfl rfl)
theorem dX6_mean_116 : decode cX6_mean 116 = .ok (.aload_n 0, 1) := dk_42 (dk_at dksX6_mean_4 21 rfl rfl)
theorem dX6_mean_117 : decode cX6_mean 117 = .ok (.sipush 2510, 3) := dk_17 9 206 (dk_at dksX6_mean_5 0 rfl rfl)
theorem dX6_mean_120 : decode cX6_mean 120 = .ok (.invokevirtual 377, 3) := dk_182 1 121 (dk_at dksX6_mean_5 3 rfl rfl)
theorem dX6_mean_123 : decode cX6_mean 123 = .ok (.iinc 5 1, 3) := dk_132 5 1 (dk_at dksX6_mean_5 6 rfl rfl)
theorem dX6_mean_126 : decode cX6_mean 126 = .ok (.goto (-55), 3) := dk_167 255 201 (dk_at dksX6_mean_5 9 rfl rfl)
theorem dX6_mean_129 : decode cX6_mean 129 = .ok (.aload_n 0, 1) := dk_42 (dk_at dksX6_mean_5 12 rfl rfl)
theorem dX6_mean_130 : decode cX6_mean 130 = .ok (.lload_n 3, 1) := dk_33 (dk_at dksX6_mean_5 13 rfl rfl)
theorem dX6_mean_131 : decode cX6_mean 131 = .ok (.iload_n 2, 1) := dk_28 (dk_at dksX6_mean_5 14 rfl rfl)
theorem dX6_mean_132 : decode cX6_mean 132 = .ok (.i2l, 1) := dk_133 (dk_at dksX6_mean_5 15 rfl rfl)
theorem dX6_mean_133 : decode cX6_mean 133 = .ok (.invokevirtual 405, 3) := dk_182 1 149 (dk_at dksX6_mean_5 16 rfl rfl)
theorem dX6_mean_136 : decode cX6_mean 136 = .ok (.ireturn, 1) := dk_172 (dk_at dksX6_mean_5 19 rfl rfl)
abbrev cX6_mark : ByteArray := prog_16_method_166_code
def yX6_mark : MethodName := ⟨RX6, "mark", "()I"⟩
def dkwX6_mark_1 : List UInt8 := [42, 3, 42, 180, 2, 3, 182, 2, 6, 42, 42, 180, 2, 3, 182, 0, 95, 172]
abbrev dktX6_mark_1 : List UInt8 := dkwX6_mark_1 ++ []
def dkwX6_mark_0 : List UInt8 := [42, 180, 2, 3, 6, 160, 0, 9, 42, 7, 182, 0, 91, 172, 42, 89, 180, 2, 3, 4, 96, 181, 2, 3]
abbrev dktX6_mark_0 : List UInt8 := dkwX6_mark_0 ++ dktX6_mark_1
theorem dksX6_mark_0 : cX6_mark.data.toList.drop 0 = dktX6_mark_0 := by decide +kernel
theorem dksX6_mark_1 : cX6_mark.data.toList.drop 24 = dktX6_mark_1 := dk_seg dksX6_mark_0 24 rfl rfl
theorem dX6_mark_0 : decode cX6_mark 0 = .ok (.aload_n 0, 1) := dk_42 (dk_at dksX6_mark_0 0 rfl rfl)
theorem dX6_mark_1 : decode cX6_mark 1 = .ok (.getfield 515, 3) := dk_180 2 3 (dk_at dksX6_mark_0 1 rfl rfl)
theorem dX6_mark_4 : decode cX6_mark 4 = .ok (.iconst 3, 1) := dk_6 (dk_at dksX6_mark_0 4 rfl rfl)
theorem dX6_mark_5 : decode cX6_mark 5 = .ok (.if_icmp .ne 9, 3) := dk_160 0 9 (dk_at dksX6_mark_0 5 rfl rfl)
theorem dX6_mark_8 : decode cX6_mark 8 = .ok (.aload_n 0, 1) := dk_42 (dk_at dksX6_mark_0 8 rfl rfl)
theorem dX6_mark_9 : decode cX6_mark 9 = .ok (.iconst 4, 1) := dk_7 (dk_at dksX6_mark_0 9 rfl rfl)
theorem dX6_mark_10 : decode cX6_mark 10 = .ok (.invokevirtual 91, 3) := dk_182 0 91 (dk_at dksX6_mark_0 10 rfl rfl)
theorem dX6_mark_13 : decode cX6_mark 13 = .ok (.ireturn, 1) := dk_172 (dk_at dksX6_mark_0 13 rfl rfl)
theorem dX6_mark_14 : decode cX6_mark 14 = .ok (.aload_n 0, 1) := dk_42 (dk_at dksX6_mark_0 14 rfl rfl)
theorem dX6_mark_15 : decode cX6_mark 15 = .ok (.dup, 1) := dk_89 (dk_at dksX6_mark_0 15 rfl rfl)
theorem dX6_mark_16 : decode cX6_mark 16 = .ok (.getfield 515, 3) := dk_180 2 3 (dk_at dksX6_mark_0 16 rfl rfl)
theorem dX6_mark_19 : decode cX6_mark 19 = .ok (.iconst 1, 1) := dk_4 (dk_at dksX6_mark_0 19 rfl rfl)
theorem dX6_mark_20 : decode cX6_mark 20 = .ok (.iadd, 1) := dk_96 (dk_at dksX6_mark_0 20 rfl rfl)
theorem dX6_mark_21 : decode cX6_mark 21 = .ok (.putfield 515, 3) := dk_181 2 3 (dk_at dksX6_mark_0 21 rfl rfl)
theorem dX6_mark_24 : decode cX6_mark 24 = .ok (.aload_n 0, 1) := dk_42 (dk_at dksX6_mark_1 0 rfl rfl)
theorem dX6_mark_25 : decode cX6_mark 25 = .ok (.iconst 0, 1) := dk_3 (dk_at dksX6_mark_1 1 rfl rfl)
theorem dX6_mark_26 : decode cX6_mark 26 = .ok (.aload_n 0, 1) := dk_42 (dk_at dksX6_mark_1 2 rfl rfl)
theorem dX6_mark_27 : decode cX6_mark 27 = .ok (.getfield 515, 3) := dk_180 2 3 (dk_at dksX6_mark_1 3 rfl rfl)
theorem dX6_mark_30 : decode cX6_mark 30 = .ok (.invokevirtual 518, 3) := dk_182 2 6 (dk_at dksX6_mark_1 6 rfl rfl)
theorem dX6_mark_33 : decode cX6_mark 33 = .ok (.aload_n 0, 1) := dk_42 (dk_at dksX6_mark_1 9 rfl rfl)
theorem dX6_mark_34 : decode cX6_mark 34 = .ok (.aload_n 0, 1) := dk_42 (dk_at dksX6_mark_1 10 rfl rfl)
theorem dX6_mark_35 : decode cX6_mark 35 = .ok (.getfield 515, 3) := dk_180 2 3 (dk_at dksX6_mark_1 11 rfl rfl)
theorem dX6_mark_38 : decode cX6_mark 38 = .ok (.invokevirtual 95, 3) := dk_182 0 95 (dk_at dksX6_mark_1 14 rfl rfl)
theorem dX6_mark_41 : decode cX6_mark 41 = .ok (.ireturn, 1) := dk_172 (dk_at dksX6_mark_1 17 rfl rfl)
abbrev cX6_copies : ByteArray := prog_16_method_165_code
def yX6_copies : MethodName := ⟨RX6, "copies", "(II)V"⟩
def dkwX6_copies_3 : List UInt8 := [167, 255, 225, 177]
abbrev dktX6_copies_3 : List UInt8 := dkwX6_copies_3 ++ []
def dkwX6_copies_2 : List UInt8 := [180, 0, 13, 16, 23, 28, 104, 29, 96, 42, 180, 0, 13, 16, 23, 27, 104, 29, 96, 47, 80, 132, 3, 1]
abbrev dktX6_copies_2 : List UInt8 := dkwX6_copies_2 ++ dktX6_copies_3
def dkwX6_copies_1 : List UInt8 := [17, 1, 246, 27, 104, 29, 96, 46, 79, 132, 3, 1, 167, 255, 222, 3, 62, 29, 16, 23, 162, 0, 31, 42]
abbrev dktX6_copies_1 : List UInt8 := dkwX6_copies_1 ++ dktX6_copies_2
def dkwX6_copies_0 : List UInt8 := [3, 62, 29, 17, 1, 246, 162, 0, 33, 42, 180, 0, 7, 17, 1, 246, 28, 104, 29, 96, 42, 180, 0, 7]
abbrev dktX6_copies_0 : List UInt8 := dkwX6_copies_0 ++ dktX6_copies_1
theorem dksX6_copies_0 : cX6_copies.data.toList.drop 0 = dktX6_copies_0 := by decide +kernel
theorem dksX6_copies_1 : cX6_copies.data.toList.drop 24 = dktX6_copies_1 := dk_seg dksX6_copies_0 24 rfl rfl
theorem dksX6_copies_2 : cX6_copies.data.toList.drop 48 = dktX6_copies_2 := dk_seg dksX6_copies_1 24 rfl rfl
theorem dksX6_copies_3 : cX6_copies.data.toList.drop 72 = dktX6_copies_3 := dk_seg dksX6_copies_2 24 rfl rfl
theorem dX6_copies_0 : decode cX6_copies 0 = .ok (.iconst 0, 1) := dk_3 (dk_at dksX6_copies_0 0 rfl rfl)
theorem dX6_copies_1 : decode cX6_copies 1 = .ok (.istore_n 3, 1) := dk_62 (dk_at dksX6_copies_0 1 rfl rfl)
theorem dX6_copies_2 : decode cX6_copies 2 = .ok (.iload_n 3, 1) := dk_29 (dk_at dksX6_copies_0 2 rfl rfl)
theorem dX6_copies_3 : decode cX6_copies 3 = .ok (.sipush 502, 3) := dk_17 1 246 (dk_at dksX6_copies_0 3 rfl rfl)
theorem dX6_copies_6 : decode cX6_copies 6 = .ok (.if_icmp .ge 33, 3) := dk_162 0 33 (dk_at dksX6_copies_0 6 rfl rfl)
theorem dX6_copies_9 : decode cX6_copies 9 = .ok (.aload_n 0, 1) := dk_42 (dk_at dksX6_copies_0 9 rfl rfl)
theorem dX6_copies_10 : decode cX6_copies 10 = .ok (.getfield 7, 3) := dk_180 0 7 (dk_at dksX6_copies_0 10 rfl rfl)
theorem dX6_copies_13 : decode cX6_copies 13 = .ok (.sipush 502, 3) := dk_17 1 246 (dk_at dksX6_copies_0 13 rfl rfl)
theorem dX6_copies_16 : decode cX6_copies 16 = .ok (.iload_n 2, 1) := dk_28 (dk_at dksX6_copies_0 16 rfl rfl)
theorem dX6_copies_17 : decode cX6_copies 17 = .ok (.imul, 1) := dk_104 (dk_at dksX6_copies_0 17 rfl rfl)
theorem dX6_copies_18 : decode cX6_copies 18 = .ok (.iload_n 3, 1) := dk_29 (dk_at dksX6_copies_0 18 rfl rfl)
theorem dX6_copies_19 : decode cX6_copies 19 = .ok (.iadd, 1) := dk_96 (dk_at dksX6_copies_0 19 rfl rfl)
theorem dX6_copies_20 : decode cX6_copies 20 = .ok (.aload_n 0, 1) := dk_42 (dk_at dksX6_copies_0 20 rfl rfl)
theorem dX6_copies_21 : decode cX6_copies 21 = .ok (.getfield 7, 3) := dk_180 0 7 (dk_at dksX6_copies_0 21 rfl rfl)
theorem dX6_copies_24 : decode cX6_copies 24 = .ok (.sipush 502, 3) := dk_17 1 246 (dk_at dksX6_copies_1 0 rfl rfl)
theorem dX6_copies_27 : decode cX6_copies 27 = .ok (.iload_n 1, 1) := dk_27 (dk_at dksX6_copies_1 3 rfl rfl)
theorem dX6_copies_28 : decode cX6_copies 28 = .ok (.imul, 1) := dk_104 (dk_at dksX6_copies_1 4 rfl rfl)
theorem dX6_copies_29 : decode cX6_copies 29 = .ok (.iload_n 3, 1) := dk_29 (dk_at dksX6_copies_1 5 rfl rfl)
theorem dX6_copies_30 : decode cX6_copies 30 = .ok (.iadd, 1) := dk_96 (dk_at dksX6_copies_1 6 rfl rfl)
theorem dX6_copies_31 : decode cX6_copies 31 = .ok (.iaload, 1) := dk_46 (dk_at dksX6_copies_1 7 rfl rfl)
theorem dX6_copies_32 : decode cX6_copies 32 = .ok (.iastore, 1) := dk_79 (dk_at dksX6_copies_1 8 rfl rfl)
theorem dX6_copies_33 : decode cX6_copies 33 = .ok (.iinc 3 1, 3) := dk_132 3 1 (dk_at dksX6_copies_1 9 rfl rfl)
theorem dX6_copies_36 : decode cX6_copies 36 = .ok (.goto (-34), 3) := dk_167 255 222 (dk_at dksX6_copies_1 12 rfl rfl)
theorem dX6_copies_39 : decode cX6_copies 39 = .ok (.iconst 0, 1) := dk_3 (dk_at dksX6_copies_1 15 rfl rfl)
theorem dX6_copies_40 : decode cX6_copies 40 = .ok (.istore_n 3, 1) := dk_62 (dk_at dksX6_copies_1 16 rfl rfl)
theorem dX6_copies_41 : decode cX6_copies 41 = .ok (.iload_n 3, 1) := dk_29 (dk_at dksX6_copies_1 17 rfl rfl)
theorem dX6_copies_42 : decode cX6_copies 42 = .ok (.bipush 23, 2) := dk_16 23 (dk_at dksX6_copies_1 18 rfl rfl)
theorem dX6_copies_44 : decode cX6_copies 44 = .ok (.if_icmp .ge 31, 3) := dk_162 0 31 (dk_at dksX6_copies_1 20 rfl rfl)
theorem dX6_copies_47 : decode cX6_copies 47 = .ok (.aload_n 0, 1) := dk_42 (dk_at dksX6_copies_1 23 rfl rfl)
theorem dX6_copies_48 : decode cX6_copies 48 = .ok (.getfield 13, 3) := dk_180 0 13 (dk_at dksX6_copies_2 0 rfl rfl)
theorem dX6_copies_51 : decode cX6_copies 51 = .ok (.bipush 23, 2) := dk_16 23 (dk_at dksX6_copies_2 3 rfl rfl)
theorem dX6_copies_53 : decode cX6_copies 53 = .ok (.iload_n 2, 1) := dk_28 (dk_at dksX6_copies_2 5 rfl rfl)
theorem dX6_copies_54 : decode cX6_copies 54 = .ok (.imul, 1) := dk_104 (dk_at dksX6_copies_2 6 rfl rfl)
theorem dX6_copies_55 : decode cX6_copies 55 = .ok (.iload_n 3, 1) := dk_29 (dk_at dksX6_copies_2 7 rfl rfl)
theorem dX6_copies_56 : decode cX6_copies 56 = .ok (.iadd, 1) := dk_96 (dk_at dksX6_copies_2 8 rfl rfl)
theorem dX6_copies_57 : decode cX6_copies 57 = .ok (.aload_n 0, 1) := dk_42 (dk_at dksX6_copies_2 9 rfl rfl)
theorem dX6_copies_58 : decode cX6_copies 58 = .ok (.getfield 13, 3) := dk_180 0 13 (dk_at dksX6_copies_2 10 rfl rfl)
theorem dX6_copies_61 : decode cX6_copies 61 = .ok (.bipush 23, 2) := dk_16 23 (dk_at dksX6_copies_2 13 rfl rfl)
theorem dX6_copies_63 : decode cX6_copies 63 = .ok (.iload_n 1, 1) := dk_27 (dk_at dksX6_copies_2 15 rfl rfl)
theorem dX6_copies_64 : decode cX6_copies 64 = .ok (.imul, 1) := dk_104 (dk_at dksX6_copies_2 16 rfl rfl)
theorem dX6_copies_65 : decode cX6_copies 65 = .ok (.iload_n 3, 1) := dk_29 (dk_at dksX6_copies_2 17 rfl rfl)
theorem dX6_copies_66 : decode cX6_copies 66 = .ok (.iadd, 1) := dk_96 (dk_at dksX6_copies_2 18 rfl rfl)
theorem dX6_copies_67 : decode cX6_copies 67 = .ok (.laload, 1) := dk_47 (dk_at dksX6_copies_2 19 rfl rfl)
theorem dX6_copies_68 : decode cX6_copies 68 = .ok (.lastore, 1) := dk_80 (dk_at dksX6_copies_2 20 rfl rfl)
theorem dX6_copies_69 : decode cX6_copies 69 = .ok (.iinc 3 1, 3) := dk_132 3 1 (dk_at dksX6_copies_2 21 rfl rfl)
theorem dX6_copies_72 : decode cX6_copies 72 = .ok (.goto (-31), 3) := dk_167 255 225 (dk_at dksX6_copies_3 0 rfl rfl)
theorem dX6_copies_75 : decode cX6_copies 75 = .ok (.return_, 1) := dk_177 (dk_at dksX6_copies_3 3 rfl rfl)
abbrev cX6_undo : ByteArray := prog_16_method_167_code
def yX6_undo : MethodName := ⟨RX6, "undo", "()I"⟩
def dkwX6_undo_1 : List UInt8 := [89, 180, 2, 3, 4, 100, 181, 2, 3, 42, 42, 180, 2, 3, 182, 0, 95, 172]
abbrev dktX6_undo_1 : List UInt8 := dkwX6_undo_1 ++ []
def dkwX6_undo_0 : List UInt8 := [42, 180, 2, 3, 154, 0, 10, 42, 16, 6, 182, 0, 91, 172, 42, 42, 180, 2, 3, 3, 182, 2, 6, 42]
abbrev dktX6_undo_0 : List UInt8 := dkwX6_undo_0 ++ dktX6_undo_1
theorem dksX6_undo_0 : cX6_undo.data.toList.drop 0 = dktX6_undo_0 := by decide +kernel
theorem dksX6_undo_1 : cX6_undo.data.toList.drop 24 = dktX6_undo_1 := dk_seg dksX6_undo_0 24 rfl rfl
theorem dX6_undo_0 : decode cX6_undo 0 = .ok (.aload_n 0, 1) := dk_42 (dk_at dksX6_undo_0 0 rfl rfl)
theorem dX6_undo_1 : decode cX6_undo 1 = .ok (.getfield 515, 3) := dk_180 2 3 (dk_at dksX6_undo_0 1 rfl rfl)
theorem dX6_undo_4 : decode cX6_undo 4 = .ok (.ifCond .ne 10, 3) := dk_154 0 10 (dk_at dksX6_undo_0 4 rfl rfl)
theorem dX6_undo_7 : decode cX6_undo 7 = .ok (.aload_n 0, 1) := dk_42 (dk_at dksX6_undo_0 7 rfl rfl)
theorem dX6_undo_8 : decode cX6_undo 8 = .ok (.bipush 6, 2) := dk_16 6 (dk_at dksX6_undo_0 8 rfl rfl)
theorem dX6_undo_10 : decode cX6_undo 10 = .ok (.invokevirtual 91, 3) := dk_182 0 91 (dk_at dksX6_undo_0 10 rfl rfl)
theorem dX6_undo_13 : decode cX6_undo 13 = .ok (.ireturn, 1) := dk_172 (dk_at dksX6_undo_0 13 rfl rfl)
theorem dX6_undo_14 : decode cX6_undo 14 = .ok (.aload_n 0, 1) := dk_42 (dk_at dksX6_undo_0 14 rfl rfl)
theorem dX6_undo_15 : decode cX6_undo 15 = .ok (.aload_n 0, 1) := dk_42 (dk_at dksX6_undo_0 15 rfl rfl)
theorem dX6_undo_16 : decode cX6_undo 16 = .ok (.getfield 515, 3) := dk_180 2 3 (dk_at dksX6_undo_0 16 rfl rfl)
theorem dX6_undo_19 : decode cX6_undo 19 = .ok (.iconst 0, 1) := dk_3 (dk_at dksX6_undo_0 19 rfl rfl)
theorem dX6_undo_20 : decode cX6_undo 20 = .ok (.invokevirtual 518, 3) := dk_182 2 6 (dk_at dksX6_undo_0 20 rfl rfl)
theorem dX6_undo_23 : decode cX6_undo 23 = .ok (.aload_n 0, 1) := dk_42 (dk_at dksX6_undo_0 23 rfl rfl)
theorem dX6_undo_24 : decode cX6_undo 24 = .ok (.dup, 1) := dk_89 (dk_at dksX6_undo_1 0 rfl rfl)
theorem dX6_undo_25 : decode cX6_undo 25 = .ok (.getfield 515, 3) := dk_180 2 3 (dk_at dksX6_undo_1 1 rfl rfl)
theorem dX6_undo_28 : decode cX6_undo 28 = .ok (.iconst 1, 1) := dk_4 (dk_at dksX6_undo_1 4 rfl rfl)
theorem dX6_undo_29 : decode cX6_undo 29 = .ok (.isub, 1) := dk_100 (dk_at dksX6_undo_1 5 rfl rfl)
theorem dX6_undo_30 : decode cX6_undo 30 = .ok (.putfield 515, 3) := dk_181 2 3 (dk_at dksX6_undo_1 6 rfl rfl)
theorem dX6_undo_33 : decode cX6_undo 33 = .ok (.aload_n 0, 1) := dk_42 (dk_at dksX6_undo_1 9 rfl rfl)
theorem dX6_undo_34 : decode cX6_undo 34 = .ok (.aload_n 0, 1) := dk_42 (dk_at dksX6_undo_1 10 rfl rfl)
theorem dX6_undo_35 : decode cX6_undo 35 = .ok (.getfield 515, 3) := dk_180 2 3 (dk_at dksX6_undo_1 11 rfl rfl)
theorem dX6_undo_38 : decode cX6_undo 38 = .ok (.invokevirtual 95, 3) := dk_182 0 95 (dk_at dksX6_undo_1 14 rfl rfl)
theorem dX6_undo_41 : decode cX6_undo 41 = .ok (.ireturn, 1) := dk_172 (dk_at dksX6_undo_1 17 rfl rfl)
theorem q175 : (Jvm.Cond.initialized "CatWitnessModel") ∈ lw_all := lw_g (lw_at lw_m1 9 rfl) rfl
theorem q1612 : (Jvm.Cond.instantiable "CatWitnessModel" (42 : Nat)) ∈ lw_all := lw_g (lw_at lw_m7 6 rfl) rfl
theorem q1614 : (Jvm.Cond.instanceMethod ({ cls := "CatWitnessModel", name := "<init>", desc := "()V" } : Jvm.MethodName)) ∈ lw_all := lw_g (lw_at lw_m7 8 rfl) rfl
theorem q1615 : (Jvm.Cond.code ({ cls := "CatWitnessModel", name := "<init>", desc := "()V" } : Jvm.MethodName) prog_16_method_1_code (1 : Nat) (Option.none : Option Jvm.ClassFile.FieldType)) ∈ lw_all := lw_g (lw_at lw_m7 9 rfl) rfl
theorem q1616 : (Jvm.Cond.methodLink "CatWitnessModel" (1 : Nat) ({ cls := "java/lang/Object", name := "<init>", desc := "()V" } : Jvm.MethodName)) ∈ lw_all := lw_g (lw_at lw_m7 10 rfl) rfl
theorem q1617 : (Jvm.Cond.methodLink "CatWitnessModel" (81 : Nat) ({ cls := "CatWitnessModel", name := "plain", desc := "(I)V" } : Jvm.MethodName)) ∈ lw_all := lw_g (lw_at lw_m7 11 rfl) rfl
theorem q1618 : (Jvm.Cond.privateMethod ({ cls := "CatWitnessModel", name := "plain", desc := "(I)V" } : Jvm.MethodName)) ∈ lw_tbl := lw_at lw_m7 12 rfl
theorem q1619 : (Jvm.Cond.instanceMethod ({ cls := "CatWitnessModel", name := "plain", desc := "(I)V" } : Jvm.MethodName)) ∈ lw_all := lw_g (lw_at lw_m7 13 rfl) rfl
theorem q1620 : (Jvm.Cond.code ({ cls := "CatWitnessModel", name := "plain", desc := "(I)V" } : Jvm.MethodName) prog_16_method_2_code (3 : Nat) (Option.none : Option Jvm.ClassFile.FieldType)) ∈ lw_all := lw_g (lw_at lw_m7 14 rfl) rfl
theorem q1621 : (Jvm.Cond.fieldLink "CatWitnessModel" (7 : Nat) "CatWitnessModel" "at" "[I") ∈ lw_all := lw_g (lw_at lw_m7 15 rfl) rfl
theorem q1622 : (Jvm.Cond.fieldLink "CatWitnessModel" (13 : Nat) "CatWitnessModel" "names" "[J") ∈ lw_all := lw_g (lw_at lw_m7 16 rfl) rfl
theorem q1623 : (Jvm.Cond.fieldLink "CatWitnessModel" (85 : Nat) "CatWitnessModel" "status" "I") ∈ lw_all := lw_g (lw_at lw_m7 17 rfl) rfl
theorem q1624 : (Jvm.Cond.fieldLink "CatWitnessModel" (88 : Nat) "CatWitnessModel" "top" "J") ∈ lw_all := lw_g (lw_at lw_m7 18 rfl) rfl
theorem q1625 : (Jvm.Cond.fieldLink "CatWitnessModel" (17 : Nat) "CatWitnessModel" "bottom" "J") ∈ lw_all := lw_g (lw_at lw_m7 19 rfl) rfl
theorem q1626 : (Jvm.Cond.fieldLink "CatWitnessModel" (21 : Nat) "CatWitnessModel" "sort" "[I") ∈ lw_all := lw_g (lw_at lw_m7 20 rfl) rfl
theorem q1627 : (Jvm.Cond.fieldLink "CatWitnessModel" (24 : Nat) "CatWitnessModel" "trayMany" "[I") ∈ lw_all := lw_g (lw_at lw_m7 21 rfl) rfl
theorem q1628 : (Jvm.Cond.fieldLink "CatWitnessModel" (27 : Nat) "CatWitnessModel" "trays" "[J") ∈ lw_all := lw_g (lw_at lw_m7 22 rfl) rfl
theorem q1629 : (Jvm.Cond.fieldLink "CatWitnessModel" (30 : Nat) "CatWitnessModel" "tape" "[B") ∈ lw_all := lw_g (lw_at lw_m7 23 rfl) rfl
theorem q1630 : (Jvm.Cond.fieldLink "CatWitnessModel" (34 : Nat) "CatWitnessModel" "text" "[B") ∈ lw_all := lw_g (lw_at lw_m7 24 rfl) rfl
theorem q1631 : (Jvm.Cond.fieldLink "CatWitnessModel" (115 : Nat) "CatWitnessModel" "taped" "I") ∈ lw_all := lw_g (lw_at lw_m7 25 rfl) rfl
theorem q1632 : (Jvm.Cond.fieldLink "CatWitnessModel" (121 : Nat) "CatWitnessModel" "size" "I") ∈ lw_all := lw_g (lw_at lw_m7 26 rfl) rfl
theorem q1633 : (Jvm.Cond.fieldLink "CatWitnessModel" (136 : Nat) "CatWitnessModel" "token" "I") ∈ lw_all := lw_g (lw_at lw_m7 27 rfl) rfl
theorem q1634 : (Jvm.Cond.fieldLink "CatWitnessModel" (130 : Nat) "CatWitnessModel" "from" "I") ∈ lw_all := lw_g (lw_at lw_m7 28 rfl) rfl
theorem q1635 : (Jvm.Cond.fieldLink "CatWitnessModel" (124 : Nat) "CatWitnessModel" "end" "I") ∈ lw_all := lw_g (lw_at lw_m7 29 rfl) rfl
theorem q1636 : (Jvm.Cond.fieldLink "CatWitnessModel" (133 : Nat) "CatWitnessModel" "value" "I") ∈ lw_all := lw_g (lw_at lw_m7 30 rfl) rfl
theorem q1637 : (Jvm.Cond.fieldLink "CatWitnessModel" (37 : Nat) "CatWitnessModel" "faultKind" "I") ∈ lw_all := lw_g (lw_at lw_m7 31 rfl) rfl
theorem q1638 : (Jvm.Cond.fieldLink "CatWitnessModel" (41 : Nat) "CatWitnessModel" "faultPlace" "I") ∈ lw_all := lw_g (lw_at lw_m7 32 rfl) rfl
theorem q1639 : (Jvm.Cond.fieldLink "CatWitnessModel" (161 : Nat) "CatWitnessModel" "faults" "I") ∈ lw_all := lw_g (lw_at lw_m7 33 rfl) rfl
theorem q1640 : (Jvm.Cond.fieldLink "CatWitnessModel" (164 : Nat) "CatWitnessModel" "seen" "I") ∈ lw_all := lw_g (lw_at lw_m7 34 rfl) rfl
theorem q1641 : (Jvm.Cond.fieldLink "CatWitnessModel" (44 : Nat) "CatWitnessModel" "opened" "[I") ∈ lw_all := lw_g (lw_at lw_m7 35 rfl) rfl
theorem q1642 : (Jvm.Cond.fieldLink "CatWitnessModel" (269 : Nat) "CatWitnessModel" "depth" "I") ∈ lw_all := lw_g (lw_at lw_m7 36 rfl) rfl
theorem q1643 : (Jvm.Cond.fieldLink "CatWitnessModel" (272 : Nat) "CatWitnessModel" "counted" "I") ∈ lw_all := lw_g (lw_at lw_m7 37 rfl) rfl
theorem q1644 : (Jvm.Cond.fieldLink "CatWitnessModel" (47 : Nat) "CatWitnessModel" "fitsBy" "[Z") ∈ lw_all := lw_g (lw_at lw_m7 38 rfl) rfl
theorem q1645 : (Jvm.Cond.fieldLink "CatWitnessModel" (389 : Nat) "CatWitnessModel" "fitMany" "I") ∈ lw_all := lw_g (lw_at lw_m7 39 rfl) rfl
theorem q1646 : (Jvm.Cond.fieldLink "CatWitnessModel" (51 : Nat) "CatWitnessModel" "shownBy" "[I") ∈ lw_all := lw_g (lw_at lw_m7 40 rfl) rfl
theorem q1647 : (Jvm.Cond.fieldLink "CatWitnessModel" (416 : Nat) "CatWitnessModel" "deedsLeast" "I") ∈ lw_all := lw_g (lw_at lw_m7 41 rfl) rfl
theorem q1648 : (Jvm.Cond.fieldLink "CatWitnessModel" (419 : Nat) "CatWitnessModel" "mealsLeast" "I") ∈ lw_all := lw_g (lw_at lw_m7 42 rfl) rfl
theorem q1649 : (Jvm.Cond.fieldLink "CatWitnessModel" (422 : Nat) "CatWitnessModel" "smellsLeast" "I") ∈ lw_all := lw_g (lw_at lw_m7 43 rfl) rfl
theorem q1650 : (Jvm.Cond.fieldLink "CatWitnessModel" (54 : Nat) "CatWitnessModel" "firstBy" "[I") ∈ lw_all := lw_g (lw_at lw_m7 44 rfl) rfl
theorem q1651 : (Jvm.Cond.fieldLink "CatWitnessModel" (57 : Nat) "CatWitnessModel" "guiltyBy" "[I") ∈ lw_all := lw_g (lw_at lw_m7 45 rfl) rfl
theorem q1652 : (Jvm.Cond.fieldLink "CatWitnessModel" (60 : Nat) "CatWitnessModel" "freeBy" "[I") ∈ lw_all := lw_g (lw_at lw_m7 46 rfl) rfl
theorem q1653 : (Jvm.Cond.fieldLink "CatWitnessModel" (63 : Nat) "CatWitnessModel" "doneAt" "[I") ∈ lw_all := lw_g (lw_at lw_m7 47 rfl) rfl
theorem q1654 : (Jvm.Cond.fieldLink "CatWitnessModel" (66 : Nat) "CatWitnessModel" "cameAt" "[I") ∈ lw_all := lw_g (lw_at lw_m7 48 rfl) rfl
theorem q1655 : (Jvm.Cond.fieldLink "CatWitnessModel" (69 : Nat) "CatWitnessModel" "bestDeed" "[I") ∈ lw_all := lw_g (lw_at lw_m7 49 rfl) rfl
theorem q1656 : (Jvm.Cond.fieldLink "CatWitnessModel" (478 : Nat) "CatWitnessModel" "drawn" "I") ∈ lw_all := lw_g (lw_at lw_m7 50 rfl) rfl
theorem q1657 : (Jvm.Cond.fieldLink "CatWitnessModel" (494 : Nat) "CatWitnessModel" "ranSteps" "I") ∈ lw_all := lw_g (lw_at lw_m7 51 rfl) rfl
theorem q1658 : (Jvm.Cond.fieldLink "CatWitnessModel" (72 : Nat) "CatWitnessModel" "loops" "[I") ∈ lw_all := lw_g (lw_at lw_m7 52 rfl) rfl
theorem q1659 : (Jvm.Cond.fieldLink "CatWitnessModel" (75 : Nat) "CatWitnessModel" "ran" "[I") ∈ lw_all := lw_g (lw_at lw_m7 53 rfl) rfl
theorem q1660 : (Jvm.Cond.fieldLink "CatWitnessModel" (78 : Nat) "CatWitnessModel" "told1" "[I") ∈ lw_all := lw_g (lw_at lw_m7 54 rfl) rfl
theorem q1661 : (Jvm.Cond.fieldLink "CatWitnessModel" (511 : Nat) "CatWitnessModel" "isTold" "Z") ∈ lw_all := lw_g (lw_at lw_m7 55 rfl) rfl
theorem q1662 : (Jvm.Cond.fieldLink "CatWitnessModel" (515 : Nat) "CatWitnessModel" "marks" "I") ∈ lw_all := lw_g (lw_at lw_m7 56 rfl) rfl
theorem q1663 : (Jvm.Cond.laysFinal "CatWitnessModel" "CatWitnessModel" "at" "[I") ∈ lw_all := lw_g (lw_at lw_m7 57 rfl) rfl
theorem q1664 : (Jvm.Cond.soleField "CatWitnessModel" "at") ∈ lw_all := lw_g (lw_at lw_m7 58 rfl) rfl
theorem q1665 : (Jvm.Cond.laysFinal "CatWitnessModel" "CatWitnessModel" "names" "[J") ∈ lw_all := lw_g (lw_at lw_m7 59 rfl) rfl
theorem q1666 : (Jvm.Cond.soleField "CatWitnessModel" "names") ∈ lw_all := lw_g (lw_at lw_m7 60 rfl) rfl
theorem q1667 : (Jvm.Cond.lays "CatWitnessModel" "CatWitnessModel" "status" "I") ∈ lw_all := lw_g (lw_at lw_m7 61 rfl) rfl
theorem q1668 : (Jvm.Cond.soleField "CatWitnessModel" "status") ∈ lw_all := lw_g (lw_at lw_m7 62 rfl) rfl
theorem q1669 : (Jvm.Cond.lays "CatWitnessModel" "CatWitnessModel" "top" "J") ∈ lw_all := lw_g (lw_at lw_m7 63 rfl) rfl
theorem q1670 : (Jvm.Cond.soleField "CatWitnessModel" "top") ∈ lw_all := lw_g (lw_at lw_m7 64 rfl) rfl
theorem q1671 : (Jvm.Cond.lays "CatWitnessModel" "CatWitnessModel" "bottom" "J") ∈ lw_all := lw_g (lw_at lw_m7 65 rfl) rfl
theorem q1672 : (Jvm.Cond.soleField "CatWitnessModel" "bottom") ∈ lw_all := lw_g (lw_at lw_m7 66 rfl) rfl
theorem q1673 : (Jvm.Cond.laysFinal "CatWitnessModel" "CatWitnessModel" "sort" "[I") ∈ lw_all := lw_g (lw_at lw_m7 67 rfl) rfl
theorem q1674 : (Jvm.Cond.soleField "CatWitnessModel" "sort") ∈ lw_all := lw_g (lw_at lw_m7 68 rfl) rfl
theorem q1675 : (Jvm.Cond.laysFinal "CatWitnessModel" "CatWitnessModel" "trayMany" "[I") ∈ lw_all := lw_g (lw_at lw_m7 69 rfl) rfl
theorem q1676 : (Jvm.Cond.soleField "CatWitnessModel" "trayMany") ∈ lw_all := lw_g (lw_at lw_m7 70 rfl) rfl
theorem q1677 : (Jvm.Cond.laysFinal "CatWitnessModel" "CatWitnessModel" "trays" "[J") ∈ lw_all := lw_g (lw_at lw_m7 71 rfl) rfl
theorem q1678 : (Jvm.Cond.soleField "CatWitnessModel" "trays") ∈ lw_all := lw_g (lw_at lw_m7 72 rfl) rfl
theorem q1679 : (Jvm.Cond.laysFinal "CatWitnessModel" "CatWitnessModel" "tape" "[B") ∈ lw_all := lw_g (lw_at lw_m7 73 rfl) rfl
theorem q1680 : (Jvm.Cond.soleField "CatWitnessModel" "tape") ∈ lw_all := lw_g (lw_at lw_m7 74 rfl) rfl
theorem q1681 : (Jvm.Cond.laysFinal "CatWitnessModel" "CatWitnessModel" "text" "[B") ∈ lw_all := lw_g (lw_at lw_m7 75 rfl) rfl
theorem q1682 : (Jvm.Cond.soleField "CatWitnessModel" "text") ∈ lw_all := lw_g (lw_at lw_m7 76 rfl) rfl
theorem q1683 : (Jvm.Cond.lays "CatWitnessModel" "CatWitnessModel" "taped" "I") ∈ lw_all := lw_g (lw_at lw_m7 77 rfl) rfl
theorem q1684 : (Jvm.Cond.soleField "CatWitnessModel" "taped") ∈ lw_all := lw_g (lw_at lw_m7 78 rfl) rfl
theorem q1685 : (Jvm.Cond.lays "CatWitnessModel" "CatWitnessModel" "size" "I") ∈ lw_all := lw_g (lw_at lw_m7 79 rfl) rfl
theorem q1686 : (Jvm.Cond.soleField "CatWitnessModel" "size") ∈ lw_all := lw_g (lw_at lw_m7 80 rfl) rfl
theorem q1687 : (Jvm.Cond.lays "CatWitnessModel" "CatWitnessModel" "token" "I") ∈ lw_all := lw_g (lw_at lw_m7 81 rfl) rfl
theorem q1688 : (Jvm.Cond.soleField "CatWitnessModel" "token") ∈ lw_all := lw_g (lw_at lw_m7 82 rfl) rfl
theorem q1689 : (Jvm.Cond.lays "CatWitnessModel" "CatWitnessModel" "from" "I") ∈ lw_all := lw_g (lw_at lw_m7 83 rfl) rfl
theorem q1690 : (Jvm.Cond.soleField "CatWitnessModel" "from") ∈ lw_all := lw_g (lw_at lw_m7 84 rfl) rfl
theorem q1691 : (Jvm.Cond.lays "CatWitnessModel" "CatWitnessModel" "end" "I") ∈ lw_all := lw_g (lw_at lw_m7 85 rfl) rfl
theorem q1692 : (Jvm.Cond.soleField "CatWitnessModel" "end") ∈ lw_all := lw_g (lw_at lw_m7 86 rfl) rfl
theorem q1693 : (Jvm.Cond.lays "CatWitnessModel" "CatWitnessModel" "value" "I") ∈ lw_all := lw_g (lw_at lw_m7 87 rfl) rfl
theorem q1694 : (Jvm.Cond.soleField "CatWitnessModel" "value") ∈ lw_all := lw_g (lw_at lw_m7 88 rfl) rfl
theorem q1695 : (Jvm.Cond.lays "CatWitnessModel" "CatWitnessModel" "faultKind" "I") ∈ lw_all := lw_g (lw_at lw_m7 89 rfl) rfl
theorem q1696 : (Jvm.Cond.soleField "CatWitnessModel" "faultKind") ∈ lw_all := lw_g (lw_at lw_m7 90 rfl) rfl
theorem q1697 : (Jvm.Cond.lays "CatWitnessModel" "CatWitnessModel" "faultPlace" "I") ∈ lw_all := lw_g (lw_at lw_m7 91 rfl) rfl
theorem q1698 : (Jvm.Cond.soleField "CatWitnessModel" "faultPlace") ∈ lw_all := lw_g (lw_at lw_m7 92 rfl) rfl
theorem q1699 : (Jvm.Cond.lays "CatWitnessModel" "CatWitnessModel" "faults" "I") ∈ lw_all := lw_g (lw_at lw_m7 93 rfl) rfl
theorem q1700 : (Jvm.Cond.soleField "CatWitnessModel" "faults") ∈ lw_all := lw_g (lw_at lw_m7 94 rfl) rfl
theorem q1701 : (Jvm.Cond.lays "CatWitnessModel" "CatWitnessModel" "seen" "I") ∈ lw_all := lw_g (lw_at lw_m7 95 rfl) rfl
theorem q1702 : (Jvm.Cond.soleField "CatWitnessModel" "seen") ∈ lw_all := lw_g (lw_at lw_m7 96 rfl) rfl
theorem q1703 : (Jvm.Cond.laysFinal "CatWitnessModel" "CatWitnessModel" "opened" "[I") ∈ lw_all := lw_g (lw_at lw_m7 97 rfl) rfl
theorem q1704 : (Jvm.Cond.soleField "CatWitnessModel" "opened") ∈ lw_all := lw_g (lw_at lw_m7 98 rfl) rfl
theorem q1705 : (Jvm.Cond.lays "CatWitnessModel" "CatWitnessModel" "depth" "I") ∈ lw_all := lw_g (lw_at lw_m7 99 rfl) rfl
theorem q1706 : (Jvm.Cond.soleField "CatWitnessModel" "depth") ∈ lw_all := lw_g (lw_at lw_m7 100 rfl) rfl
theorem q1707 : (Jvm.Cond.lays "CatWitnessModel" "CatWitnessModel" "counted" "I") ∈ lw_all := lw_g (lw_at lw_m7 101 rfl) rfl
theorem q1708 : (Jvm.Cond.soleField "CatWitnessModel" "counted") ∈ lw_all := lw_g (lw_at lw_m7 102 rfl) rfl
theorem q1709 : (Jvm.Cond.laysFinal "CatWitnessModel" "CatWitnessModel" "fitsBy" "[Z") ∈ lw_all := lw_g (lw_at lw_m7 103 rfl) rfl
theorem q1710 : (Jvm.Cond.soleField "CatWitnessModel" "fitsBy") ∈ lw_all := lw_g (lw_at lw_m7 104 rfl) rfl
theorem q1711 : (Jvm.Cond.lays "CatWitnessModel" "CatWitnessModel" "fitMany" "I") ∈ lw_all := lw_g (lw_at lw_m7 105 rfl) rfl
theorem q1712 : (Jvm.Cond.soleField "CatWitnessModel" "fitMany") ∈ lw_all := lw_g (lw_at lw_m7 106 rfl) rfl
theorem q1713 : (Jvm.Cond.laysFinal "CatWitnessModel" "CatWitnessModel" "shownBy" "[I") ∈ lw_all := lw_g (lw_at lw_m7 107 rfl) rfl
theorem q1714 : (Jvm.Cond.soleField "CatWitnessModel" "shownBy") ∈ lw_all := lw_g (lw_at lw_m7 108 rfl) rfl
theorem q1715 : (Jvm.Cond.lays "CatWitnessModel" "CatWitnessModel" "deedsLeast" "I") ∈ lw_all := lw_g (lw_at lw_m7 109 rfl) rfl
theorem q1716 : (Jvm.Cond.soleField "CatWitnessModel" "deedsLeast") ∈ lw_all := lw_g (lw_at lw_m7 110 rfl) rfl
theorem q1717 : (Jvm.Cond.lays "CatWitnessModel" "CatWitnessModel" "mealsLeast" "I") ∈ lw_all := lw_g (lw_at lw_m7 111 rfl) rfl
theorem q1718 : (Jvm.Cond.soleField "CatWitnessModel" "mealsLeast") ∈ lw_all := lw_g (lw_at lw_m7 112 rfl) rfl
theorem q1719 : (Jvm.Cond.lays "CatWitnessModel" "CatWitnessModel" "smellsLeast" "I") ∈ lw_all := lw_g (lw_at lw_m7 113 rfl) rfl
theorem q1720 : (Jvm.Cond.soleField "CatWitnessModel" "smellsLeast") ∈ lw_all := lw_g (lw_at lw_m7 114 rfl) rfl
theorem q1721 : (Jvm.Cond.laysFinal "CatWitnessModel" "CatWitnessModel" "firstBy" "[I") ∈ lw_all := lw_g (lw_at lw_m7 115 rfl) rfl
theorem q1722 : (Jvm.Cond.soleField "CatWitnessModel" "firstBy") ∈ lw_all := lw_g (lw_at lw_m7 116 rfl) rfl
theorem q1723 : (Jvm.Cond.laysFinal "CatWitnessModel" "CatWitnessModel" "guiltyBy" "[I") ∈ lw_all := lw_g (lw_at lw_m7 117 rfl) rfl
theorem q1724 : (Jvm.Cond.soleField "CatWitnessModel" "guiltyBy") ∈ lw_all := lw_g (lw_at lw_m7 118 rfl) rfl
theorem q1725 : (Jvm.Cond.laysFinal "CatWitnessModel" "CatWitnessModel" "freeBy" "[I") ∈ lw_all := lw_g (lw_at lw_m7 119 rfl) rfl
theorem q1726 : (Jvm.Cond.soleField "CatWitnessModel" "freeBy") ∈ lw_all := lw_g (lw_at lw_m7 120 rfl) rfl
theorem q1727 : (Jvm.Cond.laysFinal "CatWitnessModel" "CatWitnessModel" "doneAt" "[I") ∈ lw_all := lw_g (lw_at lw_m7 121 rfl) rfl
theorem q1728 : (Jvm.Cond.soleField "CatWitnessModel" "doneAt") ∈ lw_all := lw_g (lw_at lw_m7 122 rfl) rfl
theorem q1729 : (Jvm.Cond.laysFinal "CatWitnessModel" "CatWitnessModel" "cameAt" "[I") ∈ lw_all := lw_g (lw_at lw_m7 123 rfl) rfl
theorem q1730 : (Jvm.Cond.soleField "CatWitnessModel" "cameAt") ∈ lw_all := lw_g (lw_at lw_m7 124 rfl) rfl
theorem q1731 : (Jvm.Cond.laysFinal "CatWitnessModel" "CatWitnessModel" "bestDeed" "[I") ∈ lw_all := lw_g (lw_at lw_m7 125 rfl) rfl
theorem q1732 : (Jvm.Cond.soleField "CatWitnessModel" "bestDeed") ∈ lw_all := lw_g (lw_at lw_m7 126 rfl) rfl
theorem q1733 : (Jvm.Cond.lays "CatWitnessModel" "CatWitnessModel" "drawn" "I") ∈ lw_all := lw_g (lw_at lw_m7 127 rfl) rfl
theorem q1734 : (Jvm.Cond.soleField "CatWitnessModel" "drawn") ∈ lw_all := lw_g (lw_at lw_m7 128 rfl) rfl
theorem q1735 : (Jvm.Cond.lays "CatWitnessModel" "CatWitnessModel" "ranSteps" "I") ∈ lw_all := lw_g (lw_at lw_m7 129 rfl) rfl
theorem q1736 : (Jvm.Cond.soleField "CatWitnessModel" "ranSteps") ∈ lw_all := lw_g (lw_at lw_m7 130 rfl) rfl
theorem q1737 : (Jvm.Cond.laysFinal "CatWitnessModel" "CatWitnessModel" "loops" "[I") ∈ lw_all := lw_g (lw_at lw_m7 131 rfl) rfl
theorem q1738 : (Jvm.Cond.soleField "CatWitnessModel" "loops") ∈ lw_all := lw_g (lw_at lw_m7 132 rfl) rfl
theorem q1739 : (Jvm.Cond.laysFinal "CatWitnessModel" "CatWitnessModel" "ran" "[I") ∈ lw_all := lw_g (lw_at lw_m7 133 rfl) rfl
theorem q1740 : (Jvm.Cond.soleField "CatWitnessModel" "ran") ∈ lw_all := lw_g (lw_at lw_m7 134 rfl) rfl
theorem q1741 : (Jvm.Cond.laysFinal "CatWitnessModel" "CatWitnessModel" "told1" "[I") ∈ lw_all := lw_g (lw_at lw_m7 135 rfl) rfl
theorem q1742 : (Jvm.Cond.soleField "CatWitnessModel" "told1") ∈ lw_all := lw_g (lw_at lw_m7 136 rfl) rfl
theorem q1743 : (Jvm.Cond.lays "CatWitnessModel" "CatWitnessModel" "isTold" "Z") ∈ lw_all := lw_g (lw_at lw_m7 137 rfl) rfl
theorem q1744 : (Jvm.Cond.soleField "CatWitnessModel" "isTold") ∈ lw_all := lw_g (lw_at lw_m7 138 rfl) rfl
theorem q1745 : (Jvm.Cond.lays "CatWitnessModel" "CatWitnessModel" "marks" "I") ∈ lw_all := lw_g (lw_at lw_m7 139 rfl) rfl
theorem q1746 : (Jvm.Cond.soleField "CatWitnessModel" "marks") ∈ lw_all := lw_g (lw_at lw_m7 140 rfl) rfl
theorem q1747 : (Jvm.Cond.superclass "CatWitnessModel" "java/lang/Object") ∈ lw_all := lw_g (lw_at lw_m7 141 rfl) rfl
theorem q1750 : (Jvm.Cond.instanceMethod ({ cls := "CatWitnessModel", name := "status", desc := "()I" } : Jvm.MethodName)) ∈ lw_all := lw_g (lw_at lw_m7 144 rfl) rfl
theorem q1751 : (Jvm.Cond.selects "CatWitnessModel" ({ cls := "CatWitnessModel", name := "status", desc := "()I" } : Jvm.MethodName) ({ cls := "CatWitnessModel", name := "status", desc := "()I" } : Jvm.MethodName)) ∈ lw_all := lw_g (lw_at lw_m7 145 rfl) rfl
theorem q1752 : (Jvm.Cond.code ({ cls := "CatWitnessModel", name := "status", desc := "()I" } : Jvm.MethodName) prog_16_method_3_code (1 : Nat) (Option.some Jvm.ClassFile.FieldType.int)) ∈ lw_all := lw_g (lw_at lw_m7 146 rfl) rfl
theorem q1754 : (Jvm.Cond.instanceMethod ({ cls := "CatWitnessModel", name := "top", desc := "()J" } : Jvm.MethodName)) ∈ lw_all := lw_g (lw_at lw_m7 148 rfl) rfl
theorem q1755 : (Jvm.Cond.selects "CatWitnessModel" ({ cls := "CatWitnessModel", name := "top", desc := "()J" } : Jvm.MethodName) ({ cls := "CatWitnessModel", name := "top", desc := "()J" } : Jvm.MethodName)) ∈ lw_all := lw_g (lw_at lw_m7 149 rfl) rfl
theorem q1756 : (Jvm.Cond.code ({ cls := "CatWitnessModel", name := "top", desc := "()J" } : Jvm.MethodName) prog_16_method_4_code (1 : Nat) (Option.some Jvm.ClassFile.FieldType.long)) ∈ lw_all := lw_g (lw_at lw_m7 150 rfl) rfl
theorem q1758 : (Jvm.Cond.instanceMethod ({ cls := "CatWitnessModel", name := "bottom", desc := "()J" } : Jvm.MethodName)) ∈ lw_all := lw_g (lw_at lw_m7 152 rfl) rfl
theorem q1759 : (Jvm.Cond.selects "CatWitnessModel" ({ cls := "CatWitnessModel", name := "bottom", desc := "()J" } : Jvm.MethodName) ({ cls := "CatWitnessModel", name := "bottom", desc := "()J" } : Jvm.MethodName)) ∈ lw_all := lw_g (lw_at lw_m7 153 rfl) rfl
theorem q1760 : (Jvm.Cond.code ({ cls := "CatWitnessModel", name := "bottom", desc := "()J" } : Jvm.MethodName) prog_16_method_5_code (1 : Nat) (Option.some Jvm.ClassFile.FieldType.long)) ∈ lw_all := lw_g (lw_at lw_m7 154 rfl) rfl
theorem q1762 : (Jvm.Cond.instanceMethod ({ cls := "CatWitnessModel", name := "tray", desc := "(III)Z" } : Jvm.MethodName)) ∈ lw_all := lw_g (lw_at lw_m7 156 rfl) rfl
theorem q1763 : (Jvm.Cond.selects "CatWitnessModel" ({ cls := "CatWitnessModel", name := "tray", desc := "(III)Z" } : Jvm.MethodName) ({ cls := "CatWitnessModel", name := "tray", desc := "(III)Z" } : Jvm.MethodName)) ∈ lw_all := lw_g (lw_at lw_m7 157 rfl) rfl
theorem q1764 : (Jvm.Cond.code ({ cls := "CatWitnessModel", name := "tray", desc := "(III)Z" } : Jvm.MethodName) prog_16_method_13_code (5 : Nat) (Option.some Jvm.ClassFile.FieldType.boolean)) ∈ lw_all := lw_g (lw_at lw_m7 158 rfl) rfl
theorem q1765 : (Jvm.Cond.methodLink "CatWitnessModel" (102 : Nat) ({ cls := "CatWitnessModel", name := "isTray", desc := "(I)Z" } : Jvm.MethodName)) ∈ lw_all := lw_g (lw_at lw_m7 159 rfl) rfl
theorem q1766 : (Jvm.Cond.static ({ cls := "CatWitnessModel", name := "isTray", desc := "(I)Z" } : Jvm.MethodName)) ∈ lw_all := lw_g (lw_at lw_m7 160 rfl) rfl
theorem q1767 : (Jvm.Cond.code ({ cls := "CatWitnessModel", name := "isTray", desc := "(I)Z" } : Jvm.MethodName) prog_16_method_11_code (1 : Nat) (Option.some Jvm.ClassFile.FieldType.boolean)) ∈ lw_all := lw_g (lw_at lw_m7 161 rfl) rfl
theorem q1768 : (Jvm.Cond.methodLink "CatWitnessModel" (98 : Nat) ({ cls := "CatWitnessModel", name := "is", desc := "(I)Z" } : Jvm.MethodName)) ∈ lw_all := lw_g (lw_at lw_m7 162 rfl) rfl
theorem q1769 : (Jvm.Cond.privateMethod ({ cls := "CatWitnessModel", name := "is", desc := "(I)Z" } : Jvm.MethodName)) ∈ lw_tbl := lw_at lw_m7 163 rfl
theorem q1770 : (Jvm.Cond.instanceMethod ({ cls := "CatWitnessModel", name := "is", desc := "(I)Z" } : Jvm.MethodName)) ∈ lw_all := lw_g (lw_at lw_m7 164 rfl) rfl
theorem q1771 : (Jvm.Cond.code ({ cls := "CatWitnessModel", name := "is", desc := "(I)Z" } : Jvm.MethodName) prog_16_method_6_code (2 : Nat) (Option.some Jvm.ClassFile.FieldType.boolean)) ∈ lw_all := lw_g (lw_at lw_m7 165 rfl) rfl
theorem q1773 : (Jvm.Cond.instanceMethod ({ cls := "CatWitnessModel", name := "write", desc := "(IIJ)Z" } : Jvm.MethodName)) ∈ lw_all := lw_g (lw_at lw_m7 167 rfl) rfl
theorem q1774 : (Jvm.Cond.selects "CatWitnessModel" ({ cls := "CatWitnessModel", name := "write", desc := "(IIJ)Z" } : Jvm.MethodName) ({ cls := "CatWitnessModel", name := "write", desc := "(IIJ)Z" } : Jvm.MethodName)) ∈ lw_all := lw_g (lw_at lw_m7 168 rfl) rfl
theorem q1775 : (Jvm.Cond.code ({ cls := "CatWitnessModel", name := "write", desc := "(IIJ)Z" } : Jvm.MethodName) prog_16_method_15_code (6 : Nat) (Option.some Jvm.ClassFile.FieldType.boolean)) ∈ lw_all := lw_g (lw_at lw_m7 169 rfl) rfl
theorem q1776 : (Jvm.Cond.methodLink "CatWitnessModel" (105 : Nat) ({ cls := "CatWitnessModel", name := "wrongPlace", desc := "(II)I" } : Jvm.MethodName)) ∈ lw_all := lw_g (lw_at lw_m7 170 rfl) rfl
theorem q1777 : (Jvm.Cond.privateMethod ({ cls := "CatWitnessModel", name := "wrongPlace", desc := "(II)I" } : Jvm.MethodName)) ∈ lw_tbl := lw_at lw_m7 171 rfl
theorem q1778 : (Jvm.Cond.instanceMethod ({ cls := "CatWitnessModel", name := "wrongPlace", desc := "(II)I" } : Jvm.MethodName)) ∈ lw_all := lw_g (lw_at lw_m7 172 rfl) rfl
theorem q1779 : (Jvm.Cond.code ({ cls := "CatWitnessModel", name := "wrongPlace", desc := "(II)I" } : Jvm.MethodName) prog_16_method_14_code (3 : Nat) (Option.some Jvm.ClassFile.FieldType.int)) ∈ lw_all := lw_g (lw_at lw_m7 173 rfl) rfl
theorem q1780 : (Jvm.Cond.methodLink "CatWitnessModel" (109 : Nat) ({ cls := "CatWitnessModel", name := "cut", desc := "(JI)J" } : Jvm.MethodName)) ∈ lw_all := lw_g (lw_at lw_m7 174 rfl) rfl
theorem q1781 : (Jvm.Cond.static ({ cls := "CatWitnessModel", name := "cut", desc := "(JI)J" } : Jvm.MethodName)) ∈ lw_all := lw_g (lw_at lw_m7 175 rfl) rfl
theorem q1782 : (Jvm.Cond.code ({ cls := "CatWitnessModel", name := "cut", desc := "(JI)J" } : Jvm.MethodName) prog_16_method_12_code (3 : Nat) (Option.some Jvm.ClassFile.FieldType.long)) ∈ lw_all := lw_g (lw_at lw_m7 176 rfl) rfl
theorem q1784 : (Jvm.Cond.instanceMethod ({ cls := "CatWitnessModel", name := "read", desc := "(II)J" } : Jvm.MethodName)) ∈ lw_all := lw_g (lw_at lw_m7 178 rfl) rfl
theorem q1785 : (Jvm.Cond.selects "CatWitnessModel" ({ cls := "CatWitnessModel", name := "read", desc := "(II)J" } : Jvm.MethodName) ({ cls := "CatWitnessModel", name := "read", desc := "(II)J" } : Jvm.MethodName)) ∈ lw_all := lw_g (lw_at lw_m7 179 rfl) rfl
theorem q1786 : (Jvm.Cond.code ({ cls := "CatWitnessModel", name := "read", desc := "(II)J" } : Jvm.MethodName) prog_16_method_16_code (3 : Nat) (Option.some Jvm.ClassFile.FieldType.long)) ∈ lw_all := lw_g (lw_at lw_m7 180 rfl) rfl
theorem q1787 : (Jvm.Cond.constantLong "CatWitnessModel" (113 : Nat) (-1 : Int64)) ∈ lw_all := lw_g (lw_at lw_m7 181 rfl) rfl
theorem q1789 : (Jvm.Cond.instanceMethod ({ cls := "CatWitnessModel", name := "pour", desc := "(IIIII)Z" } : Jvm.MethodName)) ∈ lw_all := lw_g (lw_at lw_m7 183 rfl) rfl
theorem q1790 : (Jvm.Cond.selects "CatWitnessModel" ({ cls := "CatWitnessModel", name := "pour", desc := "(IIIII)Z" } : Jvm.MethodName) ({ cls := "CatWitnessModel", name := "pour", desc := "(IIIII)Z" } : Jvm.MethodName)) ∈ lw_all := lw_g (lw_at lw_m7 184 rfl) rfl
theorem q1791 : (Jvm.Cond.code ({ cls := "CatWitnessModel", name := "pour", desc := "(IIIII)Z" } : Jvm.MethodName) prog_16_method_17_code (8 : Nat) (Option.some Jvm.ClassFile.FieldType.boolean)) ∈ lw_all := lw_g (lw_at lw_m7 185 rfl) rfl
theorem q1793 : (Jvm.Cond.instanceMethod ({ cls := "CatWitnessModel", name := "feed", desc := "(IIIII)I" } : Jvm.MethodName)) ∈ lw_all := lw_g (lw_at lw_m7 187 rfl) rfl
theorem q1794 : (Jvm.Cond.selects "CatWitnessModel" ({ cls := "CatWitnessModel", name := "feed", desc := "(IIIII)I" } : Jvm.MethodName) ({ cls := "CatWitnessModel", name := "feed", desc := "(IIIII)I" } : Jvm.MethodName)) ∈ lw_all := lw_g (lw_at lw_m7 188 rfl) rfl
theorem q1795 : (Jvm.Cond.code ({ cls := "CatWitnessModel", name := "feed", desc := "(IIIII)I" } : Jvm.MethodName) prog_16_method_19_code (6 : Nat) (Option.some Jvm.ClassFile.FieldType.int)) ∈ lw_all := lw_g (lw_at lw_m7 189 rfl) rfl
theorem q1796 : (Jvm.Cond.methodLink "CatWitnessModel" (118 : Nat) ({ cls := "CatWitnessModel", name := "four", desc := "(I)V" } : Jvm.MethodName)) ∈ lw_all := lw_g (lw_at lw_m7 190 rfl) rfl
theorem q1797 : (Jvm.Cond.privateMethod ({ cls := "CatWitnessModel", name := "four", desc := "(I)V" } : Jvm.MethodName)) ∈ lw_tbl := lw_at lw_m7 191 rfl
theorem q1798 : (Jvm.Cond.instanceMethod ({ cls := "CatWitnessModel", name := "four", desc := "(I)V" } : Jvm.MethodName)) ∈ lw_all := lw_g (lw_at lw_m7 192 rfl) rfl
theorem q1799 : (Jvm.Cond.code ({ cls := "CatWitnessModel", name := "four", desc := "(I)V" } : Jvm.MethodName) prog_16_method_20_code (3 : Nat) (Option.none : Option Jvm.ClassFile.FieldType)) ∈ lw_all := lw_g (lw_at lw_m7 193 rfl) rfl
theorem q1801 : (Jvm.Cond.instanceMethod ({ cls := "CatWitnessModel", name := "fault", desc := "(I)I" } : Jvm.MethodName)) ∈ lw_all := lw_g (lw_at lw_m7 195 rfl) rfl
theorem q1802 : (Jvm.Cond.selects "CatWitnessModel" ({ cls := "CatWitnessModel", name := "fault", desc := "(I)I" } : Jvm.MethodName) ({ cls := "CatWitnessModel", name := "fault", desc := "(I)I" } : Jvm.MethodName)) ∈ lw_all := lw_g (lw_at lw_m7 196 rfl) rfl
theorem q1803 : (Jvm.Cond.code ({ cls := "CatWitnessModel", name := "fault", desc := "(I)I" } : Jvm.MethodName) prog_16_method_35_code (2 : Nat) (Option.some Jvm.ClassFile.FieldType.int)) ∈ lw_all := lw_g (lw_at lw_m7 197 rfl) rfl
theorem q1805 : (Jvm.Cond.instanceMethod ({ cls := "CatWitnessModel", name := "court", desc := "(I)I" } : Jvm.MethodName)) ∈ lw_all := lw_g (lw_at lw_m7 199 rfl) rfl
theorem q1806 : (Jvm.Cond.selects "CatWitnessModel" ({ cls := "CatWitnessModel", name := "court", desc := "(I)I" } : Jvm.MethodName) ({ cls := "CatWitnessModel", name := "court", desc := "(I)I" } : Jvm.MethodName)) ∈ lw_all := lw_g (lw_at lw_m7 200 rfl) rfl
theorem q1807 : (Jvm.Cond.code ({ cls := "CatWitnessModel", name := "court", desc := "(I)I" } : Jvm.MethodName) prog_16_method_53_code (4 : Nat) (Option.some Jvm.ClassFile.FieldType.int)) ∈ lw_all := lw_g (lw_at lw_m7 201 rfl) rfl
theorem q1808 : (Jvm.Cond.methodLink "CatWitnessModel" (251 : Nat) ({ cls := "CatWitnessModel", name := "begins", desc := "(II)Z" } : Jvm.MethodName)) ∈ lw_all := lw_g (lw_at lw_m7 202 rfl) rfl
theorem q1809 : (Jvm.Cond.privateMethod ({ cls := "CatWitnessModel", name := "begins", desc := "(II)Z" } : Jvm.MethodName)) ∈ lw_tbl := lw_at lw_m7 203 rfl
theorem q1810 : (Jvm.Cond.instanceMethod ({ cls := "CatWitnessModel", name := "begins", desc := "(II)Z" } : Jvm.MethodName)) ∈ lw_all := lw_g (lw_at lw_m7 204 rfl) rfl
theorem q1811 : (Jvm.Cond.code ({ cls := "CatWitnessModel", name := "begins", desc := "(II)Z" } : Jvm.MethodName) prog_16_method_28_code (4 : Nat) (Option.some Jvm.ClassFile.FieldType.boolean)) ∈ lw_all := lw_g (lw_at lw_m7 205 rfl) rfl
theorem q1812 : (Jvm.Cond.methodLink "CatWitnessModel" (167 : Nat) ({ cls := "CatWitnessModel", name := "ahead", desc := "()V" } : Jvm.MethodName)) ∈ lw_all := lw_g (lw_at lw_m7 206 rfl) rfl
theorem q1813 : (Jvm.Cond.privateMethod ({ cls := "CatWitnessModel", name := "ahead", desc := "()V" } : Jvm.MethodName)) ∈ lw_tbl := lw_at lw_m7 207 rfl
theorem q1814 : (Jvm.Cond.instanceMethod ({ cls := "CatWitnessModel", name := "ahead", desc := "()V" } : Jvm.MethodName)) ∈ lw_all := lw_g (lw_at lw_m7 208 rfl) rfl
theorem q1815 : (Jvm.Cond.code ({ cls := "CatWitnessModel", name := "ahead", desc := "()V" } : Jvm.MethodName) prog_16_method_24_code (2 : Nat) (Option.none : Option Jvm.ClassFile.FieldType)) ∈ lw_all := lw_g (lw_at lw_m7 209 rfl) rfl
theorem q1816 : (Jvm.Cond.methodLink "CatWitnessModel" (127 : Nat) ({ cls := "CatWitnessModel", name := "byteAt", desc := "(I)I" } : Jvm.MethodName)) ∈ lw_all := lw_g (lw_at lw_m7 210 rfl) rfl
theorem q1817 : (Jvm.Cond.privateMethod ({ cls := "CatWitnessModel", name := "byteAt", desc := "(I)I" } : Jvm.MethodName)) ∈ lw_tbl := lw_at lw_m7 211 rfl
theorem q1818 : (Jvm.Cond.instanceMethod ({ cls := "CatWitnessModel", name := "byteAt", desc := "(I)I" } : Jvm.MethodName)) ∈ lw_all := lw_g (lw_at lw_m7 212 rfl) rfl
theorem q1819 : (Jvm.Cond.code ({ cls := "CatWitnessModel", name := "byteAt", desc := "(I)I" } : Jvm.MethodName) prog_16_method_21_code (2 : Nat) (Option.some Jvm.ClassFile.FieldType.int)) ∈ lw_all := lw_g (lw_at lw_m7 213 rfl) rfl
theorem q1820 : (Jvm.Cond.methodLink "CatWitnessModel" (139 : Nat) ({ cls := "CatWitnessModel", name := "isSmall", desc := "(I)Z" } : Jvm.MethodName)) ∈ lw_all := lw_g (lw_at lw_m7 214 rfl) rfl
theorem q1821 : (Jvm.Cond.static ({ cls := "CatWitnessModel", name := "isSmall", desc := "(I)Z" } : Jvm.MethodName)) ∈ lw_all := lw_g (lw_at lw_m7 215 rfl) rfl
theorem q1822 : (Jvm.Cond.code ({ cls := "CatWitnessModel", name := "isSmall", desc := "(I)Z" } : Jvm.MethodName) prog_16_method_22_code (1 : Nat) (Option.some Jvm.ClassFile.FieldType.boolean)) ∈ lw_all := lw_g (lw_at lw_m7 216 rfl) rfl
theorem q1823 : (Jvm.Cond.methodLink "CatWitnessModel" (142 : Nat) ({ cls := "CatWitnessModel", name := "isDigit", desc := "(I)Z" } : Jvm.MethodName)) ∈ lw_all := lw_g (lw_at lw_m7 217 rfl) rfl
theorem q1824 : (Jvm.Cond.static ({ cls := "CatWitnessModel", name := "isDigit", desc := "(I)Z" } : Jvm.MethodName)) ∈ lw_all := lw_g (lw_at lw_m7 218 rfl) rfl
theorem q1825 : (Jvm.Cond.code ({ cls := "CatWitnessModel", name := "isDigit", desc := "(I)Z" } : Jvm.MethodName) prog_16_method_23_code (1 : Nat) (Option.some Jvm.ClassFile.FieldType.boolean)) ∈ lw_all := lw_g (lw_at lw_m7 219 rfl) rfl
theorem q1826 : (Jvm.Cond.constant "CatWitnessModel" (145 : Nat) (100000 : Int32)) ∈ lw_all := lw_g (lw_at lw_m7 220 rfl) rfl
theorem q1827 : (Jvm.Cond.methodLink "CatWitnessModel" (146 : Nat) ({ cls := "java/lang/Math", name := "min", desc := "(II)I" } : Jvm.MethodName)) ∈ lw_all := lw_g (lw_at lw_m7 221 rfl) rfl
theorem q1828 : (Jvm.Cond.methodLink "CatWitnessModel" (91 : Nat) ({ cls := "CatWitnessModel", name := "refuse", desc := "(I)I" } : Jvm.MethodName)) ∈ lw_all := lw_g (lw_at lw_m7 222 rfl) rfl
theorem q1829 : (Jvm.Cond.privateMethod ({ cls := "CatWitnessModel", name := "refuse", desc := "(I)I" } : Jvm.MethodName)) ∈ lw_tbl := lw_at lw_m7 223 rfl
theorem q1830 : (Jvm.Cond.instanceMethod ({ cls := "CatWitnessModel", name := "refuse", desc := "(I)I" } : Jvm.MethodName)) ∈ lw_all := lw_g (lw_at lw_m7 224 rfl) rfl
theorem q1831 : (Jvm.Cond.code ({ cls := "CatWitnessModel", name := "refuse", desc := "(I)I" } : Jvm.MethodName) prog_16_method_7_code (2 : Nat) (Option.some Jvm.ClassFile.FieldType.int)) ∈ lw_all := lw_g (lw_at lw_m7 225 rfl) rfl
theorem q1832 : (Jvm.Cond.methodLink "CatWitnessModel" (254 : Nat) ({ cls := "CatWitnessModel", name := "courtPart", desc := "()Z" } : Jvm.MethodName)) ∈ lw_all := lw_g (lw_at lw_m7 226 rfl) rfl
theorem q1833 : (Jvm.Cond.privateMethod ({ cls := "CatWitnessModel", name := "courtPart", desc := "()Z" } : Jvm.MethodName)) ∈ lw_tbl := lw_at lw_m7 227 rfl
theorem q1834 : (Jvm.Cond.instanceMethod ({ cls := "CatWitnessModel", name := "courtPart", desc := "()Z" } : Jvm.MethodName)) ∈ lw_all := lw_g (lw_at lw_m7 228 rfl) rfl
theorem q1835 : (Jvm.Cond.code ({ cls := "CatWitnessModel", name := "courtPart", desc := "()Z" } : Jvm.MethodName) prog_16_method_52_code (3 : Nat) (Option.some Jvm.ClassFile.FieldType.boolean)) ∈ lw_all := lw_g (lw_at lw_m7 229 rfl) rfl
theorem q1836 : (Jvm.Cond.stringRef "CatWitnessModel" (184 : Nat) " smell sign rule person reader word means nothing guilty clean fed warm smells slips votes sit term feed rub wash night any when loop end stop shows held free ") ∈ lw_tbl := lw_at lw_m7 230 rfl
theorem q1837 : (Jvm.Cond.methodLink "CatWitnessModel" (176 : Nat) ({ cls := "CatWitnessModel", name := "inWords", desc := "(Ljava/lang/String;)I" } : Jvm.MethodName)) ∈ lw_all := lw_g (lw_at lw_m7 231 rfl) rfl
theorem q1838 : (Jvm.Cond.privateMethod ({ cls := "CatWitnessModel", name := "inWords", desc := "(Ljava/lang/String;)I" } : Jvm.MethodName)) ∈ lw_tbl := lw_at lw_m7 232 rfl
theorem q1839 : (Jvm.Cond.instanceMethod ({ cls := "CatWitnessModel", name := "inWords", desc := "(Ljava/lang/String;)I" } : Jvm.MethodName)) ∈ lw_all := lw_g (lw_at lw_m7 233 rfl) rfl
theorem q1840 : (Jvm.Cond.code ({ cls := "CatWitnessModel", name := "inWords", desc := "(Ljava/lang/String;)I" } : Jvm.MethodName) prog_16_method_26_code (7 : Nat) (Option.some Jvm.ClassFile.FieldType.int)) ∈ lw_all := lw_g (lw_at lw_m7 234 rfl) rfl
theorem q1841 : (Jvm.Cond.methodLink "CatWitnessModel" (151 : Nat) ({ cls := "java/lang/String", name := "length", desc := "()I" } : Jvm.MethodName)) ∈ lw_all := lw_g (lw_at lw_m7 235 rfl) rfl
theorem q1842 : (Jvm.Cond.methodLink "CatWitnessModel" (157 : Nat) ({ cls := "java/lang/String", name := "charAt", desc := "(I)C" } : Jvm.MethodName)) ∈ lw_all := lw_g (lw_at lw_m7 236 rfl) rfl
theorem q1843 : (Jvm.Cond.methodLink "CatWitnessModel" (173 : Nat) ({ cls := "CatWitnessModel", name := "fails", desc := "(I)Z" } : Jvm.MethodName)) ∈ lw_all := lw_g (lw_at lw_m7 237 rfl) rfl
theorem q1844 : (Jvm.Cond.privateMethod ({ cls := "CatWitnessModel", name := "fails", desc := "(I)Z" } : Jvm.MethodName)) ∈ lw_tbl := lw_at lw_m7 238 rfl
theorem q1845 : (Jvm.Cond.instanceMethod ({ cls := "CatWitnessModel", name := "fails", desc := "(I)Z" } : Jvm.MethodName)) ∈ lw_all := lw_g (lw_at lw_m7 239 rfl) rfl
theorem q1846 : (Jvm.Cond.code ({ cls := "CatWitnessModel", name := "fails", desc := "(I)Z" } : Jvm.MethodName) prog_16_method_27_code (2 : Nat) (Option.some Jvm.ClassFile.FieldType.boolean)) ∈ lw_all := lw_g (lw_at lw_m8 0 rfl) rfl
theorem q1847 : (Jvm.Cond.methodLink "CatWitnessModel" (230 : Nat) ({ cls := "CatWitnessModel", name := "aSmell", desc := "()Z" } : Jvm.MethodName)) ∈ lw_all := lw_g (lw_at lw_m8 1 rfl) rfl
theorem q1848 : (Jvm.Cond.privateMethod ({ cls := "CatWitnessModel", name := "aSmell", desc := "()Z" } : Jvm.MethodName)) ∈ lw_tbl := lw_at lw_m8 2 rfl
theorem q1849 : (Jvm.Cond.instanceMethod ({ cls := "CatWitnessModel", name := "aSmell", desc := "()Z" } : Jvm.MethodName)) ∈ lw_all := lw_g (lw_at lw_m8 3 rfl) rfl
theorem q1850 : (Jvm.Cond.code ({ cls := "CatWitnessModel", name := "aSmell", desc := "()Z" } : Jvm.MethodName) prog_16_method_44_code (1 : Nat) (Option.some Jvm.ClassFile.FieldType.boolean)) ∈ lw_all := lw_g (lw_at lw_m8 4 rfl) rfl
theorem q1851 : (Jvm.Cond.methodLink "CatWitnessModel" (201 : Nat) ({ cls := "CatWitnessModel", name := "newOne", desc := "(III)Z" } : Jvm.MethodName)) ∈ lw_all := lw_g (lw_at lw_m8 5 rfl) rfl
theorem q1852 : (Jvm.Cond.privateMethod ({ cls := "CatWitnessModel", name := "newOne", desc := "(III)Z" } : Jvm.MethodName)) ∈ lw_tbl := lw_at lw_m8 6 rfl
theorem q1853 : (Jvm.Cond.instanceMethod ({ cls := "CatWitnessModel", name := "newOne", desc := "(III)Z" } : Jvm.MethodName)) ∈ lw_all := lw_g (lw_at lw_m8 7 rfl) rfl
theorem q1854 : (Jvm.Cond.code ({ cls := "CatWitnessModel", name := "newOne", desc := "(III)Z" } : Jvm.MethodName) prog_16_method_42_code (4 : Nat) (Option.some Jvm.ClassFile.FieldType.boolean)) ∈ lw_all := lw_g (lw_at lw_m8 8 rfl) rfl
theorem q1855 : (Jvm.Cond.methodLink "CatWitnessModel" (189 : Nat) ({ cls := "CatWitnessModel", name := "isFull", desc := "(II)Z" } : Jvm.MethodName)) ∈ lw_all := lw_g (lw_at lw_m8 9 rfl) rfl
theorem q1856 : (Jvm.Cond.privateMethod ({ cls := "CatWitnessModel", name := "isFull", desc := "(II)Z" } : Jvm.MethodName)) ∈ lw_tbl := lw_at lw_m8 10 rfl
theorem q1857 : (Jvm.Cond.instanceMethod ({ cls := "CatWitnessModel", name := "isFull", desc := "(II)Z" } : Jvm.MethodName)) ∈ lw_all := lw_g (lw_at lw_m8 11 rfl) rfl
theorem q1858 : (Jvm.Cond.code ({ cls := "CatWitnessModel", name := "isFull", desc := "(II)Z" } : Jvm.MethodName) prog_16_method_41_code (3 : Nat) (Option.some Jvm.ClassFile.FieldType.boolean)) ∈ lw_all := lw_g (lw_at lw_m8 12 rfl) rfl
theorem q1859 : (Jvm.Cond.methodLink "CatWitnessModel" (193 : Nat) ({ cls := "CatWitnessModel", name := "isName", desc := "(Ljava/lang/String;)Z" } : Jvm.MethodName)) ∈ lw_all := lw_g (lw_at lw_m8 13 rfl) rfl
theorem q1860 : (Jvm.Cond.privateMethod ({ cls := "CatWitnessModel", name := "isName", desc := "(Ljava/lang/String;)Z" } : Jvm.MethodName)) ∈ lw_tbl := lw_at lw_m8 14 rfl
theorem q1861 : (Jvm.Cond.instanceMethod ({ cls := "CatWitnessModel", name := "isName", desc := "(Ljava/lang/String;)Z" } : Jvm.MethodName)) ∈ lw_all := lw_g (lw_at lw_m8 15 rfl) rfl
theorem q1862 : (Jvm.Cond.code ({ cls := "CatWitnessModel", name := "isName", desc := "(Ljava/lang/String;)Z" } : Jvm.MethodName) prog_16_method_32_code (2 : Nat) (Option.some Jvm.ClassFile.FieldType.boolean)) ∈ lw_all := lw_g (lw_at lw_m8 16 rfl) rfl
theorem q1863 : (Jvm.Cond.methodLink "CatWitnessModel" (197 : Nat) ({ cls := "CatWitnessModel", name := "isTaken", desc := "()Z" } : Jvm.MethodName)) ∈ lw_all := lw_g (lw_at lw_m8 17 rfl) rfl
theorem q1864 : (Jvm.Cond.privateMethod ({ cls := "CatWitnessModel", name := "isTaken", desc := "()Z" } : Jvm.MethodName)) ∈ lw_tbl := lw_at lw_m8 18 rfl
theorem q1865 : (Jvm.Cond.instanceMethod ({ cls := "CatWitnessModel", name := "isTaken", desc := "()Z" } : Jvm.MethodName)) ∈ lw_all := lw_g (lw_at lw_m8 19 rfl) rfl
theorem q1866 : (Jvm.Cond.code ({ cls := "CatWitnessModel", name := "isTaken", desc := "()Z" } : Jvm.MethodName) prog_16_method_40_code (1 : Nat) (Option.some Jvm.ClassFile.FieldType.boolean)) ∈ lw_all := lw_g (lw_at lw_m8 20 rfl) rfl
theorem q1867 : (Jvm.Cond.methodLink "CatWitnessModel" (186 : Nat) ({ cls := "CatWitnessModel", name := "findHere", desc := "(II)I" } : Jvm.MethodName)) ∈ lw_all := lw_g (lw_at lw_m8 21 rfl) rfl
theorem q1868 : (Jvm.Cond.privateMethod ({ cls := "CatWitnessModel", name := "findHere", desc := "(II)I" } : Jvm.MethodName)) ∈ lw_tbl := lw_at lw_m8 22 rfl
theorem q1869 : (Jvm.Cond.instanceMethod ({ cls := "CatWitnessModel", name := "findHere", desc := "(II)I" } : Jvm.MethodName)) ∈ lw_all := lw_g (lw_at lw_m8 23 rfl) rfl
theorem q1870 : (Jvm.Cond.code ({ cls := "CatWitnessModel", name := "findHere", desc := "(II)I" } : Jvm.MethodName) prog_16_method_34_code (4 : Nat) (Option.some Jvm.ClassFile.FieldType.int)) ∈ lw_all := lw_g (lw_at lw_m8 24 rfl) rfl
theorem q1871 : (Jvm.Cond.methodLink "CatWitnessModel" (180 : Nat) ({ cls := "CatWitnessModel", name := "nameHere", desc := "()J" } : Jvm.MethodName)) ∈ lw_all := lw_g (lw_at lw_m8 25 rfl) rfl
theorem q1872 : (Jvm.Cond.privateMethod ({ cls := "CatWitnessModel", name := "nameHere", desc := "()J" } : Jvm.MethodName)) ∈ lw_tbl := lw_at lw_m8 26 rfl
theorem q1873 : (Jvm.Cond.instanceMethod ({ cls := "CatWitnessModel", name := "nameHere", desc := "()J" } : Jvm.MethodName)) ∈ lw_all := lw_g (lw_at lw_m8 27 rfl) rfl
theorem q1874 : (Jvm.Cond.code ({ cls := "CatWitnessModel", name := "nameHere", desc := "()J" } : Jvm.MethodName) prog_16_method_33_code (4 : Nat) (Option.some Jvm.ClassFile.FieldType.long)) ∈ lw_all := lw_g (lw_at lw_m8 28 rfl) rfl
theorem q1875 : (Jvm.Cond.methodLink "CatWitnessModel" (233 : Nat) ({ cls := "CatWitnessModel", name := "aCue", desc := "()Z" } : Jvm.MethodName)) ∈ lw_all := lw_g (lw_at lw_m8 29 rfl) rfl
theorem q1876 : (Jvm.Cond.privateMethod ({ cls := "CatWitnessModel", name := "aCue", desc := "()Z" } : Jvm.MethodName)) ∈ lw_tbl := lw_at lw_m8 30 rfl
theorem q1877 : (Jvm.Cond.instanceMethod ({ cls := "CatWitnessModel", name := "aCue", desc := "()Z" } : Jvm.MethodName)) ∈ lw_all := lw_g (lw_at lw_m8 31 rfl) rfl
theorem q1878 : (Jvm.Cond.code ({ cls := "CatWitnessModel", name := "aCue", desc := "()Z" } : Jvm.MethodName) prog_16_method_45_code (2 : Nat) (Option.some Jvm.ClassFile.FieldType.boolean)) ∈ lw_all := lw_g (lw_at lw_m8 32 rfl) rfl
theorem q1879 : (Jvm.Cond.methodLink "CatWitnessModel" (205 : Nat) ({ cls := "CatWitnessModel", name := "wantWord", desc := "(Ljava/lang/String;I)Z" } : Jvm.MethodName)) ∈ lw_all := lw_g (lw_at lw_m8 33 rfl) rfl
theorem q1880 : (Jvm.Cond.privateMethod ({ cls := "CatWitnessModel", name := "wantWord", desc := "(Ljava/lang/String;I)Z" } : Jvm.MethodName)) ∈ lw_tbl := lw_at lw_m8 34 rfl
theorem q1881 : (Jvm.Cond.instanceMethod ({ cls := "CatWitnessModel", name := "wantWord", desc := "(Ljava/lang/String;I)Z" } : Jvm.MethodName)) ∈ lw_all := lw_g (lw_at lw_m8 35 rfl) rfl
theorem q1882 : (Jvm.Cond.code ({ cls := "CatWitnessModel", name := "wantWord", desc := "(Ljava/lang/String;I)Z" } : Jvm.MethodName) prog_16_method_30_code (3 : Nat) (Option.some Jvm.ClassFile.FieldType.boolean)) ∈ lw_all := lw_g (lw_at lw_m8 36 rfl) rfl
theorem q1883 : (Jvm.Cond.methodLink "CatWitnessModel" (236 : Nat) ({ cls := "CatWitnessModel", name := "aRule", desc := "()Z" } : Jvm.MethodName)) ∈ lw_all := lw_g (lw_at lw_m8 37 rfl) rfl
theorem q1884 : (Jvm.Cond.privateMethod ({ cls := "CatWitnessModel", name := "aRule", desc := "()Z" } : Jvm.MethodName)) ∈ lw_tbl := lw_at lw_m8 38 rfl
theorem q1885 : (Jvm.Cond.instanceMethod ({ cls := "CatWitnessModel", name := "aRule", desc := "()Z" } : Jvm.MethodName)) ∈ lw_all := lw_g (lw_at lw_m8 39 rfl) rfl
theorem q1886 : (Jvm.Cond.code ({ cls := "CatWitnessModel", name := "aRule", desc := "()Z" } : Jvm.MethodName) prog_16_method_47_code (3 : Nat) (Option.some Jvm.ClassFile.FieldType.boolean)) ∈ lw_all := lw_g (lw_at lw_m8 40 rfl) rfl
theorem q1887 : (Jvm.Cond.methodLink "CatWitnessModel" (215 : Nat) ({ cls := "CatWitnessModel", name := "ruleRow", desc := "(I)I" } : Jvm.MethodName)) ∈ lw_all := lw_g (lw_at lw_m8 41 rfl) rfl
theorem q1888 : (Jvm.Cond.static ({ cls := "CatWitnessModel", name := "ruleRow", desc := "(I)I" } : Jvm.MethodName)) ∈ lw_all := lw_g (lw_at lw_m8 42 rfl) rfl
theorem q1889 : (Jvm.Cond.code ({ cls := "CatWitnessModel", name := "ruleRow", desc := "(I)I" } : Jvm.MethodName) prog_16_method_37_code (1 : Nat) (Option.some Jvm.ClassFile.FieldType.int)) ∈ lw_all := lw_g (lw_at lw_m8 43 rfl) rfl
theorem q1890 : (Jvm.Cond.methodLink "CatWitnessModel" (218 : Nat) ({ cls := "CatWitnessModel", name := "oldOne", desc := "(III)Z" } : Jvm.MethodName)) ∈ lw_all := lw_g (lw_at lw_m8 44 rfl) rfl
theorem q1891 : (Jvm.Cond.privateMethod ({ cls := "CatWitnessModel", name := "oldOne", desc := "(III)Z" } : Jvm.MethodName)) ∈ lw_tbl := lw_at lw_m8 45 rfl
theorem q1892 : (Jvm.Cond.instanceMethod ({ cls := "CatWitnessModel", name := "oldOne", desc := "(III)Z" } : Jvm.MethodName)) ∈ lw_all := lw_g (lw_at lw_m8 46 rfl) rfl
theorem q1893 : (Jvm.Cond.code ({ cls := "CatWitnessModel", name := "oldOne", desc := "(III)Z" } : Jvm.MethodName) prog_16_method_43_code (4 : Nat) (Option.some Jvm.ClassFile.FieldType.boolean)) ∈ lw_all := lw_g (lw_at lw_m8 47 rfl) rfl
theorem q1894 : (Jvm.Cond.methodLink "CatWitnessModel" (221 : Nat) ({ cls := "CatWitnessModel", name := "against", desc := "(III)Z" } : Jvm.MethodName)) ∈ lw_all := lw_g (lw_at lw_m8 48 rfl) rfl
theorem q1895 : (Jvm.Cond.privateMethod ({ cls := "CatWitnessModel", name := "against", desc := "(III)Z" } : Jvm.MethodName)) ∈ lw_tbl := lw_at lw_m8 49 rfl
theorem q1896 : (Jvm.Cond.instanceMethod ({ cls := "CatWitnessModel", name := "against", desc := "(III)Z" } : Jvm.MethodName)) ∈ lw_all := lw_g (lw_at lw_m8 50 rfl) rfl
theorem q1897 : (Jvm.Cond.code ({ cls := "CatWitnessModel", name := "against", desc := "(III)Z" } : Jvm.MethodName) prog_16_method_46_code (4 : Nat) (Option.some Jvm.ClassFile.FieldType.boolean)) ∈ lw_all := lw_g (lw_at lw_m8 51 rfl) rfl
theorem q1898 : (Jvm.Cond.methodLink "CatWitnessModel" (209 : Nat) ({ cls := "CatWitnessModel", name := "isThere", desc := "(I)Z" } : Jvm.MethodName)) ∈ lw_all := lw_g (lw_at lw_m8 52 rfl) rfl
theorem q1899 : (Jvm.Cond.privateMethod ({ cls := "CatWitnessModel", name := "isThere", desc := "(I)Z" } : Jvm.MethodName)) ∈ lw_tbl := lw_at lw_m8 53 rfl
theorem q1900 : (Jvm.Cond.instanceMethod ({ cls := "CatWitnessModel", name := "isThere", desc := "(I)Z" } : Jvm.MethodName)) ∈ lw_all := lw_g (lw_at lw_m8 54 rfl) rfl
theorem q1901 : (Jvm.Cond.code ({ cls := "CatWitnessModel", name := "isThere", desc := "(I)Z" } : Jvm.MethodName) prog_16_method_39_code (2 : Nat) (Option.some Jvm.ClassFile.FieldType.boolean)) ∈ lw_all := lw_g (lw_at lw_m8 55 rfl) rfl
theorem q1902 : (Jvm.Cond.methodLink "CatWitnessModel" (170 : Nat) ({ cls := "CatWitnessModel", name := "isSign", desc := "(I)Z" } : Jvm.MethodName)) ∈ lw_all := lw_g (lw_at lw_m8 56 rfl) rfl
theorem q1903 : (Jvm.Cond.privateMethod ({ cls := "CatWitnessModel", name := "isSign", desc := "(I)Z" } : Jvm.MethodName)) ∈ lw_tbl := lw_at lw_m8 57 rfl
theorem q1904 : (Jvm.Cond.instanceMethod ({ cls := "CatWitnessModel", name := "isSign", desc := "(I)Z" } : Jvm.MethodName)) ∈ lw_all := lw_g (lw_at lw_m8 58 rfl) rfl
theorem q1905 : (Jvm.Cond.code ({ cls := "CatWitnessModel", name := "isSign", desc := "(I)Z" } : Jvm.MethodName) prog_16_method_25_code (2 : Nat) (Option.some Jvm.ClassFile.FieldType.boolean)) ∈ lw_all := lw_g (lw_at lw_m8 59 rfl) rfl
theorem q1906 : (Jvm.Cond.methodLink "CatWitnessModel" (212 : Nat) ({ cls := "CatWitnessModel", name := "number", desc := "(III)Z" } : Jvm.MethodName)) ∈ lw_all := lw_g (lw_at lw_m8 60 rfl) rfl
theorem q1907 : (Jvm.Cond.privateMethod ({ cls := "CatWitnessModel", name := "number", desc := "(III)Z" } : Jvm.MethodName)) ∈ lw_tbl := lw_at lw_m8 61 rfl
theorem q1908 : (Jvm.Cond.instanceMethod ({ cls := "CatWitnessModel", name := "number", desc := "(III)Z" } : Jvm.MethodName)) ∈ lw_all := lw_g (lw_at lw_m8 62 rfl) rfl
theorem q1909 : (Jvm.Cond.code ({ cls := "CatWitnessModel", name := "number", desc := "(III)Z" } : Jvm.MethodName) prog_16_method_31_code (4 : Nat) (Option.some Jvm.ClassFile.FieldType.boolean)) ∈ lw_all := lw_g (lw_at lw_m8 63 rfl) rfl
theorem q1910 : (Jvm.Cond.methodLink "CatWitnessModel" (239 : Nat) ({ cls := "CatWitnessModel", name := "aPerson", desc := "()Z" } : Jvm.MethodName)) ∈ lw_all := lw_g (lw_at lw_m8 64 rfl) rfl
theorem q1911 : (Jvm.Cond.privateMethod ({ cls := "CatWitnessModel", name := "aPerson", desc := "()Z" } : Jvm.MethodName)) ∈ lw_tbl := lw_at lw_m8 65 rfl
theorem q1912 : (Jvm.Cond.instanceMethod ({ cls := "CatWitnessModel", name := "aPerson", desc := "()Z" } : Jvm.MethodName)) ∈ lw_all := lw_g (lw_at lw_m8 66 rfl) rfl
theorem q1913 : (Jvm.Cond.code ({ cls := "CatWitnessModel", name := "aPerson", desc := "()Z" } : Jvm.MethodName) prog_16_method_49_code (2 : Nat) (Option.some Jvm.ClassFile.FieldType.boolean)) ∈ lw_all := lw_g (lw_at lw_m8 67 rfl) rfl
theorem q1914 : (Jvm.Cond.methodLink "CatWitnessModel" (224 : Nat) ({ cls := "CatWitnessModel", name := "personRow", desc := "(I)I" } : Jvm.MethodName)) ∈ lw_all := lw_g (lw_at lw_m8 68 rfl) rfl
theorem q1915 : (Jvm.Cond.static ({ cls := "CatWitnessModel", name := "personRow", desc := "(I)I" } : Jvm.MethodName)) ∈ lw_all := lw_g (lw_at lw_m8 69 rfl) rfl
theorem q1916 : (Jvm.Cond.code ({ cls := "CatWitnessModel", name := "personRow", desc := "(I)I" } : Jvm.MethodName) prog_16_method_38_code (1 : Nat) (Option.some Jvm.ClassFile.FieldType.int)) ∈ lw_all := lw_g (lw_at lw_m8 70 rfl) rfl
theorem q1917 : (Jvm.Cond.methodLink "CatWitnessModel" (227 : Nat) ({ cls := "CatWitnessModel", name := "smellsTo", desc := "(I)Z" } : Jvm.MethodName)) ∈ lw_all := lw_g (lw_at lw_m8 71 rfl) rfl
theorem q1918 : (Jvm.Cond.privateMethod ({ cls := "CatWitnessModel", name := "smellsTo", desc := "(I)Z" } : Jvm.MethodName)) ∈ lw_tbl := lw_at lw_m8 72 rfl
theorem q1919 : (Jvm.Cond.instanceMethod ({ cls := "CatWitnessModel", name := "smellsTo", desc := "(I)Z" } : Jvm.MethodName)) ∈ lw_all := lw_g (lw_at lw_m8 73 rfl) rfl
theorem q1920 : (Jvm.Cond.code ({ cls := "CatWitnessModel", name := "smellsTo", desc := "(I)Z" } : Jvm.MethodName) prog_16_method_48_code (4 : Nat) (Option.some Jvm.ClassFile.FieldType.boolean)) ∈ lw_all := lw_g (lw_at lw_m8 74 rfl) rfl
theorem q1921 : (Jvm.Cond.methodLink "CatWitnessModel" (242 : Nat) ({ cls := "CatWitnessModel", name := "aReader", desc := "()Z" } : Jvm.MethodName)) ∈ lw_all := lw_g (lw_at lw_m8 75 rfl) rfl
theorem q1922 : (Jvm.Cond.privateMethod ({ cls := "CatWitnessModel", name := "aReader", desc := "()Z" } : Jvm.MethodName)) ∈ lw_tbl := lw_at lw_m8 76 rfl
theorem q1923 : (Jvm.Cond.instanceMethod ({ cls := "CatWitnessModel", name := "aReader", desc := "()Z" } : Jvm.MethodName)) ∈ lw_all := lw_g (lw_at lw_m8 77 rfl) rfl
theorem q1924 : (Jvm.Cond.code ({ cls := "CatWitnessModel", name := "aReader", desc := "()Z" } : Jvm.MethodName) prog_16_method_50_code (2 : Nat) (Option.some Jvm.ClassFile.FieldType.boolean)) ∈ lw_all := lw_g (lw_at lw_m8 78 rfl) rfl
theorem q1925 : (Jvm.Cond.methodLink "CatWitnessModel" (245 : Nat) ({ cls := "CatWitnessModel", name := "aWord", desc := "()Z" } : Jvm.MethodName)) ∈ lw_all := lw_g (lw_at lw_m8 79 rfl) rfl
theorem q1926 : (Jvm.Cond.privateMethod ({ cls := "CatWitnessModel", name := "aWord", desc := "()Z" } : Jvm.MethodName)) ∈ lw_tbl := lw_at lw_m8 80 rfl
theorem q1927 : (Jvm.Cond.instanceMethod ({ cls := "CatWitnessModel", name := "aWord", desc := "()Z" } : Jvm.MethodName)) ∈ lw_all := lw_g (lw_at lw_m8 81 rfl) rfl
theorem q1928 : (Jvm.Cond.code ({ cls := "CatWitnessModel", name := "aWord", desc := "()Z" } : Jvm.MethodName) prog_16_method_51_code (3 : Nat) (Option.some Jvm.ClassFile.FieldType.boolean)) ∈ lw_all := lw_g (lw_at lw_m8 82 rfl) rfl
theorem q1929 : (Jvm.Cond.methodLink "CatWitnessModel" (248 : Nat) ({ cls := "CatWitnessModel", name := "wantSign", desc := "(I)Z" } : Jvm.MethodName)) ∈ lw_all := lw_g (lw_at lw_m8 83 rfl) rfl
theorem q1930 : (Jvm.Cond.privateMethod ({ cls := "CatWitnessModel", name := "wantSign", desc := "(I)Z" } : Jvm.MethodName)) ∈ lw_tbl := lw_at lw_m8 84 rfl
theorem q1931 : (Jvm.Cond.instanceMethod ({ cls := "CatWitnessModel", name := "wantSign", desc := "(I)Z" } : Jvm.MethodName)) ∈ lw_all := lw_g (lw_at lw_m8 85 rfl) rfl
theorem q1932 : (Jvm.Cond.code ({ cls := "CatWitnessModel", name := "wantSign", desc := "(I)Z" } : Jvm.MethodName) prog_16_method_29_code (2 : Nat) (Option.some Jvm.ClassFile.FieldType.boolean)) ∈ lw_all := lw_g (lw_at lw_m8 86 rfl) rfl
theorem q1933 : (Jvm.Cond.methodLink "CatWitnessModel" (257 : Nat) ({ cls := "CatWitnessModel", name := "taken", desc := "(I)I" } : Jvm.MethodName)) ∈ lw_all := lw_g (lw_at lw_m8 87 rfl) rfl
theorem q1934 : (Jvm.Cond.privateMethod ({ cls := "CatWitnessModel", name := "taken", desc := "(I)I" } : Jvm.MethodName)) ∈ lw_tbl := lw_at lw_m8 88 rfl
theorem q1935 : (Jvm.Cond.instanceMethod ({ cls := "CatWitnessModel", name := "taken", desc := "(I)I" } : Jvm.MethodName)) ∈ lw_all := lw_g (lw_at lw_m8 89 rfl) rfl
theorem q1936 : (Jvm.Cond.code ({ cls := "CatWitnessModel", name := "taken", desc := "(I)I" } : Jvm.MethodName) prog_16_method_36_code (2 : Nat) (Option.some Jvm.ClassFile.FieldType.int)) ∈ lw_all := lw_g (lw_at lw_m8 90 rfl) rfl
theorem q1937 : (Jvm.Cond.methodLink "CatWitnessModel" (95 : Nat) ({ cls := "CatWitnessModel", name := "gives", desc := "(I)I" } : Jvm.MethodName)) ∈ lw_all := lw_g (lw_at lw_m8 91 rfl) rfl
theorem q1938 : (Jvm.Cond.privateMethod ({ cls := "CatWitnessModel", name := "gives", desc := "(I)I" } : Jvm.MethodName)) ∈ lw_tbl := lw_at lw_m8 92 rfl
theorem q1939 : (Jvm.Cond.instanceMethod ({ cls := "CatWitnessModel", name := "gives", desc := "(I)I" } : Jvm.MethodName)) ∈ lw_all := lw_g (lw_at lw_m8 93 rfl) rfl
theorem q1940 : (Jvm.Cond.code ({ cls := "CatWitnessModel", name := "gives", desc := "(I)I" } : Jvm.MethodName) prog_16_method_8_code (2 : Nat) (Option.some Jvm.ClassFile.FieldType.int)) ∈ lw_all := lw_g (lw_at lw_m8 94 rfl) rfl
theorem q1942 : (Jvm.Cond.instanceMethod ({ cls := "CatWitnessModel", name := "weeks", desc := "(I)I" } : Jvm.MethodName)) ∈ lw_all := lw_g (lw_at lw_m8 96 rfl) rfl
theorem q1943 : (Jvm.Cond.selects "CatWitnessModel" ({ cls := "CatWitnessModel", name := "weeks", desc := "(I)I" } : Jvm.MethodName) ({ cls := "CatWitnessModel", name := "weeks", desc := "(I)I" } : Jvm.MethodName)) ∈ lw_all := lw_g (lw_at lw_m8 97 rfl) rfl
theorem q1944 : (Jvm.Cond.code ({ cls := "CatWitnessModel", name := "weeks", desc := "(I)I" } : Jvm.MethodName) prog_16_method_59_code (4 : Nat) (Option.some Jvm.ClassFile.FieldType.int)) ∈ lw_all := lw_g (lw_at lw_m8 98 rfl) rfl
theorem q1945 : (Jvm.Cond.methodLink "CatWitnessModel" (278 : Nat) ({ cls := "CatWitnessModel", name := "weekStep", desc := "()Z" } : Jvm.MethodName)) ∈ lw_all := lw_g (lw_at lw_m8 99 rfl) rfl
theorem q1946 : (Jvm.Cond.privateMethod ({ cls := "CatWitnessModel", name := "weekStep", desc := "()Z" } : Jvm.MethodName)) ∈ lw_tbl := lw_at lw_m8 100 rfl
theorem q1947 : (Jvm.Cond.instanceMethod ({ cls := "CatWitnessModel", name := "weekStep", desc := "()Z" } : Jvm.MethodName)) ∈ lw_all := lw_g (lw_at lw_m8 101 rfl) rfl
theorem q1948 : (Jvm.Cond.code ({ cls := "CatWitnessModel", name := "weekStep", desc := "()Z" } : Jvm.MethodName) prog_16_method_58_code (6 : Nat) (Option.some Jvm.ClassFile.FieldType.boolean)) ∈ lw_all := lw_g (lw_at lw_m8 102 rfl) rfl
theorem q1949 : (Jvm.Cond.methodLink "CatWitnessModel" (275 : Nat) ({ cls := "CatWitnessModel", name := "weekOrder", desc := "(II)Z" } : Jvm.MethodName)) ∈ lw_all := lw_g (lw_at lw_m8 103 rfl) rfl
theorem q1950 : (Jvm.Cond.privateMethod ({ cls := "CatWitnessModel", name := "weekOrder", desc := "(II)Z" } : Jvm.MethodName)) ∈ lw_tbl := lw_at lw_m8 104 rfl
theorem q1951 : (Jvm.Cond.instanceMethod ({ cls := "CatWitnessModel", name := "weekOrder", desc := "(II)Z" } : Jvm.MethodName)) ∈ lw_all := lw_g (lw_at lw_m8 105 rfl) rfl
theorem q1952 : (Jvm.Cond.code ({ cls := "CatWitnessModel", name := "weekOrder", desc := "(II)Z" } : Jvm.MethodName) prog_16_method_57_code (3 : Nat) (Option.some Jvm.ClassFile.FieldType.boolean)) ∈ lw_all := lw_g (lw_at lw_m8 106 rfl) rfl
theorem q1953 : (Jvm.Cond.methodLink "CatWitnessModel" (260 : Nat) ({ cls := "CatWitnessModel", name := "personTo", desc := "(I)Z" } : Jvm.MethodName)) ∈ lw_all := lw_g (lw_at lw_m8 107 rfl) rfl
theorem q1954 : (Jvm.Cond.privateMethod ({ cls := "CatWitnessModel", name := "personTo", desc := "(I)Z" } : Jvm.MethodName)) ∈ lw_tbl := lw_at lw_m8 108 rfl
theorem q1955 : (Jvm.Cond.instanceMethod ({ cls := "CatWitnessModel", name := "personTo", desc := "(I)Z" } : Jvm.MethodName)) ∈ lw_all := lw_g (lw_at lw_m8 109 rfl) rfl
theorem q1956 : (Jvm.Cond.code ({ cls := "CatWitnessModel", name := "personTo", desc := "(I)Z" } : Jvm.MethodName) prog_16_method_54_code (2 : Nat) (Option.some Jvm.ClassFile.FieldType.boolean)) ∈ lw_all := lw_g (lw_at lw_m8 110 rfl) rfl
theorem q1957 : (Jvm.Cond.methodLink "CatWitnessModel" (263 : Nat) ({ cls := "CatWitnessModel", name := "smellTo", desc := "(I)Z" } : Jvm.MethodName)) ∈ lw_all := lw_g (lw_at lw_m8 111 rfl) rfl
theorem q1958 : (Jvm.Cond.privateMethod ({ cls := "CatWitnessModel", name := "smellTo", desc := "(I)Z" } : Jvm.MethodName)) ∈ lw_tbl := lw_at lw_m8 112 rfl
theorem q1959 : (Jvm.Cond.instanceMethod ({ cls := "CatWitnessModel", name := "smellTo", desc := "(I)Z" } : Jvm.MethodName)) ∈ lw_all := lw_g (lw_at lw_m8 113 rfl) rfl
theorem q1960 : (Jvm.Cond.code ({ cls := "CatWitnessModel", name := "smellTo", desc := "(I)Z" } : Jvm.MethodName) prog_16_method_55_code (2 : Nat) (Option.some Jvm.ClassFile.FieldType.boolean)) ∈ lw_all := lw_g (lw_at lw_m8 114 rfl) rfl
theorem q1961 : (Jvm.Cond.methodLink "CatWitnessModel" (266 : Nat) ({ cls := "CatWitnessModel", name := "test", desc := "(I)Z" } : Jvm.MethodName)) ∈ lw_all := lw_g (lw_at lw_m8 115 rfl) rfl
theorem q1962 : (Jvm.Cond.privateMethod ({ cls := "CatWitnessModel", name := "test", desc := "(I)Z" } : Jvm.MethodName)) ∈ lw_tbl := lw_at lw_m8 116 rfl
theorem q1963 : (Jvm.Cond.instanceMethod ({ cls := "CatWitnessModel", name := "test", desc := "(I)Z" } : Jvm.MethodName)) ∈ lw_all := lw_g (lw_at lw_m8 117 rfl) rfl
theorem q1964 : (Jvm.Cond.code ({ cls := "CatWitnessModel", name := "test", desc := "(I)Z" } : Jvm.MethodName) prog_16_method_56_code (3 : Nat) (Option.some Jvm.ClassFile.FieldType.boolean)) ∈ lw_all := lw_g (lw_at lw_m8 118 rfl) rfl
theorem q1966 : (Jvm.Cond.instanceMethod ({ cls := "CatWitnessModel", name := "told", desc := "(I)I" } : Jvm.MethodName)) ∈ lw_all := lw_g (lw_at lw_m8 120 rfl) rfl
theorem q1967 : (Jvm.Cond.selects "CatWitnessModel" ({ cls := "CatWitnessModel", name := "told", desc := "(I)I" } : Jvm.MethodName) ({ cls := "CatWitnessModel", name := "told", desc := "(I)I" } : Jvm.MethodName)) ∈ lw_all := lw_g (lw_at lw_m8 121 rfl) rfl
theorem q1968 : (Jvm.Cond.code ({ cls := "CatWitnessModel", name := "told", desc := "(I)I" } : Jvm.MethodName) prog_16_method_73_code (2 : Nat) (Option.some Jvm.ClassFile.FieldType.int)) ∈ lw_all := lw_g (lw_at lw_m8 122 rfl) rfl
theorem q1969 : (Jvm.Cond.methodLink "CatWitnessModel" (287 : Nat) ({ cls := "CatWitnessModel", name := "allVotes", desc := "()I" } : Jvm.MethodName)) ∈ lw_all := lw_g (lw_at lw_m8 123 rfl) rfl
theorem q1970 : (Jvm.Cond.privateMethod ({ cls := "CatWitnessModel", name := "allVotes", desc := "()I" } : Jvm.MethodName)) ∈ lw_tbl := lw_at lw_m8 124 rfl
theorem q1971 : (Jvm.Cond.instanceMethod ({ cls := "CatWitnessModel", name := "allVotes", desc := "()I" } : Jvm.MethodName)) ∈ lw_all := lw_g (lw_at lw_m8 125 rfl) rfl
theorem q1972 : (Jvm.Cond.code ({ cls := "CatWitnessModel", name := "allVotes", desc := "()I" } : Jvm.MethodName) prog_16_method_72_code (3 : Nat) (Option.some Jvm.ClassFile.FieldType.int)) ∈ lw_all := lw_g (lw_at lw_m8 126 rfl) rfl
theorem q1973 : (Jvm.Cond.methodLink "CatWitnessModel" (284 : Nat) ({ cls := "CatWitnessModel", name := "votesOf", desc := "(I)I" } : Jvm.MethodName)) ∈ lw_all := lw_g (lw_at lw_m8 127 rfl) rfl
theorem q1974 : (Jvm.Cond.privateMethod ({ cls := "CatWitnessModel", name := "votesOf", desc := "(I)I" } : Jvm.MethodName)) ∈ lw_tbl := lw_at lw_m8 128 rfl
theorem q1975 : (Jvm.Cond.instanceMethod ({ cls := "CatWitnessModel", name := "votesOf", desc := "(I)I" } : Jvm.MethodName)) ∈ lw_all := lw_g (lw_at lw_m8 129 rfl) rfl
theorem q1976 : (Jvm.Cond.code ({ cls := "CatWitnessModel", name := "votesOf", desc := "(I)I" } : Jvm.MethodName) prog_16_method_69_code (2 : Nat) (Option.some Jvm.ClassFile.FieldType.int)) ∈ lw_all := lw_g (lw_at lw_m8 130 rfl) rfl
theorem q1977 : (Jvm.Cond.methodLink "CatWitnessModel" (290 : Nat) ({ cls := "CatWitnessModel", name := "peopleThat", desc := "(I)I" } : Jvm.MethodName)) ∈ lw_all := lw_g (lw_at lw_m8 131 rfl) rfl
theorem q1978 : (Jvm.Cond.privateMethod ({ cls := "CatWitnessModel", name := "peopleThat", desc := "(I)I" } : Jvm.MethodName)) ∈ lw_tbl := lw_at lw_m8 132 rfl
theorem q1979 : (Jvm.Cond.instanceMethod ({ cls := "CatWitnessModel", name := "peopleThat", desc := "(I)I" } : Jvm.MethodName)) ∈ lw_all := lw_g (lw_at lw_m8 133 rfl) rfl
theorem q1980 : (Jvm.Cond.code ({ cls := "CatWitnessModel", name := "peopleThat", desc := "(I)I" } : Jvm.MethodName) prog_16_method_71_code (5 : Nat) (Option.some Jvm.ClassFile.FieldType.int)) ∈ lw_all := lw_g (lw_at lw_m8 134 rfl) rfl
theorem q1981 : (Jvm.Cond.methodLink "CatWitnessModel" (281 : Nat) ({ cls := "CatWitnessModel", name := "personOf", desc := "(II)I" } : Jvm.MethodName)) ∈ lw_all := lw_g (lw_at lw_m8 135 rfl) rfl
theorem q1982 : (Jvm.Cond.privateMethod ({ cls := "CatWitnessModel", name := "personOf", desc := "(II)I" } : Jvm.MethodName)) ∈ lw_tbl := lw_at lw_m8 136 rfl
theorem q1983 : (Jvm.Cond.instanceMethod ({ cls := "CatWitnessModel", name := "personOf", desc := "(II)I" } : Jvm.MethodName)) ∈ lw_all := lw_g (lw_at lw_m8 137 rfl) rfl
theorem q1984 : (Jvm.Cond.code ({ cls := "CatWitnessModel", name := "personOf", desc := "(II)I" } : Jvm.MethodName) prog_16_method_67_code (3 : Nat) (Option.some Jvm.ClassFile.FieldType.int)) ∈ lw_all := lw_g (lw_at lw_m8 138 rfl) rfl
theorem q1986 : (Jvm.Cond.instanceMethod ({ cls := "CatWitnessModel", name := "sense", desc := "(I)I" } : Jvm.MethodName)) ∈ lw_all := lw_g (lw_at lw_m8 140 rfl) rfl
theorem q1987 : (Jvm.Cond.selects "CatWitnessModel" ({ cls := "CatWitnessModel", name := "sense", desc := "(I)I" } : Jvm.MethodName) ({ cls := "CatWitnessModel", name := "sense", desc := "(I)I" } : Jvm.MethodName)) ∈ lw_all := lw_g (lw_at lw_m8 141 rfl) rfl
theorem q1988 : (Jvm.Cond.code ({ cls := "CatWitnessModel", name := "sense", desc := "(I)I" } : Jvm.MethodName) prog_16_method_74_code (2 : Nat) (Option.some Jvm.ClassFile.FieldType.int)) ∈ lw_all := lw_g (lw_at lw_m8 142 rfl) rfl
theorem q1989 : (Jvm.Cond.methodLink "CatWitnessModel" (293 : Nat) ({ cls := "CatWitnessModel", name := "isCue", desc := "(I)Z" } : Jvm.MethodName)) ∈ lw_all := lw_g (lw_at lw_m8 143 rfl) rfl
theorem q1990 : (Jvm.Cond.privateMethod ({ cls := "CatWitnessModel", name := "isCue", desc := "(I)Z" } : Jvm.MethodName)) ∈ lw_tbl := lw_at lw_m8 144 rfl
theorem q1991 : (Jvm.Cond.instanceMethod ({ cls := "CatWitnessModel", name := "isCue", desc := "(I)Z" } : Jvm.MethodName)) ∈ lw_all := lw_g (lw_at lw_m8 145 rfl) rfl
theorem q1992 : (Jvm.Cond.code ({ cls := "CatWitnessModel", name := "isCue", desc := "(I)Z" } : Jvm.MethodName) prog_16_method_61_code (2 : Nat) (Option.some Jvm.ClassFile.FieldType.boolean)) ∈ lw_all := lw_g (lw_at lw_m8 146 rfl) rfl
theorem q1994 : (Jvm.Cond.instanceMethod ({ cls := "CatWitnessModel", name := "rule", desc := "(II)I" } : Jvm.MethodName)) ∈ lw_all := lw_g (lw_at lw_m8 148 rfl) rfl
theorem q1995 : (Jvm.Cond.selects "CatWitnessModel" ({ cls := "CatWitnessModel", name := "rule", desc := "(II)I" } : Jvm.MethodName) ({ cls := "CatWitnessModel", name := "rule", desc := "(II)I" } : Jvm.MethodName)) ∈ lw_all := lw_g (lw_at lw_m8 149 rfl) rfl
theorem q1996 : (Jvm.Cond.code ({ cls := "CatWitnessModel", name := "rule", desc := "(II)I" } : Jvm.MethodName) prog_16_method_75_code (3 : Nat) (Option.some Jvm.ClassFile.FieldType.int)) ∈ lw_all := lw_g (lw_at lw_m8 150 rfl) rfl
theorem q1997 : (Jvm.Cond.methodLink "CatWitnessModel" (296 : Nat) ({ cls := "CatWitnessModel", name := "isRule", desc := "(I)Z" } : Jvm.MethodName)) ∈ lw_all := lw_g (lw_at lw_m8 151 rfl) rfl
theorem q1998 : (Jvm.Cond.privateMethod ({ cls := "CatWitnessModel", name := "isRule", desc := "(I)Z" } : Jvm.MethodName)) ∈ lw_tbl := lw_at lw_m8 152 rfl
theorem q1999 : (Jvm.Cond.instanceMethod ({ cls := "CatWitnessModel", name := "isRule", desc := "(I)Z" } : Jvm.MethodName)) ∈ lw_all := lw_g (lw_at lw_m8 153 rfl) rfl
theorem q2000 : (Jvm.Cond.code ({ cls := "CatWitnessModel", name := "isRule", desc := "(I)Z" } : Jvm.MethodName) prog_16_method_62_code (2 : Nat) (Option.some Jvm.ClassFile.FieldType.boolean)) ∈ lw_all := lw_g (lw_at lw_m8 154 rfl) rfl
theorem q2001 : (Jvm.Cond.methodLink "CatWitnessModel" (299 : Nat) ({ cls := "CatWitnessModel", name := "ruleOf", desc := "(II)I" } : Jvm.MethodName)) ∈ lw_all := lw_g (lw_at lw_m8 155 rfl) rfl
theorem q2002 : (Jvm.Cond.privateMethod ({ cls := "CatWitnessModel", name := "ruleOf", desc := "(II)I" } : Jvm.MethodName)) ∈ lw_tbl := lw_at lw_m8 156 rfl
theorem q2003 : (Jvm.Cond.instanceMethod ({ cls := "CatWitnessModel", name := "ruleOf", desc := "(II)I" } : Jvm.MethodName)) ∈ lw_all := lw_g (lw_at lw_m8 157 rfl) rfl
theorem q2004 : (Jvm.Cond.code ({ cls := "CatWitnessModel", name := "ruleOf", desc := "(II)I" } : Jvm.MethodName) prog_16_method_68_code (3 : Nat) (Option.some Jvm.ClassFile.FieldType.int)) ∈ lw_all := lw_g (lw_at lw_m8 158 rfl) rfl
theorem q2005 : (Jvm.Cond.methodLink "CatWitnessModel" (302 : Nat) ({ cls := "CatWitnessModel", name := "orNone", desc := "(I)I" } : Jvm.MethodName)) ∈ lw_all := lw_g (lw_at lw_m8 159 rfl) rfl
theorem q2006 : (Jvm.Cond.privateMethod ({ cls := "CatWitnessModel", name := "orNone", desc := "(I)I" } : Jvm.MethodName)) ∈ lw_tbl := lw_at lw_m8 160 rfl
theorem q2007 : (Jvm.Cond.instanceMethod ({ cls := "CatWitnessModel", name := "orNone", desc := "(I)I" } : Jvm.MethodName)) ∈ lw_all := lw_g (lw_at lw_m8 161 rfl) rfl
theorem q2008 : (Jvm.Cond.code ({ cls := "CatWitnessModel", name := "orNone", desc := "(I)I" } : Jvm.MethodName) prog_16_method_9_code (2 : Nat) (Option.some Jvm.ClassFile.FieldType.int)) ∈ lw_all := lw_g (lw_at lw_m8 162 rfl) rfl
theorem q2010 : (Jvm.Cond.instanceMethod ({ cls := "CatWitnessModel", name := "person", desc := "(II)I" } : Jvm.MethodName)) ∈ lw_all := lw_g (lw_at lw_m8 164 rfl) rfl
theorem q2011 : (Jvm.Cond.selects "CatWitnessModel" ({ cls := "CatWitnessModel", name := "person", desc := "(II)I" } : Jvm.MethodName) ({ cls := "CatWitnessModel", name := "person", desc := "(II)I" } : Jvm.MethodName)) ∈ lw_all := lw_g (lw_at lw_m8 165 rfl) rfl
theorem q2012 : (Jvm.Cond.code ({ cls := "CatWitnessModel", name := "person", desc := "(II)I" } : Jvm.MethodName) prog_16_method_76_code (3 : Nat) (Option.some Jvm.ClassFile.FieldType.int)) ∈ lw_all := lw_g (lw_at lw_m8 166 rfl) rfl
theorem q2013 : (Jvm.Cond.methodLink "CatWitnessModel" (305 : Nat) ({ cls := "CatWitnessModel", name := "isPerson", desc := "(J)Z" } : Jvm.MethodName)) ∈ lw_all := lw_g (lw_at lw_m8 167 rfl) rfl
theorem q2014 : (Jvm.Cond.privateMethod ({ cls := "CatWitnessModel", name := "isPerson", desc := "(J)Z" } : Jvm.MethodName)) ∈ lw_tbl := lw_at lw_m8 168 rfl
theorem q2015 : (Jvm.Cond.instanceMethod ({ cls := "CatWitnessModel", name := "isPerson", desc := "(J)Z" } : Jvm.MethodName)) ∈ lw_all := lw_g (lw_at lw_m8 169 rfl) rfl
theorem q2016 : (Jvm.Cond.code ({ cls := "CatWitnessModel", name := "isPerson", desc := "(J)Z" } : Jvm.MethodName) prog_16_method_63_code (3 : Nat) (Option.some Jvm.ClassFile.FieldType.boolean)) ∈ lw_all := lw_g (lw_at lw_m8 170 rfl) rfl
theorem q2018 : (Jvm.Cond.instanceMethod ({ cls := "CatWitnessModel", name := "reader", desc := "(II)I" } : Jvm.MethodName)) ∈ lw_all := lw_g (lw_at lw_m8 172 rfl) rfl
theorem q2019 : (Jvm.Cond.selects "CatWitnessModel" ({ cls := "CatWitnessModel", name := "reader", desc := "(II)I" } : Jvm.MethodName) ({ cls := "CatWitnessModel", name := "reader", desc := "(II)I" } : Jvm.MethodName)) ∈ lw_all := lw_g (lw_at lw_m8 173 rfl) rfl
theorem q2020 : (Jvm.Cond.code ({ cls := "CatWitnessModel", name := "reader", desc := "(II)I" } : Jvm.MethodName) prog_16_method_77_code (3 : Nat) (Option.some Jvm.ClassFile.FieldType.int)) ∈ lw_all := lw_g (lw_at lw_m8 174 rfl) rfl
theorem q2021 : (Jvm.Cond.methodLink "CatWitnessModel" (309 : Nat) ({ cls := "CatWitnessModel", name := "isReader", desc := "(I)Z" } : Jvm.MethodName)) ∈ lw_all := lw_g (lw_at lw_m8 175 rfl) rfl
theorem q2022 : (Jvm.Cond.privateMethod ({ cls := "CatWitnessModel", name := "isReader", desc := "(I)Z" } : Jvm.MethodName)) ∈ lw_tbl := lw_at lw_m8 176 rfl
theorem q2023 : (Jvm.Cond.instanceMethod ({ cls := "CatWitnessModel", name := "isReader", desc := "(I)Z" } : Jvm.MethodName)) ∈ lw_all := lw_g (lw_at lw_m8 177 rfl) rfl
theorem q2024 : (Jvm.Cond.code ({ cls := "CatWitnessModel", name := "isReader", desc := "(I)Z" } : Jvm.MethodName) prog_16_method_64_code (2 : Nat) (Option.some Jvm.ClassFile.FieldType.boolean)) ∈ lw_all := lw_g (lw_at lw_m8 178 rfl) rfl
theorem q2025 : (Jvm.Cond.methodLink "CatWitnessModel" (312 : Nat) ({ cls := "CatWitnessModel", name := "slipOf", desc := "(I)I" } : Jvm.MethodName)) ∈ lw_all := lw_g (lw_at lw_m8 179 rfl) rfl
theorem q2026 : (Jvm.Cond.privateMethod ({ cls := "CatWitnessModel", name := "slipOf", desc := "(I)I" } : Jvm.MethodName)) ∈ lw_tbl := lw_at lw_m8 180 rfl
theorem q2027 : (Jvm.Cond.instanceMethod ({ cls := "CatWitnessModel", name := "slipOf", desc := "(I)I" } : Jvm.MethodName)) ∈ lw_all := lw_g (lw_at lw_m8 181 rfl) rfl
theorem q2028 : (Jvm.Cond.code ({ cls := "CatWitnessModel", name := "slipOf", desc := "(I)I" } : Jvm.MethodName) prog_16_method_70_code (2 : Nat) (Option.some Jvm.ClassFile.FieldType.int)) ∈ lw_all := lw_g (lw_at lw_m8 182 rfl) rfl
theorem q2030 : (Jvm.Cond.instanceMethod ({ cls := "CatWitnessModel", name := "word", desc := "(II)I" } : Jvm.MethodName)) ∈ lw_all := lw_g (lw_at lw_m8 184 rfl) rfl
theorem q2031 : (Jvm.Cond.selects "CatWitnessModel" ({ cls := "CatWitnessModel", name := "word", desc := "(II)I" } : Jvm.MethodName) ({ cls := "CatWitnessModel", name := "word", desc := "(II)I" } : Jvm.MethodName)) ∈ lw_all := lw_g (lw_at lw_m8 185 rfl) rfl
theorem q2032 : (Jvm.Cond.code ({ cls := "CatWitnessModel", name := "word", desc := "(II)I" } : Jvm.MethodName) prog_16_method_78_code (3 : Nat) (Option.some Jvm.ClassFile.FieldType.int)) ∈ lw_all := lw_g (lw_at lw_m8 186 rfl) rfl
theorem q2034 : (Jvm.Cond.instanceMethod ({ cls := "CatWitnessModel", name := "cue", desc := "(I)I" } : Jvm.MethodName)) ∈ lw_all := lw_g (lw_at lw_m8 188 rfl) rfl
theorem q2035 : (Jvm.Cond.selects "CatWitnessModel" ({ cls := "CatWitnessModel", name := "cue", desc := "(I)I" } : Jvm.MethodName) ({ cls := "CatWitnessModel", name := "cue", desc := "(I)I" } : Jvm.MethodName)) ∈ lw_all := lw_g (lw_at lw_m8 189 rfl) rfl
theorem q2036 : (Jvm.Cond.code ({ cls := "CatWitnessModel", name := "cue", desc := "(I)I" } : Jvm.MethodName) prog_16_method_86_code (2 : Nat) (Option.some Jvm.ClassFile.FieldType.int)) ∈ lw_all := lw_g (lw_at lw_m8 190 rfl) rfl
theorem q2037 : (Jvm.Cond.methodLink "CatWitnessModel" (332 : Nat) ({ cls := "CatWitnessModel", name := "cueFor", desc := "(II)I" } : Jvm.MethodName)) ∈ lw_all := lw_g (lw_at lw_m8 191 rfl) rfl
theorem q2038 : (Jvm.Cond.privateMethod ({ cls := "CatWitnessModel", name := "cueFor", desc := "(II)I" } : Jvm.MethodName)) ∈ lw_tbl := lw_at lw_m8 192 rfl
theorem q2039 : (Jvm.Cond.instanceMethod ({ cls := "CatWitnessModel", name := "cueFor", desc := "(II)I" } : Jvm.MethodName)) ∈ lw_all := lw_g (lw_at lw_m8 193 rfl) rfl
theorem q2040 : (Jvm.Cond.code ({ cls := "CatWitnessModel", name := "cueFor", desc := "(II)I" } : Jvm.MethodName) prog_16_method_84_code (4 : Nat) (Option.some Jvm.ClassFile.FieldType.int)) ∈ lw_all := lw_g (lw_at lw_m8 194 rfl) rfl
theorem q2041 : (Jvm.Cond.methodLink "CatWitnessModel" (329 : Nat) ({ cls := "CatWitnessModel", name := "ruleFor", desc := "(II)I" } : Jvm.MethodName)) ∈ lw_all := lw_g (lw_at lw_m8 195 rfl) rfl
theorem q2042 : (Jvm.Cond.privateMethod ({ cls := "CatWitnessModel", name := "ruleFor", desc := "(II)I" } : Jvm.MethodName)) ∈ lw_tbl := lw_at lw_m8 196 rfl
theorem q2043 : (Jvm.Cond.instanceMethod ({ cls := "CatWitnessModel", name := "ruleFor", desc := "(II)I" } : Jvm.MethodName)) ∈ lw_all := lw_g (lw_at lw_m8 197 rfl) rfl
theorem q2044 : (Jvm.Cond.code ({ cls := "CatWitnessModel", name := "ruleFor", desc := "(II)I" } : Jvm.MethodName) prog_16_method_83_code (3 : Nat) (Option.some Jvm.ClassFile.FieldType.int)) ∈ lw_all := lw_g (lw_at lw_m8 198 rfl) rfl
theorem q2045 : (Jvm.Cond.methodLink "CatWitnessModel" (325 : Nat) ({ cls := "CatWitnessModel", name := "firstOf", desc := "(IIII)I" } : Jvm.MethodName)) ∈ lw_all := lw_g (lw_at lw_m8 199 rfl) rfl
theorem q2046 : (Jvm.Cond.privateMethod ({ cls := "CatWitnessModel", name := "firstOf", desc := "(IIII)I" } : Jvm.MethodName)) ∈ lw_tbl := lw_at lw_m8 200 rfl
theorem q2047 : (Jvm.Cond.instanceMethod ({ cls := "CatWitnessModel", name := "firstOf", desc := "(IIII)I" } : Jvm.MethodName)) ∈ lw_all := lw_g (lw_at lw_m8 201 rfl) rfl
theorem q2048 : (Jvm.Cond.code ({ cls := "CatWitnessModel", name := "firstOf", desc := "(IIII)I" } : Jvm.MethodName) prog_16_method_81_code (6 : Nat) (Option.some Jvm.ClassFile.FieldType.int)) ∈ lw_all := lw_g (lw_at lw_m8 202 rfl) rfl
theorem q2049 : (Jvm.Cond.methodLink "CatWitnessModel" (321 : Nat) ({ cls := "CatWitnessModel", name := "doesBear", desc := "(IIIII)Z" } : Jvm.MethodName)) ∈ lw_all := lw_g (lw_at lw_m8 203 rfl) rfl
theorem q2050 : (Jvm.Cond.privateMethod ({ cls := "CatWitnessModel", name := "doesBear", desc := "(IIIII)Z" } : Jvm.MethodName)) ∈ lw_tbl := lw_at lw_m8 204 rfl
theorem q2051 : (Jvm.Cond.instanceMethod ({ cls := "CatWitnessModel", name := "doesBear", desc := "(IIIII)Z" } : Jvm.MethodName)) ∈ lw_all := lw_g (lw_at lw_m8 205 rfl) rfl
theorem q2052 : (Jvm.Cond.code ({ cls := "CatWitnessModel", name := "doesBear", desc := "(IIIII)Z" } : Jvm.MethodName) prog_16_method_80_code (8 : Nat) (Option.some Jvm.ClassFile.FieldType.boolean)) ∈ lw_all := lw_g (lw_at lw_m8 206 rfl) rfl
theorem q2053 : (Jvm.Cond.methodLink "CatWitnessModel" (315 : Nat) ({ cls := "CatWitnessModel", name := "isIn", desc := "(II)Z" } : Jvm.MethodName)) ∈ lw_all := lw_g (lw_at lw_m8 207 rfl) rfl
theorem q2054 : (Jvm.Cond.privateMethod ({ cls := "CatWitnessModel", name := "isIn", desc := "(II)Z" } : Jvm.MethodName)) ∈ lw_tbl := lw_at lw_m8 208 rfl
theorem q2055 : (Jvm.Cond.instanceMethod ({ cls := "CatWitnessModel", name := "isIn", desc := "(II)Z" } : Jvm.MethodName)) ∈ lw_all := lw_g (lw_at lw_m8 209 rfl) rfl
theorem q2056 : (Jvm.Cond.code ({ cls := "CatWitnessModel", name := "isIn", desc := "(II)Z" } : Jvm.MethodName) prog_16_method_65_code (3 : Nat) (Option.some Jvm.ClassFile.FieldType.boolean)) ∈ lw_all := lw_g (lw_at lw_m8 210 rfl) rfl
theorem q2057 : (Jvm.Cond.methodLink "CatWitnessModel" (318 : Nat) ({ cls := "CatWitnessModel", name := "isSo", desc := "(III)Z" } : Jvm.MethodName)) ∈ lw_all := lw_g (lw_at lw_m8 211 rfl) rfl
theorem q2058 : (Jvm.Cond.static ({ cls := "CatWitnessModel", name := "isSo", desc := "(III)Z" } : Jvm.MethodName)) ∈ lw_all := lw_g (lw_at lw_m8 212 rfl) rfl
theorem q2059 : (Jvm.Cond.code ({ cls := "CatWitnessModel", name := "isSo", desc := "(III)Z" } : Jvm.MethodName) prog_16_method_79_code (3 : Nat) (Option.some Jvm.ClassFile.FieldType.boolean)) ∈ lw_all := lw_g (lw_at lw_m8 213 rfl) rfl
theorem q2061 : (Jvm.Cond.instanceMethod ({ cls := "CatWitnessModel", name := "cueAt", desc := "(II)I" } : Jvm.MethodName)) ∈ lw_all := lw_g (lw_at lw_m8 215 rfl) rfl
theorem q2062 : (Jvm.Cond.selects "CatWitnessModel" ({ cls := "CatWitnessModel", name := "cueAt", desc := "(II)I" } : Jvm.MethodName) ({ cls := "CatWitnessModel", name := "cueAt", desc := "(II)I" } : Jvm.MethodName)) ∈ lw_all := lw_g (lw_at lw_m8 216 rfl) rfl
theorem q2063 : (Jvm.Cond.code ({ cls := "CatWitnessModel", name := "cueAt", desc := "(II)I" } : Jvm.MethodName) prog_16_method_87_code (3 : Nat) (Option.some Jvm.ClassFile.FieldType.int)) ∈ lw_all := lw_g (lw_at lw_m8 217 rfl) rfl
theorem q2064 : (Jvm.Cond.constantLong "CatWitnessModel" (335 : Nat) (9 : Int64)) ∈ lw_all := lw_g (lw_at lw_m8 218 rfl) rfl
theorem q2065 : (Jvm.Cond.methodLink "CatWitnessModel" (337 : Nat) ({ cls := "CatWitnessModel", name := "isFrom", desc := "(JJJ)Z" } : Jvm.MethodName)) ∈ lw_all := lw_g (lw_at lw_m8 219 rfl) rfl
theorem q2066 : (Jvm.Cond.static ({ cls := "CatWitnessModel", name := "isFrom", desc := "(JJJ)Z" } : Jvm.MethodName)) ∈ lw_all := lw_g (lw_at lw_m8 220 rfl) rfl
theorem q2067 : (Jvm.Cond.code ({ cls := "CatWitnessModel", name := "isFrom", desc := "(JJJ)Z" } : Jvm.MethodName) prog_16_method_18_code (6 : Nat) (Option.some Jvm.ClassFile.FieldType.boolean)) ∈ lw_all := lw_g (lw_at lw_m8 221 rfl) rfl
theorem q2069 : (Jvm.Cond.instanceMethod ({ cls := "CatWitnessModel", name := "bears", desc := "(I)I" } : Jvm.MethodName)) ∈ lw_all := lw_g (lw_at lw_m8 223 rfl) rfl
theorem q2070 : (Jvm.Cond.selects "CatWitnessModel" ({ cls := "CatWitnessModel", name := "bears", desc := "(I)I" } : Jvm.MethodName) ({ cls := "CatWitnessModel", name := "bears", desc := "(I)I" } : Jvm.MethodName)) ∈ lw_all := lw_g (lw_at lw_m8 224 rfl) rfl
theorem q2071 : (Jvm.Cond.code ({ cls := "CatWitnessModel", name := "bears", desc := "(I)I" } : Jvm.MethodName) prog_16_method_88_code (2 : Nat) (Option.some Jvm.ClassFile.FieldType.int)) ∈ lw_all := lw_g (lw_at lw_m8 225 rfl) rfl
theorem q2073 : (Jvm.Cond.instanceMethod ({ cls := "CatWitnessModel", name := "bearing", desc := "(I)I" } : Jvm.MethodName)) ∈ lw_all := lw_g (lw_at lw_m8 227 rfl) rfl
theorem q2074 : (Jvm.Cond.selects "CatWitnessModel" ({ cls := "CatWitnessModel", name := "bearing", desc := "(I)I" } : Jvm.MethodName) ({ cls := "CatWitnessModel", name := "bearing", desc := "(I)I" } : Jvm.MethodName)) ∈ lw_all := lw_g (lw_at lw_m8 228 rfl) rfl
theorem q2075 : (Jvm.Cond.code ({ cls := "CatWitnessModel", name := "bearing", desc := "(I)I" } : Jvm.MethodName) prog_16_method_89_code (4 : Nat) (Option.some Jvm.ClassFile.FieldType.int)) ∈ lw_all := lw_g (lw_at lw_m8 229 rfl) rfl
theorem q2077 : (Jvm.Cond.instanceMethod ({ cls := "CatWitnessModel", name := "shown", desc := "(I)I" } : Jvm.MethodName)) ∈ lw_all := lw_g (lw_at lw_m8 231 rfl) rfl
theorem q2078 : (Jvm.Cond.selects "CatWitnessModel" ({ cls := "CatWitnessModel", name := "shown", desc := "(I)I" } : Jvm.MethodName) ({ cls := "CatWitnessModel", name := "shown", desc := "(I)I" } : Jvm.MethodName)) ∈ lw_all := lw_g (lw_at lw_m8 232 rfl) rfl
theorem q2079 : (Jvm.Cond.code ({ cls := "CatWitnessModel", name := "shown", desc := "(I)I" } : Jvm.MethodName) prog_16_method_90_code (4 : Nat) (Option.some Jvm.ClassFile.FieldType.int)) ∈ lw_all := lw_g (lw_at lw_m8 233 rfl) rfl
theorem q2081 : (Jvm.Cond.instanceMethod ({ cls := "CatWitnessModel", name := "sit", desc := "(I)I" } : Jvm.MethodName)) ∈ lw_all := lw_g (lw_at lw_m8 235 rfl) rfl
theorem q2082 : (Jvm.Cond.selects "CatWitnessModel" ({ cls := "CatWitnessModel", name := "sit", desc := "(I)I" } : Jvm.MethodName) ({ cls := "CatWitnessModel", name := "sit", desc := "(I)I" } : Jvm.MethodName)) ∈ lw_all := lw_g (lw_at lw_m8 236 rfl) rfl
theorem q2083 : (Jvm.Cond.code ({ cls := "CatWitnessModel", name := "sit", desc := "(I)I" } : Jvm.MethodName) prog_16_method_92_code (3 : Nat) (Option.some Jvm.ClassFile.FieldType.int)) ∈ lw_all := lw_g (lw_at lw_m8 237 rfl) rfl
theorem q2084 : (Jvm.Cond.methodLink "CatWitnessModel" (341 : Nat) ({ cls := "CatWitnessModel", name := "sits", desc := "(I)I" } : Jvm.MethodName)) ∈ lw_all := lw_g (lw_at lw_m8 238 rfl) rfl
theorem q2085 : (Jvm.Cond.privateMethod ({ cls := "CatWitnessModel", name := "sits", desc := "(I)I" } : Jvm.MethodName)) ∈ lw_tbl := lw_at lw_m8 239 rfl
theorem q2086 : (Jvm.Cond.instanceMethod ({ cls := "CatWitnessModel", name := "sits", desc := "(I)I" } : Jvm.MethodName)) ∈ lw_all := lw_g (lw_at lw_m9 0 rfl) rfl
theorem q2087 : (Jvm.Cond.code ({ cls := "CatWitnessModel", name := "sits", desc := "(I)I" } : Jvm.MethodName) prog_16_method_91_code (3 : Nat) (Option.some Jvm.ClassFile.FieldType.int)) ∈ lw_all := lw_g (lw_at lw_m9 1 rfl) rfl
theorem q2089 : (Jvm.Cond.instanceMethod ({ cls := "CatWitnessModel", name := "term", desc := "()I" } : Jvm.MethodName)) ∈ lw_all := lw_g (lw_at lw_m9 3 rfl) rfl
theorem q2090 : (Jvm.Cond.selects "CatWitnessModel" ({ cls := "CatWitnessModel", name := "term", desc := "()I" } : Jvm.MethodName) ({ cls := "CatWitnessModel", name := "term", desc := "()I" } : Jvm.MethodName)) ∈ lw_all := lw_g (lw_at lw_m9 4 rfl) rfl
theorem q2091 : (Jvm.Cond.code ({ cls := "CatWitnessModel", name := "term", desc := "()I" } : Jvm.MethodName) prog_16_method_95_code (1 : Nat) (Option.some Jvm.ClassFile.FieldType.int)) ∈ lw_all := lw_g (lw_at lw_m9 5 rfl) rfl
theorem q2092 : (Jvm.Cond.methodLink "CatWitnessModel" (347 : Nat) ({ cls := "CatWitnessModel", name := "isTooMuch", desc := "()Z" } : Jvm.MethodName)) ∈ lw_all := lw_g (lw_at lw_m9 6 rfl) rfl
theorem q2093 : (Jvm.Cond.privateMethod ({ cls := "CatWitnessModel", name := "isTooMuch", desc := "()Z" } : Jvm.MethodName)) ∈ lw_tbl := lw_at lw_m9 7 rfl
theorem q2094 : (Jvm.Cond.instanceMethod ({ cls := "CatWitnessModel", name := "isTooMuch", desc := "()Z" } : Jvm.MethodName)) ∈ lw_all := lw_g (lw_at lw_m9 8 rfl) rfl
theorem q2095 : (Jvm.Cond.code ({ cls := "CatWitnessModel", name := "isTooMuch", desc := "()Z" } : Jvm.MethodName) prog_16_method_94_code (1 : Nat) (Option.some Jvm.ClassFile.FieldType.boolean)) ∈ lw_all := lw_g (lw_at lw_m9 9 rfl) rfl
theorem q2096 : (Jvm.Cond.methodLink "CatWitnessModel" (344 : Nat) ({ cls := "CatWitnessModel", name := "bits", desc := "(I)I" } : Jvm.MethodName)) ∈ lw_all := lw_g (lw_at lw_m9 10 rfl) rfl
theorem q2097 : (Jvm.Cond.static ({ cls := "CatWitnessModel", name := "bits", desc := "(I)I" } : Jvm.MethodName)) ∈ lw_all := lw_g (lw_at lw_m9 11 rfl) rfl
theorem q2098 : (Jvm.Cond.code ({ cls := "CatWitnessModel", name := "bits", desc := "(I)I" } : Jvm.MethodName) prog_16_method_66_code (3 : Nat) (Option.some Jvm.ClassFile.FieldType.int)) ∈ lw_all := lw_g (lw_at lw_m9 12 rfl) rfl
theorem q2099 : (Jvm.Cond.methodLink "CatWitnessModel" (350 : Nat) ({ cls := "CatWitnessModel", name := "terms", desc := "()I" } : Jvm.MethodName)) ∈ lw_all := lw_g (lw_at lw_m9 13 rfl) rfl
theorem q2100 : (Jvm.Cond.privateMethod ({ cls := "CatWitnessModel", name := "terms", desc := "()I" } : Jvm.MethodName)) ∈ lw_tbl := lw_at lw_m9 14 rfl
theorem q2101 : (Jvm.Cond.instanceMethod ({ cls := "CatWitnessModel", name := "terms", desc := "()I" } : Jvm.MethodName)) ∈ lw_all := lw_g (lw_at lw_m9 15 rfl) rfl
theorem q2102 : (Jvm.Cond.code ({ cls := "CatWitnessModel", name := "terms", desc := "()I" } : Jvm.MethodName) prog_16_method_93_code (6 : Nat) (Option.some Jvm.ClassFile.FieldType.int)) ∈ lw_all := lw_g (lw_at lw_m9 16 rfl) rfl
theorem q2104 : (Jvm.Cond.instanceMethod ({ cls := "CatWitnessModel", name := "meal", desc := "(II)I" } : Jvm.MethodName)) ∈ lw_all := lw_g (lw_at lw_m9 18 rfl) rfl
theorem q2105 : (Jvm.Cond.selects "CatWitnessModel" ({ cls := "CatWitnessModel", name := "meal", desc := "(II)I" } : Jvm.MethodName) ({ cls := "CatWitnessModel", name := "meal", desc := "(II)I" } : Jvm.MethodName)) ∈ lw_all := lw_g (lw_at lw_m9 19 rfl) rfl
theorem q2106 : (Jvm.Cond.code ({ cls := "CatWitnessModel", name := "meal", desc := "(II)I" } : Jvm.MethodName) prog_16_method_97_code (3 : Nat) (Option.some Jvm.ClassFile.FieldType.int)) ∈ lw_all := lw_g (lw_at lw_m9 20 rfl) rfl
theorem q2107 : (Jvm.Cond.constantLong "CatWitnessModel" (353 : Nat) (99 : Int64)) ∈ lw_all := lw_g (lw_at lw_m9 21 rfl) rfl
theorem q2108 : (Jvm.Cond.methodLink "CatWitnessModel" (355 : Nat) ({ cls := "CatWitnessModel", name := "meals", desc := "(II)Z" } : Jvm.MethodName)) ∈ lw_all := lw_g (lw_at lw_m9 22 rfl) rfl
theorem q2109 : (Jvm.Cond.privateMethod ({ cls := "CatWitnessModel", name := "meals", desc := "(II)Z" } : Jvm.MethodName)) ∈ lw_tbl := lw_at lw_m9 23 rfl
theorem q2110 : (Jvm.Cond.instanceMethod ({ cls := "CatWitnessModel", name := "meals", desc := "(II)Z" } : Jvm.MethodName)) ∈ lw_all := lw_g (lw_at lw_m9 24 rfl) rfl
theorem q2111 : (Jvm.Cond.code ({ cls := "CatWitnessModel", name := "meals", desc := "(II)Z" } : Jvm.MethodName) prog_16_method_96_code (4 : Nat) (Option.some Jvm.ClassFile.FieldType.boolean)) ∈ lw_all := lw_g (lw_at lw_m9 25 rfl) rfl
theorem q2113 : (Jvm.Cond.instanceMethod ({ cls := "CatWitnessModel", name := "scent", desc := "(IIZ)Z" } : Jvm.MethodName)) ∈ lw_all := lw_g (lw_at lw_m9 27 rfl) rfl
theorem q2114 : (Jvm.Cond.selects "CatWitnessModel" ({ cls := "CatWitnessModel", name := "scent", desc := "(IIZ)Z" } : Jvm.MethodName) ({ cls := "CatWitnessModel", name := "scent", desc := "(IIZ)Z" } : Jvm.MethodName)) ∈ lw_all := lw_g (lw_at lw_m9 28 rfl) rfl
theorem q2115 : (Jvm.Cond.code ({ cls := "CatWitnessModel", name := "scent", desc := "(IIZ)Z" } : Jvm.MethodName) prog_16_method_99_code (4 : Nat) (Option.some Jvm.ClassFile.FieldType.boolean)) ∈ lw_all := lw_g (lw_at lw_m9 29 rfl) rfl
theorem q2116 : (Jvm.Cond.methodLink "CatWitnessModel" (358 : Nat) ({ cls := "CatWitnessModel", name := "isSmell", desc := "(I)Z" } : Jvm.MethodName)) ∈ lw_all := lw_g (lw_at lw_m9 30 rfl) rfl
theorem q2117 : (Jvm.Cond.privateMethod ({ cls := "CatWitnessModel", name := "isSmell", desc := "(I)Z" } : Jvm.MethodName)) ∈ lw_tbl := lw_at lw_m9 31 rfl
theorem q2118 : (Jvm.Cond.instanceMethod ({ cls := "CatWitnessModel", name := "isSmell", desc := "(I)Z" } : Jvm.MethodName)) ∈ lw_all := lw_g (lw_at lw_m9 32 rfl) rfl
theorem q2119 : (Jvm.Cond.code ({ cls := "CatWitnessModel", name := "isSmell", desc := "(I)Z" } : Jvm.MethodName) prog_16_method_60_code (2 : Nat) (Option.some Jvm.ClassFile.FieldType.boolean)) ∈ lw_all := lw_g (lw_at lw_m9 33 rfl) rfl
theorem q2120 : (Jvm.Cond.methodLink "CatWitnessModel" (361 : Nat) ({ cls := "CatWitnessModel", name := "scents", desc := "(IIZ)Z" } : Jvm.MethodName)) ∈ lw_all := lw_g (lw_at lw_m9 34 rfl) rfl
theorem q2121 : (Jvm.Cond.privateMethod ({ cls := "CatWitnessModel", name := "scents", desc := "(IIZ)Z" } : Jvm.MethodName)) ∈ lw_tbl := lw_at lw_m9 35 rfl
theorem q2122 : (Jvm.Cond.instanceMethod ({ cls := "CatWitnessModel", name := "scents", desc := "(IIZ)Z" } : Jvm.MethodName)) ∈ lw_all := lw_g (lw_at lw_m9 36 rfl) rfl
theorem q2123 : (Jvm.Cond.code ({ cls := "CatWitnessModel", name := "scents", desc := "(IIZ)Z" } : Jvm.MethodName) prog_16_method_98_code (4 : Nat) (Option.some Jvm.ClassFile.FieldType.boolean)) ∈ lw_all := lw_g (lw_at lw_m9 37 rfl) rfl
theorem q2125 : (Jvm.Cond.instanceMethod ({ cls := "CatWitnessModel", name := "night", desc := "()I" } : Jvm.MethodName)) ∈ lw_all := lw_g (lw_at lw_m9 39 rfl) rfl
theorem q2126 : (Jvm.Cond.selects "CatWitnessModel" ({ cls := "CatWitnessModel", name := "night", desc := "()I" } : Jvm.MethodName) ({ cls := "CatWitnessModel", name := "night", desc := "()I" } : Jvm.MethodName)) ∈ lw_all := lw_g (lw_at lw_m9 40 rfl) rfl
theorem q2127 : (Jvm.Cond.code ({ cls := "CatWitnessModel", name := "night", desc := "()I" } : Jvm.MethodName) prog_16_method_101_code (2 : Nat) (Option.some Jvm.ClassFile.FieldType.int)) ∈ lw_all := lw_g (lw_at lw_m9 41 rfl) rfl
theorem q2128 : (Jvm.Cond.methodLink "CatWitnessModel" (365 : Nat) ({ cls := "CatWitnessModel", name := "nights", desc := "()Z" } : Jvm.MethodName)) ∈ lw_all := lw_g (lw_at lw_m9 42 rfl) rfl
theorem q2129 : (Jvm.Cond.privateMethod ({ cls := "CatWitnessModel", name := "nights", desc := "()Z" } : Jvm.MethodName)) ∈ lw_tbl := lw_at lw_m9 43 rfl
theorem q2130 : (Jvm.Cond.instanceMethod ({ cls := "CatWitnessModel", name := "nights", desc := "()Z" } : Jvm.MethodName)) ∈ lw_all := lw_g (lw_at lw_m9 44 rfl) rfl
theorem q2131 : (Jvm.Cond.code ({ cls := "CatWitnessModel", name := "nights", desc := "()Z" } : Jvm.MethodName) prog_16_method_100_code (2 : Nat) (Option.some Jvm.ClassFile.FieldType.boolean)) ∈ lw_all := lw_g (lw_at lw_m9 45 rfl) rfl
theorem q2133 : (Jvm.Cond.instanceMethod ({ cls := "CatWitnessModel", name := "appeal", desc := "(I)I" } : Jvm.MethodName)) ∈ lw_all := lw_g (lw_at lw_m9 47 rfl) rfl
theorem q2134 : (Jvm.Cond.selects "CatWitnessModel" ({ cls := "CatWitnessModel", name := "appeal", desc := "(I)I" } : Jvm.MethodName) ({ cls := "CatWitnessModel", name := "appeal", desc := "(I)I" } : Jvm.MethodName)) ∈ lw_all := lw_g (lw_at lw_m9 48 rfl) rfl
theorem q2135 : (Jvm.Cond.code ({ cls := "CatWitnessModel", name := "appeal", desc := "(I)I" } : Jvm.MethodName) prog_16_method_102_code (3 : Nat) (Option.some Jvm.ClassFile.FieldType.int)) ∈ lw_all := lw_g (lw_at lw_m9 49 rfl) rfl
theorem q2137 : (Jvm.Cond.instanceMethod ({ cls := "CatWitnessModel", name := "blame", desc := "(IZ)Z" } : Jvm.MethodName)) ∈ lw_all := lw_g (lw_at lw_m9 51 rfl) rfl
theorem q2138 : (Jvm.Cond.selects "CatWitnessModel" ({ cls := "CatWitnessModel", name := "blame", desc := "(IZ)Z" } : Jvm.MethodName) ({ cls := "CatWitnessModel", name := "blame", desc := "(IZ)Z" } : Jvm.MethodName)) ∈ lw_all := lw_g (lw_at lw_m9 52 rfl) rfl
theorem q2139 : (Jvm.Cond.code ({ cls := "CatWitnessModel", name := "blame", desc := "(IZ)Z" } : Jvm.MethodName) prog_16_method_103_code (4 : Nat) (Option.some Jvm.ClassFile.FieldType.boolean)) ∈ lw_all := lw_g (lw_at lw_m9 53 rfl) rfl
theorem q2141 : (Jvm.Cond.instanceMethod ({ cls := "CatWitnessModel", name := "reread", desc := "(II)Z" } : Jvm.MethodName)) ∈ lw_all := lw_g (lw_at lw_m9 55 rfl) rfl
theorem q2142 : (Jvm.Cond.selects "CatWitnessModel" ({ cls := "CatWitnessModel", name := "reread", desc := "(II)Z" } : Jvm.MethodName) ({ cls := "CatWitnessModel", name := "reread", desc := "(II)Z" } : Jvm.MethodName)) ∈ lw_all := lw_g (lw_at lw_m9 56 rfl) rfl
theorem q2143 : (Jvm.Cond.code ({ cls := "CatWitnessModel", name := "reread", desc := "(II)Z" } : Jvm.MethodName) prog_16_method_104_code (3 : Nat) (Option.some Jvm.ClassFile.FieldType.boolean)) ∈ lw_all := lw_g (lw_at lw_m9 57 rfl) rfl
theorem q2144 : (Jvm.Cond.constantLong "CatWitnessModel" (368 : Nat) (2 : Int64)) ∈ lw_all := lw_g (lw_at lw_m9 58 rfl) rfl
theorem q2146 : (Jvm.Cond.instanceMethod ({ cls := "CatWitnessModel", name := "enact", desc := "(III)I" } : Jvm.MethodName)) ∈ lw_all := lw_g (lw_at lw_m9 60 rfl) rfl
theorem q2147 : (Jvm.Cond.selects "CatWitnessModel" ({ cls := "CatWitnessModel", name := "enact", desc := "(III)I" } : Jvm.MethodName) ({ cls := "CatWitnessModel", name := "enact", desc := "(III)I" } : Jvm.MethodName)) ∈ lw_all := lw_g (lw_at lw_m9 61 rfl) rfl
theorem q2148 : (Jvm.Cond.code ({ cls := "CatWitnessModel", name := "enact", desc := "(III)I" } : Jvm.MethodName) prog_16_method_105_code (6 : Nat) (Option.some Jvm.ClassFile.FieldType.int)) ∈ lw_all := lw_g (lw_at lw_m9 62 rfl) rfl
theorem q2150 : (Jvm.Cond.instanceMethod ({ cls := "CatWitnessModel", name := "repeal", desc := "(I)I" } : Jvm.MethodName)) ∈ lw_all := lw_g (lw_at lw_m9 64 rfl) rfl
theorem q2151 : (Jvm.Cond.selects "CatWitnessModel" ({ cls := "CatWitnessModel", name := "repeal", desc := "(I)I" } : Jvm.MethodName) ({ cls := "CatWitnessModel", name := "repeal", desc := "(I)I" } : Jvm.MethodName)) ∈ lw_all := lw_g (lw_at lw_m9 65 rfl) rfl
theorem q2152 : (Jvm.Cond.code ({ cls := "CatWitnessModel", name := "repeal", desc := "(I)I" } : Jvm.MethodName) prog_16_method_106_code (3 : Nat) (Option.some Jvm.ClassFile.FieldType.int)) ∈ lw_all := lw_g (lw_at lw_m9 66 rfl) rfl
theorem q2154 : (Jvm.Cond.instanceMethod ({ cls := "CatWitnessModel", name := "strain", desc := "(II)Z" } : Jvm.MethodName)) ∈ lw_all := lw_g (lw_at lw_m9 68 rfl) rfl
theorem q2155 : (Jvm.Cond.selects "CatWitnessModel" ({ cls := "CatWitnessModel", name := "strain", desc := "(II)Z" } : Jvm.MethodName) ({ cls := "CatWitnessModel", name := "strain", desc := "(II)Z" } : Jvm.MethodName)) ∈ lw_all := lw_g (lw_at lw_m9 69 rfl) rfl
theorem q2156 : (Jvm.Cond.code ({ cls := "CatWitnessModel", name := "strain", desc := "(II)Z" } : Jvm.MethodName) prog_16_method_107_code (3 : Nat) (Option.some Jvm.ClassFile.FieldType.boolean)) ∈ lw_all := lw_g (lw_at lw_m9 70 rfl) rfl
theorem q2157 : (Jvm.Cond.constantLong "CatWitnessModel" (370 : Nat) (16 : Int64)) ∈ lw_all := lw_g (lw_at lw_m9 71 rfl) rfl
theorem q2159 : (Jvm.Cond.instanceMethod ({ cls := "CatWitnessModel", name := "freeIn", desc := "(I)I" } : Jvm.MethodName)) ∈ lw_all := lw_g (lw_at lw_m9 73 rfl) rfl
theorem q2160 : (Jvm.Cond.selects "CatWitnessModel" ({ cls := "CatWitnessModel", name := "freeIn", desc := "(I)I" } : Jvm.MethodName) ({ cls := "CatWitnessModel", name := "freeIn", desc := "(I)I" } : Jvm.MethodName)) ∈ lw_all := lw_g (lw_at lw_m9 74 rfl) rfl
theorem q2161 : (Jvm.Cond.code ({ cls := "CatWitnessModel", name := "freeIn", desc := "(I)I" } : Jvm.MethodName) prog_16_method_111_code (3 : Nat) (Option.some Jvm.ClassFile.FieldType.int)) ∈ lw_all := lw_g (lw_at lw_m9 75 rfl) rfl
theorem q2162 : (Jvm.Cond.constantLong "CatWitnessModel" (372 : Nat) (40 : Int64)) ∈ lw_all := lw_g (lw_at lw_m9 76 rfl) rfl
theorem q2163 : (Jvm.Cond.methodLink "CatWitnessModel" (374 : Nat) ({ cls := "CatWitnessModel", name := "keeps", desc := "(I)V" } : Jvm.MethodName)) ∈ lw_all := lw_g (lw_at lw_m9 77 rfl) rfl
theorem q2164 : (Jvm.Cond.privateMethod ({ cls := "CatWitnessModel", name := "keeps", desc := "(I)V" } : Jvm.MethodName)) ∈ lw_tbl := lw_at lw_m9 78 rfl
theorem q2165 : (Jvm.Cond.instanceMethod ({ cls := "CatWitnessModel", name := "keeps", desc := "(I)V" } : Jvm.MethodName)) ∈ lw_all := lw_g (lw_at lw_m9 79 rfl) rfl
theorem q2166 : (Jvm.Cond.code ({ cls := "CatWitnessModel", name := "keeps", desc := "(I)V" } : Jvm.MethodName) prog_16_method_109_code (3 : Nat) (Option.none : Option Jvm.ClassFile.FieldType)) ∈ lw_all := lw_g (lw_at lw_m9 80 rfl) rfl
theorem q2167 : (Jvm.Cond.methodLink "CatWitnessModel" (377 : Nat) ({ cls := "CatWitnessModel", name := "restores", desc := "(I)V" } : Jvm.MethodName)) ∈ lw_all := lw_g (lw_at lw_m9 81 rfl) rfl
theorem q2168 : (Jvm.Cond.privateMethod ({ cls := "CatWitnessModel", name := "restores", desc := "(I)V" } : Jvm.MethodName)) ∈ lw_tbl := lw_at lw_m9 82 rfl
theorem q2169 : (Jvm.Cond.instanceMethod ({ cls := "CatWitnessModel", name := "restores", desc := "(I)V" } : Jvm.MethodName)) ∈ lw_all := lw_g (lw_at lw_m9 83 rfl) rfl
theorem q2170 : (Jvm.Cond.code ({ cls := "CatWitnessModel", name := "restores", desc := "(I)V" } : Jvm.MethodName) prog_16_method_110_code (3 : Nat) (Option.none : Option Jvm.ClassFile.FieldType)) ∈ lw_all := lw_g (lw_at lw_m9 84 rfl) rfl
theorem q2172 : (Jvm.Cond.instanceMethod ({ cls := "CatWitnessModel", name := "judgedIn", desc := "(I)I" } : Jvm.MethodName)) ∈ lw_all := lw_g (lw_at lw_m9 86 rfl) rfl
theorem q2173 : (Jvm.Cond.selects "CatWitnessModel" ({ cls := "CatWitnessModel", name := "judgedIn", desc := "(I)I" } : Jvm.MethodName) ({ cls := "CatWitnessModel", name := "judgedIn", desc := "(I)I" } : Jvm.MethodName)) ∈ lw_all := lw_g (lw_at lw_m9 87 rfl) rfl
theorem q2174 : (Jvm.Cond.code ({ cls := "CatWitnessModel", name := "judgedIn", desc := "(I)I" } : Jvm.MethodName) prog_16_method_112_code (4 : Nat) (Option.some Jvm.ClassFile.FieldType.int)) ∈ lw_all := lw_g (lw_at lw_m9 88 rfl) rfl
theorem q2176 : (Jvm.Cond.instanceMethod ({ cls := "CatWitnessModel", name := "fits", desc := "(II)I" } : Jvm.MethodName)) ∈ lw_all := lw_g (lw_at lw_m9 90 rfl) rfl
theorem q2177 : (Jvm.Cond.selects "CatWitnessModel" ({ cls := "CatWitnessModel", name := "fits", desc := "(II)I" } : Jvm.MethodName) ({ cls := "CatWitnessModel", name := "fits", desc := "(II)I" } : Jvm.MethodName)) ∈ lw_all := lw_g (lw_at lw_m9 91 rfl) rfl
theorem q2178 : (Jvm.Cond.code ({ cls := "CatWitnessModel", name := "fits", desc := "(II)I" } : Jvm.MethodName) prog_16_method_118_code (4 : Nat) (Option.some Jvm.ClassFile.FieldType.int)) ∈ lw_all := lw_g (lw_at lw_m9 92 rfl) rfl
theorem q2179 : (Jvm.Cond.methodLink "CatWitnessModel" (395 : Nat) ({ cls := "CatWitnessModel", name := "wrongSeen", desc := "(II)I" } : Jvm.MethodName)) ∈ lw_all := lw_g (lw_at lw_m9 93 rfl) rfl
theorem q2180 : (Jvm.Cond.privateMethod ({ cls := "CatWitnessModel", name := "wrongSeen", desc := "(II)I" } : Jvm.MethodName)) ∈ lw_tbl := lw_at lw_m9 94 rfl
theorem q2181 : (Jvm.Cond.instanceMethod ({ cls := "CatWitnessModel", name := "wrongSeen", desc := "(II)I" } : Jvm.MethodName)) ∈ lw_all := lw_g (lw_at lw_m9 95 rfl) rfl
theorem q2182 : (Jvm.Cond.code ({ cls := "CatWitnessModel", name := "wrongSeen", desc := "(II)I" } : Jvm.MethodName) prog_16_method_113_code (5 : Nat) (Option.some Jvm.ClassFile.FieldType.int)) ∈ lw_all := lw_g (lw_at lw_m9 96 rfl) rfl
theorem q2183 : (Jvm.Cond.constantLong "CatWitnessModel" (380 : Nat) (20 : Int64)) ∈ lw_all := lw_g (lw_at lw_m9 97 rfl) rfl
theorem q2184 : (Jvm.Cond.methodLink "CatWitnessModel" (398 : Nat) ({ cls := "CatWitnessModel", name := "laysFits", desc := "(II)V" } : Jvm.MethodName)) ∈ lw_all := lw_g (lw_at lw_m9 98 rfl) rfl
theorem q2185 : (Jvm.Cond.privateMethod ({ cls := "CatWitnessModel", name := "laysFits", desc := "(II)V" } : Jvm.MethodName)) ∈ lw_tbl := lw_at lw_m9 99 rfl
theorem q2186 : (Jvm.Cond.instanceMethod ({ cls := "CatWitnessModel", name := "laysFits", desc := "(II)V" } : Jvm.MethodName)) ∈ lw_all := lw_g (lw_at lw_m9 100 rfl) rfl
theorem q2187 : (Jvm.Cond.code ({ cls := "CatWitnessModel", name := "laysFits", desc := "(II)V" } : Jvm.MethodName) prog_16_method_116_code (4 : Nat) (Option.none : Option Jvm.ClassFile.FieldType)) ∈ lw_all := lw_g (lw_at lw_m9 101 rfl) rfl
theorem q2188 : (Jvm.Cond.methodLink "CatWitnessModel" (392 : Nat) ({ cls := "CatWitnessModel", name := "doesFit", desc := "(III)Z" } : Jvm.MethodName)) ∈ lw_all := lw_g (lw_at lw_m9 102 rfl) rfl
theorem q2189 : (Jvm.Cond.privateMethod ({ cls := "CatWitnessModel", name := "doesFit", desc := "(III)Z" } : Jvm.MethodName)) ∈ lw_tbl := lw_at lw_m9 103 rfl
theorem q2190 : (Jvm.Cond.instanceMethod ({ cls := "CatWitnessModel", name := "doesFit", desc := "(III)Z" } : Jvm.MethodName)) ∈ lw_all := lw_g (lw_at lw_m9 104 rfl) rfl
theorem q2191 : (Jvm.Cond.code ({ cls := "CatWitnessModel", name := "doesFit", desc := "(III)Z" } : Jvm.MethodName) prog_16_method_115_code (6 : Nat) (Option.some Jvm.ClassFile.FieldType.boolean)) ∈ lw_all := lw_g (lw_at lw_m9 105 rfl) rfl
theorem q2192 : (Jvm.Cond.methodLink "CatWitnessModel" (385 : Nat) ({ cls := "CatWitnessModel", name := "wouldShow", desc := "(III)I" } : Jvm.MethodName)) ∈ lw_all := lw_g (lw_at lw_m9 106 rfl) rfl
theorem q2193 : (Jvm.Cond.privateMethod ({ cls := "CatWitnessModel", name := "wouldShow", desc := "(III)I" } : Jvm.MethodName)) ∈ lw_tbl := lw_at lw_m9 107 rfl
theorem q2194 : (Jvm.Cond.instanceMethod ({ cls := "CatWitnessModel", name := "wouldShow", desc := "(III)I" } : Jvm.MethodName)) ∈ lw_all := lw_g (lw_at lw_m9 108 rfl) rfl
theorem q2195 : (Jvm.Cond.code ({ cls := "CatWitnessModel", name := "wouldShow", desc := "(III)I" } : Jvm.MethodName) prog_16_method_114_code (5 : Nat) (Option.some Jvm.ClassFile.FieldType.int)) ∈ lw_all := lw_g (lw_at lw_m9 109 rfl) rfl
theorem q2196 : (Jvm.Cond.methodLink "CatWitnessModel" (382 : Nat) ({ cls := "CatWitnessModel", name := "cueOf", desc := "(IIII)I" } : Jvm.MethodName)) ∈ lw_all := lw_g (lw_at lw_m9 110 rfl) rfl
theorem q2197 : (Jvm.Cond.privateMethod ({ cls := "CatWitnessModel", name := "cueOf", desc := "(IIII)I" } : Jvm.MethodName)) ∈ lw_tbl := lw_at lw_m9 111 rfl
theorem q2198 : (Jvm.Cond.instanceMethod ({ cls := "CatWitnessModel", name := "cueOf", desc := "(IIII)I" } : Jvm.MethodName)) ∈ lw_all := lw_g (lw_at lw_m9 112 rfl) rfl
theorem q2199 : (Jvm.Cond.code ({ cls := "CatWitnessModel", name := "cueOf", desc := "(IIII)I" } : Jvm.MethodName) prog_16_method_82_code (6 : Nat) (Option.some Jvm.ClassFile.FieldType.int)) ∈ lw_all := lw_g (lw_at lw_m9 113 rfl) rfl
theorem q2201 : (Jvm.Cond.instanceMethod ({ cls := "CatWitnessModel", name := "sure", desc := "(III)I" } : Jvm.MethodName)) ∈ lw_all := lw_g (lw_at lw_m9 115 rfl) rfl
theorem q2202 : (Jvm.Cond.selects "CatWitnessModel" ({ cls := "CatWitnessModel", name := "sure", desc := "(III)I" } : Jvm.MethodName) ({ cls := "CatWitnessModel", name := "sure", desc := "(III)I" } : Jvm.MethodName)) ∈ lw_all := lw_g (lw_at lw_m9 116 rfl) rfl
theorem q2203 : (Jvm.Cond.code ({ cls := "CatWitnessModel", name := "sure", desc := "(III)I" } : Jvm.MethodName) prog_16_method_119_code (6 : Nat) (Option.some Jvm.ClassFile.FieldType.int)) ∈ lw_all := lw_g (lw_at lw_m9 117 rfl) rfl
theorem q2204 : (Jvm.Cond.methodLink "CatWitnessModel" (402 : Nat) ({ cls := "CatWitnessModel", name := "guiltyIn", desc := "(I)I" } : Jvm.MethodName)) ∈ lw_all := lw_g (lw_at lw_m9 118 rfl) rfl
theorem q2205 : (Jvm.Cond.privateMethod ({ cls := "CatWitnessModel", name := "guiltyIn", desc := "(I)I" } : Jvm.MethodName)) ∈ lw_tbl := lw_at lw_m9 119 rfl
theorem q2206 : (Jvm.Cond.instanceMethod ({ cls := "CatWitnessModel", name := "guiltyIn", desc := "(I)I" } : Jvm.MethodName)) ∈ lw_all := lw_g (lw_at lw_m9 120 rfl) rfl
theorem q2207 : (Jvm.Cond.code ({ cls := "CatWitnessModel", name := "guiltyIn", desc := "(I)I" } : Jvm.MethodName) prog_16_method_117_code (4 : Nat) (Option.some Jvm.ClassFile.FieldType.int)) ∈ lw_all := lw_g (lw_at lw_m9 121 rfl) rfl
theorem q2209 : (Jvm.Cond.instanceMethod ({ cls := "CatWitnessModel", name := "odds", desc := "(III)Z" } : Jvm.MethodName)) ∈ lw_all := lw_g (lw_at lw_m9 123 rfl) rfl
theorem q2210 : (Jvm.Cond.selects "CatWitnessModel" ({ cls := "CatWitnessModel", name := "odds", desc := "(III)Z" } : Jvm.MethodName) ({ cls := "CatWitnessModel", name := "odds", desc := "(III)Z" } : Jvm.MethodName)) ∈ lw_all := lw_g (lw_at lw_m9 124 rfl) rfl
theorem q2211 : (Jvm.Cond.code ({ cls := "CatWitnessModel", name := "odds", desc := "(III)Z" } : Jvm.MethodName) prog_16_method_120_code (5 : Nat) (Option.some Jvm.ClassFile.FieldType.boolean)) ∈ lw_all := lw_g (lw_at lw_m9 125 rfl) rfl
theorem q2212 : (Jvm.Cond.methodLink "CatWitnessModel" (405 : Nat) ({ cls := "CatWitnessModel", name := "tellsBy", desc := "(JJ)Z" } : Jvm.MethodName)) ∈ lw_all := lw_g (lw_at lw_m9 126 rfl) rfl
theorem q2213 : (Jvm.Cond.privateMethod ({ cls := "CatWitnessModel", name := "tellsBy", desc := "(JJ)Z" } : Jvm.MethodName)) ∈ lw_tbl := lw_at lw_m9 127 rfl
theorem q2214 : (Jvm.Cond.instanceMethod ({ cls := "CatWitnessModel", name := "tellsBy", desc := "(JJ)Z" } : Jvm.MethodName)) ∈ lw_all := lw_g (lw_at lw_m9 128 rfl) rfl
theorem q2215 : (Jvm.Cond.code ({ cls := "CatWitnessModel", name := "tellsBy", desc := "(JJ)Z" } : Jvm.MethodName) prog_16_method_10_code (11 : Nat) (Option.some Jvm.ClassFile.FieldType.boolean)) ∈ lw_all := lw_g (lw_at lw_m9 129 rfl) rfl
theorem q2217 : (Jvm.Cond.instanceMethod ({ cls := "CatWitnessModel", name := "ask", desc := "(III)I" } : Jvm.MethodName)) ∈ lw_all := lw_g (lw_at lw_m9 131 rfl) rfl
theorem q2218 : (Jvm.Cond.selects "CatWitnessModel" ({ cls := "CatWitnessModel", name := "ask", desc := "(III)I" } : Jvm.MethodName) ({ cls := "CatWitnessModel", name := "ask", desc := "(III)I" } : Jvm.MethodName)) ∈ lw_all := lw_g (lw_at lw_m9 132 rfl) rfl
theorem q2219 : (Jvm.Cond.code ({ cls := "CatWitnessModel", name := "ask", desc := "(III)I" } : Jvm.MethodName) prog_16_method_122_code (9 : Nat) (Option.some Jvm.ClassFile.FieldType.int)) ∈ lw_all := lw_g (lw_at lw_m9 133 rfl) rfl
theorem q2220 : (Jvm.Cond.constant "CatWitnessModel" (412 : Nat) (1000000 : Int32)) ∈ lw_all := lw_g (lw_at lw_m9 134 rfl) rfl
theorem q2221 : (Jvm.Cond.methodLink "CatWitnessModel" (413 : Nat) ({ cls := "CatWitnessModel", name := "mostAlike", desc := "(II)I" } : Jvm.MethodName)) ∈ lw_all := lw_g (lw_at lw_m9 135 rfl) rfl
theorem q2222 : (Jvm.Cond.privateMethod ({ cls := "CatWitnessModel", name := "mostAlike", desc := "(II)I" } : Jvm.MethodName)) ∈ lw_tbl := lw_at lw_m9 136 rfl
theorem q2223 : (Jvm.Cond.instanceMethod ({ cls := "CatWitnessModel", name := "mostAlike", desc := "(II)I" } : Jvm.MethodName)) ∈ lw_all := lw_g (lw_at lw_m9 137 rfl) rfl
theorem q2224 : (Jvm.Cond.code ({ cls := "CatWitnessModel", name := "mostAlike", desc := "(II)I" } : Jvm.MethodName) prog_16_method_121_code (6 : Nat) (Option.some Jvm.ClassFile.FieldType.int)) ∈ lw_all := lw_g (lw_at lw_m9 138 rfl) rfl
theorem q2225 : (Jvm.Cond.methodLink "CatWitnessModel" (409 : Nat) ({ cls := "java/lang/Math", name := "max", desc := "(II)I" } : Jvm.MethodName)) ∈ lw_all := lw_g (lw_at lw_m9 139 rfl) rfl
theorem q2229 : (Jvm.Cond.instanceMethod ({ cls := "CatWitnessModel", name := "least", desc := "(II)I" } : Jvm.MethodName)) ∈ lw_all := lw_g (lw_at lw_m9 143 rfl) rfl
theorem q2230 : (Jvm.Cond.selects "CatWitnessModel" ({ cls := "CatWitnessModel", name := "least", desc := "(II)I" } : Jvm.MethodName) ({ cls := "CatWitnessModel", name := "least", desc := "(II)I" } : Jvm.MethodName)) ∈ lw_all := lw_g (lw_at lw_m9 144 rfl) rfl
theorem q2231 : (Jvm.Cond.code ({ cls := "CatWitnessModel", name := "least", desc := "(II)I" } : Jvm.MethodName) prog_16_method_124_code (3 : Nat) (Option.some Jvm.ClassFile.FieldType.int)) ∈ lw_all := lw_g (lw_at lw_m9 145 rfl) rfl
theorem q2232 : (Jvm.Cond.methodLink "CatWitnessModel" (425 : Nat) ({ cls := "CatWitnessModel", name := "laysLeast", desc := "(II)V" } : Jvm.MethodName)) ∈ lw_all := lw_g (lw_at lw_m9 146 rfl) rfl
theorem q2233 : (Jvm.Cond.privateMethod ({ cls := "CatWitnessModel", name := "laysLeast", desc := "(II)V" } : Jvm.MethodName)) ∈ lw_tbl := lw_at lw_m9 147 rfl
theorem q2234 : (Jvm.Cond.instanceMethod ({ cls := "CatWitnessModel", name := "laysLeast", desc := "(II)V" } : Jvm.MethodName)) ∈ lw_all := lw_g (lw_at lw_m9 148 rfl) rfl
theorem q2235 : (Jvm.Cond.code ({ cls := "CatWitnessModel", name := "laysLeast", desc := "(II)V" } : Jvm.MethodName) prog_16_method_123_code (7 : Nat) (Option.none : Option Jvm.ClassFile.FieldType)) ∈ lw_all := lw_g (lw_at lw_m9 149 rfl) rfl
theorem q2237 : (Jvm.Cond.instanceMethod ({ cls := "CatWitnessModel", name := "leastBy", desc := "(III)I" } : Jvm.MethodName)) ∈ lw_all := lw_g (lw_at lw_m9 151 rfl) rfl
theorem q2238 : (Jvm.Cond.selects "CatWitnessModel" ({ cls := "CatWitnessModel", name := "leastBy", desc := "(III)I" } : Jvm.MethodName) ({ cls := "CatWitnessModel", name := "leastBy", desc := "(III)I" } : Jvm.MethodName)) ∈ lw_all := lw_g (lw_at lw_m9 152 rfl) rfl
theorem q2239 : (Jvm.Cond.code ({ cls := "CatWitnessModel", name := "leastBy", desc := "(III)I" } : Jvm.MethodName) prog_16_method_125_code (4 : Nat) (Option.some Jvm.ClassFile.FieldType.int)) ∈ lw_all := lw_g (lw_at lw_m9 153 rfl) rfl
theorem q2241 : (Jvm.Cond.instanceMethod ({ cls := "CatWitnessModel", name := "reach", desc := "(I)I" } : Jvm.MethodName)) ∈ lw_all := lw_g (lw_at lw_m9 155 rfl) rfl
theorem q2242 : (Jvm.Cond.selects "CatWitnessModel" ({ cls := "CatWitnessModel", name := "reach", desc := "(I)I" } : Jvm.MethodName) ({ cls := "CatWitnessModel", name := "reach", desc := "(I)I" } : Jvm.MethodName)) ∈ lw_all := lw_g (lw_at lw_m9 156 rfl) rfl
theorem q2243 : (Jvm.Cond.code ({ cls := "CatWitnessModel", name := "reach", desc := "(I)I" } : Jvm.MethodName) prog_16_method_127_code (2 : Nat) (Option.some Jvm.ClassFile.FieldType.int)) ∈ lw_all := lw_g (lw_at lw_m9 157 rfl) rfl
theorem q2244 : (Jvm.Cond.methodLink "CatWitnessModel" (428 : Nat) ({ cls := "CatWitnessModel", name := "laysWorlds", desc := "()V" } : Jvm.MethodName)) ∈ lw_all := lw_g (lw_at lw_m9 158 rfl) rfl
theorem q2245 : (Jvm.Cond.privateMethod ({ cls := "CatWitnessModel", name := "laysWorlds", desc := "()V" } : Jvm.MethodName)) ∈ lw_tbl := lw_at lw_m9 159 rfl
theorem q2246 : (Jvm.Cond.instanceMethod ({ cls := "CatWitnessModel", name := "laysWorlds", desc := "()V" } : Jvm.MethodName)) ∈ lw_all := lw_g (lw_at lw_m9 160 rfl) rfl
theorem q2247 : (Jvm.Cond.code ({ cls := "CatWitnessModel", name := "laysWorlds", desc := "()V" } : Jvm.MethodName) prog_16_method_126_code (4 : Nat) (Option.none : Option Jvm.ClassFile.FieldType)) ∈ lw_all := lw_g (lw_at lw_m9 161 rfl) rfl
theorem q2249 : (Jvm.Cond.instanceMethod ({ cls := "CatWitnessModel", name := "idle", desc := "()I" } : Jvm.MethodName)) ∈ lw_all := lw_g (lw_at lw_m9 163 rfl) rfl
theorem q2250 : (Jvm.Cond.selects "CatWitnessModel" ({ cls := "CatWitnessModel", name := "idle", desc := "()I" } : Jvm.MethodName) ({ cls := "CatWitnessModel", name := "idle", desc := "()I" } : Jvm.MethodName)) ∈ lw_all := lw_g (lw_at lw_m9 164 rfl) rfl
theorem q2251 : (Jvm.Cond.code ({ cls := "CatWitnessModel", name := "idle", desc := "()I" } : Jvm.MethodName) prog_16_method_128_code (3 : Nat) (Option.some Jvm.ClassFile.FieldType.int)) ∈ lw_all := lw_g (lw_at lw_m9 165 rfl) rfl
theorem q2253 : (Jvm.Cond.instanceMethod ({ cls := "CatWitnessModel", name := "tells", desc := "(I)Z" } : Jvm.MethodName)) ∈ lw_all := lw_g (lw_at lw_m9 167 rfl) rfl
theorem q2254 : (Jvm.Cond.selects "CatWitnessModel" ({ cls := "CatWitnessModel", name := "tells", desc := "(I)Z" } : Jvm.MethodName) ({ cls := "CatWitnessModel", name := "tells", desc := "(I)Z" } : Jvm.MethodName)) ∈ lw_all := lw_g (lw_at lw_m9 168 rfl) rfl
theorem q2255 : (Jvm.Cond.code ({ cls := "CatWitnessModel", name := "tells", desc := "(I)Z" } : Jvm.MethodName) prog_16_method_129_code (5 : Nat) (Option.some Jvm.ClassFile.FieldType.boolean)) ∈ lw_all := lw_g (lw_at lw_m9 169 rfl) rfl
theorem q2257 : (Jvm.Cond.instanceMethod ({ cls := "CatWitnessModel", name := "mute", desc := "()I" } : Jvm.MethodName)) ∈ lw_all := lw_g (lw_at lw_m9 171 rfl) rfl
theorem q2258 : (Jvm.Cond.selects "CatWitnessModel" ({ cls := "CatWitnessModel", name := "mute", desc := "()I" } : Jvm.MethodName) ({ cls := "CatWitnessModel", name := "mute", desc := "()I" } : Jvm.MethodName)) ∈ lw_all := lw_g (lw_at lw_m9 172 rfl) rfl
theorem q2259 : (Jvm.Cond.code ({ cls := "CatWitnessModel", name := "mute", desc := "()I" } : Jvm.MethodName) prog_16_method_130_code (1 : Nat) (Option.some Jvm.ClassFile.FieldType.int)) ∈ lw_all := lw_g (lw_at lw_m9 173 rfl) rfl
theorem q2261 : (Jvm.Cond.instanceMethod ({ cls := "CatWitnessModel", name := "verdict", desc := "(I)Z" } : Jvm.MethodName)) ∈ lw_all := lw_g (lw_at lw_m9 175 rfl) rfl
theorem q2262 : (Jvm.Cond.selects "CatWitnessModel" ({ cls := "CatWitnessModel", name := "verdict", desc := "(I)Z" } : Jvm.MethodName) ({ cls := "CatWitnessModel", name := "verdict", desc := "(I)Z" } : Jvm.MethodName)) ∈ lw_all := lw_g (lw_at lw_m9 176 rfl) rfl
theorem q2263 : (Jvm.Cond.code ({ cls := "CatWitnessModel", name := "verdict", desc := "(I)Z" } : Jvm.MethodName) prog_16_method_132_code (2 : Nat) (Option.some Jvm.ClassFile.FieldType.boolean)) ∈ lw_all := lw_g (lw_at lw_m9 177 rfl) rfl
theorem q2264 : (Jvm.Cond.methodLink "CatWitnessModel" (431 : Nat) ({ cls := "CatWitnessModel", name := "rightOf", desc := "(I)J" } : Jvm.MethodName)) ∈ lw_all := lw_g (lw_at lw_m9 178 rfl) rfl
theorem q2265 : (Jvm.Cond.privateMethod ({ cls := "CatWitnessModel", name := "rightOf", desc := "(I)J" } : Jvm.MethodName)) ∈ lw_tbl := lw_at lw_m9 179 rfl
theorem q2266 : (Jvm.Cond.instanceMethod ({ cls := "CatWitnessModel", name := "rightOf", desc := "(I)J" } : Jvm.MethodName)) ∈ lw_all := lw_g (lw_at lw_m9 180 rfl) rfl
theorem q2267 : (Jvm.Cond.code ({ cls := "CatWitnessModel", name := "rightOf", desc := "(I)J" } : Jvm.MethodName) prog_16_method_131_code (10 : Nat) (Option.some Jvm.ClassFile.FieldType.long)) ∈ lw_all := lw_g (lw_at lw_m9 181 rfl) rfl
theorem q2269 : (Jvm.Cond.instanceMethod ({ cls := "CatWitnessModel", name := "sworn", desc := "(I)I" } : Jvm.MethodName)) ∈ lw_all := lw_g (lw_at lw_m9 183 rfl) rfl
theorem q2270 : (Jvm.Cond.selects "CatWitnessModel" ({ cls := "CatWitnessModel", name := "sworn", desc := "(I)I" } : Jvm.MethodName) ({ cls := "CatWitnessModel", name := "sworn", desc := "(I)I" } : Jvm.MethodName)) ∈ lw_all := lw_g (lw_at lw_m9 184 rfl) rfl
theorem q2271 : (Jvm.Cond.code ({ cls := "CatWitnessModel", name := "sworn", desc := "(I)I" } : Jvm.MethodName) prog_16_method_133_code (8 : Nat) (Option.some Jvm.ClassFile.FieldType.int)) ∈ lw_all := lw_g (lw_at lw_m9 185 rfl) rfl
theorem q2272 : (Jvm.Cond.constantLong "CatWitnessModel" (435 : Nat) (6 : Int64)) ∈ lw_all := lw_g (lw_at lw_m9 186 rfl) rfl
theorem q2274 : (Jvm.Cond.instanceMethod ({ cls := "CatWitnessModel", name := "power", desc := "(I)Z" } : Jvm.MethodName)) ∈ lw_all := lw_g (lw_at lw_m9 188 rfl) rfl
theorem q2275 : (Jvm.Cond.selects "CatWitnessModel" ({ cls := "CatWitnessModel", name := "power", desc := "(I)Z" } : Jvm.MethodName) ({ cls := "CatWitnessModel", name := "power", desc := "(I)Z" } : Jvm.MethodName)) ∈ lw_all := lw_g (lw_at lw_m9 189 rfl) rfl
theorem q2276 : (Jvm.Cond.code ({ cls := "CatWitnessModel", name := "power", desc := "(I)Z" } : Jvm.MethodName) prog_16_method_135_code (8 : Nat) (Option.some Jvm.ClassFile.FieldType.boolean)) ∈ lw_all := lw_g (lw_at lw_m9 190 rfl) rfl
theorem q2277 : (Jvm.Cond.methodLink "CatWitnessModel" (437 : Nat) ({ cls := "CatWitnessModel", name := "orders", desc := "(I)J" } : Jvm.MethodName)) ∈ lw_all := lw_g (lw_at lw_m9 191 rfl) rfl
theorem q2278 : (Jvm.Cond.static ({ cls := "CatWitnessModel", name := "orders", desc := "(I)J" } : Jvm.MethodName)) ∈ lw_all := lw_g (lw_at lw_m9 192 rfl) rfl
theorem q2279 : (Jvm.Cond.code ({ cls := "CatWitnessModel", name := "orders", desc := "(I)J" } : Jvm.MethodName) prog_16_method_134_code (4 : Nat) (Option.some Jvm.ClassFile.FieldType.long)) ∈ lw_all := lw_g (lw_at lw_m9 193 rfl) rfl
theorem q2281 : (Jvm.Cond.instanceMethod ({ cls := "CatWitnessModel", name := "clash", desc := "()I" } : Jvm.MethodName)) ∈ lw_all := lw_g (lw_at lw_m9 195 rfl) rfl
theorem q2282 : (Jvm.Cond.selects "CatWitnessModel" ({ cls := "CatWitnessModel", name := "clash", desc := "()I" } : Jvm.MethodName) ({ cls := "CatWitnessModel", name := "clash", desc := "()I" } : Jvm.MethodName)) ∈ lw_all := lw_g (lw_at lw_m9 196 rfl) rfl
theorem q2283 : (Jvm.Cond.code ({ cls := "CatWitnessModel", name := "clash", desc := "()I" } : Jvm.MethodName) prog_16_method_138_code (1 : Nat) (Option.some Jvm.ClassFile.FieldType.int)) ∈ lw_all := lw_g (lw_at lw_m9 197 rfl) rfl
theorem q2284 : (Jvm.Cond.methodLink "CatWitnessModel" (446 : Nat) ({ cls := "CatWitnessModel", name := "clashing", desc := "()I" } : Jvm.MethodName)) ∈ lw_all := lw_g (lw_at lw_m9 198 rfl) rfl
theorem q2285 : (Jvm.Cond.privateMethod ({ cls := "CatWitnessModel", name := "clashing", desc := "()I" } : Jvm.MethodName)) ∈ lw_tbl := lw_at lw_m9 199 rfl
theorem q2286 : (Jvm.Cond.instanceMethod ({ cls := "CatWitnessModel", name := "clashing", desc := "()I" } : Jvm.MethodName)) ∈ lw_all := lw_g (lw_at lw_m9 200 rfl) rfl
theorem q2287 : (Jvm.Cond.code ({ cls := "CatWitnessModel", name := "clashing", desc := "()I" } : Jvm.MethodName) prog_16_method_137_code (3 : Nat) (Option.some Jvm.ClassFile.FieldType.int)) ∈ lw_all := lw_g (lw_at lw_m9 201 rfl) rfl
theorem q2288 : (Jvm.Cond.methodLink "CatWitnessModel" (440 : Nat) ({ cls := "CatWitnessModel", name := "wordOf", desc := "(II)I" } : Jvm.MethodName)) ∈ lw_all := lw_g (lw_at lw_m9 202 rfl) rfl
theorem q2289 : (Jvm.Cond.privateMethod ({ cls := "CatWitnessModel", name := "wordOf", desc := "(II)I" } : Jvm.MethodName)) ∈ lw_tbl := lw_at lw_m9 203 rfl
theorem q2290 : (Jvm.Cond.instanceMethod ({ cls := "CatWitnessModel", name := "wordOf", desc := "(II)I" } : Jvm.MethodName)) ∈ lw_all := lw_g (lw_at lw_m9 204 rfl) rfl
theorem q2291 : (Jvm.Cond.code ({ cls := "CatWitnessModel", name := "wordOf", desc := "(II)I" } : Jvm.MethodName) prog_16_method_136_code (3 : Nat) (Option.some Jvm.ClassFile.FieldType.int)) ∈ lw_all := lw_g (lw_at lw_m9 205 rfl) rfl
theorem q2292 : (Jvm.Cond.methodLink "CatWitnessModel" (443 : Nat) ({ cls := "CatWitnessModel", name := "senseFor", desc := "(II)I" } : Jvm.MethodName)) ∈ lw_all := lw_g (lw_at lw_m9 206 rfl) rfl
theorem q2293 : (Jvm.Cond.privateMethod ({ cls := "CatWitnessModel", name := "senseFor", desc := "(II)I" } : Jvm.MethodName)) ∈ lw_tbl := lw_at lw_m9 207 rfl
theorem q2294 : (Jvm.Cond.instanceMethod ({ cls := "CatWitnessModel", name := "senseFor", desc := "(II)I" } : Jvm.MethodName)) ∈ lw_all := lw_g (lw_at lw_m9 208 rfl) rfl
theorem q2295 : (Jvm.Cond.code ({ cls := "CatWitnessModel", name := "senseFor", desc := "(II)I" } : Jvm.MethodName) prog_16_method_85_code (4 : Nat) (Option.some Jvm.ClassFile.FieldType.int)) ∈ lw_all := lw_g (lw_at lw_m9 209 rfl) rfl
theorem q2297 : (Jvm.Cond.instanceMethod ({ cls := "CatWitnessModel", name := "struck", desc := "()I" } : Jvm.MethodName)) ∈ lw_all := lw_g (lw_at lw_m9 211 rfl) rfl
theorem q2298 : (Jvm.Cond.selects "CatWitnessModel" ({ cls := "CatWitnessModel", name := "struck", desc := "()I" } : Jvm.MethodName) ({ cls := "CatWitnessModel", name := "struck", desc := "()I" } : Jvm.MethodName)) ∈ lw_all := lw_g (lw_at lw_m9 212 rfl) rfl
theorem q2299 : (Jvm.Cond.code ({ cls := "CatWitnessModel", name := "struck", desc := "()I" } : Jvm.MethodName) prog_16_method_141_code (1 : Nat) (Option.some Jvm.ClassFile.FieldType.int)) ∈ lw_all := lw_g (lw_at lw_m9 213 rfl) rfl
theorem q2300 : (Jvm.Cond.methodLink "CatWitnessModel" (452 : Nat) ({ cls := "CatWitnessModel", name := "striking", desc := "()I" } : Jvm.MethodName)) ∈ lw_all := lw_g (lw_at lw_m9 214 rfl) rfl
theorem q2301 : (Jvm.Cond.privateMethod ({ cls := "CatWitnessModel", name := "striking", desc := "()I" } : Jvm.MethodName)) ∈ lw_tbl := lw_at lw_m9 215 rfl
theorem q2302 : (Jvm.Cond.instanceMethod ({ cls := "CatWitnessModel", name := "striking", desc := "()I" } : Jvm.MethodName)) ∈ lw_all := lw_g (lw_at lw_m9 216 rfl) rfl
theorem q2303 : (Jvm.Cond.code ({ cls := "CatWitnessModel", name := "striking", desc := "()I" } : Jvm.MethodName) prog_16_method_140_code (4 : Nat) (Option.some Jvm.ClassFile.FieldType.int)) ∈ lw_all := lw_g (lw_at lw_m9 217 rfl) rfl
theorem q2304 : (Jvm.Cond.methodLink "CatWitnessModel" (449 : Nat) ({ cls := "CatWitnessModel", name := "areUnlike", desc := "(I)Z" } : Jvm.MethodName)) ∈ lw_all := lw_g (lw_at lw_m9 218 rfl) rfl
theorem q2305 : (Jvm.Cond.privateMethod ({ cls := "CatWitnessModel", name := "areUnlike", desc := "(I)Z" } : Jvm.MethodName)) ∈ lw_tbl := lw_at lw_m9 219 rfl
theorem q2306 : (Jvm.Cond.instanceMethod ({ cls := "CatWitnessModel", name := "areUnlike", desc := "(I)Z" } : Jvm.MethodName)) ∈ lw_all := lw_g (lw_at lw_m9 220 rfl) rfl
theorem q2307 : (Jvm.Cond.code ({ cls := "CatWitnessModel", name := "areUnlike", desc := "(I)Z" } : Jvm.MethodName) prog_16_method_139_code (4 : Nat) (Option.some Jvm.ClassFile.FieldType.boolean)) ∈ lw_all := lw_g (lw_at lw_m9 221 rfl) rfl
theorem q2309 : (Jvm.Cond.instanceMethod ({ cls := "CatWitnessModel", name := "struckSet", desc := "()I" } : Jvm.MethodName)) ∈ lw_all := lw_g (lw_at lw_m9 223 rfl) rfl
theorem q2310 : (Jvm.Cond.selects "CatWitnessModel" ({ cls := "CatWitnessModel", name := "struckSet", desc := "()I" } : Jvm.MethodName) ({ cls := "CatWitnessModel", name := "struckSet", desc := "()I" } : Jvm.MethodName)) ∈ lw_all := lw_g (lw_at lw_m9 224 rfl) rfl
theorem q2311 : (Jvm.Cond.code ({ cls := "CatWitnessModel", name := "struckSet", desc := "()I" } : Jvm.MethodName) prog_16_method_142_code (1 : Nat) (Option.some Jvm.ClassFile.FieldType.int)) ∈ lw_all := lw_g (lw_at lw_m9 225 rfl) rfl
theorem q2313 : (Jvm.Cond.instanceMethod ({ cls := "CatWitnessModel", name := "best", desc := "()I" } : Jvm.MethodName)) ∈ lw_all := lw_g (lw_at lw_m9 227 rfl) rfl
theorem q2314 : (Jvm.Cond.selects "CatWitnessModel" ({ cls := "CatWitnessModel", name := "best", desc := "()I" } : Jvm.MethodName) ({ cls := "CatWitnessModel", name := "best", desc := "()I" } : Jvm.MethodName)) ∈ lw_all := lw_g (lw_at lw_m9 228 rfl) rfl
theorem q2315 : (Jvm.Cond.code ({ cls := "CatWitnessModel", name := "best", desc := "()I" } : Jvm.MethodName) prog_16_method_144_code (1 : Nat) (Option.some Jvm.ClassFile.FieldType.int)) ∈ lw_all := lw_g (lw_at lw_m9 229 rfl) rfl
theorem q2316 : (Jvm.Cond.methodLink "CatWitnessModel" (455 : Nat) ({ cls := "CatWitnessModel", name := "laysOrders", desc := "()I" } : Jvm.MethodName)) ∈ lw_all := lw_g (lw_at lw_m9 230 rfl) rfl
theorem q2317 : (Jvm.Cond.privateMethod ({ cls := "CatWitnessModel", name := "laysOrders", desc := "()I" } : Jvm.MethodName)) ∈ lw_tbl := lw_at lw_m9 231 rfl
theorem q2318 : (Jvm.Cond.instanceMethod ({ cls := "CatWitnessModel", name := "laysOrders", desc := "()I" } : Jvm.MethodName)) ∈ lw_all := lw_g (lw_at lw_m9 232 rfl) rfl
theorem q2319 : (Jvm.Cond.code ({ cls := "CatWitnessModel", name := "laysOrders", desc := "()I" } : Jvm.MethodName) prog_16_method_143_code (5 : Nat) (Option.some Jvm.ClassFile.FieldType.int)) ∈ lw_all := lw_g (lw_at lw_m9 233 rfl) rfl
theorem q2321 : (Jvm.Cond.instanceMethod ({ cls := "CatWitnessModel", name := "bestAt", desc := "(I)I" } : Jvm.MethodName)) ∈ lw_all := lw_g (lw_at lw_m9 235 rfl) rfl
theorem q2322 : (Jvm.Cond.selects "CatWitnessModel" ({ cls := "CatWitnessModel", name := "bestAt", desc := "(I)I" } : Jvm.MethodName) ({ cls := "CatWitnessModel", name := "bestAt", desc := "(I)I" } : Jvm.MethodName)) ∈ lw_all := lw_g (lw_at lw_m9 236 rfl) rfl
theorem q2323 : (Jvm.Cond.code ({ cls := "CatWitnessModel", name := "bestAt", desc := "(I)I" } : Jvm.MethodName) prog_16_method_145_code (7 : Nat) (Option.some Jvm.ClassFile.FieldType.int)) ∈ lw_all := lw_g (lw_at lw_m9 237 rfl) rfl
theorem q2325 : (Jvm.Cond.instanceMethod ({ cls := "CatWitnessModel", name := "game", desc := "(I)I" } : Jvm.MethodName)) ∈ lw_all := lw_g (lw_at lw_m9 239 rfl) rfl
theorem q2326 : (Jvm.Cond.selects "CatWitnessModel" ({ cls := "CatWitnessModel", name := "game", desc := "(I)I" } : Jvm.MethodName) ({ cls := "CatWitnessModel", name := "game", desc := "(I)I" } : Jvm.MethodName)) ∈ lw_all := lw_g (lw_at lw_m10 0 rfl) rfl
theorem q2327 : (Jvm.Cond.code ({ cls := "CatWitnessModel", name := "game", desc := "(I)I" } : Jvm.MethodName) prog_16_method_151_code (2 : Nat) (Option.some Jvm.ClassFile.FieldType.int)) ∈ lw_all := lw_g (lw_at lw_m10 1 rfl) rfl
theorem q2328 : (Jvm.Cond.constantLong "CatWitnessModel" (473 : Nat) (3 : Int64)) ∈ lw_all := lw_g (lw_at lw_m10 2 rfl) rfl
theorem q2329 : (Jvm.Cond.methodLink "CatWitnessModel" (475 : Nat) ({ cls := "CatWitnessModel", name := "playing", desc := "(I)I" } : Jvm.MethodName)) ∈ lw_all := lw_g (lw_at lw_m10 3 rfl) rfl
theorem q2330 : (Jvm.Cond.privateMethod ({ cls := "CatWitnessModel", name := "playing", desc := "(I)I" } : Jvm.MethodName)) ∈ lw_tbl := lw_at lw_m10 4 rfl
theorem q2331 : (Jvm.Cond.instanceMethod ({ cls := "CatWitnessModel", name := "playing", desc := "(I)I" } : Jvm.MethodName)) ∈ lw_all := lw_g (lw_at lw_m10 5 rfl) rfl
theorem q2332 : (Jvm.Cond.code ({ cls := "CatWitnessModel", name := "playing", desc := "(I)I" } : Jvm.MethodName) prog_16_method_150_code (3 : Nat) (Option.some Jvm.ClassFile.FieldType.int)) ∈ lw_all := lw_g (lw_at lw_m10 6 rfl) rfl
theorem q2333 : (Jvm.Cond.methodLink "CatWitnessModel" (461 : Nat) ({ cls := "CatWitnessModel", name := "standing", desc := "()I" } : Jvm.MethodName)) ∈ lw_all := lw_g (lw_at lw_m10 7 rfl) rfl
theorem q2334 : (Jvm.Cond.privateMethod ({ cls := "CatWitnessModel", name := "standing", desc := "()I" } : Jvm.MethodName)) ∈ lw_tbl := lw_at lw_m10 8 rfl
theorem q2335 : (Jvm.Cond.instanceMethod ({ cls := "CatWitnessModel", name := "standing", desc := "()I" } : Jvm.MethodName)) ∈ lw_all := lw_g (lw_at lw_m10 9 rfl) rfl
theorem q2336 : (Jvm.Cond.code ({ cls := "CatWitnessModel", name := "standing", desc := "()I" } : Jvm.MethodName) prog_16_method_146_code (4 : Nat) (Option.some Jvm.ClassFile.FieldType.int)) ∈ lw_all := lw_g (lw_at lw_m10 10 rfl) rfl
theorem q2337 : (Jvm.Cond.methodLink "CatWitnessModel" (464 : Nat) ({ cls := "CatWitnessModel", name := "levelAt", desc := "(I)I" } : Jvm.MethodName)) ∈ lw_all := lw_g (lw_at lw_m10 11 rfl) rfl
theorem q2338 : (Jvm.Cond.static ({ cls := "CatWitnessModel", name := "levelAt", desc := "(I)I" } : Jvm.MethodName)) ∈ lw_all := lw_g (lw_at lw_m10 12 rfl) rfl
theorem q2339 : (Jvm.Cond.code ({ cls := "CatWitnessModel", name := "levelAt", desc := "(I)I" } : Jvm.MethodName) prog_16_method_108_code (1 : Nat) (Option.some Jvm.ClassFile.FieldType.int)) ∈ lw_all := lw_g (lw_at lw_m10 13 rfl) rfl
theorem q2340 : (Jvm.Cond.methodLink "CatWitnessModel" (458 : Nat) ({ cls := "CatWitnessModel", name := "deeds", desc := "()I" } : Jvm.MethodName)) ∈ lw_all := lw_g (lw_at lw_m10 14 rfl) rfl
theorem q2341 : (Jvm.Cond.privateMethod ({ cls := "CatWitnessModel", name := "deeds", desc := "()I" } : Jvm.MethodName)) ∈ lw_tbl := lw_at lw_m10 15 rfl
theorem q2342 : (Jvm.Cond.instanceMethod ({ cls := "CatWitnessModel", name := "deeds", desc := "()I" } : Jvm.MethodName)) ∈ lw_all := lw_g (lw_at lw_m10 16 rfl) rfl
theorem q2343 : (Jvm.Cond.code ({ cls := "CatWitnessModel", name := "deeds", desc := "()I" } : Jvm.MethodName) prog_16_method_148_code (1 : Nat) (Option.some Jvm.ClassFile.FieldType.int)) ∈ lw_all := lw_g (lw_at lw_m10 17 rfl) rfl
theorem q2344 : (Jvm.Cond.methodLink "CatWitnessModel" (467 : Nat) ({ cls := "CatWitnessModel", name := "settles", desc := "(II)V" } : Jvm.MethodName)) ∈ lw_all := lw_g (lw_at lw_m10 18 rfl) rfl
theorem q2345 : (Jvm.Cond.privateMethod ({ cls := "CatWitnessModel", name := "settles", desc := "(II)V" } : Jvm.MethodName)) ∈ lw_tbl := lw_at lw_m10 19 rfl
theorem q2346 : (Jvm.Cond.instanceMethod ({ cls := "CatWitnessModel", name := "settles", desc := "(II)V" } : Jvm.MethodName)) ∈ lw_all := lw_g (lw_at lw_m10 20 rfl) rfl
theorem q2347 : (Jvm.Cond.code ({ cls := "CatWitnessModel", name := "settles", desc := "(II)V" } : Jvm.MethodName) prog_16_method_147_code (4 : Nat) (Option.none : Option Jvm.ClassFile.FieldType)) ∈ lw_all := lw_g (lw_at lw_m10 21 rfl) rfl
theorem q2348 : (Jvm.Cond.methodLink "CatWitnessModel" (470 : Nat) ({ cls := "CatWitnessModel", name := "doesDeed", desc := "(I)Z" } : Jvm.MethodName)) ∈ lw_all := lw_g (lw_at lw_m10 22 rfl) rfl
theorem q2349 : (Jvm.Cond.privateMethod ({ cls := "CatWitnessModel", name := "doesDeed", desc := "(I)Z" } : Jvm.MethodName)) ∈ lw_tbl := lw_at lw_m10 23 rfl
theorem q2350 : (Jvm.Cond.instanceMethod ({ cls := "CatWitnessModel", name := "doesDeed", desc := "(I)Z" } : Jvm.MethodName)) ∈ lw_all := lw_g (lw_at lw_m10 24 rfl) rfl
theorem q2351 : (Jvm.Cond.code ({ cls := "CatWitnessModel", name := "doesDeed", desc := "(I)Z" } : Jvm.MethodName) prog_16_method_149_code (4 : Nat) (Option.some Jvm.ClassFile.FieldType.boolean)) ∈ lw_all := lw_g (lw_at lw_m10 25 rfl) rfl
theorem q2353 : (Jvm.Cond.instanceMethod ({ cls := "CatWitnessModel", name := "moveOf", desc := "(II)I" } : Jvm.MethodName)) ∈ lw_all := lw_g (lw_at lw_m10 27 rfl) rfl
theorem q2354 : (Jvm.Cond.selects "CatWitnessModel" ({ cls := "CatWitnessModel", name := "moveOf", desc := "(II)I" } : Jvm.MethodName) ({ cls := "CatWitnessModel", name := "moveOf", desc := "(II)I" } : Jvm.MethodName)) ∈ lw_all := lw_g (lw_at lw_m10 28 rfl) rfl
theorem q2355 : (Jvm.Cond.code ({ cls := "CatWitnessModel", name := "moveOf", desc := "(II)I" } : Jvm.MethodName) prog_16_method_152_code (4 : Nat) (Option.some Jvm.ClassFile.FieldType.int)) ∈ lw_all := lw_g (lw_at lw_m10 29 rfl) rfl
theorem q2357 : (Jvm.Cond.instanceMethod ({ cls := "CatWitnessModel", name := "copyFed", desc := "(I)I" } : Jvm.MethodName)) ∈ lw_all := lw_g (lw_at lw_m10 31 rfl) rfl
theorem q2358 : (Jvm.Cond.selects "CatWitnessModel" ({ cls := "CatWitnessModel", name := "copyFed", desc := "(I)I" } : Jvm.MethodName) ({ cls := "CatWitnessModel", name := "copyFed", desc := "(I)I" } : Jvm.MethodName)) ∈ lw_all := lw_g (lw_at lw_m10 32 rfl) rfl
theorem q2359 : (Jvm.Cond.code ({ cls := "CatWitnessModel", name := "copyFed", desc := "(I)I" } : Jvm.MethodName) prog_16_method_153_code (3 : Nat) (Option.some Jvm.ClassFile.FieldType.int)) ∈ lw_all := lw_g (lw_at lw_m10 33 rfl) rfl
theorem q2361 : (Jvm.Cond.instanceMethod ({ cls := "CatWitnessModel", name := "live", desc := "(I)I" } : Jvm.MethodName)) ∈ lw_all := lw_g (lw_at lw_m10 35 rfl) rfl
theorem q2362 : (Jvm.Cond.selects "CatWitnessModel" ({ cls := "CatWitnessModel", name := "live", desc := "(I)I" } : Jvm.MethodName) ({ cls := "CatWitnessModel", name := "live", desc := "(I)I" } : Jvm.MethodName)) ∈ lw_all := lw_g (lw_at lw_m10 36 rfl) rfl
theorem q2363 : (Jvm.Cond.code ({ cls := "CatWitnessModel", name := "live", desc := "(I)I" } : Jvm.MethodName) prog_16_method_162_code (3 : Nat) (Option.some Jvm.ClassFile.FieldType.int)) ∈ lw_all := lw_g (lw_at lw_m10 37 rfl) rfl
theorem q2364 : (Jvm.Cond.constantLong "CatWitnessModel" (506 : Nat) (9999 : Int64)) ∈ lw_all := lw_g (lw_at lw_m10 38 rfl) rfl
theorem q2365 : (Jvm.Cond.methodLink "CatWitnessModel" (508 : Nat) ({ cls := "CatWitnessModel", name := "lives", desc := "(I)V" } : Jvm.MethodName)) ∈ lw_all := lw_g (lw_at lw_m10 39 rfl) rfl
theorem q2366 : (Jvm.Cond.privateMethod ({ cls := "CatWitnessModel", name := "lives", desc := "(I)V" } : Jvm.MethodName)) ∈ lw_tbl := lw_at lw_m10 40 rfl
theorem q2367 : (Jvm.Cond.instanceMethod ({ cls := "CatWitnessModel", name := "lives", desc := "(I)V" } : Jvm.MethodName)) ∈ lw_all := lw_g (lw_at lw_m10 41 rfl) rfl
theorem q2368 : (Jvm.Cond.code ({ cls := "CatWitnessModel", name := "lives", desc := "(I)V" } : Jvm.MethodName) prog_16_method_161_code (4 : Nat) (Option.none : Option Jvm.ClassFile.FieldType)) ∈ lw_all := lw_g (lw_at lw_m10 42 rfl) rfl
theorem q2369 : (Jvm.Cond.methodLink "CatWitnessModel" (497 : Nat) ({ cls := "CatWitnessModel", name := "does", desc := "(I)Z" } : Jvm.MethodName)) ∈ lw_all := lw_g (lw_at lw_m10 43 rfl) rfl
theorem q2370 : (Jvm.Cond.privateMethod ({ cls := "CatWitnessModel", name := "does", desc := "(I)Z" } : Jvm.MethodName)) ∈ lw_tbl := lw_at lw_m10 44 rfl
theorem q2371 : (Jvm.Cond.instanceMethod ({ cls := "CatWitnessModel", name := "does", desc := "(I)Z" } : Jvm.MethodName)) ∈ lw_all := lw_g (lw_at lw_m10 45 rfl) rfl
theorem q2372 : (Jvm.Cond.code ({ cls := "CatWitnessModel", name := "does", desc := "(I)Z" } : Jvm.MethodName) prog_16_method_158_code (4 : Nat) (Option.some Jvm.ClassFile.FieldType.boolean)) ∈ lw_all := lw_g (lw_at lw_m10 46 rfl) rfl
theorem q2373 : (Jvm.Cond.methodLink "CatWitnessModel" (485 : Nat) ({ cls := "CatWitnessModel", name := "sitsBy", desc := "(I)Z" } : Jvm.MethodName)) ∈ lw_all := lw_g (lw_at lw_m10 47 rfl) rfl
theorem q2374 : (Jvm.Cond.privateMethod ({ cls := "CatWitnessModel", name := "sitsBy", desc := "(I)Z" } : Jvm.MethodName)) ∈ lw_tbl := lw_at lw_m10 48 rfl
theorem q2375 : (Jvm.Cond.instanceMethod ({ cls := "CatWitnessModel", name := "sitsBy", desc := "(I)Z" } : Jvm.MethodName)) ∈ lw_all := lw_g (lw_at lw_m10 49 rfl) rfl
theorem q2376 : (Jvm.Cond.code ({ cls := "CatWitnessModel", name := "sitsBy", desc := "(I)Z" } : Jvm.MethodName) prog_16_method_155_code (2 : Nat) (Option.some Jvm.ClassFile.FieldType.boolean)) ∈ lw_all := lw_g (lw_at lw_m10 50 rfl) rfl
theorem q2377 : (Jvm.Cond.methodLink "CatWitnessModel" (488 : Nat) ({ cls := "CatWitnessModel", name := "termsBy", desc := "()Z" } : Jvm.MethodName)) ∈ lw_all := lw_g (lw_at lw_m10 51 rfl) rfl
theorem q2378 : (Jvm.Cond.privateMethod ({ cls := "CatWitnessModel", name := "termsBy", desc := "()Z" } : Jvm.MethodName)) ∈ lw_tbl := lw_at lw_m10 52 rfl
theorem q2379 : (Jvm.Cond.instanceMethod ({ cls := "CatWitnessModel", name := "termsBy", desc := "()Z" } : Jvm.MethodName)) ∈ lw_all := lw_g (lw_at lw_m10 53 rfl) rfl
theorem q2380 : (Jvm.Cond.code ({ cls := "CatWitnessModel", name := "termsBy", desc := "()Z" } : Jvm.MethodName) prog_16_method_156_code (2 : Nat) (Option.some Jvm.ClassFile.FieldType.boolean)) ∈ lw_all := lw_g (lw_at lw_m10 54 rfl) rfl
theorem q2381 : (Jvm.Cond.methodLink "CatWitnessModel" (491 : Nat) ({ cls := "CatWitnessModel", name := "feedsAny", desc := "()Z" } : Jvm.MethodName)) ∈ lw_all := lw_g (lw_at lw_m10 55 rfl) rfl
theorem q2382 : (Jvm.Cond.privateMethod ({ cls := "CatWitnessModel", name := "feedsAny", desc := "()Z" } : Jvm.MethodName)) ∈ lw_tbl := lw_at lw_m10 56 rfl
theorem q2383 : (Jvm.Cond.instanceMethod ({ cls := "CatWitnessModel", name := "feedsAny", desc := "()Z" } : Jvm.MethodName)) ∈ lw_all := lw_g (lw_at lw_m10 57 rfl) rfl
theorem q2384 : (Jvm.Cond.code ({ cls := "CatWitnessModel", name := "feedsAny", desc := "()Z" } : Jvm.MethodName) prog_16_method_157_code (3 : Nat) (Option.some Jvm.ClassFile.FieldType.boolean)) ∈ lw_all := lw_g (lw_at lw_m10 58 rfl) rfl
theorem q2385 : (Jvm.Cond.methodLink "CatWitnessModel" (482 : Nat) ({ cls := "CatWitnessModel", name := "draw", desc := "(I)I" } : Jvm.MethodName)) ∈ lw_all := lw_g (lw_at lw_m10 59 rfl) rfl
theorem q2386 : (Jvm.Cond.privateMethod ({ cls := "CatWitnessModel", name := "draw", desc := "(I)I" } : Jvm.MethodName)) ∈ lw_tbl := lw_at lw_m10 60 rfl
theorem q2387 : (Jvm.Cond.instanceMethod ({ cls := "CatWitnessModel", name := "draw", desc := "(I)I" } : Jvm.MethodName)) ∈ lw_all := lw_g (lw_at lw_m10 61 rfl) rfl
theorem q2388 : (Jvm.Cond.code ({ cls := "CatWitnessModel", name := "draw", desc := "(I)I" } : Jvm.MethodName) prog_16_method_154_code (2 : Nat) (Option.some Jvm.ClassFile.FieldType.int)) ∈ lw_all := lw_g (lw_at lw_m10 62 rfl) rfl
theorem q2389 : (Jvm.Cond.constant "CatWitnessModel" (481 : Nat) (65536 : Int32)) ∈ lw_all := lw_g (lw_at lw_m10 63 rfl) rfl
theorem q2390 : (Jvm.Cond.methodLink "CatWitnessModel" (500 : Nat) ({ cls := "CatWitnessModel", name := "holds", desc := "(I)Z" } : Jvm.MethodName)) ∈ lw_all := lw_g (lw_at lw_m10 64 rfl) rfl
theorem q2391 : (Jvm.Cond.privateMethod ({ cls := "CatWitnessModel", name := "holds", desc := "(I)Z" } : Jvm.MethodName)) ∈ lw_tbl := lw_at lw_m10 65 rfl
theorem q2392 : (Jvm.Cond.instanceMethod ({ cls := "CatWitnessModel", name := "holds", desc := "(I)Z" } : Jvm.MethodName)) ∈ lw_all := lw_g (lw_at lw_m10 66 rfl) rfl
theorem q2393 : (Jvm.Cond.code ({ cls := "CatWitnessModel", name := "holds", desc := "(I)Z" } : Jvm.MethodName) prog_16_method_159_code (4 : Nat) (Option.some Jvm.ClassFile.FieldType.boolean)) ∈ lw_all := lw_g (lw_at lw_m10 67 rfl) rfl
theorem q2394 : (Jvm.Cond.methodLink "CatWitnessModel" (503 : Nat) ({ cls := "CatWitnessModel", name := "behindEnds", desc := "(I)I" } : Jvm.MethodName)) ∈ lw_all := lw_g (lw_at lw_m10 68 rfl) rfl
theorem q2395 : (Jvm.Cond.privateMethod ({ cls := "CatWitnessModel", name := "behindEnds", desc := "(I)I" } : Jvm.MethodName)) ∈ lw_tbl := lw_at lw_m10 69 rfl
theorem q2396 : (Jvm.Cond.instanceMethod ({ cls := "CatWitnessModel", name := "behindEnds", desc := "(I)I" } : Jvm.MethodName)) ∈ lw_all := lw_g (lw_at lw_m10 70 rfl) rfl
theorem q2397 : (Jvm.Cond.code ({ cls := "CatWitnessModel", name := "behindEnds", desc := "(I)I" } : Jvm.MethodName) prog_16_method_160_code (5 : Nat) (Option.some Jvm.ClassFile.FieldType.int)) ∈ lw_all := lw_g (lw_at lw_m10 71 rfl) rfl
theorem q2399 : (Jvm.Cond.instanceMethod ({ cls := "CatWitnessModel", name := "lived", desc := "(I)I" } : Jvm.MethodName)) ∈ lw_all := lw_g (lw_at lw_m10 73 rfl) rfl
theorem q2400 : (Jvm.Cond.selects "CatWitnessModel" ({ cls := "CatWitnessModel", name := "lived", desc := "(I)I" } : Jvm.MethodName) ({ cls := "CatWitnessModel", name := "lived", desc := "(I)I" } : Jvm.MethodName)) ∈ lw_all := lw_g (lw_at lw_m10 74 rfl) rfl
theorem q2401 : (Jvm.Cond.code ({ cls := "CatWitnessModel", name := "lived", desc := "(I)I" } : Jvm.MethodName) prog_16_method_163_code (2 : Nat) (Option.some Jvm.ClassFile.FieldType.int)) ∈ lw_all := lw_g (lw_at lw_m10 75 rfl) rfl
theorem q2403 : (Jvm.Cond.instanceMethod ({ cls := "CatWitnessModel", name := "mean", desc := "(II)Z" } : Jvm.MethodName)) ∈ lw_all := lw_g (lw_at lw_m10 77 rfl) rfl
theorem q2404 : (Jvm.Cond.selects "CatWitnessModel" ({ cls := "CatWitnessModel", name := "mean", desc := "(II)Z" } : Jvm.MethodName) ({ cls := "CatWitnessModel", name := "mean", desc := "(II)Z" } : Jvm.MethodName)) ∈ lw_all := lw_g (lw_at lw_m10 78 rfl) rfl
theorem q2405 : (Jvm.Cond.code ({ cls := "CatWitnessModel", name := "mean", desc := "(II)Z" } : Jvm.MethodName) prog_16_method_164_code (7 : Nat) (Option.some Jvm.ClassFile.FieldType.boolean)) ∈ lw_all := lw_g (lw_at lw_m10 79 rfl) rfl
theorem q2407 : (Jvm.Cond.instanceMethod ({ cls := "CatWitnessModel", name := "mark", desc := "()I" } : Jvm.MethodName)) ∈ lw_all := lw_g (lw_at lw_m10 81 rfl) rfl
theorem q2408 : (Jvm.Cond.selects "CatWitnessModel" ({ cls := "CatWitnessModel", name := "mark", desc := "()I" } : Jvm.MethodName) ({ cls := "CatWitnessModel", name := "mark", desc := "()I" } : Jvm.MethodName)) ∈ lw_all := lw_g (lw_at lw_m10 82 rfl) rfl
theorem q2409 : (Jvm.Cond.code ({ cls := "CatWitnessModel", name := "mark", desc := "()I" } : Jvm.MethodName) prog_16_method_166_code (1 : Nat) (Option.some Jvm.ClassFile.FieldType.int)) ∈ lw_all := lw_g (lw_at lw_m10 83 rfl) rfl
theorem q2410 : (Jvm.Cond.methodLink "CatWitnessModel" (518 : Nat) ({ cls := "CatWitnessModel", name := "copies", desc := "(II)V" } : Jvm.MethodName)) ∈ lw_all := lw_g (lw_at lw_m10 84 rfl) rfl
theorem q2411 : (Jvm.Cond.privateMethod ({ cls := "CatWitnessModel", name := "copies", desc := "(II)V" } : Jvm.MethodName)) ∈ lw_tbl := lw_at lw_m10 85 rfl
theorem q2412 : (Jvm.Cond.instanceMethod ({ cls := "CatWitnessModel", name := "copies", desc := "(II)V" } : Jvm.MethodName)) ∈ lw_all := lw_g (lw_at lw_m10 86 rfl) rfl
theorem q2413 : (Jvm.Cond.code ({ cls := "CatWitnessModel", name := "copies", desc := "(II)V" } : Jvm.MethodName) prog_16_method_165_code (4 : Nat) (Option.none : Option Jvm.ClassFile.FieldType)) ∈ lw_all := lw_g (lw_at lw_m10 87 rfl) rfl
theorem q2415 : (Jvm.Cond.instanceMethod ({ cls := "CatWitnessModel", name := "undo", desc := "()I" } : Jvm.MethodName)) ∈ lw_all := lw_g (lw_at lw_m10 89 rfl) rfl
theorem q2416 : (Jvm.Cond.selects "CatWitnessModel" ({ cls := "CatWitnessModel", name := "undo", desc := "()I" } : Jvm.MethodName) ({ cls := "CatWitnessModel", name := "undo", desc := "()I" } : Jvm.MethodName)) ∈ lw_all := lw_g (lw_at lw_m10 90 rfl) rfl
theorem q2417 : (Jvm.Cond.code ({ cls := "CatWitnessModel", name := "undo", desc := "()I" } : Jvm.MethodName) prog_16_method_167_code (1 : Nat) (Option.some Jvm.ClassFile.FieldType.int)) ∈ lw_all := lw_g (lw_at lw_m10 91 rfl) rfl
theorem in_X6 : ∀ w ∈ wsX60, w ∈ lw_all := lw_in wsX60 [1663, 1665, 1667, 1669, 1671, 1673, 1675, 1677, 1679, 1681, 1683, 1685, 1687, 1689, 1691, 1693, 1695, 1697, 1699, 1701, 1703, 1705, 1707, 1709, 1711, 1713, 1715, 1717, 1719, 1721, 1723, 1725, 1727, 1729, 1731, 1733, 1735, 1737, 1739, 1741, 1743, 1745] (by decide +kernel) (by decide +kernel)
