/-! CatWitness$Reader -/
set_option maxRecDepth 100000
def RX7 : String := "CatWitness$Reader"
def TX7 : u_T := fun k => match k with
  | 0 => ("CatWitness$Reader", "size", "I", true)
  | 1 => ("CatWitness$Reader", "at", "I", false)
  | 2 => ("CatWitness$Reader", "behind", "I", false)
  | 3 => ("CatWitness$Reader", "sort", "I", false)
  | 4 => ("CatWitness$Reader", "number", "I", false)
  | 5 => ("CatWitness$Reader", "steps", "I", false)
  | _ => ("CatWitness$Reader", "this$0", "LCatWitness;", true)
def tyX7 : Nat → FieldType := fun k => match k with
  | 0 => .int
  | 1 => .int
  | 2 => .int
  | 3 => .int
  | 4 => .int
  | 5 => .int
  | _ => .object "CatWitness"
abbrev wsX70 : List Cond := u_ws RX7 TX7 7
theorem nmX7 : ∀ a, a < 7 → ∀ b, b < 7 → a ≠ b → (TX7 a).2.1 ≠ (TX7 b).2.1 := by decide +kernel
theorem tyX7_ok : ∀ k, k < 7 → parseFieldDescriptor (TX7 k).2.2.1 = some (tyX7 k) := by decide +kernel
abbrev cX7_init : ByteArray := prog_9_method_1_code
def yX7_init : MethodName := ⟨RX7, "<init>", "(LCatWitness;I)V"⟩
def dkwX7_init_0 : List UInt8 := [42, 43, 181, 0, 3, 42, 183, 0, 9, 42, 28, 181, 0, 15, 42, 182, 0, 19, 177]
abbrev dktX7_init_0 : List UInt8 := dkwX7_init_0 ++ []
theorem dksX7_init_0 : cX7_init.data.toList.drop 0 = dktX7_init_0 := by decide +kernel
theorem dX7_init_0 : decode cX7_init 0 = .ok (.aload_n 0, 1) := dk_42 (dk_at dksX7_init_0 0 rfl rfl)
theorem dX7_init_1 : decode cX7_init 1 = .ok (.aload_n 1, 1) := dk_43 (dk_at dksX7_init_0 1 rfl rfl)
theorem dX7_init_2 : decode cX7_init 2 = .ok (.putfield 3, 3) := dk_181 0 3 (dk_at dksX7_init_0 2 rfl rfl)
theorem dX7_init_5 : decode cX7_init 5 = .ok (.aload_n 0, 1) := dk_42 (dk_at dksX7_init_0 5 rfl rfl)
theorem dX7_init_6 : decode cX7_init 6 = .ok (.invokespecial 9, 3) := dk_183 0 9 (dk_at dksX7_init_0 6 rfl rfl)
theorem dX7_init_9 : decode cX7_init 9 = .ok (.aload_n 0, 1) := dk_42 (dk_at dksX7_init_0 9 rfl rfl)
theorem dX7_init_10 : decode cX7_init 10 = .ok (.iload_n 2, 1) := dk_28 (dk_at dksX7_init_0 10 rfl rfl)
theorem dX7_init_11 : decode cX7_init 11 = .ok (.putfield 15, 3) := dk_181 0 15 (dk_at dksX7_init_0 11 rfl rfl)
theorem dX7_init_14 : decode cX7_init 14 = .ok (.aload_n 0, 1) := dk_42 (dk_at dksX7_init_0 14 rfl rfl)
theorem dX7_init_15 : decode cX7_init 15 = .ok (.invokevirtual 19, 3) := dk_182 0 19 (dk_at dksX7_init_0 15 rfl rfl)
theorem dX7_init_18 : decode cX7_init 18 = .ok (.return_, 1) := dk_177 (dk_at dksX7_init_0 18 rfl rfl)
abbrev cX7_next : ByteArray := prog_9_method_4_code
def yX7_next : MethodName := ⟨RX7, "next", "()V"⟩
def dkwX7_next_13 : List UInt8 := [180, 0, 22, 42, 180, 0, 29, 51, 16, 61, 160, 0, 7, 6, 167, 0, 4, 7, 181, 0, 32, 177]
abbrev dktX7_next_13 : List UInt8 := dkwX7_next_13 ++ []
def dkwX7_next_12 : List UInt8 := [159, 0, 37, 42, 180, 0, 3, 180, 0, 22, 42, 180, 0, 29, 51, 16, 62, 159, 0, 20, 42, 180, 0, 3]
abbrev dktX7_next_12 : List UInt8 := dkwX7_next_12 ++ dktX7_next_13
def dkwX7_next_11 : List UInt8 := [180, 0, 29, 51, 16, 59, 159, 0, 54, 42, 180, 0, 3, 180, 0, 22, 42, 180, 0, 29, 51, 16, 60]
abbrev dktX7_next_11 : List UInt8 := dkwX7_next_11 ++ dktX7_next_12
def dkwX7_next_10 : List UInt8 := [167, 0, 90, 42, 42, 180, 0, 29, 4, 96, 181, 0, 26, 42, 42, 180, 0, 3, 180, 0, 22, 42]
abbrev dktX7_next_10 : List UInt8 := dkwX7_next_10 ++ dktX7_next_11
def dkwX7_next_9 : List UInt8 := [42, 42, 180, 0, 26, 42, 180, 0, 29, 100, 7, 164, 0, 7, 7, 167, 0, 4, 5, 181, 0, 32]
abbrev dktX7_next_9 : List UInt8 := dkwX7_next_9 ++ dktX7_next_10
def dkwX7_next_8 : List UInt8 := [180, 0, 26, 51, 96, 16, 48, 100, 181, 0, 42, 42, 89, 180, 0, 26, 4, 96, 181, 0, 26, 167, 255, 195]
abbrev dktX7_next_8 : List UInt8 := dkwX7_next_8 ++ dktX7_next_9
def dkwX7_next_7 : List UInt8 := [180, 0, 29, 100, 7, 162, 0, 30, 42, 16, 10, 42, 180, 0, 42, 104, 42, 180, 0, 3, 180, 0, 22, 42]
abbrev dktX7_next_7 : List UInt8 := dkwX7_next_7 ++ dktX7_next_8
def dkwX7_next_6 : List UInt8 := [153, 0, 97, 42, 3, 181, 0, 42, 42, 42, 180, 0, 26, 182, 0, 39, 153, 0, 56, 42, 180, 0, 26, 42]
abbrev dktX7_next_6 : List UInt8 := dkwX7_next_6 ++ dktX7_next_7
def dkwX7_next_5 : List UInt8 := [153, 0, 208, 42, 89, 180, 0, 26, 4, 96, 181, 0, 26, 167, 255, 235, 42, 42, 180, 0, 29, 182, 0, 39]
abbrev dktX7_next_5 : List UInt8 := dkwX7_next_5 ++ dktX7_next_6
def dkwX7_next_4 : List UInt8 := [180, 0, 29, 182, 0, 35, 153, 0, 32, 42, 4, 181, 0, 32, 42, 42, 180, 0, 26, 182, 0, 35]
abbrev dktX7_next_4 : List UInt8 := dkwX7_next_4 ++ dktX7_next_5
def dkwX7_next_3 : List UInt8 := [181, 0, 26, 42, 3, 181, 0, 32, 42, 180, 0, 29, 42, 180, 0, 15, 161, 0, 4, 177, 42, 42]
abbrev dktX7_next_3 : List UInt8 := dkwX7_next_3 ++ dktX7_next_4
def dkwX7_next_2 : List UInt8 := [51, 16, 32, 160, 0, 16, 42, 89, 180, 0, 29, 4, 96, 181, 0, 29, 167, 255, 201, 42, 42, 180, 0, 29]
abbrev dktX7_next_2 : List UInt8 := dkwX7_next_2 ++ dktX7_next_3
def dkwX7_next_1 : List UInt8 := [180, 0, 22, 42, 180, 0, 29, 51, 16, 10, 159, 0, 20, 42, 180, 0, 3, 180, 0, 22, 42, 180, 0, 29]
abbrev dktX7_next_1 : List UInt8 := dkwX7_next_1 ++ dktX7_next_2
def dkwX7_next_0 : List UInt8 := [42, 42, 180, 0, 26, 181, 0, 29, 42, 180, 0, 29, 42, 180, 0, 15, 162, 0, 50, 42, 180, 0, 3]
abbrev dktX7_next_0 : List UInt8 := dkwX7_next_0 ++ dktX7_next_1
theorem dksX7_next_0 : cX7_next.data.toList.drop 0 = dktX7_next_0 := by decide +kernel
theorem dksX7_next_1 : cX7_next.data.toList.drop 23 = dktX7_next_1 := dk_seg dksX7_next_0 23 rfl rfl
theorem dksX7_next_2 : cX7_next.data.toList.drop 47 = dktX7_next_2 := dk_seg dksX7_next_1 24 rfl rfl
theorem dksX7_next_3 : cX7_next.data.toList.drop 71 = dktX7_next_3 := dk_seg dksX7_next_2 24 rfl rfl
theorem dksX7_next_4 : cX7_next.data.toList.drop 93 = dktX7_next_4 := dk_seg dksX7_next_3 22 rfl rfl
theorem dksX7_next_5 : cX7_next.data.toList.drop 115 = dktX7_next_5 := dk_seg dksX7_next_4 22 rfl rfl
theorem dksX7_next_6 : cX7_next.data.toList.drop 139 = dktX7_next_6 := dk_seg dksX7_next_5 24 rfl rfl
theorem dksX7_next_7 : cX7_next.data.toList.drop 163 = dktX7_next_7 := dk_seg dksX7_next_6 24 rfl rfl
theorem dksX7_next_8 : cX7_next.data.toList.drop 187 = dktX7_next_8 := dk_seg dksX7_next_7 24 rfl rfl
theorem dksX7_next_9 : cX7_next.data.toList.drop 211 = dktX7_next_9 := dk_seg dksX7_next_8 24 rfl rfl
theorem dksX7_next_10 : cX7_next.data.toList.drop 233 = dktX7_next_10 := dk_seg dksX7_next_9 22 rfl rfl
theorem dksX7_next_11 : cX7_next.data.toList.drop 255 = dktX7_next_11 := dk_seg dksX7_next_10 22 rfl rfl
theorem dksX7_next_12 : cX7_next.data.toList.drop 278 = dktX7_next_12 := dk_seg dksX7_next_11 23 rfl rfl
theorem dksX7_next_13 : cX7_next.data.toList.drop 302 = dktX7_next_13 := dk_seg dksX7_next_12 24 rfl rfl
theorem dX7_next_0 : decode cX7_next 0 = .ok (.aload_n 0, 1) := dk_42 (dk_at dksX7_next_0 0 rfl rfl)
theorem dX7_next_1 : decode cX7_next 1 = .ok (.aload_n 0, 1) := dk_42 (dk_at dksX7_next_0 1 rfl rfl)
theorem dX7_next_2 : decode cX7_next 2 = .ok (.getfield 26, 3) := dk_180 0 26 (dk_at dksX7_next_0 2 rfl rfl)
theorem dX7_next_5 : decode cX7_next 5 = .ok (.putfield 29, 3) := dk_181 0 29 (dk_at dksX7_next_0 5 rfl rfl)
theorem dX7_next_8 : decode cX7_next 8 = .ok (.aload_n 0, 1) := dk_42 (dk_at dksX7_next_0 8 rfl rfl)
theorem dX7_next_9 : decode cX7_next 9 = .ok (.getfield 29, 3) := dk_180 0 29 (dk_at dksX7_next_0 9 rfl rfl)
theorem dX7_next_12 : decode cX7_next 12 = .ok (.aload_n 0, 1) := dk_42 (dk_at dksX7_next_0 12 rfl rfl)
theorem dX7_next_13 : decode cX7_next 13 = .ok (.getfield 15, 3) := dk_180 0 15 (dk_at dksX7_next_0 13 rfl rfl)
theorem dX7_next_16 : decode cX7_next 16 = .ok (.if_icmp .ge 50, 3) := dk_162 0 50 (dk_at dksX7_next_0 16 rfl rfl)
theorem dX7_next_19 : decode cX7_next 19 = .ok (.aload_n 0, 1) := dk_42 (dk_at dksX7_next_0 19 rfl rfl)
theorem dX7_next_20 : decode cX7_next 20 = .ok (.getfield 3, 3) := dk_180 0 3 (dk_at dksX7_next_0 20 rfl rfl)
theorem dX7_next_23 : decode cX7_next 23 = .ok (.getfield 22, 3) := dk_180 0 22 (dk_at dksX7_next_1 0 rfl rfl)
theorem dX7_next_26 : decode cX7_next 26 = .ok (.aload_n 0, 1) := dk_42 (dk_at dksX7_next_1 3 rfl rfl)
theorem dX7_next_27 : decode cX7_next 27 = .ok (.getfield 29, 3) := dk_180 0 29 (dk_at dksX7_next_1 4 rfl rfl)
theorem dX7_next_30 : decode cX7_next 30 = .ok (.baload, 1) := dk_51 (dk_at dksX7_next_1 7 rfl rfl)
theorem dX7_next_31 : decode cX7_next 31 = .ok (.bipush 10, 2) := dk_16 10 (dk_at dksX7_next_1 8 rfl rfl)
theorem dX7_next_33 : decode cX7_next 33 = .ok (.if_icmp .eq 20, 3) := dk_159 0 20 (dk_at dksX7_next_1 10 rfl rfl)
theorem dX7_next_36 : decode cX7_next 36 = .ok (.aload_n 0, 1) := dk_42 (dk_at dksX7_next_1 13 rfl rfl)
theorem dX7_next_37 : decode cX7_next 37 = .ok (.getfield 3, 3) := dk_180 0 3 (dk_at dksX7_next_1 14 rfl rfl)
theorem dX7_next_40 : decode cX7_next 40 = .ok (.getfield 22, 3) := dk_180 0 22 (dk_at dksX7_next_1 17 rfl rfl)
theorem dX7_next_43 : decode cX7_next 43 = .ok (.aload_n 0, 1) := dk_42 (dk_at dksX7_next_1 20 rfl rfl)
theorem dX7_next_44 : decode cX7_next 44 = .ok (.getfield 29, 3) := dk_180 0 29 (dk_at dksX7_next_1 21 rfl rfl)
theorem dX7_next_47 : decode cX7_next 47 = .ok (.baload, 1) := dk_51 (dk_at dksX7_next_2 0 rfl rfl)
theorem dX7_next_48 : decode cX7_next 48 = .ok (.bipush 32, 2) := dk_16 32 (dk_at dksX7_next_2 1 rfl rfl)
theorem dX7_next_50 : decode cX7_next 50 = .ok (.if_icmp .ne 16, 3) := dk_160 0 16 (dk_at dksX7_next_2 3 rfl rfl)
theorem dX7_next_53 : decode cX7_next 53 = .ok (.aload_n 0, 1) := dk_42 (dk_at dksX7_next_2 6 rfl rfl)
theorem dX7_next_54 : decode cX7_next 54 = .ok (.dup, 1) := dk_89 (dk_at dksX7_next_2 7 rfl rfl)
theorem dX7_next_55 : decode cX7_next 55 = .ok (.getfield 29, 3) := dk_180 0 29 (dk_at dksX7_next_2 8 rfl rfl)
theorem dX7_next_58 : decode cX7_next 58 = .ok (.iconst 1, 1) := dk_4 (dk_at dksX7_next_2 11 rfl rfl)
theorem dX7_next_59 : decode cX7_next 59 = .ok (.iadd, 1) := dk_96 (dk_at dksX7_next_2 12 rfl rfl)
theorem dX7_next_60 : decode cX7_next 60 = .ok (.putfield 29, 3) := dk_181 0 29 (dk_at dksX7_next_2 13 rfl rfl)
theorem dX7_next_63 : decode cX7_next 63 = .ok (.goto (-55), 3) := dk_167 255 201 (dk_at dksX7_next_2 16 rfl rfl)
theorem dX7_next_66 : decode cX7_next 66 = .ok (.aload_n 0, 1) := dk_42 (dk_at dksX7_next_2 19 rfl rfl)
theorem dX7_next_67 : decode cX7_next 67 = .ok (.aload_n 0, 1) := dk_42 (dk_at dksX7_next_2 20 rfl rfl)
theorem dX7_next_68 : decode cX7_next 68 = .ok (.getfield 29, 3) := dk_180 0 29 (dk_at dksX7_next_2 21 rfl rfl)
theorem dX7_next_71 : decode cX7_next 71 = .ok (.putfield 26, 3) := dk_181 0 26 (dk_at dksX7_next_3 0 rfl rfl)
theorem dX7_next_74 : decode cX7_next 74 = .ok (.aload_n 0, 1) := dk_42 (dk_at dksX7_next_3 3 rfl rfl)
theorem dX7_next_75 : decode cX7_next 75 = .ok (.iconst 0, 1) := dk_3 (dk_at dksX7_next_3 4 rfl rfl)
theorem dX7_next_76 : decode cX7_next 76 = .ok (.putfield 32, 3) := dk_181 0 32 (dk_at dksX7_next_3 5 rfl rfl)
theorem dX7_next_79 : decode cX7_next 79 = .ok (.aload_n 0, 1) := dk_42 (dk_at dksX7_next_3 8 rfl rfl)
theorem dX7_next_80 : decode cX7_next 80 = .ok (.getfield 29, 3) := dk_180 0 29 (dk_at dksX7_next_3 9 rfl rfl)
theorem dX7_next_83 : decode cX7_next 83 = .ok (.aload_n 0, 1) := dk_42 (dk_at dksX7_next_3 12 rfl rfl)
theorem dX7_next_84 : decode cX7_next 84 = .ok (.getfield 15, 3) := dk_180 0 15 (dk_at dksX7_next_3 13 rfl rfl)
theorem dX7_next_87 : decode cX7_next 87 = .ok (.if_icmp .lt 4, 3) := dk_161 0 4 (dk_at dksX7_next_3 16 rfl rfl)
theorem dX7_next_90 : decode cX7_next 90 = .ok (.return_, 1) := dk_177 (dk_at dksX7_next_3 19 rfl rfl)
theorem dX7_next_91 : decode cX7_next 91 = .ok (.aload_n 0, 1) := dk_42 (dk_at dksX7_next_3 20 rfl rfl)
theorem dX7_next_92 : decode cX7_next 92 = .ok (.aload_n 0, 1) := dk_42 (dk_at dksX7_next_3 21 rfl rfl)
theorem dX7_next_93 : decode cX7_next 93 = .ok (.getfield 29, 3) := dk_180 0 29 (dk_at dksX7_next_4 0 rfl rfl)
theorem dX7_next_96 : decode cX7_next 96 = .ok (.invokevirtual 35, 3) := dk_182 0 35 (dk_at dksX7_next_4 3 rfl rfl)
theorem dX7_next_99 : decode cX7_next 99 = .ok (.ifCond .eq 32, 3) := dk_153 0 32 (dk_at dksX7_next_4 6 rfl rfl)
theorem dX7_next_102 : decode cX7_next 102 = .ok (.aload_n 0, 1) := dk_42 (dk_at dksX7_next_4 9 rfl rfl)
theorem dX7_next_103 : decode cX7_next 103 = .ok (.iconst 1, 1) := dk_4 (dk_at dksX7_next_4 10 rfl rfl)
theorem dX7_next_104 : decode cX7_next 104 = .ok (.putfield 32, 3) := dk_181 0 32 (dk_at dksX7_next_4 11 rfl rfl)
theorem dX7_next_107 : decode cX7_next 107 = .ok (.aload_n 0, 1) := dk_42 (dk_at dksX7_next_4 14 rfl rfl)
theorem dX7_next_108 : decode cX7_next 108 = .ok (.aload_n 0, 1) := dk_42 (dk_at dksX7_next_4 15 rfl rfl)
theorem dX7_next_109 : decode cX7_next 109 = .ok (.getfield 26, 3) := dk_180 0 26 (dk_at dksX7_next_4 16 rfl rfl)
theorem dX7_next_112 : decode cX7_next 112 = .ok (.invokevirtual 35, 3) := dk_182 0 35 (dk_at dksX7_next_4 19 rfl rfl)
theorem dX7_next_115 : decode cX7_next 115 = .ok (.ifCond .eq 208, 3) := dk_153 0 208 (dk_at dksX7_next_5 0 rfl rfl)
theorem dX7_next_118 : decode cX7_next 118 = .ok (.aload_n 0, 1) := dk_42 (dk_at dksX7_next_5 3 rfl rfl)
theorem dX7_next_119 : decode cX7_next 119 = .ok (.dup, 1) := dk_89 (dk_at dksX7_next_5 4 rfl rfl)
theorem dX7_next_120 : decode cX7_next 120 = .ok (.getfield 26, 3) := dk_180 0 26 (dk_at dksX7_next_5 5 rfl rfl)
theorem dX7_next_123 : decode cX7_next 123 = .ok (.iconst 1, 1) := dk_4 (dk_at dksX7_next_5 8 rfl rfl)
theorem dX7_next_124 : decode cX7_next 124 = .ok (.iadd, 1) := dk_96 (dk_at dksX7_next_5 9 rfl rfl)
theorem dX7_next_125 : decode cX7_next 125 = .ok (.putfield 26, 3) := dk_181 0 26 (dk_at dksX7_next_5 10 rfl rfl)
theorem dX7_next_128 : decode cX7_next 128 = .ok (.goto (-21), 3) := dk_167 255 235 (dk_at dksX7_next_5 13 rfl rfl)
theorem dX7_next_131 : decode cX7_next 131 = .ok (.aload_n 0, 1) := dk_42 (dk_at dksX7_next_5 16 rfl rfl)
theorem dX7_next_132 : decode cX7_next 132 = .ok (.aload_n 0, 1) := dk_42 (dk_at dksX7_next_5 17 rfl rfl)
theorem dX7_next_133 : decode cX7_next 133 = .ok (.getfield 29, 3) := dk_180 0 29 (dk_at dksX7_next_5 18 rfl rfl)
theorem dX7_next_136 : decode cX7_next 136 = .ok (.invokevirtual 39, 3) := dk_182 0 39 (dk_at dksX7_next_5 21 rfl rfl)
theorem dX7_next_139 : decode cX7_next 139 = .ok (.ifCond .eq 97, 3) := dk_153 0 97 (dk_at dksX7_next_6 0 rfl rfl)
theorem dX7_next_142 : decode cX7_next 142 = .ok (.aload_n 0, 1) := dk_42 (dk_at dksX7_next_6 3 rfl rfl)
theorem dX7_next_143 : decode cX7_next 143 = .ok (.iconst 0, 1) := dk_3 (dk_at dksX7_next_6 4 rfl rfl)
theorem dX7_next_144 : decode cX7_next 144 = .ok (.putfield 42, 3) := dk_181 0 42 (dk_at dksX7_next_6 5 rfl rfl)
theorem dX7_next_147 : decode cX7_next 147 = .ok (.aload_n 0, 1) := dk_42 (dk_at dksX7_next_6 8 rfl rfl)
theorem dX7_next_148 : decode cX7_next 148 = .ok (.aload_n 0, 1) := dk_42 (dk_at dksX7_next_6 9 rfl rfl)
theorem dX7_next_149 : decode cX7_next 149 = .ok (.getfield 26, 3) := dk_180 0 26 (dk_at dksX7_next_6 10 rfl rfl)
theorem dX7_next_152 : decode cX7_next 152 = .ok (.invokevirtual 39, 3) := dk_182 0 39 (dk_at dksX7_next_6 13 rfl rfl)
theorem dX7_next_155 : decode cX7_next 155 = .ok (.ifCond .eq 56, 3) := dk_153 0 56 (dk_at dksX7_next_6 16 rfl rfl)
theorem dX7_next_158 : decode cX7_next 158 = .ok (.aload_n 0, 1) := dk_42 (dk_at dksX7_next_6 19 rfl rfl)
theorem dX7_next_159 : decode cX7_next 159 = .ok (.getfield 26, 3) := dk_180 0 26 (dk_at dksX7_next_6 20 rfl rfl)
theorem dX7_next_162 : decode cX7_next 162 = .ok (.aload_n 0, 1) := dk_42 (dk_at dksX7_next_6 23 rfl rfl)
theorem dX7_next_163 : decode cX7_next 163 = .ok (.getfield 29, 3) := dk_180 0 29 (dk_at dksX7_next_7 0 rfl rfl)
theorem dX7_next_166 : decode cX7_next 166 = .ok (.isub, 1) := dk_100 (dk_at dksX7_next_7 3 rfl rfl)
theorem dX7_next_167 : decode cX7_next 167 = .ok (.iconst 4, 1) := dk_7 (dk_at dksX7_next_7 4 rfl rfl)
theorem dX7_next_168 : decode cX7_next 168 = .ok (.if_icmp .ge 30, 3) := dk_162 0 30 (dk_at dksX7_next_7 5 rfl rfl)
theorem dX7_next_171 : decode cX7_next 171 = .ok (.aload_n 0, 1) := dk_42 (dk_at dksX7_next_7 8 rfl rfl)
theorem dX7_next_172 : decode cX7_next 172 = .ok (.bipush 10, 2) := dk_16 10 (dk_at dksX7_next_7 9 rfl rfl)
theorem dX7_next_174 : decode cX7_next 174 = .ok (.aload_n 0, 1) := dk_42 (dk_at dksX7_next_7 11 rfl rfl)
theorem dX7_next_175 : decode cX7_next 175 = .ok (.getfield 42, 3) := dk_180 0 42 (dk_at dksX7_next_7 12 rfl rfl)
theorem dX7_next_178 : decode cX7_next 178 = .ok (.imul, 1) := dk_104 (dk_at dksX7_next_7 15 rfl rfl)
theorem dX7_next_179 : decode cX7_next 179 = .ok (.aload_n 0, 1) := dk_42 (dk_at dksX7_next_7 16 rfl rfl)
theorem dX7_next_180 : decode cX7_next 180 = .ok (.getfield 3, 3) := dk_180 0 3 (dk_at dksX7_next_7 17 rfl rfl)
theorem dX7_next_183 : decode cX7_next 183 = .ok (.getfield 22, 3) := dk_180 0 22 (dk_at dksX7_next_7 20 rfl rfl)
theorem dX7_next_186 : decode cX7_next 186 = .ok (.aload_n 0, 1) := dk_42 (dk_at dksX7_next_7 23 rfl rfl)
theorem dX7_next_187 : decode cX7_next 187 = .ok (.getfield 26, 3) := dk_180 0 26 (dk_at dksX7_next_8 0 rfl rfl)
theorem dX7_next_190 : decode cX7_next 190 = .ok (.baload, 1) := dk_51 (dk_at dksX7_next_8 3 rfl rfl)
theorem dX7_next_191 : decode cX7_next 191 = .ok (.iadd, 1) := dk_96 (dk_at dksX7_next_8 4 rfl rfl)
theorem dX7_next_192 : decode cX7_next 192 = .ok (.bipush 48, 2) := dk_16 48 (dk_at dksX7_next_8 5 rfl rfl)
theorem dX7_next_194 : decode cX7_next 194 = .ok (.isub, 1) := dk_100 (dk_at dksX7_next_8 7 rfl rfl)
theorem dX7_next_195 : decode cX7_next 195 = .ok (.putfield 42, 3) := dk_181 0 42 (dk_at dksX7_next_8 8 rfl rfl)
theorem dX7_next_198 : decode cX7_next 198 = .ok (.aload_n 0, 1) := dk_42 (dk_at dksX7_next_8 11 rfl rfl)
theorem dX7_next_199 : decode cX7_next 199 = .ok (.dup, 1) := dk_89 (dk_at dksX7_next_8 12 rfl rfl)
theorem dX7_next_200 : decode cX7_next 200 = .ok (.getfield 26, 3) := dk_180 0 26 (dk_at dksX7_next_8 13 rfl rfl)
theorem dX7_next_203 : decode cX7_next 203 = .ok (.iconst 1, 1) := dk_4 (dk_at dksX7_next_8 16 rfl rfl)
theorem dX7_next_204 : decode cX7_next 204 = .ok (.iadd, 1) := dk_96 (dk_at dksX7_next_8 17 rfl rfl)
theorem dX7_next_205 : decode cX7_next 205 = .ok (.putfield 26, 3) := dk_181 0 26 (dk_at dksX7_next_8 18 rfl rfl)
theorem dX7_next_208 : decode cX7_next 208 = .ok (.goto (-61), 3) := dk_167 255 195 (dk_at dksX7_next_8 21 rfl rfl)
theorem dX7_next_211 : decode cX7_next 211 = .ok (.aload_n 0, 1) := dk_42 (dk_at dksX7_next_9 0 rfl rfl)
theorem dX7_next_212 : decode cX7_next 212 = .ok (.aload_n 0, 1) := dk_42 (dk_at dksX7_next_9 1 rfl rfl)
theorem dX7_next_213 : decode cX7_next 213 = .ok (.getfield 26, 3) := dk_180 0 26 (dk_at dksX7_next_9 2 rfl rfl)
theorem dX7_next_216 : decode cX7_next 216 = .ok (.aload_n 0, 1) := dk_42 (dk_at dksX7_next_9 5 rfl rfl)
theorem dX7_next_217 : decode cX7_next 217 = .ok (.getfield 29, 3) := dk_180 0 29 (dk_at dksX7_next_9 6 rfl rfl)
theorem dX7_next_220 : decode cX7_next 220 = .ok (.isub, 1) := dk_100 (dk_at dksX7_next_9 9 rfl rfl)
theorem dX7_next_221 : decode cX7_next 221 = .ok (.iconst 4, 1) := dk_7 (dk_at dksX7_next_9 10 rfl rfl)
theorem dX7_next_222 : decode cX7_next 222 = .ok (.if_icmp .le 7, 3) := dk_164 0 7 (dk_at dksX7_next_9 11 rfl rfl)
theorem dX7_next_225 : decode cX7_next 225 = .ok (.iconst 4, 1) := dk_7 (dk_at dksX7_next_9 14 rfl rfl)
theorem dX7_next_226 : decode cX7_next 226 = .ok (.goto 4, 3) := dk_167 0 4 (dk_at dksX7_next_9 15 rfl rfl)
theorem dX7_next_229 : decode cX7_next 229 = .ok (.iconst 2, 1) := dk_5 (dk_at dksX7_next_9 18 rfl rfl)
theorem dX7_next_230 : decode cX7_next 230 = .ok (.putfield 32, 3) := dk_181 0 32 (dk_at dksX7_next_9 19 rfl rfl)
theorem dX7_next_233 : decode cX7_next 233 = .ok (.goto 90, 3) := dk_167 0 90 (dk_at dksX7_next_10 0 rfl rfl)
theorem dX7_next_236 : decode cX7_next 236 = .ok (.aload_n 0, 1) := dk_42 (dk_at dksX7_next_10 3 rfl rfl)
theorem dX7_next_237 : decode cX7_next 237 = .ok (.aload_n 0, 1) := dk_42 (dk_at dksX7_next_10 4 rfl rfl)
theorem dX7_next_238 : decode cX7_next 238 = .ok (.getfield 29, 3) := dk_180 0 29 (dk_at dksX7_next_10 5 rfl rfl)
theorem dX7_next_241 : decode cX7_next 241 = .ok (.iconst 1, 1) := dk_4 (dk_at dksX7_next_10 8 rfl rfl)
theorem dX7_next_242 : decode cX7_next 242 = .ok (.iadd, 1) := dk_96 (dk_at dksX7_next_10 9 rfl rfl)
theorem dX7_next_243 : decode cX7_next 243 = .ok (.putfield 26, 3) := dk_181 0 26 (dk_at dksX7_next_10 10 rfl rfl)
theorem dX7_next_246 : decode cX7_next 246 = .ok (.aload_n 0, 1) := dk_42 (dk_at dksX7_next_10 13 rfl rfl)
theorem dX7_next_247 : decode cX7_next 247 = .ok (.aload_n 0, 1) := dk_42 (dk_at dksX7_next_10 14 rfl rfl)
theorem dX7_next_248 : decode cX7_next 248 = .ok (.getfield 3, 3) := dk_180 0 3 (dk_at dksX7_next_10 15 rfl rfl)
theorem dX7_next_251 : decode cX7_next 251 = .ok (.getfield 22, 3) := dk_180 0 22 (dk_at dksX7_next_10 18 rfl rfl)
theorem dX7_next_254 : decode cX7_next 254 = .ok (.aload_n 0, 1) := dk_42 (dk_at dksX7_next_10 21 rfl rfl)
theorem dX7_next_255 : decode cX7_next 255 = .ok (.getfield 29, 3) := dk_180 0 29 (dk_at dksX7_next_11 0 rfl rfl)
theorem dX7_next_258 : decode cX7_next 258 = .ok (.baload, 1) := dk_51 (dk_at dksX7_next_11 3 rfl rfl)
theorem dX7_next_259 : decode cX7_next 259 = .ok (.bipush 59, 2) := dk_16 59 (dk_at dksX7_next_11 4 rfl rfl)
theorem dX7_next_261 : decode cX7_next 261 = .ok (.if_icmp .eq 54, 3) := dk_159 0 54 (dk_at dksX7_next_11 6 rfl rfl)
theorem dX7_next_264 : decode cX7_next 264 = .ok (.aload_n 0, 1) := dk_42 (dk_at dksX7_next_11 9 rfl rfl)
theorem dX7_next_265 : decode cX7_next 265 = .ok (.getfield 3, 3) := dk_180 0 3 (dk_at dksX7_next_11 10 rfl rfl)
theorem dX7_next_268 : decode cX7_next 268 = .ok (.getfield 22, 3) := dk_180 0 22 (dk_at dksX7_next_11 13 rfl rfl)
theorem dX7_next_271 : decode cX7_next 271 = .ok (.aload_n 0, 1) := dk_42 (dk_at dksX7_next_11 16 rfl rfl)
theorem dX7_next_272 : decode cX7_next 272 = .ok (.getfield 29, 3) := dk_180 0 29 (dk_at dksX7_next_11 17 rfl rfl)
theorem dX7_next_275 : decode cX7_next 275 = .ok (.baload, 1) := dk_51 (dk_at dksX7_next_11 20 rfl rfl)
theorem dX7_next_276 : decode cX7_next 276 = .ok (.bipush 60, 2) := dk_16 60 (dk_at dksX7_next_11 21 rfl rfl)
theorem dX7_next_278 : decode cX7_next 278 = .ok (.if_icmp .eq 37, 3) := dk_159 0 37 (dk_at dksX7_next_12 0 rfl rfl)
theorem dX7_next_281 : decode cX7_next 281 = .ok (.aload_n 0, 1) := dk_42 (dk_at dksX7_next_12 3 rfl rfl)
theorem dX7_next_282 : decode cX7_next 282 = .ok (.getfield 3, 3) := dk_180 0 3 (dk_at dksX7_next_12 4 rfl rfl)
theorem dX7_next_285 : decode cX7_next 285 = .ok (.getfield 22, 3) := dk_180 0 22 (dk_at dksX7_next_12 7 rfl rfl)
theorem dX7_next_288 : decode cX7_next 288 = .ok (.aload_n 0, 1) := dk_42 (dk_at dksX7_next_12 10 rfl rfl)
theorem dX7_next_289 : decode cX7_next 289 = .ok (.getfield 29, 3) := dk_180 0 29 (dk_at dksX7_next_12 11 rfl rfl)
theorem dX7_next_292 : decode cX7_next 292 = .ok (.baload, 1) := dk_51 (dk_at dksX7_next_12 14 rfl rfl)
theorem dX7_next_293 : decode cX7_next 293 = .ok (.bipush 62, 2) := dk_16 62 (dk_at dksX7_next_12 15 rfl rfl)
theorem dX7_next_295 : decode cX7_next 295 = .ok (.if_icmp .eq 20, 3) := dk_159 0 20 (dk_at dksX7_next_12 17 rfl rfl)
theorem dX7_next_298 : decode cX7_next 298 = .ok (.aload_n 0, 1) := dk_42 (dk_at dksX7_next_12 20 rfl rfl)
theorem dX7_next_299 : decode cX7_next 299 = .ok (.getfield 3, 3) := dk_180 0 3 (dk_at dksX7_next_12 21 rfl rfl)
theorem dX7_next_302 : decode cX7_next 302 = .ok (.getfield 22, 3) := dk_180 0 22 (dk_at dksX7_next_13 0 rfl rfl)
theorem dX7_next_305 : decode cX7_next 305 = .ok (.aload_n 0, 1) := dk_42 (dk_at dksX7_next_13 3 rfl rfl)
theorem dX7_next_306 : decode cX7_next 306 = .ok (.getfield 29, 3) := dk_180 0 29 (dk_at dksX7_next_13 4 rfl rfl)
theorem dX7_next_309 : decode cX7_next 309 = .ok (.baload, 1) := dk_51 (dk_at dksX7_next_13 7 rfl rfl)
theorem dX7_next_310 : decode cX7_next 310 = .ok (.bipush 61, 2) := dk_16 61 (dk_at dksX7_next_13 8 rfl rfl)
theorem dX7_next_312 : decode cX7_next 312 = .ok (.if_icmp .ne 7, 3) := dk_160 0 7 (dk_at dksX7_next_13 10 rfl rfl)
theorem dX7_next_315 : decode cX7_next 315 = .ok (.iconst 3, 1) := dk_6 (dk_at dksX7_next_13 13 rfl rfl)
theorem dX7_next_316 : decode cX7_next 316 = .ok (.goto 4, 3) := dk_167 0 4 (dk_at dksX7_next_13 14 rfl rfl)
theorem dX7_next_319 : decode cX7_next 319 = .ok (.iconst 4, 1) := dk_7 (dk_at dksX7_next_13 17 rfl rfl)
theorem dX7_next_320 : decode cX7_next 320 = .ok (.putfield 32, 3) := dk_181 0 32 (dk_at dksX7_next_13 18 rfl rfl)
theorem dX7_next_323 : decode cX7_next 323 = .ok (.return_, 1) := dk_177 (dk_at dksX7_next_13 21 rfl rfl)
abbrev cX7_isLetter : ByteArray := prog_9_method_2_code
def yX7_isLetter : MethodName := ⟨RX7, "isLetter", "(I)Z"⟩
def dkwX7_isLetter_1 : List UInt8 := [180, 0, 3, 180, 0, 22, 27, 51, 16, 122, 163, 0, 7, 4, 167, 0, 4, 3, 172]
abbrev dktX7_isLetter_1 : List UInt8 := dkwX7_isLetter_1 ++ []
def dkwX7_isLetter_0 : List UInt8 := [27, 42, 180, 0, 15, 162, 0, 35, 42, 180, 0, 3, 180, 0, 22, 27, 51, 16, 97, 161, 0, 21, 42]
abbrev dktX7_isLetter_0 : List UInt8 := dkwX7_isLetter_0 ++ dktX7_isLetter_1
theorem dksX7_isLetter_0 : cX7_isLetter.data.toList.drop 0 = dktX7_isLetter_0 := by decide +kernel
theorem dksX7_isLetter_1 : cX7_isLetter.data.toList.drop 23 = dktX7_isLetter_1 := dk_seg dksX7_isLetter_0 23 rfl rfl
theorem dX7_isLetter_0 : decode cX7_isLetter 0 = .ok (.iload_n 1, 1) := dk_27 (dk_at dksX7_isLetter_0 0 rfl rfl)
theorem dX7_isLetter_1 : decode cX7_isLetter 1 = .ok (.aload_n 0, 1) := dk_42 (dk_at dksX7_isLetter_0 1 rfl rfl)
theorem dX7_isLetter_2 : decode cX7_isLetter 2 = .ok (.getfield 15, 3) := dk_180 0 15 (dk_at dksX7_isLetter_0 2 rfl rfl)
theorem dX7_isLetter_5 : decode cX7_isLetter 5 = .ok (.if_icmp .ge 35, 3) := dk_162 0 35 (dk_at dksX7_isLetter_0 5 rfl rfl)
theorem dX7_isLetter_8 : decode cX7_isLetter 8 = .ok (.aload_n 0, 1) := dk_42 (dk_at dksX7_isLetter_0 8 rfl rfl)
theorem dX7_isLetter_9 : decode cX7_isLetter 9 = .ok (.getfield 3, 3) := dk_180 0 3 (dk_at dksX7_isLetter_0 9 rfl rfl)
theorem dX7_isLetter_12 : decode cX7_isLetter 12 = .ok (.getfield 22, 3) := dk_180 0 22 (dk_at dksX7_isLetter_0 12 rfl rfl)
theorem dX7_isLetter_15 : decode cX7_isLetter 15 = .ok (.iload_n 1, 1) := dk_27 (dk_at dksX7_isLetter_0 15 rfl rfl)
theorem dX7_isLetter_16 : decode cX7_isLetter 16 = .ok (.baload, 1) := dk_51 (dk_at dksX7_isLetter_0 16 rfl rfl)
theorem dX7_isLetter_17 : decode cX7_isLetter 17 = .ok (.bipush 97, 2) := dk_16 97 (dk_at dksX7_isLetter_0 17 rfl rfl)
theorem dX7_isLetter_19 : decode cX7_isLetter 19 = .ok (.if_icmp .lt 21, 3) := dk_161 0 21 (dk_at dksX7_isLetter_0 19 rfl rfl)
theorem dX7_isLetter_22 : decode cX7_isLetter 22 = .ok (.aload_n 0, 1) := dk_42 (dk_at dksX7_isLetter_0 22 rfl rfl)
theorem dX7_isLetter_23 : decode cX7_isLetter 23 = .ok (.getfield 3, 3) := dk_180 0 3 (dk_at dksX7_isLetter_1 0 rfl rfl)
theorem dX7_isLetter_26 : decode cX7_isLetter 26 = .ok (.getfield 22, 3) := dk_180 0 22 (dk_at dksX7_isLetter_1 3 rfl rfl)
theorem dX7_isLetter_29 : decode cX7_isLetter 29 = .ok (.iload_n 1, 1) := dk_27 (dk_at dksX7_isLetter_1 6 rfl rfl)
theorem dX7_isLetter_30 : decode cX7_isLetter 30 = .ok (.baload, 1) := dk_51 (dk_at dksX7_isLetter_1 7 rfl rfl)
theorem dX7_isLetter_31 : decode cX7_isLetter 31 = .ok (.bipush 122, 2) := dk_16 122 (dk_at dksX7_isLetter_1 8 rfl rfl)
theorem dX7_isLetter_33 : decode cX7_isLetter 33 = .ok (.if_icmp .gt 7, 3) := dk_163 0 7 (dk_at dksX7_isLetter_1 10 rfl rfl)
theorem dX7_isLetter_36 : decode cX7_isLetter 36 = .ok (.iconst 1, 1) := dk_4 (dk_at dksX7_isLetter_1 13 rfl rfl)
theorem dX7_isLetter_37 : decode cX7_isLetter 37 = .ok (.goto 4, 3) := dk_167 0 4 (dk_at dksX7_isLetter_1 14 rfl rfl)
theorem dX7_isLetter_40 : decode cX7_isLetter 40 = .ok (.iconst 0, 1) := dk_3 (dk_at dksX7_isLetter_1 17 rfl rfl)
theorem dX7_isLetter_41 : decode cX7_isLetter 41 = .ok (.ireturn, 1) := dk_172 (dk_at dksX7_isLetter_1 18 rfl rfl)
abbrev cX7_isDigit : ByteArray := prog_9_method_3_code
def yX7_isDigit : MethodName := ⟨RX7, "isDigit", "(I)Z"⟩
def dkwX7_isDigit_1 : List UInt8 := [180, 0, 3, 180, 0, 22, 27, 51, 16, 57, 163, 0, 7, 4, 167, 0, 4, 3, 172]
abbrev dktX7_isDigit_1 : List UInt8 := dkwX7_isDigit_1 ++ []
def dkwX7_isDigit_0 : List UInt8 := [27, 42, 180, 0, 15, 162, 0, 35, 42, 180, 0, 3, 180, 0, 22, 27, 51, 16, 48, 161, 0, 21, 42]
abbrev dktX7_isDigit_0 : List UInt8 := dkwX7_isDigit_0 ++ dktX7_isDigit_1
theorem dksX7_isDigit_0 : cX7_isDigit.data.toList.drop 0 = dktX7_isDigit_0 := by decide +kernel
theorem dksX7_isDigit_1 : cX7_isDigit.data.toList.drop 23 = dktX7_isDigit_1 := dk_seg dksX7_isDigit_0 23 rfl rfl
theorem dX7_isDigit_0 : decode cX7_isDigit 0 = .ok (.iload_n 1, 1) := dk_27 (dk_at dksX7_isDigit_0 0 rfl rfl)
theorem dX7_isDigit_1 : decode cX7_isDigit 1 = .ok (.aload_n 0, 1) := dk_42 (dk_at dksX7_isDigit_0 1 rfl rfl)
theorem dX7_isDigit_2 : decode cX7_isDigit 2 = .ok (.getfield 15, 3) := dk_180 0 15 (dk_at dksX7_isDigit_0 2 rfl rfl)
theorem dX7_isDigit_5 : decode cX7_isDigit 5 = .ok (.if_icmp .ge 35, 3) := dk_162 0 35 (dk_at dksX7_isDigit_0 5 rfl rfl)
theorem dX7_isDigit_8 : decode cX7_isDigit 8 = .ok (.aload_n 0, 1) := dk_42 (dk_at dksX7_isDigit_0 8 rfl rfl)
theorem dX7_isDigit_9 : decode cX7_isDigit 9 = .ok (.getfield 3, 3) := dk_180 0 3 (dk_at dksX7_isDigit_0 9 rfl rfl)
theorem dX7_isDigit_12 : decode cX7_isDigit 12 = .ok (.getfield 22, 3) := dk_180 0 22 (dk_at dksX7_isDigit_0 12 rfl rfl)
theorem dX7_isDigit_15 : decode cX7_isDigit 15 = .ok (.iload_n 1, 1) := dk_27 (dk_at dksX7_isDigit_0 15 rfl rfl)
theorem dX7_isDigit_16 : decode cX7_isDigit 16 = .ok (.baload, 1) := dk_51 (dk_at dksX7_isDigit_0 16 rfl rfl)
theorem dX7_isDigit_17 : decode cX7_isDigit 17 = .ok (.bipush 48, 2) := dk_16 48 (dk_at dksX7_isDigit_0 17 rfl rfl)
theorem dX7_isDigit_19 : decode cX7_isDigit 19 = .ok (.if_icmp .lt 21, 3) := dk_161 0 21 (dk_at dksX7_isDigit_0 19 rfl rfl)
theorem dX7_isDigit_22 : decode cX7_isDigit 22 = .ok (.aload_n 0, 1) := dk_42 (dk_at dksX7_isDigit_0 22 rfl rfl)
theorem dX7_isDigit_23 : decode cX7_isDigit 23 = .ok (.getfield 3, 3) := dk_180 0 3 (dk_at dksX7_isDigit_1 0 rfl rfl)
theorem dX7_isDigit_26 : decode cX7_isDigit 26 = .ok (.getfield 22, 3) := dk_180 0 22 (dk_at dksX7_isDigit_1 3 rfl rfl)
theorem dX7_isDigit_29 : decode cX7_isDigit 29 = .ok (.iload_n 1, 1) := dk_27 (dk_at dksX7_isDigit_1 6 rfl rfl)
theorem dX7_isDigit_30 : decode cX7_isDigit 30 = .ok (.baload, 1) := dk_51 (dk_at dksX7_isDigit_1 7 rfl rfl)
theorem dX7_isDigit_31 : decode cX7_isDigit 31 = .ok (.bipush 57, 2) := dk_16 57 (dk_at dksX7_isDigit_1 8 rfl rfl)
theorem dX7_isDigit_33 : decode cX7_isDigit 33 = .ok (.if_icmp .gt 7, 3) := dk_163 0 7 (dk_at dksX7_isDigit_1 10 rfl rfl)
theorem dX7_isDigit_36 : decode cX7_isDigit 36 = .ok (.iconst 1, 1) := dk_4 (dk_at dksX7_isDigit_1 13 rfl rfl)
theorem dX7_isDigit_37 : decode cX7_isDigit 37 = .ok (.goto 4, 3) := dk_167 0 4 (dk_at dksX7_isDigit_1 14 rfl rfl)
theorem dX7_isDigit_40 : decode cX7_isDigit 40 = .ok (.iconst 0, 1) := dk_3 (dk_at dksX7_isDigit_1 17 rfl rfl)
theorem dX7_isDigit_41 : decode cX7_isDigit 41 = .ok (.ireturn, 1) := dk_172 (dk_at dksX7_isDigit_1 18 rfl rfl)
abbrev cX7_court : ByteArray := prog_9_method_26_code
def yX7_court : MethodName := ⟨RX7, "court", "(LCatWitness$Court;)V"⟩
def dkwX7_court_5 : List UInt8 := [182, 0, 206, 167, 255, 138, 177]
abbrev dktX7_court_5 : List UInt8 := dkwX7_court_5 ++ []
def dkwX7_court_4 : List UInt8 := [18, 136, 182, 0, 72, 153, 0, 11, 42, 43, 182, 0, 203, 167, 0, 8, 42, 182, 0, 68, 191, 42]
abbrev dktX7_court_4 : List UInt8 := dkwX7_court_4 ++ dktX7_court_5
def dkwX7_court_3 : List UInt8 := [182, 0, 197, 167, 0, 42, 42, 18, 130, 182, 0, 72, 153, 0, 11, 42, 43, 182, 0, 200, 167, 0, 25, 42]
abbrev dktX7_court_3 : List UInt8 := dkwX7_court_3 ++ dktX7_court_4
def dkwX7_court_2 : List UInt8 := [153, 0, 11, 42, 43, 182, 0, 194, 167, 0, 59, 42, 18, 128, 182, 0, 72, 153, 0, 11, 42, 43]
abbrev dktX7_court_2 : List UInt8 := dkwX7_court_2 ++ dktX7_court_3
def dkwX7_court_1 : List UInt8 := [42, 18, 118, 182, 0, 72, 153, 0, 11, 42, 43, 182, 0, 191, 167, 0, 76, 42, 18, 122, 182, 0, 72]
abbrev dktX7_court_1 : List UInt8 := dkwX7_court_1 ++ dktX7_court_2
def dkwX7_court_0 : List UInt8 := [42, 180, 0, 32, 153, 0, 117, 42, 18, 116, 182, 0, 72, 153, 0, 11, 42, 43, 182, 0, 187, 167, 0, 93]
abbrev dktX7_court_0 : List UInt8 := dkwX7_court_0 ++ dktX7_court_1
theorem dksX7_court_0 : cX7_court.data.toList.drop 0 = dktX7_court_0 := by decide +kernel
theorem dksX7_court_1 : cX7_court.data.toList.drop 24 = dktX7_court_1 := dk_seg dksX7_court_0 24 rfl rfl
theorem dksX7_court_2 : cX7_court.data.toList.drop 47 = dktX7_court_2 := dk_seg dksX7_court_1 23 rfl rfl
theorem dksX7_court_3 : cX7_court.data.toList.drop 69 = dktX7_court_3 := dk_seg dksX7_court_2 22 rfl rfl
theorem dksX7_court_4 : cX7_court.data.toList.drop 93 = dktX7_court_4 := dk_seg dksX7_court_3 24 rfl rfl
theorem dksX7_court_5 : cX7_court.data.toList.drop 115 = dktX7_court_5 := dk_seg dksX7_court_4 22 rfl rfl
theorem dX7_court_0 : decode cX7_court 0 = .ok (.aload_n 0, 1) := dk_42 (dk_at dksX7_court_0 0 rfl rfl)
theorem dX7_court_1 : decode cX7_court 1 = .ok (.getfield 32, 3) := dk_180 0 32 (dk_at dksX7_court_0 1 rfl rfl)
theorem dX7_court_4 : decode cX7_court 4 = .ok (.ifCond .eq 117, 3) := dk_153 0 117 (dk_at dksX7_court_0 4 rfl rfl)
theorem dX7_court_7 : decode cX7_court 7 = .ok (.aload_n 0, 1) := dk_42 (dk_at dksX7_court_0 7 rfl rfl)
theorem dX7_court_8 : decode cX7_court 8 = .ok (.ldc 116, 2) := dk_18 116 (dk_at dksX7_court_0 8 rfl rfl)
theorem dX7_court_10 : decode cX7_court 10 = .ok (.invokevirtual 72, 3) := dk_182 0 72 (dk_at dksX7_court_0 10 rfl rfl)
theorem dX7_court_13 : decode cX7_court 13 = .ok (.ifCond .eq 11, 3) := dk_153 0 11 (dk_at dksX7_court_0 13 rfl rfl)
theorem dX7_court_16 : decode cX7_court 16 = .ok (.aload_n 0, 1) := dk_42 (dk_at dksX7_court_0 16 rfl rfl)
theorem dX7_court_17 : decode cX7_court 17 = .ok (.aload_n 1, 1) := dk_43 (dk_at dksX7_court_0 17 rfl rfl)
theorem dX7_court_18 : decode cX7_court 18 = .ok (.invokevirtual 187, 3) := dk_182 0 187 (dk_at dksX7_court_0 18 rfl rfl)
theorem dX7_court_21 : decode cX7_court 21 = .ok (.goto 93, 3) := dk_167 0 93 (dk_at dksX7_court_0 21 rfl rfl)
theorem dX7_court_24 : decode cX7_court 24 = .ok (.aload_n 0, 1) := dk_42 (dk_at dksX7_court_1 0 rfl rfl)
theorem dX7_court_25 : decode cX7_court 25 = .ok (.ldc 118, 2) := dk_18 118 (dk_at dksX7_court_1 1 rfl rfl)
theorem dX7_court_27 : decode cX7_court 27 = .ok (.invokevirtual 72, 3) := dk_182 0 72 (dk_at dksX7_court_1 3 rfl rfl)
theorem dX7_court_30 : decode cX7_court 30 = .ok (.ifCond .eq 11, 3) := dk_153 0 11 (dk_at dksX7_court_1 6 rfl rfl)
theorem dX7_court_33 : decode cX7_court 33 = .ok (.aload_n 0, 1) := dk_42 (dk_at dksX7_court_1 9 rfl rfl)
theorem dX7_court_34 : decode cX7_court 34 = .ok (.aload_n 1, 1) := dk_43 (dk_at dksX7_court_1 10 rfl rfl)
theorem dX7_court_35 : decode cX7_court 35 = .ok (.invokevirtual 191, 3) := dk_182 0 191 (dk_at dksX7_court_1 11 rfl rfl)
theorem dX7_court_38 : decode cX7_court 38 = .ok (.goto 76, 3) := dk_167 0 76 (dk_at dksX7_court_1 14 rfl rfl)
theorem dX7_court_41 : decode cX7_court 41 = .ok (.aload_n 0, 1) := dk_42 (dk_at dksX7_court_1 17 rfl rfl)
theorem dX7_court_42 : decode cX7_court 42 = .ok (.ldc 122, 2) := dk_18 122 (dk_at dksX7_court_1 18 rfl rfl)
theorem dX7_court_44 : decode cX7_court 44 = .ok (.invokevirtual 72, 3) := dk_182 0 72 (dk_at dksX7_court_1 20 rfl rfl)
theorem dX7_court_47 : decode cX7_court 47 = .ok (.ifCond .eq 11, 3) := dk_153 0 11 (dk_at dksX7_court_2 0 rfl rfl)
theorem dX7_court_50 : decode cX7_court 50 = .ok (.aload_n 0, 1) := dk_42 (dk_at dksX7_court_2 3 rfl rfl)
theorem dX7_court_51 : decode cX7_court 51 = .ok (.aload_n 1, 1) := dk_43 (dk_at dksX7_court_2 4 rfl rfl)
theorem dX7_court_52 : decode cX7_court 52 = .ok (.invokevirtual 194, 3) := dk_182 0 194 (dk_at dksX7_court_2 5 rfl rfl)
theorem dX7_court_55 : decode cX7_court 55 = .ok (.goto 59, 3) := dk_167 0 59 (dk_at dksX7_court_2 8 rfl rfl)
theorem dX7_court_58 : decode cX7_court 58 = .ok (.aload_n 0, 1) := dk_42 (dk_at dksX7_court_2 11 rfl rfl)
theorem dX7_court_59 : decode cX7_court 59 = .ok (.ldc 128, 2) := dk_18 128 (dk_at dksX7_court_2 12 rfl rfl)
theorem dX7_court_61 : decode cX7_court 61 = .ok (.invokevirtual 72, 3) := dk_182 0 72 (dk_at dksX7_court_2 14 rfl rfl)
theorem dX7_court_64 : decode cX7_court 64 = .ok (.ifCond .eq 11, 3) := dk_153 0 11 (dk_at dksX7_court_2 17 rfl rfl)
theorem dX7_court_67 : decode cX7_court 67 = .ok (.aload_n 0, 1) := dk_42 (dk_at dksX7_court_2 20 rfl rfl)
theorem dX7_court_68 : decode cX7_court 68 = .ok (.aload_n 1, 1) := dk_43 (dk_at dksX7_court_2 21 rfl rfl)
theorem dX7_court_69 : decode cX7_court 69 = .ok (.invokevirtual 197, 3) := dk_182 0 197 (dk_at dksX7_court_3 0 rfl rfl)
theorem dX7_court_72 : decode cX7_court 72 = .ok (.goto 42, 3) := dk_167 0 42 (dk_at dksX7_court_3 3 rfl rfl)
theorem dX7_court_75 : decode cX7_court 75 = .ok (.aload_n 0, 1) := dk_42 (dk_at dksX7_court_3 6 rfl rfl)
theorem dX7_court_76 : decode cX7_court 76 = .ok (.ldc 130, 2) := dk_18 130 (dk_at dksX7_court_3 7 rfl rfl)
theorem dX7_court_78 : decode cX7_court 78 = .ok (.invokevirtual 72, 3) := dk_182 0 72 (dk_at dksX7_court_3 9 rfl rfl)
theorem dX7_court_81 : decode cX7_court 81 = .ok (.ifCond .eq 11, 3) := dk_153 0 11 (dk_at dksX7_court_3 12 rfl rfl)
theorem dX7_court_84 : decode cX7_court 84 = .ok (.aload_n 0, 1) := dk_42 (dk_at dksX7_court_3 15 rfl rfl)
theorem dX7_court_85 : decode cX7_court 85 = .ok (.aload_n 1, 1) := dk_43 (dk_at dksX7_court_3 16 rfl rfl)
theorem dX7_court_86 : decode cX7_court 86 = .ok (.invokevirtual 200, 3) := dk_182 0 200 (dk_at dksX7_court_3 17 rfl rfl)
theorem dX7_court_89 : decode cX7_court 89 = .ok (.goto 25, 3) := dk_167 0 25 (dk_at dksX7_court_3 20 rfl rfl)
theorem dX7_court_92 : decode cX7_court 92 = .ok (.aload_n 0, 1) := dk_42 (dk_at dksX7_court_3 23 rfl rfl)
theorem dX7_court_93 : decode cX7_court 93 = .ok (.ldc 136, 2) := dk_18 136 (dk_at dksX7_court_4 0 rfl rfl)
theorem dX7_court_95 : decode cX7_court 95 = .ok (.invokevirtual 72, 3) := dk_182 0 72 (dk_at dksX7_court_4 2 rfl rfl)
theorem dX7_court_98 : decode cX7_court 98 = .ok (.ifCond .eq 11, 3) := dk_153 0 11 (dk_at dksX7_court_4 5 rfl rfl)
theorem dX7_court_101 : decode cX7_court 101 = .ok (.aload_n 0, 1) := dk_42 (dk_at dksX7_court_4 8 rfl rfl)
theorem dX7_court_102 : decode cX7_court 102 = .ok (.aload_n 1, 1) := dk_43 (dk_at dksX7_court_4 9 rfl rfl)
theorem dX7_court_103 : decode cX7_court 103 = .ok (.invokevirtual 203, 3) := dk_182 0 203 (dk_at dksX7_court_4 10 rfl rfl)
theorem dX7_court_106 : decode cX7_court 106 = .ok (.goto 8, 3) := dk_167 0 8 (dk_at dksX7_court_4 13 rfl rfl)
theorem dX7_court_109 : decode cX7_court 109 = .ok (.aload_n 0, 1) := dk_42 (dk_at dksX7_court_4 16 rfl rfl)
theorem dX7_court_110 : decode cX7_court 110 = .ok (.invokevirtual 68, 3) := dk_182 0 68 (dk_at dksX7_court_4 17 rfl rfl)
theorem dX7_court_113 : decode cX7_court 113 = .ok (.athrow, 1) := dk_191 (dk_at dksX7_court_4 20 rfl rfl)
theorem dX7_court_114 : decode cX7_court 114 = .ok (.aload_n 0, 1) := dk_42 (dk_at dksX7_court_4 21 rfl rfl)
theorem dX7_court_115 : decode cX7_court 115 = .ok (.invokevirtual 206, 3) := dk_182 0 206 (dk_at dksX7_court_5 0 rfl rfl)
theorem dX7_court_118 : decode cX7_court 118 = .ok (.goto (-118), 3) := dk_167 255 138 (dk_at dksX7_court_5 3 rfl rfl)
theorem dX7_court_121 : decode cX7_court 121 = .ok (.return_, 1) := dk_177 (dk_at dksX7_court_5 6 rfl rfl)
abbrev cX7_isWord : ByteArray := prog_9_method_5_code
def yX7_isWord : MethodName := ⟨RX7, "isWord", "(Ljava/lang/String;)Z"⟩
def dkwX7_isWord_2 : List UInt8 := [96, 51, 43, 28, 182, 0, 51, 159, 0, 5, 3, 172, 132, 2, 1, 167, 255, 221, 4, 172]
abbrev dktX7_isWord_2 : List UInt8 := dkwX7_isWord_2 ++ []
def dkwX7_isWord_1 : List UInt8 := [3, 172, 3, 61, 28, 43, 182, 0, 45, 162, 0, 33, 42, 180, 0, 3, 180, 0, 22, 42, 180, 0, 29, 28]
abbrev dktX7_isWord_1 : List UInt8 := dkwX7_isWord_1 ++ dktX7_isWord_2
def dkwX7_isWord_0 : List UInt8 := [42, 180, 0, 32, 4, 160, 0, 19, 42, 180, 0, 26, 42, 180, 0, 29, 100, 43, 182, 0, 45, 159, 0, 5]
abbrev dktX7_isWord_0 : List UInt8 := dkwX7_isWord_0 ++ dktX7_isWord_1
theorem dksX7_isWord_0 : cX7_isWord.data.toList.drop 0 = dktX7_isWord_0 := by decide +kernel
theorem dksX7_isWord_1 : cX7_isWord.data.toList.drop 24 = dktX7_isWord_1 := dk_seg dksX7_isWord_0 24 rfl rfl
theorem dksX7_isWord_2 : cX7_isWord.data.toList.drop 48 = dktX7_isWord_2 := dk_seg dksX7_isWord_1 24 rfl rfl
theorem dX7_isWord_0 : decode cX7_isWord 0 = .ok (.aload_n 0, 1) := dk_42 (dk_at dksX7_isWord_0 0 rfl rfl)
theorem dX7_isWord_1 : decode cX7_isWord 1 = .ok (.getfield 32, 3) := dk_180 0 32 (dk_at dksX7_isWord_0 1 rfl rfl)
theorem dX7_isWord_4 : decode cX7_isWord 4 = .ok (.iconst 1, 1) := dk_4 (dk_at dksX7_isWord_0 4 rfl rfl)
theorem dX7_isWord_5 : decode cX7_isWord 5 = .ok (.if_icmp .ne 19, 3) := dk_160 0 19 (dk_at dksX7_isWord_0 5 rfl rfl)
theorem dX7_isWord_8 : decode cX7_isWord 8 = .ok (.aload_n 0, 1) := dk_42 (dk_at dksX7_isWord_0 8 rfl rfl)
theorem dX7_isWord_9 : decode cX7_isWord 9 = .ok (.getfield 26, 3) := dk_180 0 26 (dk_at dksX7_isWord_0 9 rfl rfl)
theorem dX7_isWord_12 : decode cX7_isWord 12 = .ok (.aload_n 0, 1) := dk_42 (dk_at dksX7_isWord_0 12 rfl rfl)
theorem dX7_isWord_13 : decode cX7_isWord 13 = .ok (.getfield 29, 3) := dk_180 0 29 (dk_at dksX7_isWord_0 13 rfl rfl)
theorem dX7_isWord_16 : decode cX7_isWord 16 = .ok (.isub, 1) := dk_100 (dk_at dksX7_isWord_0 16 rfl rfl)
theorem dX7_isWord_17 : decode cX7_isWord 17 = .ok (.aload_n 1, 1) := dk_43 (dk_at dksX7_isWord_0 17 rfl rfl)
theorem dX7_isWord_18 : decode cX7_isWord 18 = .ok (.invokevirtual 45, 3) := dk_182 0 45 (dk_at dksX7_isWord_0 18 rfl rfl)
theorem dX7_isWord_21 : decode cX7_isWord 21 = .ok (.if_icmp .eq 5, 3) := dk_159 0 5 (dk_at dksX7_isWord_0 21 rfl rfl)
theorem dX7_isWord_24 : decode cX7_isWord 24 = .ok (.iconst 0, 1) := dk_3 (dk_at dksX7_isWord_1 0 rfl rfl)
theorem dX7_isWord_25 : decode cX7_isWord 25 = .ok (.ireturn, 1) := dk_172 (dk_at dksX7_isWord_1 1 rfl rfl)
theorem dX7_isWord_26 : decode cX7_isWord 26 = .ok (.iconst 0, 1) := dk_3 (dk_at dksX7_isWord_1 2 rfl rfl)
theorem dX7_isWord_27 : decode cX7_isWord 27 = .ok (.istore_n 2, 1) := dk_61 (dk_at dksX7_isWord_1 3 rfl rfl)
theorem dX7_isWord_28 : decode cX7_isWord 28 = .ok (.iload_n 2, 1) := dk_28 (dk_at dksX7_isWord_1 4 rfl rfl)
theorem dX7_isWord_29 : decode cX7_isWord 29 = .ok (.aload_n 1, 1) := dk_43 (dk_at dksX7_isWord_1 5 rfl rfl)
theorem dX7_isWord_30 : decode cX7_isWord 30 = .ok (.invokevirtual 45, 3) := dk_182 0 45 (dk_at dksX7_isWord_1 6 rfl rfl)
theorem dX7_isWord_33 : decode cX7_isWord 33 = .ok (.if_icmp .ge 33, 3) := dk_162 0 33 (dk_at dksX7_isWord_1 9 rfl rfl)
theorem dX7_isWord_36 : decode cX7_isWord 36 = .ok (.aload_n 0, 1) := dk_42 (dk_at dksX7_isWord_1 12 rfl rfl)
theorem dX7_isWord_37 : decode cX7_isWord 37 = .ok (.getfield 3, 3) := dk_180 0 3 (dk_at dksX7_isWord_1 13 rfl rfl)
theorem dX7_isWord_40 : decode cX7_isWord 40 = .ok (.getfield 22, 3) := dk_180 0 22 (dk_at dksX7_isWord_1 16 rfl rfl)
theorem dX7_isWord_43 : decode cX7_isWord 43 = .ok (.aload_n 0, 1) := dk_42 (dk_at dksX7_isWord_1 19 rfl rfl)
theorem dX7_isWord_44 : decode cX7_isWord 44 = .ok (.getfield 29, 3) := dk_180 0 29 (dk_at dksX7_isWord_1 20 rfl rfl)
theorem dX7_isWord_47 : decode cX7_isWord 47 = .ok (.iload_n 2, 1) := dk_28 (dk_at dksX7_isWord_1 23 rfl rfl)
theorem dX7_isWord_48 : decode cX7_isWord 48 = .ok (.iadd, 1) := dk_96 (dk_at dksX7_isWord_2 0 rfl rfl)
theorem dX7_isWord_49 : decode cX7_isWord 49 = .ok (.baload, 1) := dk_51 (dk_at dksX7_isWord_2 1 rfl rfl)
theorem dX7_isWord_50 : decode cX7_isWord 50 = .ok (.aload_n 1, 1) := dk_43 (dk_at dksX7_isWord_2 2 rfl rfl)
theorem dX7_isWord_51 : decode cX7_isWord 51 = .ok (.iload_n 2, 1) := dk_28 (dk_at dksX7_isWord_2 3 rfl rfl)
theorem dX7_isWord_52 : decode cX7_isWord 52 = .ok (.invokevirtual 51, 3) := dk_182 0 51 (dk_at dksX7_isWord_2 4 rfl rfl)
theorem dX7_isWord_55 : decode cX7_isWord 55 = .ok (.if_icmp .eq 5, 3) := dk_159 0 5 (dk_at dksX7_isWord_2 7 rfl rfl)
theorem dX7_isWord_58 : decode cX7_isWord 58 = .ok (.iconst 0, 1) := dk_3 (dk_at dksX7_isWord_2 10 rfl rfl)
theorem dX7_isWord_59 : decode cX7_isWord 59 = .ok (.ireturn, 1) := dk_172 (dk_at dksX7_isWord_2 11 rfl rfl)
theorem dX7_isWord_60 : decode cX7_isWord 60 = .ok (.iinc 2 1, 3) := dk_132 2 1 (dk_at dksX7_isWord_2 12 rfl rfl)
theorem dX7_isWord_63 : decode cX7_isWord 63 = .ok (.goto (-35), 3) := dk_167 255 221 (dk_at dksX7_isWord_2 15 rfl rfl)
theorem dX7_isWord_66 : decode cX7_isWord 66 = .ok (.iconst 1, 1) := dk_4 (dk_at dksX7_isWord_2 18 rfl rfl)
theorem dX7_isWord_67 : decode cX7_isWord 67 = .ok (.ireturn, 1) := dk_172 (dk_at dksX7_isWord_2 19 rfl rfl)
abbrev cX7_newSmell : ByteArray := prog_9_method_27_code
def yX7_newSmell : MethodName := ⟨RX7, "newSmell", "(LCatWitness$Court;)V"⟩
def dkwX7_newSmell_1 : List UInt8 := [180, 0, 215, 28, 33, 80, 43, 89, 180, 0, 209, 4, 96, 181, 0, 209, 177]
abbrev dktX7_newSmell_1 : List UInt8 := dkwX7_newSmell_1 ++ []
def dkwX7_newSmell_0 : List UInt8 := [43, 180, 0, 209, 61, 42, 43, 28, 8, 162, 0, 7, 4, 167, 0, 4, 3, 182, 0, 211, 66, 43]
abbrev dktX7_newSmell_0 : List UInt8 := dkwX7_newSmell_0 ++ dktX7_newSmell_1
theorem dksX7_newSmell_0 : cX7_newSmell.data.toList.drop 0 = dktX7_newSmell_0 := by decide +kernel
theorem dksX7_newSmell_1 : cX7_newSmell.data.toList.drop 22 = dktX7_newSmell_1 := dk_seg dksX7_newSmell_0 22 rfl rfl
theorem dX7_newSmell_0 : decode cX7_newSmell 0 = .ok (.aload_n 1, 1) := dk_43 (dk_at dksX7_newSmell_0 0 rfl rfl)
theorem dX7_newSmell_1 : decode cX7_newSmell 1 = .ok (.getfield 209, 3) := dk_180 0 209 (dk_at dksX7_newSmell_0 1 rfl rfl)
theorem dX7_newSmell_4 : decode cX7_newSmell 4 = .ok (.istore_n 2, 1) := dk_61 (dk_at dksX7_newSmell_0 4 rfl rfl)
theorem dX7_newSmell_5 : decode cX7_newSmell 5 = .ok (.aload_n 0, 1) := dk_42 (dk_at dksX7_newSmell_0 5 rfl rfl)
theorem dX7_newSmell_6 : decode cX7_newSmell 6 = .ok (.aload_n 1, 1) := dk_43 (dk_at dksX7_newSmell_0 6 rfl rfl)
theorem dX7_newSmell_7 : decode cX7_newSmell 7 = .ok (.iload_n 2, 1) := dk_28 (dk_at dksX7_newSmell_0 7 rfl rfl)
theorem dX7_newSmell_8 : decode cX7_newSmell 8 = .ok (.iconst 5, 1) := dk_8 (dk_at dksX7_newSmell_0 8 rfl rfl)
theorem dX7_newSmell_9 : decode cX7_newSmell 9 = .ok (.if_icmp .ge 7, 3) := dk_162 0 7 (dk_at dksX7_newSmell_0 9 rfl rfl)
theorem dX7_newSmell_12 : decode cX7_newSmell 12 = .ok (.iconst 1, 1) := dk_4 (dk_at dksX7_newSmell_0 12 rfl rfl)
theorem dX7_newSmell_13 : decode cX7_newSmell 13 = .ok (.goto 4, 3) := dk_167 0 4 (dk_at dksX7_newSmell_0 13 rfl rfl)
theorem dX7_newSmell_16 : decode cX7_newSmell 16 = .ok (.iconst 0, 1) := dk_3 (dk_at dksX7_newSmell_0 16 rfl rfl)
theorem dX7_newSmell_17 : decode cX7_newSmell 17 = .ok (.invokevirtual 211, 3) := dk_182 0 211 (dk_at dksX7_newSmell_0 17 rfl rfl)
theorem dX7_newSmell_20 : decode cX7_newSmell 20 = .ok (.lstore_n 3, 1) := dk_66 (dk_at dksX7_newSmell_0 20 rfl rfl)
theorem dX7_newSmell_21 : decode cX7_newSmell 21 = .ok (.aload_n 1, 1) := dk_43 (dk_at dksX7_newSmell_0 21 rfl rfl)
theorem dX7_newSmell_22 : decode cX7_newSmell 22 = .ok (.getfield 215, 3) := dk_180 0 215 (dk_at dksX7_newSmell_1 0 rfl rfl)
theorem dX7_newSmell_25 : decode cX7_newSmell 25 = .ok (.iload_n 2, 1) := dk_28 (dk_at dksX7_newSmell_1 3 rfl rfl)
theorem dX7_newSmell_26 : decode cX7_newSmell 26 = .ok (.lload_n 3, 1) := dk_33 (dk_at dksX7_newSmell_1 4 rfl rfl)
theorem dX7_newSmell_27 : decode cX7_newSmell 27 = .ok (.lastore, 1) := dk_80 (dk_at dksX7_newSmell_1 5 rfl rfl)
theorem dX7_newSmell_28 : decode cX7_newSmell 28 = .ok (.aload_n 1, 1) := dk_43 (dk_at dksX7_newSmell_1 6 rfl rfl)
theorem dX7_newSmell_29 : decode cX7_newSmell 29 = .ok (.dup, 1) := dk_89 (dk_at dksX7_newSmell_1 7 rfl rfl)
theorem dX7_newSmell_30 : decode cX7_newSmell 30 = .ok (.getfield 209, 3) := dk_180 0 209 (dk_at dksX7_newSmell_1 8 rfl rfl)
theorem dX7_newSmell_33 : decode cX7_newSmell 33 = .ok (.iconst 1, 1) := dk_4 (dk_at dksX7_newSmell_1 11 rfl rfl)
theorem dX7_newSmell_34 : decode cX7_newSmell 34 = .ok (.iadd, 1) := dk_96 (dk_at dksX7_newSmell_1 12 rfl rfl)
theorem dX7_newSmell_35 : decode cX7_newSmell 35 = .ok (.putfield 209, 3) := dk_181 0 209 (dk_at dksX7_newSmell_1 13 rfl rfl)
theorem dX7_newSmell_38 : decode cX7_newSmell 38 = .ok (.return_, 1) := dk_177 (dk_at dksX7_newSmell_1 16 rfl rfl)
abbrev cX7_fresh : ByteArray := prog_9_method_21_code
def yX7_fresh : MethodName := ⟨RX7, "fresh", "(LCatWitness$Court;Z)J"⟩
def dkwX7_fresh_2 : List UInt8 := [180, 0, 55, 6, 42, 180, 0, 29, 182, 0, 59, 191, 42, 182, 0, 19, 33, 173]
abbrev dktX7_fresh_2 : List UInt8 := dkwX7_fresh_2 ++ []
def dkwX7_fresh_1 : List UInt8 := [156, 0, 19, 43, 33, 182, 0, 174, 156, 0, 11, 43, 33, 182, 0, 177, 155, 0, 19, 42, 180, 0, 3]
abbrev dktX7_fresh_1 : List UInt8 := dkwX7_fresh_1 ++ dktX7_fresh_2
def dkwX7_fresh_0 : List UInt8 := [42, 28, 182, 0, 157, 42, 182, 0, 161, 66, 43, 33, 182, 0, 165, 156, 0, 27, 43, 33, 182, 0, 171]
abbrev dktX7_fresh_0 : List UInt8 := dkwX7_fresh_0 ++ dktX7_fresh_1
theorem dksX7_fresh_0 : cX7_fresh.data.toList.drop 0 = dktX7_fresh_0 := by decide +kernel
theorem dksX7_fresh_1 : cX7_fresh.data.toList.drop 23 = dktX7_fresh_1 := dk_seg dksX7_fresh_0 23 rfl rfl
theorem dksX7_fresh_2 : cX7_fresh.data.toList.drop 46 = dktX7_fresh_2 := dk_seg dksX7_fresh_1 23 rfl rfl
theorem dX7_fresh_0 : decode cX7_fresh 0 = .ok (.aload_n 0, 1) := dk_42 (dk_at dksX7_fresh_0 0 rfl rfl)
theorem dX7_fresh_1 : decode cX7_fresh 1 = .ok (.iload_n 2, 1) := dk_28 (dk_at dksX7_fresh_0 1 rfl rfl)
theorem dX7_fresh_2 : decode cX7_fresh 2 = .ok (.invokevirtual 157, 3) := dk_182 0 157 (dk_at dksX7_fresh_0 2 rfl rfl)
theorem dX7_fresh_5 : decode cX7_fresh 5 = .ok (.aload_n 0, 1) := dk_42 (dk_at dksX7_fresh_0 5 rfl rfl)
theorem dX7_fresh_6 : decode cX7_fresh 6 = .ok (.invokevirtual 161, 3) := dk_182 0 161 (dk_at dksX7_fresh_0 6 rfl rfl)
theorem dX7_fresh_9 : decode cX7_fresh 9 = .ok (.lstore_n 3, 1) := dk_66 (dk_at dksX7_fresh_0 9 rfl rfl)
theorem dX7_fresh_10 : decode cX7_fresh 10 = .ok (.aload_n 1, 1) := dk_43 (dk_at dksX7_fresh_0 10 rfl rfl)
theorem dX7_fresh_11 : decode cX7_fresh 11 = .ok (.lload_n 3, 1) := dk_33 (dk_at dksX7_fresh_0 11 rfl rfl)
theorem dX7_fresh_12 : decode cX7_fresh 12 = .ok (.invokevirtual 165, 3) := dk_182 0 165 (dk_at dksX7_fresh_0 12 rfl rfl)
theorem dX7_fresh_15 : decode cX7_fresh 15 = .ok (.ifCond .ge 27, 3) := dk_156 0 27 (dk_at dksX7_fresh_0 15 rfl rfl)
theorem dX7_fresh_18 : decode cX7_fresh 18 = .ok (.aload_n 1, 1) := dk_43 (dk_at dksX7_fresh_0 18 rfl rfl)
theorem dX7_fresh_19 : decode cX7_fresh 19 = .ok (.lload_n 3, 1) := dk_33 (dk_at dksX7_fresh_0 19 rfl rfl)
theorem dX7_fresh_20 : decode cX7_fresh 20 = .ok (.invokevirtual 171, 3) := dk_182 0 171 (dk_at dksX7_fresh_0 20 rfl rfl)
theorem dX7_fresh_23 : decode cX7_fresh 23 = .ok (.ifCond .ge 19, 3) := dk_156 0 19 (dk_at dksX7_fresh_1 0 rfl rfl)
theorem dX7_fresh_26 : decode cX7_fresh 26 = .ok (.aload_n 1, 1) := dk_43 (dk_at dksX7_fresh_1 3 rfl rfl)
theorem dX7_fresh_27 : decode cX7_fresh 27 = .ok (.lload_n 3, 1) := dk_33 (dk_at dksX7_fresh_1 4 rfl rfl)
theorem dX7_fresh_28 : decode cX7_fresh 28 = .ok (.invokevirtual 174, 3) := dk_182 0 174 (dk_at dksX7_fresh_1 5 rfl rfl)
theorem dX7_fresh_31 : decode cX7_fresh 31 = .ok (.ifCond .ge 11, 3) := dk_156 0 11 (dk_at dksX7_fresh_1 8 rfl rfl)
theorem dX7_fresh_34 : decode cX7_fresh 34 = .ok (.aload_n 1, 1) := dk_43 (dk_at dksX7_fresh_1 11 rfl rfl)
theorem dX7_fresh_35 : decode cX7_fresh 35 = .ok (.lload_n 3, 1) := dk_33 (dk_at dksX7_fresh_1 12 rfl rfl)
theorem dX7_fresh_36 : decode cX7_fresh 36 = .ok (.invokevirtual 177, 3) := dk_182 0 177 (dk_at dksX7_fresh_1 13 rfl rfl)
theorem dX7_fresh_39 : decode cX7_fresh 39 = .ok (.ifCond .lt 19, 3) := dk_155 0 19 (dk_at dksX7_fresh_1 16 rfl rfl)
theorem dX7_fresh_42 : decode cX7_fresh 42 = .ok (.aload_n 0, 1) := dk_42 (dk_at dksX7_fresh_1 19 rfl rfl)
theorem dX7_fresh_43 : decode cX7_fresh 43 = .ok (.getfield 3, 3) := dk_180 0 3 (dk_at dksX7_fresh_1 20 rfl rfl)
theorem dX7_fresh_46 : decode cX7_fresh 46 = .ok (.getfield 55, 3) := dk_180 0 55 (dk_at dksX7_fresh_2 0 rfl rfl)
theorem dX7_fresh_49 : decode cX7_fresh 49 = .ok (.iconst 3, 1) := dk_6 (dk_at dksX7_fresh_2 3 rfl rfl)
theorem dX7_fresh_50 : decode cX7_fresh 50 = .ok (.aload_n 0, 1) := dk_42 (dk_at dksX7_fresh_2 4 rfl rfl)
theorem dX7_fresh_51 : decode cX7_fresh 51 = .ok (.getfield 29, 3) := dk_180 0 29 (dk_at dksX7_fresh_2 5 rfl rfl)
theorem dX7_fresh_54 : decode cX7_fresh 54 = .ok (.invokevirtual 59, 3) := dk_182 0 59 (dk_at dksX7_fresh_2 8 rfl rfl)
theorem dX7_fresh_57 : decode cX7_fresh 57 = .ok (.athrow, 1) := dk_191 (dk_at dksX7_fresh_2 11 rfl rfl)
theorem dX7_fresh_58 : decode cX7_fresh 58 = .ok (.aload_n 0, 1) := dk_42 (dk_at dksX7_fresh_2 12 rfl rfl)
theorem dX7_fresh_59 : decode cX7_fresh 59 = .ok (.invokevirtual 19, 3) := dk_182 0 19 (dk_at dksX7_fresh_2 13 rfl rfl)
theorem dX7_fresh_62 : decode cX7_fresh 62 = .ok (.lload_n 3, 1) := dk_33 (dk_at dksX7_fresh_2 16 rfl rfl)
theorem dX7_fresh_63 : decode cX7_fresh 63 = .ok (.lreturn, 1) := dk_173 (dk_at dksX7_fresh_2 17 rfl rfl)
abbrev cX7_room : ByteArray := prog_9_method_20_code
def yX7_room : MethodName := ⟨RX7, "room", "(Z)V"⟩
def dkwX7_room_1 : List UInt8 := [182, 0, 19, 177]
abbrev dktX7_room_1 : List UInt8 := dkwX7_room_1 ++ []
def dkwX7_room_0 : List UInt8 := [27, 154, 0, 20, 42, 180, 0, 3, 180, 0, 55, 16, 6, 42, 180, 0, 29, 182, 0, 59, 191, 42]
abbrev dktX7_room_0 : List UInt8 := dkwX7_room_0 ++ dktX7_room_1
theorem dksX7_room_0 : cX7_room.data.toList.drop 0 = dktX7_room_0 := by decide +kernel
theorem dksX7_room_1 : cX7_room.data.toList.drop 22 = dktX7_room_1 := dk_seg dksX7_room_0 22 rfl rfl
theorem dX7_room_0 : decode cX7_room 0 = .ok (.iload_n 1, 1) := dk_27 (dk_at dksX7_room_0 0 rfl rfl)
theorem dX7_room_1 : decode cX7_room 1 = .ok (.ifCond .ne 20, 3) := dk_154 0 20 (dk_at dksX7_room_0 1 rfl rfl)
theorem dX7_room_4 : decode cX7_room 4 = .ok (.aload_n 0, 1) := dk_42 (dk_at dksX7_room_0 4 rfl rfl)
theorem dX7_room_5 : decode cX7_room 5 = .ok (.getfield 3, 3) := dk_180 0 3 (dk_at dksX7_room_0 5 rfl rfl)
theorem dX7_room_8 : decode cX7_room 8 = .ok (.getfield 55, 3) := dk_180 0 55 (dk_at dksX7_room_0 8 rfl rfl)
theorem dX7_room_11 : decode cX7_room 11 = .ok (.bipush 6, 2) := dk_16 6 (dk_at dksX7_room_0 11 rfl rfl)
theorem dX7_room_13 : decode cX7_room 13 = .ok (.aload_n 0, 1) := dk_42 (dk_at dksX7_room_0 13 rfl rfl)
theorem dX7_room_14 : decode cX7_room 14 = .ok (.getfield 29, 3) := dk_180 0 29 (dk_at dksX7_room_0 14 rfl rfl)
theorem dX7_room_17 : decode cX7_room 17 = .ok (.invokevirtual 59, 3) := dk_182 0 59 (dk_at dksX7_room_0 17 rfl rfl)
theorem dX7_room_20 : decode cX7_room 20 = .ok (.athrow, 1) := dk_191 (dk_at dksX7_room_0 20 rfl rfl)
theorem dX7_room_21 : decode cX7_room 21 = .ok (.aload_n 0, 1) := dk_42 (dk_at dksX7_room_0 21 rfl rfl)
theorem dX7_room_22 : decode cX7_room 22 = .ok (.invokevirtual 19, 3) := dk_182 0 19 (dk_at dksX7_room_1 0 rfl rfl)
theorem dX7_room_25 : decode cX7_room 25 = .ok (.return_, 1) := dk_177 (dk_at dksX7_room_1 3 rfl rfl)
abbrev cX7_name : ByteArray := prog_9_method_19_code
def yX7_name : MethodName := ⟨RX7, "name", "()J"⟩
def dkwX7_name_3 : List UInt8 := [132, 3, 1, 167, 255, 224, 31, 173]
abbrev dktX7_name_3 : List UInt8 := dkwX7_name_3 ++ []
def dkwX7_name_2 : List UInt8 := [162, 0, 30, 31, 20, 0, 153, 105, 42, 180, 0, 3, 180, 0, 22, 29, 51, 133, 97, 20, 0, 155, 101, 64]
abbrev dktX7_name_2 : List UInt8 := dkwX7_name_2 ++ dktX7_name_3
def dkwX7_name_1 : List UInt8 := [182, 0, 149, 153, 0, 8, 42, 182, 0, 68, 191, 9, 64, 42, 180, 0, 29, 62, 29, 42, 180, 0, 26]
abbrev dktX7_name_1 : List UInt8 := dkwX7_name_1 ++ dktX7_name_2
def dkwX7_name_0 : List UInt8 := [42, 180, 0, 32, 4, 160, 0, 24, 42, 180, 0, 26, 42, 180, 0, 29, 100, 16, 8, 163, 0, 10, 42]
abbrev dktX7_name_0 : List UInt8 := dkwX7_name_0 ++ dktX7_name_1
theorem dksX7_name_0 : cX7_name.data.toList.drop 0 = dktX7_name_0 := by decide +kernel
theorem dksX7_name_1 : cX7_name.data.toList.drop 23 = dktX7_name_1 := dk_seg dksX7_name_0 23 rfl rfl
theorem dksX7_name_2 : cX7_name.data.toList.drop 46 = dktX7_name_2 := dk_seg dksX7_name_1 23 rfl rfl
theorem dksX7_name_3 : cX7_name.data.toList.drop 70 = dktX7_name_3 := dk_seg dksX7_name_2 24 rfl rfl
theorem dX7_name_0 : decode cX7_name 0 = .ok (.aload_n 0, 1) := dk_42 (dk_at dksX7_name_0 0 rfl rfl)
theorem dX7_name_1 : decode cX7_name 1 = .ok (.getfield 32, 3) := dk_180 0 32 (dk_at dksX7_name_0 1 rfl rfl)
theorem dX7_name_4 : decode cX7_name 4 = .ok (.iconst 1, 1) := dk_4 (dk_at dksX7_name_0 4 rfl rfl)
theorem dX7_name_5 : decode cX7_name 5 = .ok (.if_icmp .ne 24, 3) := dk_160 0 24 (dk_at dksX7_name_0 5 rfl rfl)
theorem dX7_name_8 : decode cX7_name 8 = .ok (.aload_n 0, 1) := dk_42 (dk_at dksX7_name_0 8 rfl rfl)
theorem dX7_name_9 : decode cX7_name 9 = .ok (.getfield 26, 3) := dk_180 0 26 (dk_at dksX7_name_0 9 rfl rfl)
theorem dX7_name_12 : decode cX7_name 12 = .ok (.aload_n 0, 1) := dk_42 (dk_at dksX7_name_0 12 rfl rfl)
theorem dX7_name_13 : decode cX7_name 13 = .ok (.getfield 29, 3) := dk_180 0 29 (dk_at dksX7_name_0 13 rfl rfl)
theorem dX7_name_16 : decode cX7_name 16 = .ok (.isub, 1) := dk_100 (dk_at dksX7_name_0 16 rfl rfl)
theorem dX7_name_17 : decode cX7_name 17 = .ok (.bipush 8, 2) := dk_16 8 (dk_at dksX7_name_0 17 rfl rfl)
theorem dX7_name_19 : decode cX7_name 19 = .ok (.if_icmp .gt 10, 3) := dk_163 0 10 (dk_at dksX7_name_0 19 rfl rfl)
theorem dX7_name_22 : decode cX7_name 22 = .ok (.aload_n 0, 1) := dk_42 (dk_at dksX7_name_0 22 rfl rfl)
theorem dX7_name_23 : decode cX7_name 23 = .ok (.invokevirtual 149, 3) := dk_182 0 149 (dk_at dksX7_name_1 0 rfl rfl)
theorem dX7_name_26 : decode cX7_name 26 = .ok (.ifCond .eq 8, 3) := dk_153 0 8 (dk_at dksX7_name_1 3 rfl rfl)
theorem dX7_name_29 : decode cX7_name 29 = .ok (.aload_n 0, 1) := dk_42 (dk_at dksX7_name_1 6 rfl rfl)
theorem dX7_name_30 : decode cX7_name 30 = .ok (.invokevirtual 68, 3) := dk_182 0 68 (dk_at dksX7_name_1 7 rfl rfl)
theorem dX7_name_33 : decode cX7_name 33 = .ok (.athrow, 1) := dk_191 (dk_at dksX7_name_1 10 rfl rfl)
theorem dX7_name_34 : decode cX7_name 34 = .ok (.lconst 0, 1) := dk_9 (dk_at dksX7_name_1 11 rfl rfl)
theorem dX7_name_35 : decode cX7_name 35 = .ok (.lstore_n 1, 1) := dk_64 (dk_at dksX7_name_1 12 rfl rfl)
theorem dX7_name_36 : decode cX7_name 36 = .ok (.aload_n 0, 1) := dk_42 (dk_at dksX7_name_1 13 rfl rfl)
theorem dX7_name_37 : decode cX7_name 37 = .ok (.getfield 29, 3) := dk_180 0 29 (dk_at dksX7_name_1 14 rfl rfl)
theorem dX7_name_40 : decode cX7_name 40 = .ok (.istore_n 3, 1) := dk_62 (dk_at dksX7_name_1 17 rfl rfl)
theorem dX7_name_41 : decode cX7_name 41 = .ok (.iload_n 3, 1) := dk_29 (dk_at dksX7_name_1 18 rfl rfl)
theorem dX7_name_42 : decode cX7_name 42 = .ok (.aload_n 0, 1) := dk_42 (dk_at dksX7_name_1 19 rfl rfl)
theorem dX7_name_43 : decode cX7_name 43 = .ok (.getfield 26, 3) := dk_180 0 26 (dk_at dksX7_name_1 20 rfl rfl)
theorem dX7_name_46 : decode cX7_name 46 = .ok (.if_icmp .ge 30, 3) := dk_162 0 30 (dk_at dksX7_name_2 0 rfl rfl)
theorem dX7_name_49 : decode cX7_name 49 = .ok (.lload_n 1, 1) := dk_31 (dk_at dksX7_name_2 3 rfl rfl)
theorem dX7_name_50 : decode cX7_name 50 = .ok (.ldc2_w 153, 3) := dk_20 0 153 (dk_at dksX7_name_2 4 rfl rfl)
theorem dX7_name_53 : decode cX7_name 53 = .ok (.lmul, 1) := dk_105 (dk_at dksX7_name_2 7 rfl rfl)
theorem dX7_name_54 : decode cX7_name 54 = .ok (.aload_n 0, 1) := dk_42 (dk_at dksX7_name_2 8 rfl rfl)
theorem dX7_name_55 : decode cX7_name 55 = .ok (.getfield 3, 3) := dk_180 0 3 (dk_at dksX7_name_2 9 rfl rfl)
theorem dX7_name_58 : decode cX7_name 58 = .ok (.getfield 22, 3) := dk_180 0 22 (dk_at dksX7_name_2 12 rfl rfl)
theorem dX7_name_61 : decode cX7_name 61 = .ok (.iload_n 3, 1) := dk_29 (dk_at dksX7_name_2 15 rfl rfl)
theorem dX7_name_62 : decode cX7_name 62 = .ok (.baload, 1) := dk_51 (dk_at dksX7_name_2 16 rfl rfl)
theorem dX7_name_63 : decode cX7_name 63 = .ok (.i2l, 1) := dk_133 (dk_at dksX7_name_2 17 rfl rfl)
theorem dX7_name_64 : decode cX7_name 64 = .ok (.ladd, 1) := dk_97 (dk_at dksX7_name_2 18 rfl rfl)
theorem dX7_name_65 : decode cX7_name 65 = .ok (.ldc2_w 155, 3) := dk_20 0 155 (dk_at dksX7_name_2 19 rfl rfl)
theorem dX7_name_68 : decode cX7_name 68 = .ok (.lsub, 1) := dk_101 (dk_at dksX7_name_2 22 rfl rfl)
theorem dX7_name_69 : decode cX7_name 69 = .ok (.lstore_n 1, 1) := dk_64 (dk_at dksX7_name_2 23 rfl rfl)
theorem dX7_name_70 : decode cX7_name 70 = .ok (.iinc 3 1, 3) := dk_132 3 1 (dk_at dksX7_name_3 0 rfl rfl)
theorem dX7_name_73 : decode cX7_name 73 = .ok (.goto (-32), 3) := dk_167 255 224 (dk_at dksX7_name_3 3 rfl rfl)
theorem dX7_name_76 : decode cX7_name 76 = .ok (.lload_n 1, 1) := dk_31 (dk_at dksX7_name_3 6 rfl rfl)
theorem dX7_name_77 : decode cX7_name 77 = .ok (.lreturn, 1) := dk_173 (dk_at dksX7_name_3 7 rfl rfl)
abbrev cX7_isKept : ByteArray := prog_9_method_18_code
def yX7_isKept : MethodName := ⟨RX7, "isKept", "()Z"⟩
def dkwX7_isKept_6 : List UInt8 := [42, 182, 0, 143, 156, 0, 10, 42, 182, 0, 146, 155, 0, 7, 4, 167, 0, 4, 3, 172]
abbrev dktX7_isKept_6 : List UInt8 := dkwX7_isKept_6 ++ []
def dkwX7_isKept_5 : List UInt8 := [182, 0, 72, 154, 0, 35, 42, 18, 139, 182, 0, 72, 154, 0, 26, 42, 18, 141, 182, 0, 72, 154, 0, 17]
abbrev dktX7_isKept_5 : List UInt8 := dkwX7_isKept_5 ++ dktX7_isKept_6
def dkwX7_isKept_4 : List UInt8 := [27, 154, 0, 60, 42, 18, 136, 182, 0, 72, 154, 0, 51, 42, 182, 0, 89, 156, 0, 44, 42, 18, 137]
abbrev dktX7_isKept_4 : List UInt8 := dkwX7_isKept_4 ++ dktX7_isKept_5
def dkwX7_isKept_3 : List UInt8 := [42, 18, 132, 182, 0, 72, 154, 0, 12, 42, 18, 134, 182, 0, 72, 153, 0, 7, 4, 167, 0, 4, 3, 60]
abbrev dktX7_isKept_3 : List UInt8 := dkwX7_isKept_3 ++ dktX7_isKept_4
def dkwX7_isKept_2 : List UInt8 := [182, 0, 72, 154, 0, 39, 42, 18, 128, 182, 0, 72, 154, 0, 30, 42, 18, 130, 182, 0, 72, 154, 0, 21]
abbrev dktX7_isKept_2 : List UInt8 := dkwX7_isKept_2 ++ dktX7_isKept_3
def dkwX7_isKept_1 : List UInt8 := [154, 0, 66, 42, 18, 122, 182, 0, 72, 154, 0, 57, 42, 18, 124, 182, 0, 72, 154, 0, 48, 42, 18, 126]
abbrev dktX7_isKept_1 : List UInt8 := dkwX7_isKept_1 ++ dktX7_isKept_2
def dkwX7_isKept_0 : List UInt8 := [42, 18, 116, 182, 0, 72, 154, 0, 84, 42, 18, 118, 182, 0, 72, 154, 0, 75, 42, 18, 120, 182, 0, 72]
abbrev dktX7_isKept_0 : List UInt8 := dkwX7_isKept_0 ++ dktX7_isKept_1
theorem dksX7_isKept_0 : cX7_isKept.data.toList.drop 0 = dktX7_isKept_0 := by decide +kernel
theorem dksX7_isKept_1 : cX7_isKept.data.toList.drop 24 = dktX7_isKept_1 := dk_seg dksX7_isKept_0 24 rfl rfl
theorem dksX7_isKept_2 : cX7_isKept.data.toList.drop 48 = dktX7_isKept_2 := dk_seg dksX7_isKept_1 24 rfl rfl
theorem dksX7_isKept_3 : cX7_isKept.data.toList.drop 72 = dktX7_isKept_3 := dk_seg dksX7_isKept_2 24 rfl rfl
theorem dksX7_isKept_4 : cX7_isKept.data.toList.drop 96 = dktX7_isKept_4 := dk_seg dksX7_isKept_3 24 rfl rfl
theorem dksX7_isKept_5 : cX7_isKept.data.toList.drop 119 = dktX7_isKept_5 := dk_seg dksX7_isKept_4 23 rfl rfl
theorem dksX7_isKept_6 : cX7_isKept.data.toList.drop 143 = dktX7_isKept_6 := dk_seg dksX7_isKept_5 24 rfl rfl
theorem dX7_isKept_0 : decode cX7_isKept 0 = .ok (.aload_n 0, 1) := dk_42 (dk_at dksX7_isKept_0 0 rfl rfl)
theorem dX7_isKept_1 : decode cX7_isKept 1 = .ok (.ldc 116, 2) := dk_18 116 (dk_at dksX7_isKept_0 1 rfl rfl)
theorem dX7_isKept_3 : decode cX7_isKept 3 = .ok (.invokevirtual 72, 3) := dk_182 0 72 (dk_at dksX7_isKept_0 3 rfl rfl)
theorem dX7_isKept_6 : decode cX7_isKept 6 = .ok (.ifCond .ne 84, 3) := dk_154 0 84 (dk_at dksX7_isKept_0 6 rfl rfl)
theorem dX7_isKept_9 : decode cX7_isKept 9 = .ok (.aload_n 0, 1) := dk_42 (dk_at dksX7_isKept_0 9 rfl rfl)
theorem dX7_isKept_10 : decode cX7_isKept 10 = .ok (.ldc 118, 2) := dk_18 118 (dk_at dksX7_isKept_0 10 rfl rfl)
theorem dX7_isKept_12 : decode cX7_isKept 12 = .ok (.invokevirtual 72, 3) := dk_182 0 72 (dk_at dksX7_isKept_0 12 rfl rfl)
theorem dX7_isKept_15 : decode cX7_isKept 15 = .ok (.ifCond .ne 75, 3) := dk_154 0 75 (dk_at dksX7_isKept_0 15 rfl rfl)
theorem dX7_isKept_18 : decode cX7_isKept 18 = .ok (.aload_n 0, 1) := dk_42 (dk_at dksX7_isKept_0 18 rfl rfl)
theorem dX7_isKept_19 : decode cX7_isKept 19 = .ok (.ldc 120, 2) := dk_18 120 (dk_at dksX7_isKept_0 19 rfl rfl)
theorem dX7_isKept_21 : decode cX7_isKept 21 = .ok (.invokevirtual 72, 3) := dk_182 0 72 (dk_at dksX7_isKept_0 21 rfl rfl)
theorem dX7_isKept_24 : decode cX7_isKept 24 = .ok (.ifCond .ne 66, 3) := dk_154 0 66 (dk_at dksX7_isKept_1 0 rfl rfl)
theorem dX7_isKept_27 : decode cX7_isKept 27 = .ok (.aload_n 0, 1) := dk_42 (dk_at dksX7_isKept_1 3 rfl rfl)
theorem dX7_isKept_28 : decode cX7_isKept 28 = .ok (.ldc 122, 2) := dk_18 122 (dk_at dksX7_isKept_1 4 rfl rfl)
theorem dX7_isKept_30 : decode cX7_isKept 30 = .ok (.invokevirtual 72, 3) := dk_182 0 72 (dk_at dksX7_isKept_1 6 rfl rfl)
theorem dX7_isKept_33 : decode cX7_isKept 33 = .ok (.ifCond .ne 57, 3) := dk_154 0 57 (dk_at dksX7_isKept_1 9 rfl rfl)
theorem dX7_isKept_36 : decode cX7_isKept 36 = .ok (.aload_n 0, 1) := dk_42 (dk_at dksX7_isKept_1 12 rfl rfl)
theorem dX7_isKept_37 : decode cX7_isKept 37 = .ok (.ldc 124, 2) := dk_18 124 (dk_at dksX7_isKept_1 13 rfl rfl)
theorem dX7_isKept_39 : decode cX7_isKept 39 = .ok (.invokevirtual 72, 3) := dk_182 0 72 (dk_at dksX7_isKept_1 15 rfl rfl)
theorem dX7_isKept_42 : decode cX7_isKept 42 = .ok (.ifCond .ne 48, 3) := dk_154 0 48 (dk_at dksX7_isKept_1 18 rfl rfl)
theorem dX7_isKept_45 : decode cX7_isKept 45 = .ok (.aload_n 0, 1) := dk_42 (dk_at dksX7_isKept_1 21 rfl rfl)
theorem dX7_isKept_46 : decode cX7_isKept 46 = .ok (.ldc 126, 2) := dk_18 126 (dk_at dksX7_isKept_1 22 rfl rfl)
theorem dX7_isKept_48 : decode cX7_isKept 48 = .ok (.invokevirtual 72, 3) := dk_182 0 72 (dk_at dksX7_isKept_2 0 rfl rfl)
theorem dX7_isKept_51 : decode cX7_isKept 51 = .ok (.ifCond .ne 39, 3) := dk_154 0 39 (dk_at dksX7_isKept_2 3 rfl rfl)
theorem dX7_isKept_54 : decode cX7_isKept 54 = .ok (.aload_n 0, 1) := dk_42 (dk_at dksX7_isKept_2 6 rfl rfl)
theorem dX7_isKept_55 : decode cX7_isKept 55 = .ok (.ldc 128, 2) := dk_18 128 (dk_at dksX7_isKept_2 7 rfl rfl)
theorem dX7_isKept_57 : decode cX7_isKept 57 = .ok (.invokevirtual 72, 3) := dk_182 0 72 (dk_at dksX7_isKept_2 9 rfl rfl)
theorem dX7_isKept_60 : decode cX7_isKept 60 = .ok (.ifCond .ne 30, 3) := dk_154 0 30 (dk_at dksX7_isKept_2 12 rfl rfl)
theorem dX7_isKept_63 : decode cX7_isKept 63 = .ok (.aload_n 0, 1) := dk_42 (dk_at dksX7_isKept_2 15 rfl rfl)
theorem dX7_isKept_64 : decode cX7_isKept 64 = .ok (.ldc 130, 2) := dk_18 130 (dk_at dksX7_isKept_2 16 rfl rfl)
theorem dX7_isKept_66 : decode cX7_isKept 66 = .ok (.invokevirtual 72, 3) := dk_182 0 72 (dk_at dksX7_isKept_2 18 rfl rfl)
theorem dX7_isKept_69 : decode cX7_isKept 69 = .ok (.ifCond .ne 21, 3) := dk_154 0 21 (dk_at dksX7_isKept_2 21 rfl rfl)
theorem dX7_isKept_72 : decode cX7_isKept 72 = .ok (.aload_n 0, 1) := dk_42 (dk_at dksX7_isKept_3 0 rfl rfl)
theorem dX7_isKept_73 : decode cX7_isKept 73 = .ok (.ldc 132, 2) := dk_18 132 (dk_at dksX7_isKept_3 1 rfl rfl)
theorem dX7_isKept_75 : decode cX7_isKept 75 = .ok (.invokevirtual 72, 3) := dk_182 0 72 (dk_at dksX7_isKept_3 3 rfl rfl)
theorem dX7_isKept_78 : decode cX7_isKept 78 = .ok (.ifCond .ne 12, 3) := dk_154 0 12 (dk_at dksX7_isKept_3 6 rfl rfl)
theorem dX7_isKept_81 : decode cX7_isKept 81 = .ok (.aload_n 0, 1) := dk_42 (dk_at dksX7_isKept_3 9 rfl rfl)
theorem dX7_isKept_82 : decode cX7_isKept 82 = .ok (.ldc 134, 2) := dk_18 134 (dk_at dksX7_isKept_3 10 rfl rfl)
theorem dX7_isKept_84 : decode cX7_isKept 84 = .ok (.invokevirtual 72, 3) := dk_182 0 72 (dk_at dksX7_isKept_3 12 rfl rfl)
theorem dX7_isKept_87 : decode cX7_isKept 87 = .ok (.ifCond .eq 7, 3) := dk_153 0 7 (dk_at dksX7_isKept_3 15 rfl rfl)
theorem dX7_isKept_90 : decode cX7_isKept 90 = .ok (.iconst 1, 1) := dk_4 (dk_at dksX7_isKept_3 18 rfl rfl)
theorem dX7_isKept_91 : decode cX7_isKept 91 = .ok (.goto 4, 3) := dk_167 0 4 (dk_at dksX7_isKept_3 19 rfl rfl)
theorem dX7_isKept_94 : decode cX7_isKept 94 = .ok (.iconst 0, 1) := dk_3 (dk_at dksX7_isKept_3 22 rfl rfl)
theorem dX7_isKept_95 : decode cX7_isKept 95 = .ok (.istore_n 1, 1) := dk_60 (dk_at dksX7_isKept_3 23 rfl rfl)
theorem dX7_isKept_96 : decode cX7_isKept 96 = .ok (.iload_n 1, 1) := dk_27 (dk_at dksX7_isKept_4 0 rfl rfl)
theorem dX7_isKept_97 : decode cX7_isKept 97 = .ok (.ifCond .ne 60, 3) := dk_154 0 60 (dk_at dksX7_isKept_4 1 rfl rfl)
theorem dX7_isKept_100 : decode cX7_isKept 100 = .ok (.aload_n 0, 1) := dk_42 (dk_at dksX7_isKept_4 4 rfl rfl)
theorem dX7_isKept_101 : decode cX7_isKept 101 = .ok (.ldc 136, 2) := dk_18 136 (dk_at dksX7_isKept_4 5 rfl rfl)
theorem dX7_isKept_103 : decode cX7_isKept 103 = .ok (.invokevirtual 72, 3) := dk_182 0 72 (dk_at dksX7_isKept_4 7 rfl rfl)
theorem dX7_isKept_106 : decode cX7_isKept 106 = .ok (.ifCond .ne 51, 3) := dk_154 0 51 (dk_at dksX7_isKept_4 10 rfl rfl)
theorem dX7_isKept_109 : decode cX7_isKept 109 = .ok (.aload_n 0, 1) := dk_42 (dk_at dksX7_isKept_4 13 rfl rfl)
theorem dX7_isKept_110 : decode cX7_isKept 110 = .ok (.invokevirtual 89, 3) := dk_182 0 89 (dk_at dksX7_isKept_4 14 rfl rfl)
theorem dX7_isKept_113 : decode cX7_isKept 113 = .ok (.ifCond .ge 44, 3) := dk_156 0 44 (dk_at dksX7_isKept_4 17 rfl rfl)
theorem dX7_isKept_116 : decode cX7_isKept 116 = .ok (.aload_n 0, 1) := dk_42 (dk_at dksX7_isKept_4 20 rfl rfl)
theorem dX7_isKept_117 : decode cX7_isKept 117 = .ok (.ldc 137, 2) := dk_18 137 (dk_at dksX7_isKept_4 21 rfl rfl)
theorem dX7_isKept_119 : decode cX7_isKept 119 = .ok (.invokevirtual 72, 3) := dk_182 0 72 (dk_at dksX7_isKept_5 0 rfl rfl)
theorem dX7_isKept_122 : decode cX7_isKept 122 = .ok (.ifCond .ne 35, 3) := dk_154 0 35 (dk_at dksX7_isKept_5 3 rfl rfl)
theorem dX7_isKept_125 : decode cX7_isKept 125 = .ok (.aload_n 0, 1) := dk_42 (dk_at dksX7_isKept_5 6 rfl rfl)
theorem dX7_isKept_126 : decode cX7_isKept 126 = .ok (.ldc 139, 2) := dk_18 139 (dk_at dksX7_isKept_5 7 rfl rfl)
theorem dX7_isKept_128 : decode cX7_isKept 128 = .ok (.invokevirtual 72, 3) := dk_182 0 72 (dk_at dksX7_isKept_5 9 rfl rfl)
theorem dX7_isKept_131 : decode cX7_isKept 131 = .ok (.ifCond .ne 26, 3) := dk_154 0 26 (dk_at dksX7_isKept_5 12 rfl rfl)
theorem dX7_isKept_134 : decode cX7_isKept 134 = .ok (.aload_n 0, 1) := dk_42 (dk_at dksX7_isKept_5 15 rfl rfl)
theorem dX7_isKept_135 : decode cX7_isKept 135 = .ok (.ldc 141, 2) := dk_18 141 (dk_at dksX7_isKept_5 16 rfl rfl)
theorem dX7_isKept_137 : decode cX7_isKept 137 = .ok (.invokevirtual 72, 3) := dk_182 0 72 (dk_at dksX7_isKept_5 18 rfl rfl)
theorem dX7_isKept_140 : decode cX7_isKept 140 = .ok (.ifCond .ne 17, 3) := dk_154 0 17 (dk_at dksX7_isKept_5 21 rfl rfl)
theorem dX7_isKept_143 : decode cX7_isKept 143 = .ok (.aload_n 0, 1) := dk_42 (dk_at dksX7_isKept_6 0 rfl rfl)
theorem dX7_isKept_144 : decode cX7_isKept 144 = .ok (.invokevirtual 143, 3) := dk_182 0 143 (dk_at dksX7_isKept_6 1 rfl rfl)
theorem dX7_isKept_147 : decode cX7_isKept 147 = .ok (.ifCond .ge 10, 3) := dk_156 0 10 (dk_at dksX7_isKept_6 4 rfl rfl)
theorem dX7_isKept_150 : decode cX7_isKept 150 = .ok (.aload_n 0, 1) := dk_42 (dk_at dksX7_isKept_6 7 rfl rfl)
theorem dX7_isKept_151 : decode cX7_isKept 151 = .ok (.invokevirtual 146, 3) := dk_182 0 146 (dk_at dksX7_isKept_6 8 rfl rfl)
theorem dX7_isKept_154 : decode cX7_isKept 154 = .ok (.ifCond .lt 7, 3) := dk_155 0 7 (dk_at dksX7_isKept_6 11 rfl rfl)
theorem dX7_isKept_157 : decode cX7_isKept 157 = .ok (.iconst 1, 1) := dk_4 (dk_at dksX7_isKept_6 14 rfl rfl)
theorem dX7_isKept_158 : decode cX7_isKept 158 = .ok (.goto 4, 3) := dk_167 0 4 (dk_at dksX7_isKept_6 15 rfl rfl)
theorem dX7_isKept_161 : decode cX7_isKept 161 = .ok (.iconst 0, 1) := dk_3 (dk_at dksX7_isKept_6 18 rfl rfl)
theorem dX7_isKept_162 : decode cX7_isKept 162 = .ok (.ireturn, 1) := dk_172 (dk_at dksX7_isKept_6 19 rfl rfl)
abbrev cX7_senses : ByteArray := prog_9_method_13_code
def yX7_senses : MethodName := ⟨RX7, "senses", "()I"⟩
def dkwX7_senses_1 : List UInt8 := [167, 0, 17, 42, 18, 87, 182, 0, 72, 153, 0, 7, 5, 167, 0, 4, 2, 172]
abbrev dktX7_senses_1 : List UInt8 := dkwX7_senses_1 ++ []
def dkwX7_senses_0 : List UInt8 := [42, 18, 83, 182, 0, 72, 153, 0, 7, 3, 167, 0, 30, 42, 18, 85, 182, 0, 72, 153, 0, 7, 4]
abbrev dktX7_senses_0 : List UInt8 := dkwX7_senses_0 ++ dktX7_senses_1
theorem dksX7_senses_0 : cX7_senses.data.toList.drop 0 = dktX7_senses_0 := by decide +kernel
theorem dksX7_senses_1 : cX7_senses.data.toList.drop 23 = dktX7_senses_1 := dk_seg dksX7_senses_0 23 rfl rfl
theorem dX7_senses_0 : decode cX7_senses 0 = .ok (.aload_n 0, 1) := dk_42 (dk_at dksX7_senses_0 0 rfl rfl)
theorem dX7_senses_1 : decode cX7_senses 1 = .ok (.ldc 83, 2) := dk_18 83 (dk_at dksX7_senses_0 1 rfl rfl)
theorem dX7_senses_3 : decode cX7_senses 3 = .ok (.invokevirtual 72, 3) := dk_182 0 72 (dk_at dksX7_senses_0 3 rfl rfl)
theorem dX7_senses_6 : decode cX7_senses 6 = .ok (.ifCond .eq 7, 3) := dk_153 0 7 (dk_at dksX7_senses_0 6 rfl rfl)
theorem dX7_senses_9 : decode cX7_senses 9 = .ok (.iconst 0, 1) := dk_3 (dk_at dksX7_senses_0 9 rfl rfl)
theorem dX7_senses_10 : decode cX7_senses 10 = .ok (.goto 30, 3) := dk_167 0 30 (dk_at dksX7_senses_0 10 rfl rfl)
theorem dX7_senses_13 : decode cX7_senses 13 = .ok (.aload_n 0, 1) := dk_42 (dk_at dksX7_senses_0 13 rfl rfl)
theorem dX7_senses_14 : decode cX7_senses 14 = .ok (.ldc 85, 2) := dk_18 85 (dk_at dksX7_senses_0 14 rfl rfl)
theorem dX7_senses_16 : decode cX7_senses 16 = .ok (.invokevirtual 72, 3) := dk_182 0 72 (dk_at dksX7_senses_0 16 rfl rfl)
theorem dX7_senses_19 : decode cX7_senses 19 = .ok (.ifCond .eq 7, 3) := dk_153 0 7 (dk_at dksX7_senses_0 19 rfl rfl)
theorem dX7_senses_22 : decode cX7_senses 22 = .ok (.iconst 1, 1) := dk_4 (dk_at dksX7_senses_0 22 rfl rfl)
theorem dX7_senses_23 : decode cX7_senses 23 = .ok (.goto 17, 3) := dk_167 0 17 (dk_at dksX7_senses_1 0 rfl rfl)
theorem dX7_senses_26 : decode cX7_senses 26 = .ok (.aload_n 0, 1) := dk_42 (dk_at dksX7_senses_1 3 rfl rfl)
theorem dX7_senses_27 : decode cX7_senses 27 = .ok (.ldc 87, 2) := dk_18 87 (dk_at dksX7_senses_1 4 rfl rfl)
theorem dX7_senses_29 : decode cX7_senses 29 = .ok (.invokevirtual 72, 3) := dk_182 0 72 (dk_at dksX7_senses_1 6 rfl rfl)
theorem dX7_senses_32 : decode cX7_senses 32 = .ok (.ifCond .eq 7, 3) := dk_153 0 7 (dk_at dksX7_senses_1 9 rfl rfl)
theorem dX7_senses_35 : decode cX7_senses 35 = .ok (.iconst 2, 1) := dk_5 (dk_at dksX7_senses_1 12 rfl rfl)
theorem dX7_senses_36 : decode cX7_senses 36 = .ok (.goto 4, 3) := dk_167 0 4 (dk_at dksX7_senses_1 13 rfl rfl)
theorem dX7_senses_39 : decode cX7_senses 39 = .ok (.iconst (-1), 1) := dk_2 (dk_at dksX7_senses_1 16 rfl rfl)
theorem dX7_senses_40 : decode cX7_senses 40 = .ok (.ireturn, 1) := dk_172 (dk_at dksX7_senses_1 17 rfl rfl)
abbrev cX7_acts : ByteArray := prog_9_method_16_code
def yX7_acts : MethodName := ⟨RX7, "acts", "()I"⟩
def dkwX7_acts_4 : List UInt8 := [172]
abbrev dktX7_acts_4 : List UInt8 := dkwX7_acts_4 ++ []
def dkwX7_acts_3 : List UInt8 := [182, 0, 72, 153, 0, 6, 16, 6, 172, 42, 18, 106, 182, 0, 72, 153, 0, 8, 16, 7, 167, 0, 4, 2]
abbrev dktX7_acts_3 : List UInt8 := dkwX7_acts_3 ++ dktX7_acts_4
def dkwX7_acts_2 : List UInt8 := [182, 0, 72, 153, 0, 5, 7, 172, 42, 18, 102, 182, 0, 72, 153, 0, 5, 8, 172, 42, 18, 104]
abbrev dktX7_acts_2 : List UInt8 := dkwX7_acts_2 ++ dktX7_acts_3
def dkwX7_acts_1 : List UInt8 := [18, 96, 182, 0, 72, 153, 0, 5, 5, 172, 42, 18, 98, 182, 0, 72, 153, 0, 5, 6, 172, 42, 18, 100]
abbrev dktX7_acts_1 : List UInt8 := dkwX7_acts_1 ++ dktX7_acts_2
def dkwX7_acts_0 : List UInt8 := [42, 18, 92, 182, 0, 72, 153, 0, 5, 3, 172, 42, 18, 94, 182, 0, 72, 153, 0, 5, 4, 172, 42]
abbrev dktX7_acts_0 : List UInt8 := dkwX7_acts_0 ++ dktX7_acts_1
theorem dksX7_acts_0 : cX7_acts.data.toList.drop 0 = dktX7_acts_0 := by decide +kernel
theorem dksX7_acts_1 : cX7_acts.data.toList.drop 23 = dktX7_acts_1 := dk_seg dksX7_acts_0 23 rfl rfl
theorem dksX7_acts_2 : cX7_acts.data.toList.drop 47 = dktX7_acts_2 := dk_seg dksX7_acts_1 24 rfl rfl
theorem dksX7_acts_3 : cX7_acts.data.toList.drop 69 = dktX7_acts_3 := dk_seg dksX7_acts_2 22 rfl rfl
theorem dksX7_acts_4 : cX7_acts.data.toList.drop 93 = dktX7_acts_4 := dk_seg dksX7_acts_3 24 rfl rfl
theorem dX7_acts_0 : decode cX7_acts 0 = .ok (.aload_n 0, 1) := dk_42 (dk_at dksX7_acts_0 0 rfl rfl)
theorem dX7_acts_1 : decode cX7_acts 1 = .ok (.ldc 92, 2) := dk_18 92 (dk_at dksX7_acts_0 1 rfl rfl)
theorem dX7_acts_3 : decode cX7_acts 3 = .ok (.invokevirtual 72, 3) := dk_182 0 72 (dk_at dksX7_acts_0 3 rfl rfl)
theorem dX7_acts_6 : decode cX7_acts 6 = .ok (.ifCond .eq 5, 3) := dk_153 0 5 (dk_at dksX7_acts_0 6 rfl rfl)
theorem dX7_acts_9 : decode cX7_acts 9 = .ok (.iconst 0, 1) := dk_3 (dk_at dksX7_acts_0 9 rfl rfl)
theorem dX7_acts_10 : decode cX7_acts 10 = .ok (.ireturn, 1) := dk_172 (dk_at dksX7_acts_0 10 rfl rfl)
theorem dX7_acts_11 : decode cX7_acts 11 = .ok (.aload_n 0, 1) := dk_42 (dk_at dksX7_acts_0 11 rfl rfl)
theorem dX7_acts_12 : decode cX7_acts 12 = .ok (.ldc 94, 2) := dk_18 94 (dk_at dksX7_acts_0 12 rfl rfl)
theorem dX7_acts_14 : decode cX7_acts 14 = .ok (.invokevirtual 72, 3) := dk_182 0 72 (dk_at dksX7_acts_0 14 rfl rfl)
theorem dX7_acts_17 : decode cX7_acts 17 = .ok (.ifCond .eq 5, 3) := dk_153 0 5 (dk_at dksX7_acts_0 17 rfl rfl)
theorem dX7_acts_20 : decode cX7_acts 20 = .ok (.iconst 1, 1) := dk_4 (dk_at dksX7_acts_0 20 rfl rfl)
theorem dX7_acts_21 : decode cX7_acts 21 = .ok (.ireturn, 1) := dk_172 (dk_at dksX7_acts_0 21 rfl rfl)
theorem dX7_acts_22 : decode cX7_acts 22 = .ok (.aload_n 0, 1) := dk_42 (dk_at dksX7_acts_0 22 rfl rfl)
theorem dX7_acts_23 : decode cX7_acts 23 = .ok (.ldc 96, 2) := dk_18 96 (dk_at dksX7_acts_1 0 rfl rfl)
theorem dX7_acts_25 : decode cX7_acts 25 = .ok (.invokevirtual 72, 3) := dk_182 0 72 (dk_at dksX7_acts_1 2 rfl rfl)
theorem dX7_acts_28 : decode cX7_acts 28 = .ok (.ifCond .eq 5, 3) := dk_153 0 5 (dk_at dksX7_acts_1 5 rfl rfl)
theorem dX7_acts_31 : decode cX7_acts 31 = .ok (.iconst 2, 1) := dk_5 (dk_at dksX7_acts_1 8 rfl rfl)
theorem dX7_acts_32 : decode cX7_acts 32 = .ok (.ireturn, 1) := dk_172 (dk_at dksX7_acts_1 9 rfl rfl)
theorem dX7_acts_33 : decode cX7_acts 33 = .ok (.aload_n 0, 1) := dk_42 (dk_at dksX7_acts_1 10 rfl rfl)
theorem dX7_acts_34 : decode cX7_acts 34 = .ok (.ldc 98, 2) := dk_18 98 (dk_at dksX7_acts_1 11 rfl rfl)
theorem dX7_acts_36 : decode cX7_acts 36 = .ok (.invokevirtual 72, 3) := dk_182 0 72 (dk_at dksX7_acts_1 13 rfl rfl)
theorem dX7_acts_39 : decode cX7_acts 39 = .ok (.ifCond .eq 5, 3) := dk_153 0 5 (dk_at dksX7_acts_1 16 rfl rfl)
theorem dX7_acts_42 : decode cX7_acts 42 = .ok (.iconst 3, 1) := dk_6 (dk_at dksX7_acts_1 19 rfl rfl)
theorem dX7_acts_43 : decode cX7_acts 43 = .ok (.ireturn, 1) := dk_172 (dk_at dksX7_acts_1 20 rfl rfl)
theorem dX7_acts_44 : decode cX7_acts 44 = .ok (.aload_n 0, 1) := dk_42 (dk_at dksX7_acts_1 21 rfl rfl)
theorem dX7_acts_45 : decode cX7_acts 45 = .ok (.ldc 100, 2) := dk_18 100 (dk_at dksX7_acts_1 22 rfl rfl)
theorem dX7_acts_47 : decode cX7_acts 47 = .ok (.invokevirtual 72, 3) := dk_182 0 72 (dk_at dksX7_acts_2 0 rfl rfl)
theorem dX7_acts_50 : decode cX7_acts 50 = .ok (.ifCond .eq 5, 3) := dk_153 0 5 (dk_at dksX7_acts_2 3 rfl rfl)
theorem dX7_acts_53 : decode cX7_acts 53 = .ok (.iconst 4, 1) := dk_7 (dk_at dksX7_acts_2 6 rfl rfl)
theorem dX7_acts_54 : decode cX7_acts 54 = .ok (.ireturn, 1) := dk_172 (dk_at dksX7_acts_2 7 rfl rfl)
theorem dX7_acts_55 : decode cX7_acts 55 = .ok (.aload_n 0, 1) := dk_42 (dk_at dksX7_acts_2 8 rfl rfl)
theorem dX7_acts_56 : decode cX7_acts 56 = .ok (.ldc 102, 2) := dk_18 102 (dk_at dksX7_acts_2 9 rfl rfl)
theorem dX7_acts_58 : decode cX7_acts 58 = .ok (.invokevirtual 72, 3) := dk_182 0 72 (dk_at dksX7_acts_2 11 rfl rfl)
theorem dX7_acts_61 : decode cX7_acts 61 = .ok (.ifCond .eq 5, 3) := dk_153 0 5 (dk_at dksX7_acts_2 14 rfl rfl)
theorem dX7_acts_64 : decode cX7_acts 64 = .ok (.iconst 5, 1) := dk_8 (dk_at dksX7_acts_2 17 rfl rfl)
theorem dX7_acts_65 : decode cX7_acts 65 = .ok (.ireturn, 1) := dk_172 (dk_at dksX7_acts_2 18 rfl rfl)
theorem dX7_acts_66 : decode cX7_acts 66 = .ok (.aload_n 0, 1) := dk_42 (dk_at dksX7_acts_2 19 rfl rfl)
theorem dX7_acts_67 : decode cX7_acts 67 = .ok (.ldc 104, 2) := dk_18 104 (dk_at dksX7_acts_2 20 rfl rfl)
theorem dX7_acts_69 : decode cX7_acts 69 = .ok (.invokevirtual 72, 3) := dk_182 0 72 (dk_at dksX7_acts_3 0 rfl rfl)
theorem dX7_acts_72 : decode cX7_acts 72 = .ok (.ifCond .eq 6, 3) := dk_153 0 6 (dk_at dksX7_acts_3 3 rfl rfl)
theorem dX7_acts_75 : decode cX7_acts 75 = .ok (.bipush 6, 2) := dk_16 6 (dk_at dksX7_acts_3 6 rfl rfl)
theorem dX7_acts_77 : decode cX7_acts 77 = .ok (.ireturn, 1) := dk_172 (dk_at dksX7_acts_3 8 rfl rfl)
theorem dX7_acts_78 : decode cX7_acts 78 = .ok (.aload_n 0, 1) := dk_42 (dk_at dksX7_acts_3 9 rfl rfl)
theorem dX7_acts_79 : decode cX7_acts 79 = .ok (.ldc 106, 2) := dk_18 106 (dk_at dksX7_acts_3 10 rfl rfl)
theorem dX7_acts_81 : decode cX7_acts 81 = .ok (.invokevirtual 72, 3) := dk_182 0 72 (dk_at dksX7_acts_3 12 rfl rfl)
theorem dX7_acts_84 : decode cX7_acts 84 = .ok (.ifCond .eq 8, 3) := dk_153 0 8 (dk_at dksX7_acts_3 15 rfl rfl)
theorem dX7_acts_87 : decode cX7_acts 87 = .ok (.bipush 7, 2) := dk_16 7 (dk_at dksX7_acts_3 18 rfl rfl)
theorem dX7_acts_89 : decode cX7_acts 89 = .ok (.goto 4, 3) := dk_167 0 4 (dk_at dksX7_acts_3 20 rfl rfl)
theorem dX7_acts_92 : decode cX7_acts 92 = .ok (.iconst (-1), 1) := dk_2 (dk_at dksX7_acts_3 23 rfl rfl)
theorem dX7_acts_93 : decode cX7_acts 93 = .ok (.ireturn, 1) := dk_172 (dk_at dksX7_acts_4 0 rfl rfl)
abbrev cX7_tests : ByteArray := prog_9_method_17_code
def yX7_tests : MethodName := ⟨RX7, "tests", "()I"⟩
def dkwX7_tests_2 : List UInt8 := [172]
abbrev dktX7_tests_2 : List UInt8 := dkwX7_tests_2 ++ []
def dkwX7_tests_1 : List UInt8 := [18, 112, 182, 0, 72, 153, 0, 5, 5, 172, 42, 18, 114, 182, 0, 72, 153, 0, 7, 6, 167, 0, 4, 2]
abbrev dktX7_tests_1 : List UInt8 := dkwX7_tests_1 ++ dktX7_tests_2
def dkwX7_tests_0 : List UInt8 := [42, 18, 108, 182, 0, 72, 153, 0, 5, 3, 172, 42, 18, 110, 182, 0, 72, 153, 0, 5, 4, 172, 42]
abbrev dktX7_tests_0 : List UInt8 := dkwX7_tests_0 ++ dktX7_tests_1
theorem dksX7_tests_0 : cX7_tests.data.toList.drop 0 = dktX7_tests_0 := by decide +kernel
theorem dksX7_tests_1 : cX7_tests.data.toList.drop 23 = dktX7_tests_1 := dk_seg dksX7_tests_0 23 rfl rfl
theorem dksX7_tests_2 : cX7_tests.data.toList.drop 47 = dktX7_tests_2 := dk_seg dksX7_tests_1 24 rfl rfl
theorem dX7_tests_0 : decode cX7_tests 0 = .ok (.aload_n 0, 1) := dk_42 (dk_at dksX7_tests_0 0 rfl rfl)
theorem dX7_tests_1 : decode cX7_tests 1 = .ok (.ldc 108, 2) := dk_18 108 (dk_at dksX7_tests_0 1 rfl rfl)
theorem dX7_tests_3 : decode cX7_tests 3 = .ok (.invokevirtual 72, 3) := dk_182 0 72 (dk_at dksX7_tests_0 3 rfl rfl)
theorem dX7_tests_6 : decode cX7_tests 6 = .ok (.ifCond .eq 5, 3) := dk_153 0 5 (dk_at dksX7_tests_0 6 rfl rfl)
theorem dX7_tests_9 : decode cX7_tests 9 = .ok (.iconst 0, 1) := dk_3 (dk_at dksX7_tests_0 9 rfl rfl)
theorem dX7_tests_10 : decode cX7_tests 10 = .ok (.ireturn, 1) := dk_172 (dk_at dksX7_tests_0 10 rfl rfl)
theorem dX7_tests_11 : decode cX7_tests 11 = .ok (.aload_n 0, 1) := dk_42 (dk_at dksX7_tests_0 11 rfl rfl)
theorem dX7_tests_12 : decode cX7_tests 12 = .ok (.ldc 110, 2) := dk_18 110 (dk_at dksX7_tests_0 12 rfl rfl)
theorem dX7_tests_14 : decode cX7_tests 14 = .ok (.invokevirtual 72, 3) := dk_182 0 72 (dk_at dksX7_tests_0 14 rfl rfl)
theorem dX7_tests_17 : decode cX7_tests 17 = .ok (.ifCond .eq 5, 3) := dk_153 0 5 (dk_at dksX7_tests_0 17 rfl rfl)
theorem dX7_tests_20 : decode cX7_tests 20 = .ok (.iconst 1, 1) := dk_4 (dk_at dksX7_tests_0 20 rfl rfl)
theorem dX7_tests_21 : decode cX7_tests 21 = .ok (.ireturn, 1) := dk_172 (dk_at dksX7_tests_0 21 rfl rfl)
theorem dX7_tests_22 : decode cX7_tests 22 = .ok (.aload_n 0, 1) := dk_42 (dk_at dksX7_tests_0 22 rfl rfl)
theorem dX7_tests_23 : decode cX7_tests 23 = .ok (.ldc 112, 2) := dk_18 112 (dk_at dksX7_tests_1 0 rfl rfl)
theorem dX7_tests_25 : decode cX7_tests 25 = .ok (.invokevirtual 72, 3) := dk_182 0 72 (dk_at dksX7_tests_1 2 rfl rfl)
theorem dX7_tests_28 : decode cX7_tests 28 = .ok (.ifCond .eq 5, 3) := dk_153 0 5 (dk_at dksX7_tests_1 5 rfl rfl)
theorem dX7_tests_31 : decode cX7_tests 31 = .ok (.iconst 2, 1) := dk_5 (dk_at dksX7_tests_1 8 rfl rfl)
theorem dX7_tests_32 : decode cX7_tests 32 = .ok (.ireturn, 1) := dk_172 (dk_at dksX7_tests_1 9 rfl rfl)
theorem dX7_tests_33 : decode cX7_tests 33 = .ok (.aload_n 0, 1) := dk_42 (dk_at dksX7_tests_1 10 rfl rfl)
theorem dX7_tests_34 : decode cX7_tests 34 = .ok (.ldc 114, 2) := dk_18 114 (dk_at dksX7_tests_1 11 rfl rfl)
theorem dX7_tests_36 : decode cX7_tests 36 = .ok (.invokevirtual 72, 3) := dk_182 0 72 (dk_at dksX7_tests_1 13 rfl rfl)
theorem dX7_tests_39 : decode cX7_tests 39 = .ok (.ifCond .eq 7, 3) := dk_153 0 7 (dk_at dksX7_tests_1 16 rfl rfl)
theorem dX7_tests_42 : decode cX7_tests 42 = .ok (.iconst 3, 1) := dk_6 (dk_at dksX7_tests_1 19 rfl rfl)
theorem dX7_tests_43 : decode cX7_tests 43 = .ok (.goto 4, 3) := dk_167 0 4 (dk_at dksX7_tests_1 20 rfl rfl)
theorem dX7_tests_46 : decode cX7_tests 46 = .ok (.iconst (-1), 1) := dk_2 (dk_at dksX7_tests_1 23 rfl rfl)
theorem dX7_tests_47 : decode cX7_tests 47 = .ok (.ireturn, 1) := dk_172 (dk_at dksX7_tests_2 0 rfl rfl)
abbrev cX7_wrong : ByteArray := prog_9_method_7_code
def yX7_wrong : MethodName := ⟨RX7, "wrong", "()LCatWitness$Bad;"⟩
def dkwX7_wrong_1 : List UInt8 := [182, 0, 59, 176]
abbrev dktX7_wrong_1 : List UInt8 := dkwX7_wrong_1 ++ []
def dkwX7_wrong_0 : List UInt8 := [42, 180, 0, 3, 180, 0, 55, 42, 180, 0, 32, 7, 160, 0, 7, 4, 167, 0, 4, 5, 42, 180, 0, 29]
abbrev dktX7_wrong_0 : List UInt8 := dkwX7_wrong_0 ++ dktX7_wrong_1
theorem dksX7_wrong_0 : cX7_wrong.data.toList.drop 0 = dktX7_wrong_0 := by decide +kernel
theorem dksX7_wrong_1 : cX7_wrong.data.toList.drop 24 = dktX7_wrong_1 := dk_seg dksX7_wrong_0 24 rfl rfl
theorem dX7_wrong_0 : decode cX7_wrong 0 = .ok (.aload_n 0, 1) := dk_42 (dk_at dksX7_wrong_0 0 rfl rfl)
theorem dX7_wrong_1 : decode cX7_wrong 1 = .ok (.getfield 3, 3) := dk_180 0 3 (dk_at dksX7_wrong_0 1 rfl rfl)
theorem dX7_wrong_4 : decode cX7_wrong 4 = .ok (.getfield 55, 3) := dk_180 0 55 (dk_at dksX7_wrong_0 4 rfl rfl)
theorem dX7_wrong_7 : decode cX7_wrong 7 = .ok (.aload_n 0, 1) := dk_42 (dk_at dksX7_wrong_0 7 rfl rfl)
theorem dX7_wrong_8 : decode cX7_wrong 8 = .ok (.getfield 32, 3) := dk_180 0 32 (dk_at dksX7_wrong_0 8 rfl rfl)
theorem dX7_wrong_11 : decode cX7_wrong 11 = .ok (.iconst 4, 1) := dk_7 (dk_at dksX7_wrong_0 11 rfl rfl)
theorem dX7_wrong_12 : decode cX7_wrong 12 = .ok (.if_icmp .ne 7, 3) := dk_160 0 7 (dk_at dksX7_wrong_0 12 rfl rfl)
theorem dX7_wrong_15 : decode cX7_wrong 15 = .ok (.iconst 1, 1) := dk_4 (dk_at dksX7_wrong_0 15 rfl rfl)
theorem dX7_wrong_16 : decode cX7_wrong 16 = .ok (.goto 4, 3) := dk_167 0 4 (dk_at dksX7_wrong_0 16 rfl rfl)
theorem dX7_wrong_19 : decode cX7_wrong 19 = .ok (.iconst 2, 1) := dk_5 (dk_at dksX7_wrong_0 19 rfl rfl)
theorem dX7_wrong_20 : decode cX7_wrong 20 = .ok (.aload_n 0, 1) := dk_42 (dk_at dksX7_wrong_0 20 rfl rfl)
theorem dX7_wrong_21 : decode cX7_wrong 21 = .ok (.getfield 29, 3) := dk_180 0 29 (dk_at dksX7_wrong_0 21 rfl rfl)
theorem dX7_wrong_24 : decode cX7_wrong 24 = .ok (.invokevirtual 59, 3) := dk_182 0 59 (dk_at dksX7_wrong_1 0 rfl rfl)
theorem dX7_wrong_27 : decode cX7_wrong 27 = .ok (.areturn, 1) := dk_176 (dk_at dksX7_wrong_1 3 rfl rfl)
abbrev cX7_newCue : ByteArray := prog_9_method_28_code
def yX7_newCue : MethodName := ⟨RX7, "newCue", "(LCatWitness$Court;)V"⟩
def dkwX7_newCue_2 : List UInt8 := [89, 180, 0, 219, 4, 96, 181, 0, 219, 177]
abbrev dktX7_newCue_2 : List UInt8 := dkwX7_newCue_2 ++ []
def dkwX7_newCue_1 : List UInt8 := [18, 120, 182, 0, 76, 43, 180, 0, 222, 28, 42, 3, 182, 0, 226, 79, 43, 180, 0, 229, 28, 33, 80, 43]
abbrev dktX7_newCue_1 : List UInt8 := dkwX7_newCue_1 ++ dktX7_newCue_2
def dkwX7_newCue_0 : List UInt8 := [43, 180, 0, 219, 61, 42, 43, 28, 16, 6, 162, 0, 7, 4, 167, 0, 4, 3, 182, 0, 211, 66, 42]
abbrev dktX7_newCue_0 : List UInt8 := dkwX7_newCue_0 ++ dktX7_newCue_1
theorem dksX7_newCue_0 : cX7_newCue.data.toList.drop 0 = dktX7_newCue_0 := by decide +kernel
theorem dksX7_newCue_1 : cX7_newCue.data.toList.drop 23 = dktX7_newCue_1 := dk_seg dksX7_newCue_0 23 rfl rfl
theorem dksX7_newCue_2 : cX7_newCue.data.toList.drop 47 = dktX7_newCue_2 := dk_seg dksX7_newCue_1 24 rfl rfl
theorem dX7_newCue_0 : decode cX7_newCue 0 = .ok (.aload_n 1, 1) := dk_43 (dk_at dksX7_newCue_0 0 rfl rfl)
theorem dX7_newCue_1 : decode cX7_newCue 1 = .ok (.getfield 219, 3) := dk_180 0 219 (dk_at dksX7_newCue_0 1 rfl rfl)
theorem dX7_newCue_4 : decode cX7_newCue 4 = .ok (.istore_n 2, 1) := dk_61 (dk_at dksX7_newCue_0 4 rfl rfl)
theorem dX7_newCue_5 : decode cX7_newCue 5 = .ok (.aload_n 0, 1) := dk_42 (dk_at dksX7_newCue_0 5 rfl rfl)
theorem dX7_newCue_6 : decode cX7_newCue 6 = .ok (.aload_n 1, 1) := dk_43 (dk_at dksX7_newCue_0 6 rfl rfl)
theorem dX7_newCue_7 : decode cX7_newCue 7 = .ok (.iload_n 2, 1) := dk_28 (dk_at dksX7_newCue_0 7 rfl rfl)
theorem dX7_newCue_8 : decode cX7_newCue 8 = .ok (.bipush 6, 2) := dk_16 6 (dk_at dksX7_newCue_0 8 rfl rfl)
theorem dX7_newCue_10 : decode cX7_newCue 10 = .ok (.if_icmp .ge 7, 3) := dk_162 0 7 (dk_at dksX7_newCue_0 10 rfl rfl)
theorem dX7_newCue_13 : decode cX7_newCue 13 = .ok (.iconst 1, 1) := dk_4 (dk_at dksX7_newCue_0 13 rfl rfl)
theorem dX7_newCue_14 : decode cX7_newCue 14 = .ok (.goto 4, 3) := dk_167 0 4 (dk_at dksX7_newCue_0 14 rfl rfl)
theorem dX7_newCue_17 : decode cX7_newCue 17 = .ok (.iconst 0, 1) := dk_3 (dk_at dksX7_newCue_0 17 rfl rfl)
theorem dX7_newCue_18 : decode cX7_newCue 18 = .ok (.invokevirtual 211, 3) := dk_182 0 211 (dk_at dksX7_newCue_0 18 rfl rfl)
theorem dX7_newCue_21 : decode cX7_newCue 21 = .ok (.lstore_n 3, 1) := dk_66 (dk_at dksX7_newCue_0 21 rfl rfl)
theorem dX7_newCue_22 : decode cX7_newCue 22 = .ok (.aload_n 0, 1) := dk_42 (dk_at dksX7_newCue_0 22 rfl rfl)
theorem dX7_newCue_23 : decode cX7_newCue 23 = .ok (.ldc 120, 2) := dk_18 120 (dk_at dksX7_newCue_1 0 rfl rfl)
theorem dX7_newCue_25 : decode cX7_newCue 25 = .ok (.invokevirtual 76, 3) := dk_182 0 76 (dk_at dksX7_newCue_1 2 rfl rfl)
theorem dX7_newCue_28 : decode cX7_newCue 28 = .ok (.aload_n 1, 1) := dk_43 (dk_at dksX7_newCue_1 5 rfl rfl)
theorem dX7_newCue_29 : decode cX7_newCue 29 = .ok (.getfield 222, 3) := dk_180 0 222 (dk_at dksX7_newCue_1 6 rfl rfl)
theorem dX7_newCue_32 : decode cX7_newCue 32 = .ok (.iload_n 2, 1) := dk_28 (dk_at dksX7_newCue_1 9 rfl rfl)
theorem dX7_newCue_33 : decode cX7_newCue 33 = .ok (.aload_n 0, 1) := dk_42 (dk_at dksX7_newCue_1 10 rfl rfl)
theorem dX7_newCue_34 : decode cX7_newCue 34 = .ok (.iconst 0, 1) := dk_3 (dk_at dksX7_newCue_1 11 rfl rfl)
theorem dX7_newCue_35 : decode cX7_newCue 35 = .ok (.invokevirtual 226, 3) := dk_182 0 226 (dk_at dksX7_newCue_1 12 rfl rfl)
theorem dX7_newCue_38 : decode cX7_newCue 38 = .ok (.iastore, 1) := dk_79 (dk_at dksX7_newCue_1 15 rfl rfl)
theorem dX7_newCue_39 : decode cX7_newCue 39 = .ok (.aload_n 1, 1) := dk_43 (dk_at dksX7_newCue_1 16 rfl rfl)
theorem dX7_newCue_40 : decode cX7_newCue 40 = .ok (.getfield 229, 3) := dk_180 0 229 (dk_at dksX7_newCue_1 17 rfl rfl)
theorem dX7_newCue_43 : decode cX7_newCue 43 = .ok (.iload_n 2, 1) := dk_28 (dk_at dksX7_newCue_1 20 rfl rfl)
theorem dX7_newCue_44 : decode cX7_newCue 44 = .ok (.lload_n 3, 1) := dk_33 (dk_at dksX7_newCue_1 21 rfl rfl)
theorem dX7_newCue_45 : decode cX7_newCue 45 = .ok (.lastore, 1) := dk_80 (dk_at dksX7_newCue_1 22 rfl rfl)
theorem dX7_newCue_46 : decode cX7_newCue 46 = .ok (.aload_n 1, 1) := dk_43 (dk_at dksX7_newCue_1 23 rfl rfl)
theorem dX7_newCue_47 : decode cX7_newCue 47 = .ok (.dup, 1) := dk_89 (dk_at dksX7_newCue_2 0 rfl rfl)
theorem dX7_newCue_48 : decode cX7_newCue 48 = .ok (.getfield 219, 3) := dk_180 0 219 (dk_at dksX7_newCue_2 1 rfl rfl)
theorem dX7_newCue_51 : decode cX7_newCue 51 = .ok (.iconst 1, 1) := dk_4 (dk_at dksX7_newCue_2 4 rfl rfl)
theorem dX7_newCue_52 : decode cX7_newCue 52 = .ok (.iadd, 1) := dk_96 (dk_at dksX7_newCue_2 5 rfl rfl)
theorem dX7_newCue_53 : decode cX7_newCue 53 = .ok (.putfield 219, 3) := dk_181 0 219 (dk_at dksX7_newCue_2 6 rfl rfl)
theorem dX7_newCue_56 : decode cX7_newCue 56 = .ok (.return_, 1) := dk_177 (dk_at dksX7_newCue_2 9 rfl rfl)
abbrev cX7_word : ByteArray := prog_9_method_9_code
def yX7_word : MethodName := ⟨RX7, "word", "(Ljava/lang/String;)V"⟩
def dkwX7_word_0 : List UInt8 := [42, 43, 182, 0, 72, 154, 0, 8, 42, 182, 0, 68, 191, 42, 182, 0, 19, 177]
abbrev dktX7_word_0 : List UInt8 := dkwX7_word_0 ++ []
theorem dksX7_word_0 : cX7_word.data.toList.drop 0 = dktX7_word_0 := by decide +kernel
theorem dX7_word_0 : decode cX7_word 0 = .ok (.aload_n 0, 1) := dk_42 (dk_at dksX7_word_0 0 rfl rfl)
theorem dX7_word_1 : decode cX7_word 1 = .ok (.aload_n 1, 1) := dk_43 (dk_at dksX7_word_0 1 rfl rfl)
theorem dX7_word_2 : decode cX7_word 2 = .ok (.invokevirtual 72, 3) := dk_182 0 72 (dk_at dksX7_word_0 2 rfl rfl)
theorem dX7_word_5 : decode cX7_word 5 = .ok (.ifCond .ne 8, 3) := dk_154 0 8 (dk_at dksX7_word_0 5 rfl rfl)
theorem dX7_word_8 : decode cX7_word 8 = .ok (.aload_n 0, 1) := dk_42 (dk_at dksX7_word_0 8 rfl rfl)
theorem dX7_word_9 : decode cX7_word 9 = .ok (.invokevirtual 68, 3) := dk_182 0 68 (dk_at dksX7_word_0 9 rfl rfl)
theorem dX7_word_12 : decode cX7_word 12 = .ok (.athrow, 1) := dk_191 (dk_at dksX7_word_0 12 rfl rfl)
theorem dX7_word_13 : decode cX7_word 13 = .ok (.aload_n 0, 1) := dk_42 (dk_at dksX7_word_0 13 rfl rfl)
theorem dX7_word_14 : decode cX7_word 14 = .ok (.invokevirtual 19, 3) := dk_182 0 19 (dk_at dksX7_word_0 14 rfl rfl)
theorem dX7_word_17 : decode cX7_word 17 = .ok (.return_, 1) := dk_177 (dk_at dksX7_word_0 17 rfl rfl)
abbrev cX7_sense : ByteArray := prog_9_method_14_code
def yX7_sense : MethodName := ⟨RX7, "sense", "(I)I"⟩
def dkwX7_sense_0 : List UInt8 := [42, 182, 0, 89, 61, 28, 27, 162, 0, 8, 42, 182, 0, 68, 191, 42, 182, 0, 19, 28, 172]
abbrev dktX7_sense_0 : List UInt8 := dkwX7_sense_0 ++ []
theorem dksX7_sense_0 : cX7_sense.data.toList.drop 0 = dktX7_sense_0 := by decide +kernel
theorem dX7_sense_0 : decode cX7_sense 0 = .ok (.aload_n 0, 1) := dk_42 (dk_at dksX7_sense_0 0 rfl rfl)
theorem dX7_sense_1 : decode cX7_sense 1 = .ok (.invokevirtual 89, 3) := dk_182 0 89 (dk_at dksX7_sense_0 1 rfl rfl)
theorem dX7_sense_4 : decode cX7_sense 4 = .ok (.istore_n 2, 1) := dk_61 (dk_at dksX7_sense_0 4 rfl rfl)
theorem dX7_sense_5 : decode cX7_sense 5 = .ok (.iload_n 2, 1) := dk_28 (dk_at dksX7_sense_0 5 rfl rfl)
theorem dX7_sense_6 : decode cX7_sense 6 = .ok (.iload_n 1, 1) := dk_27 (dk_at dksX7_sense_0 6 rfl rfl)
theorem dX7_sense_7 : decode cX7_sense 7 = .ok (.if_icmp .ge 8, 3) := dk_162 0 8 (dk_at dksX7_sense_0 7 rfl rfl)
theorem dX7_sense_10 : decode cX7_sense 10 = .ok (.aload_n 0, 1) := dk_42 (dk_at dksX7_sense_0 10 rfl rfl)
theorem dX7_sense_11 : decode cX7_sense 11 = .ok (.invokevirtual 68, 3) := dk_182 0 68 (dk_at dksX7_sense_0 11 rfl rfl)
theorem dX7_sense_14 : decode cX7_sense 14 = .ok (.athrow, 1) := dk_191 (dk_at dksX7_sense_0 14 rfl rfl)
theorem dX7_sense_15 : decode cX7_sense 15 = .ok (.aload_n 0, 1) := dk_42 (dk_at dksX7_sense_0 15 rfl rfl)
theorem dX7_sense_16 : decode cX7_sense 16 = .ok (.invokevirtual 19, 3) := dk_182 0 19 (dk_at dksX7_sense_0 16 rfl rfl)
theorem dX7_sense_19 : decode cX7_sense 19 = .ok (.iload_n 2, 1) := dk_28 (dk_at dksX7_sense_0 19 rfl rfl)
theorem dX7_sense_20 : decode cX7_sense 20 = .ok (.ireturn, 1) := dk_172 (dk_at dksX7_sense_0 20 rfl rfl)
abbrev cX7_newRule : ByteArray := prog_9_method_29_code
def yX7_newRule : MethodName := ⟨RX7, "newRule", "(LCatWitness$Court;)V"⟩
def dkwX7_newRule_7 : List UInt8 := [83, 43, 89, 180, 0, 232, 4, 96, 181, 0, 232, 177]
abbrev dktX7_newRule_7 : List UInt8 := dkwX7_newRule_7 ++ []
def dkwX7_newRule_6 : List UInt8 := [21, 8, 42, 18, 126, 182, 0, 239, 153, 0, 12, 42, 43, 3, 182, 0, 250, 167, 0, 4, 2, 183, 0, 253]
abbrev dktX7_newRule_6 : List UInt8 := dkwX7_newRule_6 ++ dktX7_newRule_7
def dkwX7_newRule_5 : List UInt8 := [182, 0, 80, 54, 8, 43, 180, 0, 245, 28, 187, 0, 248, 89, 29, 21, 4, 21, 5, 21, 6, 21, 7]
abbrev dktX7_newRule_5 : List UInt8 := dkwX7_newRule_5 ++ dktX7_newRule_6
def dkwX7_newRule_4 : List UInt8 := [182, 0, 242, 167, 0, 4, 3, 54, 7, 21, 7, 154, 0, 7, 3, 167, 0, 10, 42, 3, 16, 9]
abbrev dktX7_newRule_4 : List UInt8 := dkwX7_newRule_4 ++ dktX7_newRule_5
def dkwX7_newRule_3 : List UInt8 := [167, 0, 10, 42, 3, 16, 99, 182, 0, 80, 54, 6, 42, 18, 114, 182, 0, 239, 153, 0, 10, 42]
abbrev dktX7_newRule_3 : List UInt8 := dkwX7_newRule_3 ++ dktX7_newRule_4
def dkwX7_newRule_2 : List UInt8 := [18, 124, 182, 0, 239, 153, 0, 10, 42, 182, 0, 242, 167, 0, 4, 3, 54, 5, 21, 5, 154, 0, 7, 3]
abbrev dktX7_newRule_2 : List UInt8 := dkwX7_newRule_2 ++ dktX7_newRule_3
def dkwX7_newRule_1 : List UInt8 := [182, 0, 235, 62, 42, 182, 0, 89, 158, 0, 11, 42, 4, 182, 0, 226, 167, 0, 4, 3, 54, 4, 42]
abbrev dktX7_newRule_1 : List UInt8 := dkwX7_newRule_1 ++ dktX7_newRule_2
def dkwX7_newRule_0 : List UInt8 := [43, 180, 0, 232, 61, 42, 28, 16, 8, 162, 0, 7, 4, 167, 0, 4, 3, 182, 0, 157, 42, 43]
abbrev dktX7_newRule_0 : List UInt8 := dkwX7_newRule_0 ++ dktX7_newRule_1
theorem dksX7_newRule_0 : cX7_newRule.data.toList.drop 0 = dktX7_newRule_0 := by decide +kernel
theorem dksX7_newRule_1 : cX7_newRule.data.toList.drop 22 = dktX7_newRule_1 := dk_seg dksX7_newRule_0 22 rfl rfl
theorem dksX7_newRule_2 : cX7_newRule.data.toList.drop 45 = dktX7_newRule_2 := dk_seg dksX7_newRule_1 23 rfl rfl
theorem dksX7_newRule_3 : cX7_newRule.data.toList.drop 69 = dktX7_newRule_3 := dk_seg dksX7_newRule_2 24 rfl rfl
theorem dksX7_newRule_4 : cX7_newRule.data.toList.drop 91 = dktX7_newRule_4 := dk_seg dksX7_newRule_3 22 rfl rfl
theorem dksX7_newRule_5 : cX7_newRule.data.toList.drop 113 = dktX7_newRule_5 := dk_seg dksX7_newRule_4 22 rfl rfl
theorem dksX7_newRule_6 : cX7_newRule.data.toList.drop 136 = dktX7_newRule_6 := dk_seg dksX7_newRule_5 23 rfl rfl
theorem dksX7_newRule_7 : cX7_newRule.data.toList.drop 160 = dktX7_newRule_7 := dk_seg dksX7_newRule_6 24 rfl rfl
theorem dX7_newRule_0 : decode cX7_newRule 0 = .ok (.aload_n 1, 1) := dk_43 (dk_at dksX7_newRule_0 0 rfl rfl)
theorem dX7_newRule_1 : decode cX7_newRule 1 = .ok (.getfield 232, 3) := dk_180 0 232 (dk_at dksX7_newRule_0 1 rfl rfl)
theorem dX7_newRule_4 : decode cX7_newRule 4 = .ok (.istore_n 2, 1) := dk_61 (dk_at dksX7_newRule_0 4 rfl rfl)
theorem dX7_newRule_5 : decode cX7_newRule 5 = .ok (.aload_n 0, 1) := dk_42 (dk_at dksX7_newRule_0 5 rfl rfl)
theorem dX7_newRule_6 : decode cX7_newRule 6 = .ok (.iload_n 2, 1) := dk_28 (dk_at dksX7_newRule_0 6 rfl rfl)
theorem dX7_newRule_7 : decode cX7_newRule 7 = .ok (.bipush 8, 2) := dk_16 8 (dk_at dksX7_newRule_0 7 rfl rfl)
theorem dX7_newRule_9 : decode cX7_newRule 9 = .ok (.if_icmp .ge 7, 3) := dk_162 0 7 (dk_at dksX7_newRule_0 9 rfl rfl)
theorem dX7_newRule_12 : decode cX7_newRule 12 = .ok (.iconst 1, 1) := dk_4 (dk_at dksX7_newRule_0 12 rfl rfl)
theorem dX7_newRule_13 : decode cX7_newRule 13 = .ok (.goto 4, 3) := dk_167 0 4 (dk_at dksX7_newRule_0 13 rfl rfl)
theorem dX7_newRule_16 : decode cX7_newRule 16 = .ok (.iconst 0, 1) := dk_3 (dk_at dksX7_newRule_0 16 rfl rfl)
theorem dX7_newRule_17 : decode cX7_newRule 17 = .ok (.invokevirtual 157, 3) := dk_182 0 157 (dk_at dksX7_newRule_0 17 rfl rfl)
theorem dX7_newRule_20 : decode cX7_newRule 20 = .ok (.aload_n 0, 1) := dk_42 (dk_at dksX7_newRule_0 20 rfl rfl)
theorem dX7_newRule_21 : decode cX7_newRule 21 = .ok (.aload_n 1, 1) := dk_43 (dk_at dksX7_newRule_0 21 rfl rfl)
theorem dX7_newRule_22 : decode cX7_newRule 22 = .ok (.invokevirtual 235, 3) := dk_182 0 235 (dk_at dksX7_newRule_1 0 rfl rfl)
theorem dX7_newRule_25 : decode cX7_newRule 25 = .ok (.istore_n 3, 1) := dk_62 (dk_at dksX7_newRule_1 3 rfl rfl)
theorem dX7_newRule_26 : decode cX7_newRule 26 = .ok (.aload_n 0, 1) := dk_42 (dk_at dksX7_newRule_1 4 rfl rfl)
theorem dX7_newRule_27 : decode cX7_newRule 27 = .ok (.invokevirtual 89, 3) := dk_182 0 89 (dk_at dksX7_newRule_1 5 rfl rfl)
theorem dX7_newRule_30 : decode cX7_newRule 30 = .ok (.ifCond .le 11, 3) := dk_158 0 11 (dk_at dksX7_newRule_1 8 rfl rfl)
theorem dX7_newRule_33 : decode cX7_newRule 33 = .ok (.aload_n 0, 1) := dk_42 (dk_at dksX7_newRule_1 11 rfl rfl)
theorem dX7_newRule_34 : decode cX7_newRule 34 = .ok (.iconst 1, 1) := dk_4 (dk_at dksX7_newRule_1 12 rfl rfl)
theorem dX7_newRule_35 : decode cX7_newRule 35 = .ok (.invokevirtual 226, 3) := dk_182 0 226 (dk_at dksX7_newRule_1 13 rfl rfl)
theorem dX7_newRule_38 : decode cX7_newRule 38 = .ok (.goto 4, 3) := dk_167 0 4 (dk_at dksX7_newRule_1 16 rfl rfl)
theorem dX7_newRule_41 : decode cX7_newRule 41 = .ok (.iconst 0, 1) := dk_3 (dk_at dksX7_newRule_1 19 rfl rfl)
theorem dX7_newRule_42 : decode cX7_newRule 42 = .ok (.istore 4, 2) := dk_54 4 (dk_at dksX7_newRule_1 20 rfl rfl)
theorem dX7_newRule_44 : decode cX7_newRule 44 = .ok (.aload_n 0, 1) := dk_42 (dk_at dksX7_newRule_1 22 rfl rfl)
theorem dX7_newRule_45 : decode cX7_newRule 45 = .ok (.ldc 124, 2) := dk_18 124 (dk_at dksX7_newRule_2 0 rfl rfl)
theorem dX7_newRule_47 : decode cX7_newRule 47 = .ok (.invokevirtual 239, 3) := dk_182 0 239 (dk_at dksX7_newRule_2 2 rfl rfl)
theorem dX7_newRule_50 : decode cX7_newRule 50 = .ok (.ifCond .eq 10, 3) := dk_153 0 10 (dk_at dksX7_newRule_2 5 rfl rfl)
theorem dX7_newRule_53 : decode cX7_newRule 53 = .ok (.aload_n 0, 1) := dk_42 (dk_at dksX7_newRule_2 8 rfl rfl)
theorem dX7_newRule_54 : decode cX7_newRule 54 = .ok (.invokevirtual 242, 3) := dk_182 0 242 (dk_at dksX7_newRule_2 9 rfl rfl)
theorem dX7_newRule_57 : decode cX7_newRule 57 = .ok (.goto 4, 3) := dk_167 0 4 (dk_at dksX7_newRule_2 12 rfl rfl)
theorem dX7_newRule_60 : decode cX7_newRule 60 = .ok (.iconst 0, 1) := dk_3 (dk_at dksX7_newRule_2 15 rfl rfl)
theorem dX7_newRule_61 : decode cX7_newRule 61 = .ok (.istore 5, 2) := dk_54 5 (dk_at dksX7_newRule_2 16 rfl rfl)
theorem dX7_newRule_63 : decode cX7_newRule 63 = .ok (.iload 5, 2) := dk_21 5 (dk_at dksX7_newRule_2 18 rfl rfl)
theorem dX7_newRule_65 : decode cX7_newRule 65 = .ok (.ifCond .ne 7, 3) := dk_154 0 7 (dk_at dksX7_newRule_2 20 rfl rfl)
theorem dX7_newRule_68 : decode cX7_newRule 68 = .ok (.iconst 0, 1) := dk_3 (dk_at dksX7_newRule_2 23 rfl rfl)
theorem dX7_newRule_69 : decode cX7_newRule 69 = .ok (.goto 10, 3) := dk_167 0 10 (dk_at dksX7_newRule_3 0 rfl rfl)
theorem dX7_newRule_72 : decode cX7_newRule 72 = .ok (.aload_n 0, 1) := dk_42 (dk_at dksX7_newRule_3 3 rfl rfl)
theorem dX7_newRule_73 : decode cX7_newRule 73 = .ok (.iconst 0, 1) := dk_3 (dk_at dksX7_newRule_3 4 rfl rfl)
theorem dX7_newRule_74 : decode cX7_newRule 74 = .ok (.bipush 99, 2) := dk_16 99 (dk_at dksX7_newRule_3 5 rfl rfl)
theorem dX7_newRule_76 : decode cX7_newRule 76 = .ok (.invokevirtual 80, 3) := dk_182 0 80 (dk_at dksX7_newRule_3 7 rfl rfl)
theorem dX7_newRule_79 : decode cX7_newRule 79 = .ok (.istore 6, 2) := dk_54 6 (dk_at dksX7_newRule_3 10 rfl rfl)
theorem dX7_newRule_81 : decode cX7_newRule 81 = .ok (.aload_n 0, 1) := dk_42 (dk_at dksX7_newRule_3 12 rfl rfl)
theorem dX7_newRule_82 : decode cX7_newRule 82 = .ok (.ldc 114, 2) := dk_18 114 (dk_at dksX7_newRule_3 13 rfl rfl)
theorem dX7_newRule_84 : decode cX7_newRule 84 = .ok (.invokevirtual 239, 3) := dk_182 0 239 (dk_at dksX7_newRule_3 15 rfl rfl)
theorem dX7_newRule_87 : decode cX7_newRule 87 = .ok (.ifCond .eq 10, 3) := dk_153 0 10 (dk_at dksX7_newRule_3 18 rfl rfl)
theorem dX7_newRule_90 : decode cX7_newRule 90 = .ok (.aload_n 0, 1) := dk_42 (dk_at dksX7_newRule_3 21 rfl rfl)
theorem dX7_newRule_91 : decode cX7_newRule 91 = .ok (.invokevirtual 242, 3) := dk_182 0 242 (dk_at dksX7_newRule_4 0 rfl rfl)
theorem dX7_newRule_94 : decode cX7_newRule 94 = .ok (.goto 4, 3) := dk_167 0 4 (dk_at dksX7_newRule_4 3 rfl rfl)
theorem dX7_newRule_97 : decode cX7_newRule 97 = .ok (.iconst 0, 1) := dk_3 (dk_at dksX7_newRule_4 6 rfl rfl)
theorem dX7_newRule_98 : decode cX7_newRule 98 = .ok (.istore 7, 2) := dk_54 7 (dk_at dksX7_newRule_4 7 rfl rfl)
theorem dX7_newRule_100 : decode cX7_newRule 100 = .ok (.iload 7, 2) := dk_21 7 (dk_at dksX7_newRule_4 9 rfl rfl)
theorem dX7_newRule_102 : decode cX7_newRule 102 = .ok (.ifCond .ne 7, 3) := dk_154 0 7 (dk_at dksX7_newRule_4 11 rfl rfl)
theorem dX7_newRule_105 : decode cX7_newRule 105 = .ok (.iconst 0, 1) := dk_3 (dk_at dksX7_newRule_4 14 rfl rfl)
theorem dX7_newRule_106 : decode cX7_newRule 106 = .ok (.goto 10, 3) := dk_167 0 10 (dk_at dksX7_newRule_4 15 rfl rfl)
theorem dX7_newRule_109 : decode cX7_newRule 109 = .ok (.aload_n 0, 1) := dk_42 (dk_at dksX7_newRule_4 18 rfl rfl)
theorem dX7_newRule_110 : decode cX7_newRule 110 = .ok (.iconst 0, 1) := dk_3 (dk_at dksX7_newRule_4 19 rfl rfl)
theorem dX7_newRule_111 : decode cX7_newRule 111 = .ok (.bipush 9, 2) := dk_16 9 (dk_at dksX7_newRule_4 20 rfl rfl)
theorem dX7_newRule_113 : decode cX7_newRule 113 = .ok (.invokevirtual 80, 3) := dk_182 0 80 (dk_at dksX7_newRule_5 0 rfl rfl)
theorem dX7_newRule_116 : decode cX7_newRule 116 = .ok (.istore 8, 2) := dk_54 8 (dk_at dksX7_newRule_5 3 rfl rfl)
theorem dX7_newRule_118 : decode cX7_newRule 118 = .ok (.aload_n 1, 1) := dk_43 (dk_at dksX7_newRule_5 5 rfl rfl)
theorem dX7_newRule_119 : decode cX7_newRule 119 = .ok (.getfield 245, 3) := dk_180 0 245 (dk_at dksX7_newRule_5 6 rfl rfl)
theorem dX7_newRule_122 : decode cX7_newRule 122 = .ok (.iload_n 2, 1) := dk_28 (dk_at dksX7_newRule_5 9 rfl rfl)
theorem dX7_newRule_123 : decode cX7_newRule 123 = .ok (.new 248, 3) := dk_187 0 248 (dk_at dksX7_newRule_5 10 rfl rfl)
theorem dX7_newRule_126 : decode cX7_newRule 126 = .ok (.dup, 1) := dk_89 (dk_at dksX7_newRule_5 13 rfl rfl)
theorem dX7_newRule_127 : decode cX7_newRule 127 = .ok (.iload_n 3, 1) := dk_29 (dk_at dksX7_newRule_5 14 rfl rfl)
theorem dX7_newRule_128 : decode cX7_newRule 128 = .ok (.iload 4, 2) := dk_21 4 (dk_at dksX7_newRule_5 15 rfl rfl)
theorem dX7_newRule_130 : decode cX7_newRule 130 = .ok (.iload 5, 2) := dk_21 5 (dk_at dksX7_newRule_5 17 rfl rfl)
theorem dX7_newRule_132 : decode cX7_newRule 132 = .ok (.iload 6, 2) := dk_21 6 (dk_at dksX7_newRule_5 19 rfl rfl)
theorem dX7_newRule_134 : decode cX7_newRule 134 = .ok (.iload 7, 2) := dk_21 7 (dk_at dksX7_newRule_5 21 rfl rfl)
theorem dX7_newRule_136 : decode cX7_newRule 136 = .ok (.iload 8, 2) := dk_21 8 (dk_at dksX7_newRule_6 0 rfl rfl)
theorem dX7_newRule_138 : decode cX7_newRule 138 = .ok (.aload_n 0, 1) := dk_42 (dk_at dksX7_newRule_6 2 rfl rfl)
theorem dX7_newRule_139 : decode cX7_newRule 139 = .ok (.ldc 126, 2) := dk_18 126 (dk_at dksX7_newRule_6 3 rfl rfl)
theorem dX7_newRule_141 : decode cX7_newRule 141 = .ok (.invokevirtual 239, 3) := dk_182 0 239 (dk_at dksX7_newRule_6 5 rfl rfl)
theorem dX7_newRule_144 : decode cX7_newRule 144 = .ok (.ifCond .eq 12, 3) := dk_153 0 12 (dk_at dksX7_newRule_6 8 rfl rfl)
theorem dX7_newRule_147 : decode cX7_newRule 147 = .ok (.aload_n 0, 1) := dk_42 (dk_at dksX7_newRule_6 11 rfl rfl)
theorem dX7_newRule_148 : decode cX7_newRule 148 = .ok (.aload_n 1, 1) := dk_43 (dk_at dksX7_newRule_6 12 rfl rfl)
theorem dX7_newRule_149 : decode cX7_newRule 149 = .ok (.iconst 0, 1) := dk_3 (dk_at dksX7_newRule_6 13 rfl rfl)
theorem dX7_newRule_150 : decode cX7_newRule 150 = .ok (.invokevirtual 250, 3) := dk_182 0 250 (dk_at dksX7_newRule_6 14 rfl rfl)
theorem dX7_newRule_153 : decode cX7_newRule 153 = .ok (.goto 4, 3) := dk_167 0 4 (dk_at dksX7_newRule_6 17 rfl rfl)
theorem dX7_newRule_156 : decode cX7_newRule 156 = .ok (.iconst (-1), 1) := dk_2 (dk_at dksX7_newRule_6 20 rfl rfl)
theorem dX7_newRule_157 : decode cX7_newRule 157 = .ok (.invokespecial 253, 3) := dk_183 0 253 (dk_at dksX7_newRule_6 21 rfl rfl)
theorem dX7_newRule_160 : decode cX7_newRule 160 = .ok (.aastore, 1) := dk_83 (dk_at dksX7_newRule_7 0 rfl rfl)
theorem dX7_newRule_161 : decode cX7_newRule 161 = .ok (.aload_n 1, 1) := dk_43 (dk_at dksX7_newRule_7 1 rfl rfl)
theorem dX7_newRule_162 : decode cX7_newRule 162 = .ok (.dup, 1) := dk_89 (dk_at dksX7_newRule_7 2 rfl rfl)
theorem dX7_newRule_163 : decode cX7_newRule 163 = .ok (.getfield 232, 3) := dk_180 0 232 (dk_at dksX7_newRule_7 3 rfl rfl)
theorem dX7_newRule_166 : decode cX7_newRule 166 = .ok (.iconst 1, 1) := dk_4 (dk_at dksX7_newRule_7 6 rfl rfl)
theorem dX7_newRule_167 : decode cX7_newRule 167 = .ok (.iadd, 1) := dk_96 (dk_at dksX7_newRule_7 7 rfl rfl)
theorem dX7_newRule_168 : decode cX7_newRule 168 = .ok (.putfield 232, 3) := dk_181 0 232 (dk_at dksX7_newRule_7 8 rfl rfl)
theorem dX7_newRule_171 : decode cX7_newRule 171 = .ok (.return_, 1) := dk_177 (dk_at dksX7_newRule_7 11 rfl rfl)
abbrev cX7_cue : ByteArray := prog_9_method_24_code
def yX7_cue : MethodName := ⟨RX7, "cue", "(LCatWitness$Court;)I"⟩
def dkwX7_cue_0 : List UInt8 := [42, 43, 42, 182, 0, 161, 182, 0, 171, 3, 182, 0, 184, 172]
abbrev dktX7_cue_0 : List UInt8 := dkwX7_cue_0 ++ []
theorem dksX7_cue_0 : cX7_cue.data.toList.drop 0 = dktX7_cue_0 := by decide +kernel
theorem dX7_cue_0 : decode cX7_cue 0 = .ok (.aload_n 0, 1) := dk_42 (dk_at dksX7_cue_0 0 rfl rfl)
theorem dX7_cue_1 : decode cX7_cue 1 = .ok (.aload_n 1, 1) := dk_43 (dk_at dksX7_cue_0 1 rfl rfl)
theorem dX7_cue_2 : decode cX7_cue 2 = .ok (.aload_n 0, 1) := dk_42 (dk_at dksX7_cue_0 2 rfl rfl)
theorem dX7_cue_3 : decode cX7_cue 3 = .ok (.invokevirtual 161, 3) := dk_182 0 161 (dk_at dksX7_cue_0 3 rfl rfl)
theorem dX7_cue_6 : decode cX7_cue 6 = .ok (.invokevirtual 171, 3) := dk_182 0 171 (dk_at dksX7_cue_0 6 rfl rfl)
theorem dX7_cue_9 : decode cX7_cue 9 = .ok (.iconst 0, 1) := dk_3 (dk_at dksX7_cue_0 9 rfl rfl)
theorem dX7_cue_10 : decode cX7_cue 10 = .ok (.invokevirtual 184, 3) := dk_182 0 184 (dk_at dksX7_cue_0 10 rfl rfl)
theorem dX7_cue_13 : decode cX7_cue 13 = .ok (.ireturn, 1) := dk_172 (dk_at dksX7_cue_0 13 rfl rfl)
abbrev cX7_known : ByteArray := prog_9_method_22_code
def yX7_known : MethodName := ⟨RX7, "known", "(II)I"⟩
def dkwX7_known_2 : List UInt8 := [182, 0, 19, 27, 172]
abbrev dktX7_known_2 : List UInt8 := dkwX7_known_2 ++ []
def dkwX7_known_1 : List UInt8 := [184, 0, 180, 153, 0, 19, 42, 180, 0, 3, 180, 0, 55, 8, 42, 180, 0, 29, 182, 0, 59, 191, 42]
abbrev dktX7_known_1 : List UInt8 := dkwX7_known_1 ++ dktX7_known_2
def dkwX7_known_0 : List UInt8 := [27, 156, 0, 19, 42, 180, 0, 3, 180, 0, 55, 6, 42, 180, 0, 29, 182, 0, 59, 191, 28, 27]
abbrev dktX7_known_0 : List UInt8 := dkwX7_known_0 ++ dktX7_known_1
theorem dksX7_known_0 : cX7_known.data.toList.drop 0 = dktX7_known_0 := by decide +kernel
theorem dksX7_known_1 : cX7_known.data.toList.drop 22 = dktX7_known_1 := dk_seg dksX7_known_0 22 rfl rfl
theorem dksX7_known_2 : cX7_known.data.toList.drop 45 = dktX7_known_2 := dk_seg dksX7_known_1 23 rfl rfl
theorem dX7_known_0 : decode cX7_known 0 = .ok (.iload_n 1, 1) := dk_27 (dk_at dksX7_known_0 0 rfl rfl)
theorem dX7_known_1 : decode cX7_known 1 = .ok (.ifCond .ge 19, 3) := dk_156 0 19 (dk_at dksX7_known_0 1 rfl rfl)
theorem dX7_known_4 : decode cX7_known 4 = .ok (.aload_n 0, 1) := dk_42 (dk_at dksX7_known_0 4 rfl rfl)
theorem dX7_known_5 : decode cX7_known 5 = .ok (.getfield 3, 3) := dk_180 0 3 (dk_at dksX7_known_0 5 rfl rfl)
theorem dX7_known_8 : decode cX7_known 8 = .ok (.getfield 55, 3) := dk_180 0 55 (dk_at dksX7_known_0 8 rfl rfl)
theorem dX7_known_11 : decode cX7_known 11 = .ok (.iconst 3, 1) := dk_6 (dk_at dksX7_known_0 11 rfl rfl)
theorem dX7_known_12 : decode cX7_known 12 = .ok (.aload_n 0, 1) := dk_42 (dk_at dksX7_known_0 12 rfl rfl)
theorem dX7_known_13 : decode cX7_known 13 = .ok (.getfield 29, 3) := dk_180 0 29 (dk_at dksX7_known_0 13 rfl rfl)
theorem dX7_known_16 : decode cX7_known 16 = .ok (.invokevirtual 59, 3) := dk_182 0 59 (dk_at dksX7_known_0 16 rfl rfl)
theorem dX7_known_19 : decode cX7_known 19 = .ok (.athrow, 1) := dk_191 (dk_at dksX7_known_0 19 rfl rfl)
theorem dX7_known_20 : decode cX7_known 20 = .ok (.iload_n 2, 1) := dk_28 (dk_at dksX7_known_0 20 rfl rfl)
theorem dX7_known_21 : decode cX7_known 21 = .ok (.iload_n 1, 1) := dk_27 (dk_at dksX7_known_0 21 rfl rfl)
theorem dX7_known_22 : decode cX7_known 22 = .ok (.invokestatic 180, 3) := dk_184 0 180 (dk_at dksX7_known_1 0 rfl rfl)
theorem dX7_known_25 : decode cX7_known 25 = .ok (.ifCond .eq 19, 3) := dk_153 0 19 (dk_at dksX7_known_1 3 rfl rfl)
theorem dX7_known_28 : decode cX7_known 28 = .ok (.aload_n 0, 1) := dk_42 (dk_at dksX7_known_1 6 rfl rfl)
theorem dX7_known_29 : decode cX7_known 29 = .ok (.getfield 3, 3) := dk_180 0 3 (dk_at dksX7_known_1 7 rfl rfl)
theorem dX7_known_32 : decode cX7_known 32 = .ok (.getfield 55, 3) := dk_180 0 55 (dk_at dksX7_known_1 10 rfl rfl)
theorem dX7_known_35 : decode cX7_known 35 = .ok (.iconst 5, 1) := dk_8 (dk_at dksX7_known_1 13 rfl rfl)
theorem dX7_known_36 : decode cX7_known 36 = .ok (.aload_n 0, 1) := dk_42 (dk_at dksX7_known_1 14 rfl rfl)
theorem dX7_known_37 : decode cX7_known 37 = .ok (.getfield 29, 3) := dk_180 0 29 (dk_at dksX7_known_1 15 rfl rfl)
theorem dX7_known_40 : decode cX7_known 40 = .ok (.invokevirtual 59, 3) := dk_182 0 59 (dk_at dksX7_known_1 18 rfl rfl)
theorem dX7_known_43 : decode cX7_known 43 = .ok (.athrow, 1) := dk_191 (dk_at dksX7_known_1 21 rfl rfl)
theorem dX7_known_44 : decode cX7_known 44 = .ok (.aload_n 0, 1) := dk_42 (dk_at dksX7_known_1 22 rfl rfl)
theorem dX7_known_45 : decode cX7_known 45 = .ok (.invokevirtual 19, 3) := dk_182 0 19 (dk_at dksX7_known_2 0 rfl rfl)
theorem dX7_known_48 : decode cX7_known 48 = .ok (.iload_n 1, 1) := dk_27 (dk_at dksX7_known_2 3 rfl rfl)
theorem dX7_known_49 : decode cX7_known 49 = .ok (.ireturn, 1) := dk_172 (dk_at dksX7_known_2 4 rfl rfl)
abbrev cX7_reads : ByteArray := prog_9_method_12_code
def yX7_reads : MethodName := ⟨RX7, "reads", "(Ljava/lang/String;)Z"⟩
def dkwX7_reads_0 : List UInt8 := [42, 43, 182, 0, 72, 154, 0, 5, 3, 172, 42, 182, 0, 19, 4, 172]
abbrev dktX7_reads_0 : List UInt8 := dkwX7_reads_0 ++ []
theorem dksX7_reads_0 : cX7_reads.data.toList.drop 0 = dktX7_reads_0 := by decide +kernel
theorem dX7_reads_0 : decode cX7_reads 0 = .ok (.aload_n 0, 1) := dk_42 (dk_at dksX7_reads_0 0 rfl rfl)
theorem dX7_reads_1 : decode cX7_reads 1 = .ok (.aload_n 1, 1) := dk_43 (dk_at dksX7_reads_0 1 rfl rfl)
theorem dX7_reads_2 : decode cX7_reads 2 = .ok (.invokevirtual 72, 3) := dk_182 0 72 (dk_at dksX7_reads_0 2 rfl rfl)
theorem dX7_reads_5 : decode cX7_reads 5 = .ok (.ifCond .ne 5, 3) := dk_154 0 5 (dk_at dksX7_reads_0 5 rfl rfl)
theorem dX7_reads_8 : decode cX7_reads 8 = .ok (.iconst 0, 1) := dk_3 (dk_at dksX7_reads_0 8 rfl rfl)
theorem dX7_reads_9 : decode cX7_reads 9 = .ok (.ireturn, 1) := dk_172 (dk_at dksX7_reads_0 9 rfl rfl)
theorem dX7_reads_10 : decode cX7_reads 10 = .ok (.aload_n 0, 1) := dk_42 (dk_at dksX7_reads_0 10 rfl rfl)
theorem dX7_reads_11 : decode cX7_reads 11 = .ok (.invokevirtual 19, 3) := dk_182 0 19 (dk_at dksX7_reads_0 11 rfl rfl)
theorem dX7_reads_14 : decode cX7_reads 14 = .ok (.iconst 1, 1) := dk_4 (dk_at dksX7_reads_0 14 rfl rfl)
theorem dX7_reads_15 : decode cX7_reads 15 = .ok (.ireturn, 1) := dk_172 (dk_at dksX7_reads_0 15 rfl rfl)
abbrev cX7_compare : ByteArray := prog_9_method_15_code
def yX7_compare : MethodName := ⟨RX7, "compare", "()I"⟩
def dkwX7_compare_2 : List UInt8 := [182, 0, 19, 27, 172]
abbrev dktX7_compare_2 : List UInt8 := dkwX7_compare_2 ++ []
def dkwX7_compare_1 : List UInt8 := [16, 62, 167, 0, 5, 16, 61, 60, 42, 27, 146, 182, 0, 64, 154, 0, 8, 42, 182, 0, 68, 191, 42]
abbrev dktX7_compare_1 : List UInt8 := dkwX7_compare_1 ++ dktX7_compare_2
def dkwX7_compare_0 : List UInt8 := [42, 16, 60, 182, 0, 64, 153, 0, 8, 16, 60, 167, 0, 19, 42, 16, 62, 182, 0, 64, 153, 0, 8]
abbrev dktX7_compare_0 : List UInt8 := dkwX7_compare_0 ++ dktX7_compare_1
theorem dksX7_compare_0 : cX7_compare.data.toList.drop 0 = dktX7_compare_0 := by decide +kernel
theorem dksX7_compare_1 : cX7_compare.data.toList.drop 23 = dktX7_compare_1 := dk_seg dksX7_compare_0 23 rfl rfl
theorem dksX7_compare_2 : cX7_compare.data.toList.drop 46 = dktX7_compare_2 := dk_seg dksX7_compare_1 23 rfl rfl
theorem dX7_compare_0 : decode cX7_compare 0 = .ok (.aload_n 0, 1) := dk_42 (dk_at dksX7_compare_0 0 rfl rfl)
theorem dX7_compare_1 : decode cX7_compare 1 = .ok (.bipush 60, 2) := dk_16 60 (dk_at dksX7_compare_0 1 rfl rfl)
theorem dX7_compare_3 : decode cX7_compare 3 = .ok (.invokevirtual 64, 3) := dk_182 0 64 (dk_at dksX7_compare_0 3 rfl rfl)
theorem dX7_compare_6 : decode cX7_compare 6 = .ok (.ifCond .eq 8, 3) := dk_153 0 8 (dk_at dksX7_compare_0 6 rfl rfl)
theorem dX7_compare_9 : decode cX7_compare 9 = .ok (.bipush 60, 2) := dk_16 60 (dk_at dksX7_compare_0 9 rfl rfl)
theorem dX7_compare_11 : decode cX7_compare 11 = .ok (.goto 19, 3) := dk_167 0 19 (dk_at dksX7_compare_0 11 rfl rfl)
theorem dX7_compare_14 : decode cX7_compare 14 = .ok (.aload_n 0, 1) := dk_42 (dk_at dksX7_compare_0 14 rfl rfl)
theorem dX7_compare_15 : decode cX7_compare 15 = .ok (.bipush 62, 2) := dk_16 62 (dk_at dksX7_compare_0 15 rfl rfl)
theorem dX7_compare_17 : decode cX7_compare 17 = .ok (.invokevirtual 64, 3) := dk_182 0 64 (dk_at dksX7_compare_0 17 rfl rfl)
theorem dX7_compare_20 : decode cX7_compare 20 = .ok (.ifCond .eq 8, 3) := dk_153 0 8 (dk_at dksX7_compare_0 20 rfl rfl)
theorem dX7_compare_23 : decode cX7_compare 23 = .ok (.bipush 62, 2) := dk_16 62 (dk_at dksX7_compare_1 0 rfl rfl)
theorem dX7_compare_25 : decode cX7_compare 25 = .ok (.goto 5, 3) := dk_167 0 5 (dk_at dksX7_compare_1 2 rfl rfl)
theorem dX7_compare_28 : decode cX7_compare 28 = .ok (.bipush 61, 2) := dk_16 61 (dk_at dksX7_compare_1 5 rfl rfl)
theorem dX7_compare_30 : decode cX7_compare 30 = .ok (.istore_n 1, 1) := dk_60 (dk_at dksX7_compare_1 7 rfl rfl)
theorem dX7_compare_31 : decode cX7_compare 31 = .ok (.aload_n 0, 1) := dk_42 (dk_at dksX7_compare_1 8 rfl rfl)
theorem dX7_compare_32 : decode cX7_compare 32 = .ok (.iload_n 1, 1) := dk_27 (dk_at dksX7_compare_1 9 rfl rfl)
theorem dX7_compare_33 : decode cX7_compare 33 = .ok (.i2c, 1) := dk_146 (dk_at dksX7_compare_1 10 rfl rfl)
theorem dX7_compare_34 : decode cX7_compare 34 = .ok (.invokevirtual 64, 3) := dk_182 0 64 (dk_at dksX7_compare_1 11 rfl rfl)
theorem dX7_compare_37 : decode cX7_compare 37 = .ok (.ifCond .ne 8, 3) := dk_154 0 8 (dk_at dksX7_compare_1 14 rfl rfl)
theorem dX7_compare_40 : decode cX7_compare 40 = .ok (.aload_n 0, 1) := dk_42 (dk_at dksX7_compare_1 17 rfl rfl)
theorem dX7_compare_41 : decode cX7_compare 41 = .ok (.invokevirtual 68, 3) := dk_182 0 68 (dk_at dksX7_compare_1 18 rfl rfl)
theorem dX7_compare_44 : decode cX7_compare 44 = .ok (.athrow, 1) := dk_191 (dk_at dksX7_compare_1 21 rfl rfl)
theorem dX7_compare_45 : decode cX7_compare 45 = .ok (.aload_n 0, 1) := dk_42 (dk_at dksX7_compare_1 22 rfl rfl)
theorem dX7_compare_46 : decode cX7_compare 46 = .ok (.invokevirtual 19, 3) := dk_182 0 19 (dk_at dksX7_compare_2 0 rfl rfl)
theorem dX7_compare_49 : decode cX7_compare 49 = .ok (.iload_n 1, 1) := dk_27 (dk_at dksX7_compare_2 3 rfl rfl)
theorem dX7_compare_50 : decode cX7_compare 50 = .ok (.ireturn, 1) := dk_172 (dk_at dksX7_compare_2 4 rfl rfl)
abbrev cX7_isSign : ByteArray := prog_9_method_6_code
def yX7_isSign : MethodName := ⟨RX7, "isSign", "(C)Z"⟩
def dkwX7_isSign_1 : List UInt8 := [4, 167, 0, 4, 3, 172]
abbrev dktX7_isSign_1 : List UInt8 := dkwX7_isSign_1 ++ []
def dkwX7_isSign_0 : List UInt8 := [42, 180, 0, 32, 6, 160, 0, 23, 42, 180, 0, 3, 180, 0, 22, 42, 180, 0, 29, 51, 27, 160, 0, 7]
abbrev dktX7_isSign_0 : List UInt8 := dkwX7_isSign_0 ++ dktX7_isSign_1
theorem dksX7_isSign_0 : cX7_isSign.data.toList.drop 0 = dktX7_isSign_0 := by decide +kernel
theorem dksX7_isSign_1 : cX7_isSign.data.toList.drop 24 = dktX7_isSign_1 := dk_seg dksX7_isSign_0 24 rfl rfl
theorem dX7_isSign_0 : decode cX7_isSign 0 = .ok (.aload_n 0, 1) := dk_42 (dk_at dksX7_isSign_0 0 rfl rfl)
theorem dX7_isSign_1 : decode cX7_isSign 1 = .ok (.getfield 32, 3) := dk_180 0 32 (dk_at dksX7_isSign_0 1 rfl rfl)
theorem dX7_isSign_4 : decode cX7_isSign 4 = .ok (.iconst 3, 1) := dk_6 (dk_at dksX7_isSign_0 4 rfl rfl)
theorem dX7_isSign_5 : decode cX7_isSign 5 = .ok (.if_icmp .ne 23, 3) := dk_160 0 23 (dk_at dksX7_isSign_0 5 rfl rfl)
theorem dX7_isSign_8 : decode cX7_isSign 8 = .ok (.aload_n 0, 1) := dk_42 (dk_at dksX7_isSign_0 8 rfl rfl)
theorem dX7_isSign_9 : decode cX7_isSign 9 = .ok (.getfield 3, 3) := dk_180 0 3 (dk_at dksX7_isSign_0 9 rfl rfl)
theorem dX7_isSign_12 : decode cX7_isSign 12 = .ok (.getfield 22, 3) := dk_180 0 22 (dk_at dksX7_isSign_0 12 rfl rfl)
theorem dX7_isSign_15 : decode cX7_isSign 15 = .ok (.aload_n 0, 1) := dk_42 (dk_at dksX7_isSign_0 15 rfl rfl)
theorem dX7_isSign_16 : decode cX7_isSign 16 = .ok (.getfield 29, 3) := dk_180 0 29 (dk_at dksX7_isSign_0 16 rfl rfl)
theorem dX7_isSign_19 : decode cX7_isSign 19 = .ok (.baload, 1) := dk_51 (dk_at dksX7_isSign_0 19 rfl rfl)
theorem dX7_isSign_20 : decode cX7_isSign 20 = .ok (.iload_n 1, 1) := dk_27 (dk_at dksX7_isSign_0 20 rfl rfl)
theorem dX7_isSign_21 : decode cX7_isSign 21 = .ok (.if_icmp .ne 7, 3) := dk_160 0 7 (dk_at dksX7_isSign_0 21 rfl rfl)
theorem dX7_isSign_24 : decode cX7_isSign 24 = .ok (.iconst 1, 1) := dk_4 (dk_at dksX7_isSign_1 0 rfl rfl)
theorem dX7_isSign_25 : decode cX7_isSign 25 = .ok (.goto 4, 3) := dk_167 0 4 (dk_at dksX7_isSign_1 1 rfl rfl)
theorem dX7_isSign_28 : decode cX7_isSign 28 = .ok (.iconst 0, 1) := dk_3 (dk_at dksX7_isSign_1 4 rfl rfl)
theorem dX7_isSign_29 : decode cX7_isSign 29 = .ok (.ireturn, 1) := dk_172 (dk_at dksX7_isSign_1 5 rfl rfl)
abbrev cX7_number : ByteArray := prog_9_method_10_code
def yX7_number : MethodName := ⟨RX7, "number", "(II)I"⟩
def dkwX7_number_2 : List UInt8 := [180, 0, 42, 62, 42, 182, 0, 19, 29, 172]
abbrev dktX7_number_2 : List UInt8 := dkwX7_number_2 ++ []
def dkwX7_number_1 : List UInt8 := [180, 0, 42, 28, 164, 0, 19, 42, 180, 0, 3, 180, 0, 55, 7, 42, 180, 0, 29, 182, 0, 59, 191, 42]
abbrev dktX7_number_1 : List UInt8 := dkwX7_number_1 ++ dktX7_number_2
def dkwX7_number_0 : List UInt8 := [42, 180, 0, 32, 5, 159, 0, 8, 42, 182, 0, 68, 191, 42, 180, 0, 42, 27, 161, 0, 11, 42]
abbrev dktX7_number_0 : List UInt8 := dkwX7_number_0 ++ dktX7_number_1
theorem dksX7_number_0 : cX7_number.data.toList.drop 0 = dktX7_number_0 := by decide +kernel
theorem dksX7_number_1 : cX7_number.data.toList.drop 22 = dktX7_number_1 := dk_seg dksX7_number_0 22 rfl rfl
theorem dksX7_number_2 : cX7_number.data.toList.drop 46 = dktX7_number_2 := dk_seg dksX7_number_1 24 rfl rfl
theorem dX7_number_0 : decode cX7_number 0 = .ok (.aload_n 0, 1) := dk_42 (dk_at dksX7_number_0 0 rfl rfl)
theorem dX7_number_1 : decode cX7_number 1 = .ok (.getfield 32, 3) := dk_180 0 32 (dk_at dksX7_number_0 1 rfl rfl)
theorem dX7_number_4 : decode cX7_number 4 = .ok (.iconst 2, 1) := dk_5 (dk_at dksX7_number_0 4 rfl rfl)
theorem dX7_number_5 : decode cX7_number 5 = .ok (.if_icmp .eq 8, 3) := dk_159 0 8 (dk_at dksX7_number_0 5 rfl rfl)
theorem dX7_number_8 : decode cX7_number 8 = .ok (.aload_n 0, 1) := dk_42 (dk_at dksX7_number_0 8 rfl rfl)
theorem dX7_number_9 : decode cX7_number 9 = .ok (.invokevirtual 68, 3) := dk_182 0 68 (dk_at dksX7_number_0 9 rfl rfl)
theorem dX7_number_12 : decode cX7_number 12 = .ok (.athrow, 1) := dk_191 (dk_at dksX7_number_0 12 rfl rfl)
theorem dX7_number_13 : decode cX7_number 13 = .ok (.aload_n 0, 1) := dk_42 (dk_at dksX7_number_0 13 rfl rfl)
theorem dX7_number_14 : decode cX7_number 14 = .ok (.getfield 42, 3) := dk_180 0 42 (dk_at dksX7_number_0 14 rfl rfl)
theorem dX7_number_17 : decode cX7_number 17 = .ok (.iload_n 1, 1) := dk_27 (dk_at dksX7_number_0 17 rfl rfl)
theorem dX7_number_18 : decode cX7_number 18 = .ok (.if_icmp .lt 11, 3) := dk_161 0 11 (dk_at dksX7_number_0 18 rfl rfl)
theorem dX7_number_21 : decode cX7_number 21 = .ok (.aload_n 0, 1) := dk_42 (dk_at dksX7_number_0 21 rfl rfl)
theorem dX7_number_22 : decode cX7_number 22 = .ok (.getfield 42, 3) := dk_180 0 42 (dk_at dksX7_number_1 0 rfl rfl)
theorem dX7_number_25 : decode cX7_number 25 = .ok (.iload_n 2, 1) := dk_28 (dk_at dksX7_number_1 3 rfl rfl)
theorem dX7_number_26 : decode cX7_number 26 = .ok (.if_icmp .le 19, 3) := dk_164 0 19 (dk_at dksX7_number_1 4 rfl rfl)
theorem dX7_number_29 : decode cX7_number 29 = .ok (.aload_n 0, 1) := dk_42 (dk_at dksX7_number_1 7 rfl rfl)
theorem dX7_number_30 : decode cX7_number 30 = .ok (.getfield 3, 3) := dk_180 0 3 (dk_at dksX7_number_1 8 rfl rfl)
theorem dX7_number_33 : decode cX7_number 33 = .ok (.getfield 55, 3) := dk_180 0 55 (dk_at dksX7_number_1 11 rfl rfl)
theorem dX7_number_36 : decode cX7_number 36 = .ok (.iconst 4, 1) := dk_7 (dk_at dksX7_number_1 14 rfl rfl)
theorem dX7_number_37 : decode cX7_number 37 = .ok (.aload_n 0, 1) := dk_42 (dk_at dksX7_number_1 15 rfl rfl)
theorem dX7_number_38 : decode cX7_number 38 = .ok (.getfield 29, 3) := dk_180 0 29 (dk_at dksX7_number_1 16 rfl rfl)
theorem dX7_number_41 : decode cX7_number 41 = .ok (.invokevirtual 59, 3) := dk_182 0 59 (dk_at dksX7_number_1 19 rfl rfl)
theorem dX7_number_44 : decode cX7_number 44 = .ok (.athrow, 1) := dk_191 (dk_at dksX7_number_1 22 rfl rfl)
theorem dX7_number_45 : decode cX7_number 45 = .ok (.aload_n 0, 1) := dk_42 (dk_at dksX7_number_1 23 rfl rfl)
theorem dX7_number_46 : decode cX7_number 46 = .ok (.getfield 42, 3) := dk_180 0 42 (dk_at dksX7_number_2 0 rfl rfl)
theorem dX7_number_49 : decode cX7_number 49 = .ok (.istore_n 3, 1) := dk_62 (dk_at dksX7_number_2 3 rfl rfl)
theorem dX7_number_50 : decode cX7_number 50 = .ok (.aload_n 0, 1) := dk_42 (dk_at dksX7_number_2 4 rfl rfl)
theorem dX7_number_51 : decode cX7_number 51 = .ok (.invokevirtual 19, 3) := dk_182 0 19 (dk_at dksX7_number_2 5 rfl rfl)
theorem dX7_number_54 : decode cX7_number 54 = .ok (.iload_n 3, 1) := dk_29 (dk_at dksX7_number_2 8 rfl rfl)
theorem dX7_number_55 : decode cX7_number 55 = .ok (.ireturn, 1) := dk_172 (dk_at dksX7_number_2 9 rfl rfl)
abbrev cX7_smell : ByteArray := prog_9_method_23_code
def yX7_smell : MethodName := ⟨RX7, "smell", "(LCatWitness$Court;I)I"⟩
def dkwX7_smell_0 : List UInt8 := [42, 43, 42, 182, 0, 161, 182, 0, 165, 28, 182, 0, 184, 172]
abbrev dktX7_smell_0 : List UInt8 := dkwX7_smell_0 ++ []
theorem dksX7_smell_0 : cX7_smell.data.toList.drop 0 = dktX7_smell_0 := by decide +kernel
theorem dX7_smell_0 : decode cX7_smell 0 = .ok (.aload_n 0, 1) := dk_42 (dk_at dksX7_smell_0 0 rfl rfl)
theorem dX7_smell_1 : decode cX7_smell 1 = .ok (.aload_n 1, 1) := dk_43 (dk_at dksX7_smell_0 1 rfl rfl)
theorem dX7_smell_2 : decode cX7_smell 2 = .ok (.aload_n 0, 1) := dk_42 (dk_at dksX7_smell_0 2 rfl rfl)
theorem dX7_smell_3 : decode cX7_smell 3 = .ok (.invokevirtual 161, 3) := dk_182 0 161 (dk_at dksX7_smell_0 3 rfl rfl)
theorem dX7_smell_6 : decode cX7_smell 6 = .ok (.invokevirtual 165, 3) := dk_182 0 165 (dk_at dksX7_smell_0 6 rfl rfl)
theorem dX7_smell_9 : decode cX7_smell 9 = .ok (.iload_n 2, 1) := dk_28 (dk_at dksX7_smell_0 9 rfl rfl)
theorem dX7_smell_10 : decode cX7_smell 10 = .ok (.invokevirtual 184, 3) := dk_182 0 184 (dk_at dksX7_smell_0 10 rfl rfl)
theorem dX7_smell_13 : decode cX7_smell 13 = .ok (.ireturn, 1) := dk_172 (dk_at dksX7_smell_0 13 rfl rfl)
abbrev cX7_newPerson : ByteArray := prog_9_method_30_code
def yX7_newPerson : MethodName := ⟨RX7, "newPerson", "(LCatWitness$Court;)V"⟩
def dkwX7_newPerson_5 : List UInt8 := [80, 43, 89, 180, 1, 0, 4, 96, 181, 1, 0, 177]
abbrev dktX7_newPerson_5 : List UInt8 := dkwX7_newPerson_5 ++ []
def dkwX7_newPerson_4 : List UInt8 := [182, 0, 250, 120, 128, 54, 5, 167, 255, 234, 43, 180, 1, 7, 28, 21, 5, 79, 43, 180, 1, 10, 28, 33]
abbrev dktX7_newPerson_4 : List UInt8 := dkwX7_newPerson_4 ++ dktX7_newPerson_5
def dkwX7_newPerson_3 : List UInt8 := [42, 18, 126, 182, 0, 239, 153, 0, 28, 42, 180, 0, 32, 4, 160, 0, 20, 21, 5, 4, 42, 43, 21, 5]
abbrev dktX7_newPerson_3 : List UInt8 := dkwX7_newPerson_3 ++ dktX7_newPerson_4
def dkwX7_newPerson_2 : List UInt8 := [42, 18, 124, 182, 0, 239, 153, 0, 13, 42, 3, 16, 99, 182, 0, 80, 167, 0, 4, 3, 79, 3, 54, 5]
abbrev dktX7_newPerson_2 : List UInt8 := dkwX7_newPerson_2 ++ dktX7_newPerson_3
def dkwX7_newPerson_1 : List UInt8 := [180, 1, 3, 28, 42, 18, 85, 182, 0, 239, 153, 0, 7, 4, 167, 0, 4, 3, 79, 43, 180, 1, 5, 28]
abbrev dktX7_newPerson_1 : List UInt8 := dkwX7_newPerson_1 ++ dktX7_newPerson_2
def dkwX7_newPerson_0 : List UInt8 := [43, 180, 1, 0, 61, 42, 43, 28, 16, 6, 162, 0, 7, 4, 167, 0, 4, 3, 182, 0, 211, 66, 43]
abbrev dktX7_newPerson_0 : List UInt8 := dkwX7_newPerson_0 ++ dktX7_newPerson_1
theorem dksX7_newPerson_0 : cX7_newPerson.data.toList.drop 0 = dktX7_newPerson_0 := by decide +kernel
theorem dksX7_newPerson_1 : cX7_newPerson.data.toList.drop 23 = dktX7_newPerson_1 := dk_seg dksX7_newPerson_0 23 rfl rfl
theorem dksX7_newPerson_2 : cX7_newPerson.data.toList.drop 47 = dktX7_newPerson_2 := dk_seg dksX7_newPerson_1 24 rfl rfl
theorem dksX7_newPerson_3 : cX7_newPerson.data.toList.drop 71 = dktX7_newPerson_3 := dk_seg dksX7_newPerson_2 24 rfl rfl
theorem dksX7_newPerson_4 : cX7_newPerson.data.toList.drop 95 = dktX7_newPerson_4 := dk_seg dksX7_newPerson_3 24 rfl rfl
theorem dksX7_newPerson_5 : cX7_newPerson.data.toList.drop 119 = dktX7_newPerson_5 := dk_seg dksX7_newPerson_4 24 rfl rfl
theorem dX7_newPerson_0 : decode cX7_newPerson 0 = .ok (.aload_n 1, 1) := dk_43 (dk_at dksX7_newPerson_0 0 rfl rfl)
theorem dX7_newPerson_1 : decode cX7_newPerson 1 = .ok (.getfield 256, 3) := dk_180 1 0 (dk_at dksX7_newPerson_0 1 rfl rfl)
theorem dX7_newPerson_4 : decode cX7_newPerson 4 = .ok (.istore_n 2, 1) := dk_61 (dk_at dksX7_newPerson_0 4 rfl rfl)
theorem dX7_newPerson_5 : decode cX7_newPerson 5 = .ok (.aload_n 0, 1) := dk_42 (dk_at dksX7_newPerson_0 5 rfl rfl)
theorem dX7_newPerson_6 : decode cX7_newPerson 6 = .ok (.aload_n 1, 1) := dk_43 (dk_at dksX7_newPerson_0 6 rfl rfl)
theorem dX7_newPerson_7 : decode cX7_newPerson 7 = .ok (.iload_n 2, 1) := dk_28 (dk_at dksX7_newPerson_0 7 rfl rfl)
theorem dX7_newPerson_8 : decode cX7_newPerson 8 = .ok (.bipush 6, 2) := dk_16 6 (dk_at dksX7_newPerson_0 8 rfl rfl)
theorem dX7_newPerson_10 : decode cX7_newPerson 10 = .ok (.if_icmp .ge 7, 3) := dk_162 0 7 (dk_at dksX7_newPerson_0 10 rfl rfl)
theorem dX7_newPerson_13 : decode cX7_newPerson 13 = .ok (.iconst 1, 1) := dk_4 (dk_at dksX7_newPerson_0 13 rfl rfl)
theorem dX7_newPerson_14 : decode cX7_newPerson 14 = .ok (.goto 4, 3) := dk_167 0 4 (dk_at dksX7_newPerson_0 14 rfl rfl)
theorem dX7_newPerson_17 : decode cX7_newPerson 17 = .ok (.iconst 0, 1) := dk_3 (dk_at dksX7_newPerson_0 17 rfl rfl)
theorem dX7_newPerson_18 : decode cX7_newPerson 18 = .ok (.invokevirtual 211, 3) := dk_182 0 211 (dk_at dksX7_newPerson_0 18 rfl rfl)
theorem dX7_newPerson_21 : decode cX7_newPerson 21 = .ok (.lstore_n 3, 1) := dk_66 (dk_at dksX7_newPerson_0 21 rfl rfl)
theorem dX7_newPerson_22 : decode cX7_newPerson 22 = .ok (.aload_n 1, 1) := dk_43 (dk_at dksX7_newPerson_0 22 rfl rfl)
theorem dX7_newPerson_23 : decode cX7_newPerson 23 = .ok (.getfield 259, 3) := dk_180 1 3 (dk_at dksX7_newPerson_1 0 rfl rfl)
theorem dX7_newPerson_26 : decode cX7_newPerson 26 = .ok (.iload_n 2, 1) := dk_28 (dk_at dksX7_newPerson_1 3 rfl rfl)
theorem dX7_newPerson_27 : decode cX7_newPerson 27 = .ok (.aload_n 0, 1) := dk_42 (dk_at dksX7_newPerson_1 4 rfl rfl)
theorem dX7_newPerson_28 : decode cX7_newPerson 28 = .ok (.ldc 85, 2) := dk_18 85 (dk_at dksX7_newPerson_1 5 rfl rfl)
theorem dX7_newPerson_30 : decode cX7_newPerson 30 = .ok (.invokevirtual 239, 3) := dk_182 0 239 (dk_at dksX7_newPerson_1 7 rfl rfl)
theorem dX7_newPerson_33 : decode cX7_newPerson 33 = .ok (.ifCond .eq 7, 3) := dk_153 0 7 (dk_at dksX7_newPerson_1 10 rfl rfl)
theorem dX7_newPerson_36 : decode cX7_newPerson 36 = .ok (.iconst 1, 1) := dk_4 (dk_at dksX7_newPerson_1 13 rfl rfl)
theorem dX7_newPerson_37 : decode cX7_newPerson 37 = .ok (.goto 4, 3) := dk_167 0 4 (dk_at dksX7_newPerson_1 14 rfl rfl)
theorem dX7_newPerson_40 : decode cX7_newPerson 40 = .ok (.iconst 0, 1) := dk_3 (dk_at dksX7_newPerson_1 17 rfl rfl)
theorem dX7_newPerson_41 : decode cX7_newPerson 41 = .ok (.iastore, 1) := dk_79 (dk_at dksX7_newPerson_1 18 rfl rfl)
theorem dX7_newPerson_42 : decode cX7_newPerson 42 = .ok (.aload_n 1, 1) := dk_43 (dk_at dksX7_newPerson_1 19 rfl rfl)
theorem dX7_newPerson_43 : decode cX7_newPerson 43 = .ok (.getfield 261, 3) := dk_180 1 5 (dk_at dksX7_newPerson_1 20 rfl rfl)
theorem dX7_newPerson_46 : decode cX7_newPerson 46 = .ok (.iload_n 2, 1) := dk_28 (dk_at dksX7_newPerson_1 23 rfl rfl)
theorem dX7_newPerson_47 : decode cX7_newPerson 47 = .ok (.aload_n 0, 1) := dk_42 (dk_at dksX7_newPerson_2 0 rfl rfl)
theorem dX7_newPerson_48 : decode cX7_newPerson 48 = .ok (.ldc 124, 2) := dk_18 124 (dk_at dksX7_newPerson_2 1 rfl rfl)
theorem dX7_newPerson_50 : decode cX7_newPerson 50 = .ok (.invokevirtual 239, 3) := dk_182 0 239 (dk_at dksX7_newPerson_2 3 rfl rfl)
theorem dX7_newPerson_53 : decode cX7_newPerson 53 = .ok (.ifCond .eq 13, 3) := dk_153 0 13 (dk_at dksX7_newPerson_2 6 rfl rfl)
theorem dX7_newPerson_56 : decode cX7_newPerson 56 = .ok (.aload_n 0, 1) := dk_42 (dk_at dksX7_newPerson_2 9 rfl rfl)
theorem dX7_newPerson_57 : decode cX7_newPerson 57 = .ok (.iconst 0, 1) := dk_3 (dk_at dksX7_newPerson_2 10 rfl rfl)
theorem dX7_newPerson_58 : decode cX7_newPerson 58 = .ok (.bipush 99, 2) := dk_16 99 (dk_at dksX7_newPerson_2 11 rfl rfl)
theorem dX7_newPerson_60 : decode cX7_newPerson 60 = .ok (.invokevirtual 80, 3) := dk_182 0 80 (dk_at dksX7_newPerson_2 13 rfl rfl)
theorem dX7_newPerson_63 : decode cX7_newPerson 63 = .ok (.goto 4, 3) := dk_167 0 4 (dk_at dksX7_newPerson_2 16 rfl rfl)
theorem dX7_newPerson_66 : decode cX7_newPerson 66 = .ok (.iconst 0, 1) := dk_3 (dk_at dksX7_newPerson_2 19 rfl rfl)
theorem dX7_newPerson_67 : decode cX7_newPerson 67 = .ok (.iastore, 1) := dk_79 (dk_at dksX7_newPerson_2 20 rfl rfl)
theorem dX7_newPerson_68 : decode cX7_newPerson 68 = .ok (.iconst 0, 1) := dk_3 (dk_at dksX7_newPerson_2 21 rfl rfl)
theorem dX7_newPerson_69 : decode cX7_newPerson 69 = .ok (.istore 5, 2) := dk_54 5 (dk_at dksX7_newPerson_2 22 rfl rfl)
theorem dX7_newPerson_71 : decode cX7_newPerson 71 = .ok (.aload_n 0, 1) := dk_42 (dk_at dksX7_newPerson_3 0 rfl rfl)
theorem dX7_newPerson_72 : decode cX7_newPerson 72 = .ok (.ldc 126, 2) := dk_18 126 (dk_at dksX7_newPerson_3 1 rfl rfl)
theorem dX7_newPerson_74 : decode cX7_newPerson 74 = .ok (.invokevirtual 239, 3) := dk_182 0 239 (dk_at dksX7_newPerson_3 3 rfl rfl)
theorem dX7_newPerson_77 : decode cX7_newPerson 77 = .ok (.ifCond .eq 28, 3) := dk_153 0 28 (dk_at dksX7_newPerson_3 6 rfl rfl)
theorem dX7_newPerson_80 : decode cX7_newPerson 80 = .ok (.aload_n 0, 1) := dk_42 (dk_at dksX7_newPerson_3 9 rfl rfl)
theorem dX7_newPerson_81 : decode cX7_newPerson 81 = .ok (.getfield 32, 3) := dk_180 0 32 (dk_at dksX7_newPerson_3 10 rfl rfl)
theorem dX7_newPerson_84 : decode cX7_newPerson 84 = .ok (.iconst 1, 1) := dk_4 (dk_at dksX7_newPerson_3 13 rfl rfl)
theorem dX7_newPerson_85 : decode cX7_newPerson 85 = .ok (.if_icmp .ne 20, 3) := dk_160 0 20 (dk_at dksX7_newPerson_3 14 rfl rfl)
theorem dX7_newPerson_88 : decode cX7_newPerson 88 = .ok (.iload 5, 2) := dk_21 5 (dk_at dksX7_newPerson_3 17 rfl rfl)
theorem dX7_newPerson_90 : decode cX7_newPerson 90 = .ok (.iconst 1, 1) := dk_4 (dk_at dksX7_newPerson_3 19 rfl rfl)
theorem dX7_newPerson_91 : decode cX7_newPerson 91 = .ok (.aload_n 0, 1) := dk_42 (dk_at dksX7_newPerson_3 20 rfl rfl)
theorem dX7_newPerson_92 : decode cX7_newPerson 92 = .ok (.aload_n 1, 1) := dk_43 (dk_at dksX7_newPerson_3 21 rfl rfl)
theorem dX7_newPerson_93 : decode cX7_newPerson 93 = .ok (.iload 5, 2) := dk_21 5 (dk_at dksX7_newPerson_3 22 rfl rfl)
theorem dX7_newPerson_95 : decode cX7_newPerson 95 = .ok (.invokevirtual 250, 3) := dk_182 0 250 (dk_at dksX7_newPerson_4 0 rfl rfl)
theorem dX7_newPerson_98 : decode cX7_newPerson 98 = .ok (.ishl, 1) := dk_120 (dk_at dksX7_newPerson_4 3 rfl rfl)
theorem dX7_newPerson_99 : decode cX7_newPerson 99 = .ok (.ior, 1) := dk_128 (dk_at dksX7_newPerson_4 4 rfl rfl)
theorem dX7_newPerson_100 : decode cX7_newPerson 100 = .ok (.istore 5, 2) := dk_54 5 (dk_at dksX7_newPerson_4 5 rfl rfl)
theorem dX7_newPerson_102 : decode cX7_newPerson 102 = .ok (.goto (-22), 3) := dk_167 255 234 (dk_at dksX7_newPerson_4 7 rfl rfl)
theorem dX7_newPerson_105 : decode cX7_newPerson 105 = .ok (.aload_n 1, 1) := dk_43 (dk_at dksX7_newPerson_4 10 rfl rfl)
theorem dX7_newPerson_106 : decode cX7_newPerson 106 = .ok (.getfield 263, 3) := dk_180 1 7 (dk_at dksX7_newPerson_4 11 rfl rfl)
theorem dX7_newPerson_109 : decode cX7_newPerson 109 = .ok (.iload_n 2, 1) := dk_28 (dk_at dksX7_newPerson_4 14 rfl rfl)
theorem dX7_newPerson_110 : decode cX7_newPerson 110 = .ok (.iload 5, 2) := dk_21 5 (dk_at dksX7_newPerson_4 15 rfl rfl)
theorem dX7_newPerson_112 : decode cX7_newPerson 112 = .ok (.iastore, 1) := dk_79 (dk_at dksX7_newPerson_4 17 rfl rfl)
theorem dX7_newPerson_113 : decode cX7_newPerson 113 = .ok (.aload_n 1, 1) := dk_43 (dk_at dksX7_newPerson_4 18 rfl rfl)
theorem dX7_newPerson_114 : decode cX7_newPerson 114 = .ok (.getfield 266, 3) := dk_180 1 10 (dk_at dksX7_newPerson_4 19 rfl rfl)
theorem dX7_newPerson_117 : decode cX7_newPerson 117 = .ok (.iload_n 2, 1) := dk_28 (dk_at dksX7_newPerson_4 22 rfl rfl)
theorem dX7_newPerson_118 : decode cX7_newPerson 118 = .ok (.lload_n 3, 1) := dk_33 (dk_at dksX7_newPerson_4 23 rfl rfl)
theorem dX7_newPerson_119 : decode cX7_newPerson 119 = .ok (.lastore, 1) := dk_80 (dk_at dksX7_newPerson_5 0 rfl rfl)
theorem dX7_newPerson_120 : decode cX7_newPerson 120 = .ok (.aload_n 1, 1) := dk_43 (dk_at dksX7_newPerson_5 1 rfl rfl)
theorem dX7_newPerson_121 : decode cX7_newPerson 121 = .ok (.dup, 1) := dk_89 (dk_at dksX7_newPerson_5 2 rfl rfl)
theorem dX7_newPerson_122 : decode cX7_newPerson 122 = .ok (.getfield 256, 3) := dk_180 1 0 (dk_at dksX7_newPerson_5 3 rfl rfl)
theorem dX7_newPerson_125 : decode cX7_newPerson 125 = .ok (.iconst 1, 1) := dk_4 (dk_at dksX7_newPerson_5 6 rfl rfl)
theorem dX7_newPerson_126 : decode cX7_newPerson 126 = .ok (.iadd, 1) := dk_96 (dk_at dksX7_newPerson_5 7 rfl rfl)
theorem dX7_newPerson_127 : decode cX7_newPerson 127 = .ok (.putfield 256, 3) := dk_181 1 0 (dk_at dksX7_newPerson_5 8 rfl rfl)
theorem dX7_newPerson_130 : decode cX7_newPerson 130 = .ok (.return_, 1) := dk_177 (dk_at dksX7_newPerson_5 11 rfl rfl)
abbrev cX7_newReader : ByteArray := prog_9_method_31_code
def yX7_newReader : MethodName := ⟨RX7, "newReader", "(LCatWitness$Court;)V"⟩
def dkwX7_newReader_2 : List UInt8 := [16, 9, 182, 1, 19, 79, 43, 180, 1, 24, 28, 33, 80, 43, 89, 180, 1, 13, 4, 96, 181, 1, 13, 177]
abbrev dktX7_newReader_2 : List UInt8 := dkwX7_newReader_2 ++ []
def dkwX7_newReader_1 : List UInt8 := [180, 1, 16, 28, 42, 18, 132, 3, 16, 16, 182, 1, 19, 79, 43, 180, 1, 22, 28, 42, 18, 134, 4]
abbrev dktX7_newReader_1 : List UInt8 := dkwX7_newReader_1 ++ dktX7_newReader_2
def dkwX7_newReader_0 : List UInt8 := [43, 180, 1, 13, 61, 42, 43, 28, 16, 6, 162, 0, 7, 4, 167, 0, 4, 3, 182, 0, 211, 66, 43]
abbrev dktX7_newReader_0 : List UInt8 := dkwX7_newReader_0 ++ dktX7_newReader_1
theorem dksX7_newReader_0 : cX7_newReader.data.toList.drop 0 = dktX7_newReader_0 := by decide +kernel
theorem dksX7_newReader_1 : cX7_newReader.data.toList.drop 23 = dktX7_newReader_1 := dk_seg dksX7_newReader_0 23 rfl rfl
theorem dksX7_newReader_2 : cX7_newReader.data.toList.drop 46 = dktX7_newReader_2 := dk_seg dksX7_newReader_1 23 rfl rfl
theorem dX7_newReader_0 : decode cX7_newReader 0 = .ok (.aload_n 1, 1) := dk_43 (dk_at dksX7_newReader_0 0 rfl rfl)
theorem dX7_newReader_1 : decode cX7_newReader 1 = .ok (.getfield 269, 3) := dk_180 1 13 (dk_at dksX7_newReader_0 1 rfl rfl)
theorem dX7_newReader_4 : decode cX7_newReader 4 = .ok (.istore_n 2, 1) := dk_61 (dk_at dksX7_newReader_0 4 rfl rfl)
theorem dX7_newReader_5 : decode cX7_newReader 5 = .ok (.aload_n 0, 1) := dk_42 (dk_at dksX7_newReader_0 5 rfl rfl)
theorem dX7_newReader_6 : decode cX7_newReader 6 = .ok (.aload_n 1, 1) := dk_43 (dk_at dksX7_newReader_0 6 rfl rfl)
theorem dX7_newReader_7 : decode cX7_newReader 7 = .ok (.iload_n 2, 1) := dk_28 (dk_at dksX7_newReader_0 7 rfl rfl)
theorem dX7_newReader_8 : decode cX7_newReader 8 = .ok (.bipush 6, 2) := dk_16 6 (dk_at dksX7_newReader_0 8 rfl rfl)
theorem dX7_newReader_10 : decode cX7_newReader 10 = .ok (.if_icmp .ge 7, 3) := dk_162 0 7 (dk_at dksX7_newReader_0 10 rfl rfl)
theorem dX7_newReader_13 : decode cX7_newReader 13 = .ok (.iconst 1, 1) := dk_4 (dk_at dksX7_newReader_0 13 rfl rfl)
theorem dX7_newReader_14 : decode cX7_newReader 14 = .ok (.goto 4, 3) := dk_167 0 4 (dk_at dksX7_newReader_0 14 rfl rfl)
theorem dX7_newReader_17 : decode cX7_newReader 17 = .ok (.iconst 0, 1) := dk_3 (dk_at dksX7_newReader_0 17 rfl rfl)
theorem dX7_newReader_18 : decode cX7_newReader 18 = .ok (.invokevirtual 211, 3) := dk_182 0 211 (dk_at dksX7_newReader_0 18 rfl rfl)
theorem dX7_newReader_21 : decode cX7_newReader 21 = .ok (.lstore_n 3, 1) := dk_66 (dk_at dksX7_newReader_0 21 rfl rfl)
theorem dX7_newReader_22 : decode cX7_newReader 22 = .ok (.aload_n 1, 1) := dk_43 (dk_at dksX7_newReader_0 22 rfl rfl)
theorem dX7_newReader_23 : decode cX7_newReader 23 = .ok (.getfield 272, 3) := dk_180 1 16 (dk_at dksX7_newReader_1 0 rfl rfl)
theorem dX7_newReader_26 : decode cX7_newReader 26 = .ok (.iload_n 2, 1) := dk_28 (dk_at dksX7_newReader_1 3 rfl rfl)
theorem dX7_newReader_27 : decode cX7_newReader 27 = .ok (.aload_n 0, 1) := dk_42 (dk_at dksX7_newReader_1 4 rfl rfl)
theorem dX7_newReader_28 : decode cX7_newReader 28 = .ok (.ldc 132, 2) := dk_18 132 (dk_at dksX7_newReader_1 5 rfl rfl)
theorem dX7_newReader_30 : decode cX7_newReader 30 = .ok (.iconst 0, 1) := dk_3 (dk_at dksX7_newReader_1 7 rfl rfl)
theorem dX7_newReader_31 : decode cX7_newReader 31 = .ok (.bipush 16, 2) := dk_16 16 (dk_at dksX7_newReader_1 8 rfl rfl)
theorem dX7_newReader_33 : decode cX7_newReader 33 = .ok (.invokevirtual 275, 3) := dk_182 1 19 (dk_at dksX7_newReader_1 10 rfl rfl)
theorem dX7_newReader_36 : decode cX7_newReader 36 = .ok (.iastore, 1) := dk_79 (dk_at dksX7_newReader_1 13 rfl rfl)
theorem dX7_newReader_37 : decode cX7_newReader 37 = .ok (.aload_n 1, 1) := dk_43 (dk_at dksX7_newReader_1 14 rfl rfl)
theorem dX7_newReader_38 : decode cX7_newReader 38 = .ok (.getfield 278, 3) := dk_180 1 22 (dk_at dksX7_newReader_1 15 rfl rfl)
theorem dX7_newReader_41 : decode cX7_newReader 41 = .ok (.iload_n 2, 1) := dk_28 (dk_at dksX7_newReader_1 18 rfl rfl)
theorem dX7_newReader_42 : decode cX7_newReader 42 = .ok (.aload_n 0, 1) := dk_42 (dk_at dksX7_newReader_1 19 rfl rfl)
theorem dX7_newReader_43 : decode cX7_newReader 43 = .ok (.ldc 134, 2) := dk_18 134 (dk_at dksX7_newReader_1 20 rfl rfl)
theorem dX7_newReader_45 : decode cX7_newReader 45 = .ok (.iconst 1, 1) := dk_4 (dk_at dksX7_newReader_1 22 rfl rfl)
theorem dX7_newReader_46 : decode cX7_newReader 46 = .ok (.bipush 9, 2) := dk_16 9 (dk_at dksX7_newReader_2 0 rfl rfl)
theorem dX7_newReader_48 : decode cX7_newReader 48 = .ok (.invokevirtual 275, 3) := dk_182 1 19 (dk_at dksX7_newReader_2 2 rfl rfl)
theorem dX7_newReader_51 : decode cX7_newReader 51 = .ok (.iastore, 1) := dk_79 (dk_at dksX7_newReader_2 5 rfl rfl)
theorem dX7_newReader_52 : decode cX7_newReader 52 = .ok (.aload_n 1, 1) := dk_43 (dk_at dksX7_newReader_2 6 rfl rfl)
theorem dX7_newReader_53 : decode cX7_newReader 53 = .ok (.getfield 280, 3) := dk_180 1 24 (dk_at dksX7_newReader_2 7 rfl rfl)
theorem dX7_newReader_56 : decode cX7_newReader 56 = .ok (.iload_n 2, 1) := dk_28 (dk_at dksX7_newReader_2 10 rfl rfl)
theorem dX7_newReader_57 : decode cX7_newReader 57 = .ok (.lload_n 3, 1) := dk_33 (dk_at dksX7_newReader_2 11 rfl rfl)
theorem dX7_newReader_58 : decode cX7_newReader 58 = .ok (.lastore, 1) := dk_80 (dk_at dksX7_newReader_2 12 rfl rfl)
theorem dX7_newReader_59 : decode cX7_newReader 59 = .ok (.aload_n 1, 1) := dk_43 (dk_at dksX7_newReader_2 13 rfl rfl)
theorem dX7_newReader_60 : decode cX7_newReader 60 = .ok (.dup, 1) := dk_89 (dk_at dksX7_newReader_2 14 rfl rfl)
theorem dX7_newReader_61 : decode cX7_newReader 61 = .ok (.getfield 269, 3) := dk_180 1 13 (dk_at dksX7_newReader_2 15 rfl rfl)
theorem dX7_newReader_64 : decode cX7_newReader 64 = .ok (.iconst 1, 1) := dk_4 (dk_at dksX7_newReader_2 18 rfl rfl)
theorem dX7_newReader_65 : decode cX7_newReader 65 = .ok (.iadd, 1) := dk_96 (dk_at dksX7_newReader_2 19 rfl rfl)
theorem dX7_newReader_66 : decode cX7_newReader 66 = .ok (.putfield 269, 3) := dk_181 1 13 (dk_at dksX7_newReader_2 20 rfl rfl)
theorem dX7_newReader_69 : decode cX7_newReader 69 = .ok (.return_, 1) := dk_177 (dk_at dksX7_newReader_2 23 rfl rfl)
abbrev cX7_behind : ByteArray := prog_9_method_11_code
def yX7_behind : MethodName := ⟨RX7, "behind", "(Ljava/lang/String;II)I"⟩
def dkwX7_behind_0 : List UInt8 := [42, 43, 182, 0, 76, 42, 28, 29, 182, 0, 80, 172]
abbrev dktX7_behind_0 : List UInt8 := dkwX7_behind_0 ++ []
theorem dksX7_behind_0 : cX7_behind.data.toList.drop 0 = dktX7_behind_0 := by decide +kernel
theorem dX7_behind_0 : decode cX7_behind 0 = .ok (.aload_n 0, 1) := dk_42 (dk_at dksX7_behind_0 0 rfl rfl)
theorem dX7_behind_1 : decode cX7_behind 1 = .ok (.aload_n 1, 1) := dk_43 (dk_at dksX7_behind_0 1 rfl rfl)
theorem dX7_behind_2 : decode cX7_behind 2 = .ok (.invokevirtual 76, 3) := dk_182 0 76 (dk_at dksX7_behind_0 2 rfl rfl)
theorem dX7_behind_5 : decode cX7_behind 5 = .ok (.aload_n 0, 1) := dk_42 (dk_at dksX7_behind_0 5 rfl rfl)
theorem dX7_behind_6 : decode cX7_behind 6 = .ok (.iload_n 2, 1) := dk_28 (dk_at dksX7_behind_0 6 rfl rfl)
theorem dX7_behind_7 : decode cX7_behind 7 = .ok (.iload_n 3, 1) := dk_29 (dk_at dksX7_behind_0 7 rfl rfl)
theorem dX7_behind_8 : decode cX7_behind 8 = .ok (.invokevirtual 80, 3) := dk_182 0 80 (dk_at dksX7_behind_0 8 rfl rfl)
theorem dX7_behind_11 : decode cX7_behind 11 = .ok (.ireturn, 1) := dk_172 (dk_at dksX7_behind_0 11 rfl rfl)
abbrev cX7_newWord : ByteArray := prog_9_method_32_code
def yX7_newWord : MethodName := ⟨RX7, "newWord", "(LCatWitness$Court;)V"⟩
def dkwX7_newWord_2 : List UInt8 := [96, 181, 1, 27, 177]
abbrev dktX7_newWord_2 : List UInt8 := dkwX7_newWord_2 ++ []
def dkwX7_newWord_1 : List UInt8 := [28, 42, 43, 182, 1, 33, 79, 43, 180, 1, 35, 28, 42, 4, 182, 0, 226, 79, 43, 89, 180, 1, 27, 4]
abbrev dktX7_newWord_1 : List UInt8 := dkwX7_newWord_1 ++ dktX7_newWord_2
def dkwX7_newWord_0 : List UInt8 := [43, 180, 1, 27, 61, 42, 28, 16, 10, 162, 0, 7, 4, 167, 0, 4, 3, 182, 0, 157, 43, 180, 1, 30]
abbrev dktX7_newWord_0 : List UInt8 := dkwX7_newWord_0 ++ dktX7_newWord_1
theorem dksX7_newWord_0 : cX7_newWord.data.toList.drop 0 = dktX7_newWord_0 := by decide +kernel
theorem dksX7_newWord_1 : cX7_newWord.data.toList.drop 24 = dktX7_newWord_1 := dk_seg dksX7_newWord_0 24 rfl rfl
theorem dksX7_newWord_2 : cX7_newWord.data.toList.drop 48 = dktX7_newWord_2 := dk_seg dksX7_newWord_1 24 rfl rfl
theorem dX7_newWord_0 : decode cX7_newWord 0 = .ok (.aload_n 1, 1) := dk_43 (dk_at dksX7_newWord_0 0 rfl rfl)
theorem dX7_newWord_1 : decode cX7_newWord 1 = .ok (.getfield 283, 3) := dk_180 1 27 (dk_at dksX7_newWord_0 1 rfl rfl)
theorem dX7_newWord_4 : decode cX7_newWord 4 = .ok (.istore_n 2, 1) := dk_61 (dk_at dksX7_newWord_0 4 rfl rfl)
theorem dX7_newWord_5 : decode cX7_newWord 5 = .ok (.aload_n 0, 1) := dk_42 (dk_at dksX7_newWord_0 5 rfl rfl)
theorem dX7_newWord_6 : decode cX7_newWord 6 = .ok (.iload_n 2, 1) := dk_28 (dk_at dksX7_newWord_0 6 rfl rfl)
theorem dX7_newWord_7 : decode cX7_newWord 7 = .ok (.bipush 10, 2) := dk_16 10 (dk_at dksX7_newWord_0 7 rfl rfl)
theorem dX7_newWord_9 : decode cX7_newWord 9 = .ok (.if_icmp .ge 7, 3) := dk_162 0 7 (dk_at dksX7_newWord_0 9 rfl rfl)
theorem dX7_newWord_12 : decode cX7_newWord 12 = .ok (.iconst 1, 1) := dk_4 (dk_at dksX7_newWord_0 12 rfl rfl)
theorem dX7_newWord_13 : decode cX7_newWord 13 = .ok (.goto 4, 3) := dk_167 0 4 (dk_at dksX7_newWord_0 13 rfl rfl)
theorem dX7_newWord_16 : decode cX7_newWord 16 = .ok (.iconst 0, 1) := dk_3 (dk_at dksX7_newWord_0 16 rfl rfl)
theorem dX7_newWord_17 : decode cX7_newWord 17 = .ok (.invokevirtual 157, 3) := dk_182 0 157 (dk_at dksX7_newWord_0 17 rfl rfl)
theorem dX7_newWord_20 : decode cX7_newWord 20 = .ok (.aload_n 1, 1) := dk_43 (dk_at dksX7_newWord_0 20 rfl rfl)
theorem dX7_newWord_21 : decode cX7_newWord 21 = .ok (.getfield 286, 3) := dk_180 1 30 (dk_at dksX7_newWord_0 21 rfl rfl)
theorem dX7_newWord_24 : decode cX7_newWord 24 = .ok (.iload_n 2, 1) := dk_28 (dk_at dksX7_newWord_1 0 rfl rfl)
theorem dX7_newWord_25 : decode cX7_newWord 25 = .ok (.aload_n 0, 1) := dk_42 (dk_at dksX7_newWord_1 1 rfl rfl)
theorem dX7_newWord_26 : decode cX7_newWord 26 = .ok (.aload_n 1, 1) := dk_43 (dk_at dksX7_newWord_1 2 rfl rfl)
theorem dX7_newWord_27 : decode cX7_newWord 27 = .ok (.invokevirtual 289, 3) := dk_182 1 33 (dk_at dksX7_newWord_1 3 rfl rfl)
theorem dX7_newWord_30 : decode cX7_newWord 30 = .ok (.iastore, 1) := dk_79 (dk_at dksX7_newWord_1 6 rfl rfl)
theorem dX7_newWord_31 : decode cX7_newWord 31 = .ok (.aload_n 1, 1) := dk_43 (dk_at dksX7_newWord_1 7 rfl rfl)
theorem dX7_newWord_32 : decode cX7_newWord 32 = .ok (.getfield 291, 3) := dk_180 1 35 (dk_at dksX7_newWord_1 8 rfl rfl)
theorem dX7_newWord_35 : decode cX7_newWord 35 = .ok (.iload_n 2, 1) := dk_28 (dk_at dksX7_newWord_1 11 rfl rfl)
theorem dX7_newWord_36 : decode cX7_newWord 36 = .ok (.aload_n 0, 1) := dk_42 (dk_at dksX7_newWord_1 12 rfl rfl)
theorem dX7_newWord_37 : decode cX7_newWord 37 = .ok (.iconst 1, 1) := dk_4 (dk_at dksX7_newWord_1 13 rfl rfl)
theorem dX7_newWord_38 : decode cX7_newWord 38 = .ok (.invokevirtual 226, 3) := dk_182 0 226 (dk_at dksX7_newWord_1 14 rfl rfl)
theorem dX7_newWord_41 : decode cX7_newWord 41 = .ok (.iastore, 1) := dk_79 (dk_at dksX7_newWord_1 17 rfl rfl)
theorem dX7_newWord_42 : decode cX7_newWord 42 = .ok (.aload_n 1, 1) := dk_43 (dk_at dksX7_newWord_1 18 rfl rfl)
theorem dX7_newWord_43 : decode cX7_newWord 43 = .ok (.dup, 1) := dk_89 (dk_at dksX7_newWord_1 19 rfl rfl)
theorem dX7_newWord_44 : decode cX7_newWord 44 = .ok (.getfield 283, 3) := dk_180 1 27 (dk_at dksX7_newWord_1 20 rfl rfl)
theorem dX7_newWord_47 : decode cX7_newWord 47 = .ok (.iconst 1, 1) := dk_4 (dk_at dksX7_newWord_1 23 rfl rfl)
theorem dX7_newWord_48 : decode cX7_newWord 48 = .ok (.iadd, 1) := dk_96 (dk_at dksX7_newWord_2 0 rfl rfl)
theorem dX7_newWord_49 : decode cX7_newWord 49 = .ok (.putfield 283, 3) := dk_181 1 27 (dk_at dksX7_newWord_2 1 rfl rfl)
theorem dX7_newWord_52 : decode cX7_newWord 52 = .ok (.return_, 1) := dk_177 (dk_at dksX7_newWord_2 4 rfl rfl)
abbrev cX7_person : ByteArray := prog_9_method_25_code
def yX7_person : MethodName := ⟨RX7, "person", "(LCatWitness$Court;)I"⟩
def dkwX7_person_0 : List UInt8 := [42, 43, 42, 182, 0, 161, 182, 0, 174, 3, 182, 0, 184, 172]
abbrev dktX7_person_0 : List UInt8 := dkwX7_person_0 ++ []
theorem dksX7_person_0 : cX7_person.data.toList.drop 0 = dktX7_person_0 := by decide +kernel
theorem dX7_person_0 : decode cX7_person 0 = .ok (.aload_n 0, 1) := dk_42 (dk_at dksX7_person_0 0 rfl rfl)
theorem dX7_person_1 : decode cX7_person 1 = .ok (.aload_n 1, 1) := dk_43 (dk_at dksX7_person_0 1 rfl rfl)
theorem dX7_person_2 : decode cX7_person 2 = .ok (.aload_n 0, 1) := dk_42 (dk_at dksX7_person_0 2 rfl rfl)
theorem dX7_person_3 : decode cX7_person 3 = .ok (.invokevirtual 161, 3) := dk_182 0 161 (dk_at dksX7_person_0 3 rfl rfl)
theorem dX7_person_6 : decode cX7_person 6 = .ok (.invokevirtual 174, 3) := dk_182 0 174 (dk_at dksX7_person_0 6 rfl rfl)
theorem dX7_person_9 : decode cX7_person 9 = .ok (.iconst 0, 1) := dk_3 (dk_at dksX7_person_0 9 rfl rfl)
theorem dX7_person_10 : decode cX7_person 10 = .ok (.invokevirtual 184, 3) := dk_182 0 184 (dk_at dksX7_person_0 10 rfl rfl)
theorem dX7_person_13 : decode cX7_person 13 = .ok (.ireturn, 1) := dk_172 (dk_at dksX7_person_0 13 rfl rfl)
abbrev cX7_close : ByteArray := prog_9_method_8_code
def yX7_close : MethodName := ⟨RX7, "close", "()V"⟩
def dkwX7_close_0 : List UInt8 := [42, 16, 59, 182, 0, 64, 154, 0, 8, 42, 182, 0, 68, 191, 42, 182, 0, 19, 177]
abbrev dktX7_close_0 : List UInt8 := dkwX7_close_0 ++ []
theorem dksX7_close_0 : cX7_close.data.toList.drop 0 = dktX7_close_0 := by decide +kernel
theorem dX7_close_0 : decode cX7_close 0 = .ok (.aload_n 0, 1) := dk_42 (dk_at dksX7_close_0 0 rfl rfl)
theorem dX7_close_1 : decode cX7_close 1 = .ok (.bipush 59, 2) := dk_16 59 (dk_at dksX7_close_0 1 rfl rfl)
theorem dX7_close_3 : decode cX7_close 3 = .ok (.invokevirtual 64, 3) := dk_182 0 64 (dk_at dksX7_close_0 3 rfl rfl)
theorem dX7_close_6 : decode cX7_close 6 = .ok (.ifCond .ne 8, 3) := dk_154 0 8 (dk_at dksX7_close_0 6 rfl rfl)
theorem dX7_close_9 : decode cX7_close 9 = .ok (.aload_n 0, 1) := dk_42 (dk_at dksX7_close_0 9 rfl rfl)
theorem dX7_close_10 : decode cX7_close 10 = .ok (.invokevirtual 68, 3) := dk_182 0 68 (dk_at dksX7_close_0 10 rfl rfl)
theorem dX7_close_13 : decode cX7_close 13 = .ok (.athrow, 1) := dk_191 (dk_at dksX7_close_0 13 rfl rfl)
theorem dX7_close_14 : decode cX7_close 14 = .ok (.aload_n 0, 1) := dk_42 (dk_at dksX7_close_0 14 rfl rfl)
theorem dX7_close_15 : decode cX7_close 15 = .ok (.invokevirtual 19, 3) := dk_182 0 19 (dk_at dksX7_close_0 15 rfl rfl)
theorem dX7_close_18 : decode cX7_close 18 = .ok (.return_, 1) := dk_177 (dk_at dksX7_close_0 18 rfl rfl)
abbrev cX7_weeks : ByteArray := prog_9_method_33_code
def yX7_weeks : MethodName := ⟨RX7, "weeks", "(LCatWitness$Court;LCatWitness$Block;)V"⟩
def dkwX7_weeks_0 : List UInt8 := [42, 180, 0, 32, 153, 0, 13, 42, 43, 44, 3, 182, 1, 38, 167, 255, 242, 177]
abbrev dktX7_weeks_0 : List UInt8 := dkwX7_weeks_0 ++ []
theorem dksX7_weeks_0 : cX7_weeks.data.toList.drop 0 = dktX7_weeks_0 := by decide +kernel
theorem dX7_weeks_0 : decode cX7_weeks 0 = .ok (.aload_n 0, 1) := dk_42 (dk_at dksX7_weeks_0 0 rfl rfl)
theorem dX7_weeks_1 : decode cX7_weeks 1 = .ok (.getfield 32, 3) := dk_180 0 32 (dk_at dksX7_weeks_0 1 rfl rfl)
theorem dX7_weeks_4 : decode cX7_weeks 4 = .ok (.ifCond .eq 13, 3) := dk_153 0 13 (dk_at dksX7_weeks_0 4 rfl rfl)
theorem dX7_weeks_7 : decode cX7_weeks 7 = .ok (.aload_n 0, 1) := dk_42 (dk_at dksX7_weeks_0 7 rfl rfl)
theorem dX7_weeks_8 : decode cX7_weeks 8 = .ok (.aload_n 1, 1) := dk_43 (dk_at dksX7_weeks_0 8 rfl rfl)
theorem dX7_weeks_9 : decode cX7_weeks 9 = .ok (.aload_n 2, 1) := dk_44 (dk_at dksX7_weeks_0 9 rfl rfl)
theorem dX7_weeks_10 : decode cX7_weeks 10 = .ok (.iconst 0, 1) := dk_3 (dk_at dksX7_weeks_0 10 rfl rfl)
theorem dX7_weeks_11 : decode cX7_weeks 11 = .ok (.invokevirtual 294, 3) := dk_182 1 38 (dk_at dksX7_weeks_0 11 rfl rfl)
theorem dX7_weeks_14 : decode cX7_weeks 14 = .ok (.goto (-14), 3) := dk_167 255 242 (dk_at dksX7_weeks_0 14 rfl rfl)
theorem dX7_weeks_17 : decode cX7_weeks 17 = .ok (.return_, 1) := dk_177 (dk_at dksX7_weeks_0 17 rfl rfl)
abbrev cX7_step : ByteArray := prog_9_method_34_code
def yX7_step : MethodName := ⟨RX7, "step", "(LCatWitness$Court;LCatWitness$Block;I)V"⟩
def dkwX7_step_5 : List UInt8 := [182, 1, 45, 167, 0, 8, 42, 43, 182, 1, 49, 58, 6, 42, 182, 0, 206, 44, 25, 6, 182, 1, 53, 177]
abbrev dktX7_step_5 : List UInt8 := dkwX7_step_5 ++ []
def dkwX7_step_4 : List UInt8 := [182, 0, 59, 191, 42, 89, 180, 1, 42, 4, 96, 181, 1, 42, 21, 5, 153, 0, 14, 42, 43, 21, 4, 29]
abbrev dktX7_step_4 : List UInt8 := dkwX7_step_4 ++ dktX7_step_5
def dkwX7_step_3 : List UInt8 := [191, 21, 5, 153, 0, 25, 29, 6, 160, 0, 20, 42, 180, 0, 3, 180, 0, 55, 16, 7, 42, 180, 0, 29]
abbrev dktX7_step_3 : List UInt8 := dkwX7_step_3 ++ dktX7_step_4
def dkwX7_step_2 : List UInt8 := [180, 1, 42, 16, 30, 160, 0, 20, 42, 180, 0, 3, 180, 0, 55, 16, 6, 42, 180, 0, 29, 182, 0, 59]
abbrev dktX7_step_2 : List UInt8 := dkwX7_step_2 ++ dktX7_step_3
def dkwX7_step_1 : List UInt8 := [167, 0, 4, 3, 54, 5, 42, 182, 0, 143, 156, 0, 13, 21, 5, 154, 0, 8, 42, 182, 0, 68, 191, 42]
abbrev dktX7_step_1 : List UInt8 := dkwX7_step_1 ++ dktX7_step_2
def dkwX7_step_0 : List UInt8 := [42, 18, 137, 182, 0, 72, 54, 4, 21, 4, 154, 0, 12, 42, 18, 139, 182, 0, 72, 153, 0, 7, 4]
abbrev dktX7_step_0 : List UInt8 := dkwX7_step_0 ++ dktX7_step_1
theorem dksX7_step_0 : cX7_step.data.toList.drop 0 = dktX7_step_0 := by decide +kernel
theorem dksX7_step_1 : cX7_step.data.toList.drop 23 = dktX7_step_1 := dk_seg dksX7_step_0 23 rfl rfl
theorem dksX7_step_2 : cX7_step.data.toList.drop 47 = dktX7_step_2 := dk_seg dksX7_step_1 24 rfl rfl
theorem dksX7_step_3 : cX7_step.data.toList.drop 71 = dktX7_step_3 := dk_seg dksX7_step_2 24 rfl rfl
theorem dksX7_step_4 : cX7_step.data.toList.drop 95 = dktX7_step_4 := dk_seg dksX7_step_3 24 rfl rfl
theorem dksX7_step_5 : cX7_step.data.toList.drop 119 = dktX7_step_5 := dk_seg dksX7_step_4 24 rfl rfl
theorem dX7_step_0 : decode cX7_step 0 = .ok (.aload_n 0, 1) := dk_42 (dk_at dksX7_step_0 0 rfl rfl)
theorem dX7_step_1 : decode cX7_step 1 = .ok (.ldc 137, 2) := dk_18 137 (dk_at dksX7_step_0 1 rfl rfl)
theorem dX7_step_3 : decode cX7_step 3 = .ok (.invokevirtual 72, 3) := dk_182 0 72 (dk_at dksX7_step_0 3 rfl rfl)
theorem dX7_step_6 : decode cX7_step 6 = .ok (.istore 4, 2) := dk_54 4 (dk_at dksX7_step_0 6 rfl rfl)
theorem dX7_step_8 : decode cX7_step 8 = .ok (.iload 4, 2) := dk_21 4 (dk_at dksX7_step_0 8 rfl rfl)
theorem dX7_step_10 : decode cX7_step 10 = .ok (.ifCond .ne 12, 3) := dk_154 0 12 (dk_at dksX7_step_0 10 rfl rfl)
theorem dX7_step_13 : decode cX7_step 13 = .ok (.aload_n 0, 1) := dk_42 (dk_at dksX7_step_0 13 rfl rfl)
theorem dX7_step_14 : decode cX7_step 14 = .ok (.ldc 139, 2) := dk_18 139 (dk_at dksX7_step_0 14 rfl rfl)
theorem dX7_step_16 : decode cX7_step 16 = .ok (.invokevirtual 72, 3) := dk_182 0 72 (dk_at dksX7_step_0 16 rfl rfl)
theorem dX7_step_19 : decode cX7_step 19 = .ok (.ifCond .eq 7, 3) := dk_153 0 7 (dk_at dksX7_step_0 19 rfl rfl)
theorem dX7_step_22 : decode cX7_step 22 = .ok (.iconst 1, 1) := dk_4 (dk_at dksX7_step_0 22 rfl rfl)
theorem dX7_step_23 : decode cX7_step 23 = .ok (.goto 4, 3) := dk_167 0 4 (dk_at dksX7_step_1 0 rfl rfl)
theorem dX7_step_26 : decode cX7_step 26 = .ok (.iconst 0, 1) := dk_3 (dk_at dksX7_step_1 3 rfl rfl)
theorem dX7_step_27 : decode cX7_step 27 = .ok (.istore 5, 2) := dk_54 5 (dk_at dksX7_step_1 4 rfl rfl)
theorem dX7_step_29 : decode cX7_step 29 = .ok (.aload_n 0, 1) := dk_42 (dk_at dksX7_step_1 6 rfl rfl)
theorem dX7_step_30 : decode cX7_step 30 = .ok (.invokevirtual 143, 3) := dk_182 0 143 (dk_at dksX7_step_1 7 rfl rfl)
theorem dX7_step_33 : decode cX7_step 33 = .ok (.ifCond .ge 13, 3) := dk_156 0 13 (dk_at dksX7_step_1 10 rfl rfl)
theorem dX7_step_36 : decode cX7_step 36 = .ok (.iload 5, 2) := dk_21 5 (dk_at dksX7_step_1 13 rfl rfl)
theorem dX7_step_38 : decode cX7_step 38 = .ok (.ifCond .ne 8, 3) := dk_154 0 8 (dk_at dksX7_step_1 15 rfl rfl)
theorem dX7_step_41 : decode cX7_step 41 = .ok (.aload_n 0, 1) := dk_42 (dk_at dksX7_step_1 18 rfl rfl)
theorem dX7_step_42 : decode cX7_step 42 = .ok (.invokevirtual 68, 3) := dk_182 0 68 (dk_at dksX7_step_1 19 rfl rfl)
theorem dX7_step_45 : decode cX7_step 45 = .ok (.athrow, 1) := dk_191 (dk_at dksX7_step_1 22 rfl rfl)
theorem dX7_step_46 : decode cX7_step 46 = .ok (.aload_n 0, 1) := dk_42 (dk_at dksX7_step_1 23 rfl rfl)
theorem dX7_step_47 : decode cX7_step 47 = .ok (.getfield 298, 3) := dk_180 1 42 (dk_at dksX7_step_2 0 rfl rfl)
theorem dX7_step_50 : decode cX7_step 50 = .ok (.bipush 30, 2) := dk_16 30 (dk_at dksX7_step_2 3 rfl rfl)
theorem dX7_step_52 : decode cX7_step 52 = .ok (.if_icmp .ne 20, 3) := dk_160 0 20 (dk_at dksX7_step_2 5 rfl rfl)
theorem dX7_step_55 : decode cX7_step 55 = .ok (.aload_n 0, 1) := dk_42 (dk_at dksX7_step_2 8 rfl rfl)
theorem dX7_step_56 : decode cX7_step 56 = .ok (.getfield 3, 3) := dk_180 0 3 (dk_at dksX7_step_2 9 rfl rfl)
theorem dX7_step_59 : decode cX7_step 59 = .ok (.getfield 55, 3) := dk_180 0 55 (dk_at dksX7_step_2 12 rfl rfl)
theorem dX7_step_62 : decode cX7_step 62 = .ok (.bipush 6, 2) := dk_16 6 (dk_at dksX7_step_2 15 rfl rfl)
theorem dX7_step_64 : decode cX7_step 64 = .ok (.aload_n 0, 1) := dk_42 (dk_at dksX7_step_2 17 rfl rfl)
theorem dX7_step_65 : decode cX7_step 65 = .ok (.getfield 29, 3) := dk_180 0 29 (dk_at dksX7_step_2 18 rfl rfl)
theorem dX7_step_68 : decode cX7_step 68 = .ok (.invokevirtual 59, 3) := dk_182 0 59 (dk_at dksX7_step_2 21 rfl rfl)
theorem dX7_step_71 : decode cX7_step 71 = .ok (.athrow, 1) := dk_191 (dk_at dksX7_step_3 0 rfl rfl)
theorem dX7_step_72 : decode cX7_step 72 = .ok (.iload 5, 2) := dk_21 5 (dk_at dksX7_step_3 1 rfl rfl)
theorem dX7_step_74 : decode cX7_step 74 = .ok (.ifCond .eq 25, 3) := dk_153 0 25 (dk_at dksX7_step_3 3 rfl rfl)
theorem dX7_step_77 : decode cX7_step 77 = .ok (.iload_n 3, 1) := dk_29 (dk_at dksX7_step_3 6 rfl rfl)
theorem dX7_step_78 : decode cX7_step 78 = .ok (.iconst 3, 1) := dk_6 (dk_at dksX7_step_3 7 rfl rfl)
theorem dX7_step_79 : decode cX7_step 79 = .ok (.if_icmp .ne 20, 3) := dk_160 0 20 (dk_at dksX7_step_3 8 rfl rfl)
theorem dX7_step_82 : decode cX7_step 82 = .ok (.aload_n 0, 1) := dk_42 (dk_at dksX7_step_3 11 rfl rfl)
theorem dX7_step_83 : decode cX7_step 83 = .ok (.getfield 3, 3) := dk_180 0 3 (dk_at dksX7_step_3 12 rfl rfl)
theorem dX7_step_86 : decode cX7_step 86 = .ok (.getfield 55, 3) := dk_180 0 55 (dk_at dksX7_step_3 15 rfl rfl)
theorem dX7_step_89 : decode cX7_step 89 = .ok (.bipush 7, 2) := dk_16 7 (dk_at dksX7_step_3 18 rfl rfl)
theorem dX7_step_91 : decode cX7_step 91 = .ok (.aload_n 0, 1) := dk_42 (dk_at dksX7_step_3 20 rfl rfl)
theorem dX7_step_92 : decode cX7_step 92 = .ok (.getfield 29, 3) := dk_180 0 29 (dk_at dksX7_step_3 21 rfl rfl)
theorem dX7_step_95 : decode cX7_step 95 = .ok (.invokevirtual 59, 3) := dk_182 0 59 (dk_at dksX7_step_4 0 rfl rfl)
theorem dX7_step_98 : decode cX7_step 98 = .ok (.athrow, 1) := dk_191 (dk_at dksX7_step_4 3 rfl rfl)
theorem dX7_step_99 : decode cX7_step 99 = .ok (.aload_n 0, 1) := dk_42 (dk_at dksX7_step_4 4 rfl rfl)
theorem dX7_step_100 : decode cX7_step 100 = .ok (.dup, 1) := dk_89 (dk_at dksX7_step_4 5 rfl rfl)
theorem dX7_step_101 : decode cX7_step 101 = .ok (.getfield 298, 3) := dk_180 1 42 (dk_at dksX7_step_4 6 rfl rfl)
theorem dX7_step_104 : decode cX7_step 104 = .ok (.iconst 1, 1) := dk_4 (dk_at dksX7_step_4 9 rfl rfl)
theorem dX7_step_105 : decode cX7_step 105 = .ok (.iadd, 1) := dk_96 (dk_at dksX7_step_4 10 rfl rfl)
theorem dX7_step_106 : decode cX7_step 106 = .ok (.putfield 298, 3) := dk_181 1 42 (dk_at dksX7_step_4 11 rfl rfl)
theorem dX7_step_109 : decode cX7_step 109 = .ok (.iload 5, 2) := dk_21 5 (dk_at dksX7_step_4 14 rfl rfl)
theorem dX7_step_111 : decode cX7_step 111 = .ok (.ifCond .eq 14, 3) := dk_153 0 14 (dk_at dksX7_step_4 16 rfl rfl)
theorem dX7_step_114 : decode cX7_step 114 = .ok (.aload_n 0, 1) := dk_42 (dk_at dksX7_step_4 19 rfl rfl)
theorem dX7_step_115 : decode cX7_step 115 = .ok (.aload_n 1, 1) := dk_43 (dk_at dksX7_step_4 20 rfl rfl)
theorem dX7_step_116 : decode cX7_step 116 = .ok (.iload 4, 2) := dk_21 4 (dk_at dksX7_step_4 21 rfl rfl)
theorem dX7_step_118 : decode cX7_step 118 = .ok (.iload_n 3, 1) := dk_29 (dk_at dksX7_step_4 23 rfl rfl)
theorem dX7_step_119 : decode cX7_step 119 = .ok (.invokevirtual 301, 3) := dk_182 1 45 (dk_at dksX7_step_5 0 rfl rfl)
theorem dX7_step_122 : decode cX7_step 122 = .ok (.goto 8, 3) := dk_167 0 8 (dk_at dksX7_step_5 3 rfl rfl)
theorem dX7_step_125 : decode cX7_step 125 = .ok (.aload_n 0, 1) := dk_42 (dk_at dksX7_step_5 6 rfl rfl)
theorem dX7_step_126 : decode cX7_step 126 = .ok (.aload_n 1, 1) := dk_43 (dk_at dksX7_step_5 7 rfl rfl)
theorem dX7_step_127 : decode cX7_step 127 = .ok (.invokevirtual 305, 3) := dk_182 1 49 (dk_at dksX7_step_5 8 rfl rfl)
theorem dX7_step_130 : decode cX7_step 130 = .ok (.astore 6, 2) := dk_58 6 (dk_at dksX7_step_5 11 rfl rfl)
theorem dX7_step_132 : decode cX7_step 132 = .ok (.aload_n 0, 1) := dk_42 (dk_at dksX7_step_5 13 rfl rfl)
theorem dX7_step_133 : decode cX7_step 133 = .ok (.invokevirtual 206, 3) := dk_182 0 206 (dk_at dksX7_step_5 14 rfl rfl)
theorem dX7_step_136 : decode cX7_step 136 = .ok (.aload_n 2, 1) := dk_44 (dk_at dksX7_step_5 17 rfl rfl)
theorem dX7_step_137 : decode cX7_step 137 = .ok (.aload 6, 2) := dk_25 6 (dk_at dksX7_step_5 18 rfl rfl)
theorem dX7_step_139 : decode cX7_step 139 = .ok (.invokevirtual 309, 3) := dk_182 1 53 (dk_at dksX7_step_5 20 rfl rfl)
theorem dX7_step_142 : decode cX7_step 142 = .ok (.return_, 1) := dk_177 (dk_at dksX7_step_5 23 rfl rfl)
abbrev cX7_block : ByteArray := prog_9_method_36_code
def yX7_block : MethodName := ⟨RX7, "block", "(LCatWitness$Court;ZI)LCatWitness$Block;"⟩
def dkwX7_block_2 : List UInt8 := [25, 4, 29, 4, 96, 182, 1, 38, 167, 255, 237, 42, 182, 0, 19, 25, 4, 176]
abbrev dktX7_block_2 : List UInt8 := dkwX7_block_2 ++ []
def dkwX7_block_1 : List UInt8 := [182, 0, 80, 183, 1, 69, 58, 4, 42, 182, 0, 206, 42, 18, 141, 182, 0, 72, 154, 0, 16, 42, 43]
abbrev dktX7_block_1 : List UInt8 := dkwX7_block_1 ++ dktX7_block_2
def dkwX7_block_0 : List UInt8 := [42, 182, 0, 19, 28, 153, 0, 11, 42, 43, 182, 1, 64, 167, 0, 17, 187, 1, 67, 89, 42, 4, 16, 99]
abbrev dktX7_block_0 : List UInt8 := dkwX7_block_0 ++ dktX7_block_1
theorem dksX7_block_0 : cX7_block.data.toList.drop 0 = dktX7_block_0 := by decide +kernel
theorem dksX7_block_1 : cX7_block.data.toList.drop 24 = dktX7_block_1 := dk_seg dksX7_block_0 24 rfl rfl
theorem dksX7_block_2 : cX7_block.data.toList.drop 47 = dktX7_block_2 := dk_seg dksX7_block_1 23 rfl rfl
theorem dX7_block_0 : decode cX7_block 0 = .ok (.aload_n 0, 1) := dk_42 (dk_at dksX7_block_0 0 rfl rfl)
theorem dX7_block_1 : decode cX7_block 1 = .ok (.invokevirtual 19, 3) := dk_182 0 19 (dk_at dksX7_block_0 1 rfl rfl)
theorem dX7_block_4 : decode cX7_block 4 = .ok (.iload_n 2, 1) := dk_28 (dk_at dksX7_block_0 4 rfl rfl)
theorem dX7_block_5 : decode cX7_block 5 = .ok (.ifCond .eq 11, 3) := dk_153 0 11 (dk_at dksX7_block_0 5 rfl rfl)
theorem dX7_block_8 : decode cX7_block 8 = .ok (.aload_n 0, 1) := dk_42 (dk_at dksX7_block_0 8 rfl rfl)
theorem dX7_block_9 : decode cX7_block 9 = .ok (.aload_n 1, 1) := dk_43 (dk_at dksX7_block_0 9 rfl rfl)
theorem dX7_block_10 : decode cX7_block 10 = .ok (.invokevirtual 320, 3) := dk_182 1 64 (dk_at dksX7_block_0 10 rfl rfl)
theorem dX7_block_13 : decode cX7_block 13 = .ok (.goto 17, 3) := dk_167 0 17 (dk_at dksX7_block_0 13 rfl rfl)
theorem dX7_block_16 : decode cX7_block 16 = .ok (.new 323, 3) := dk_187 1 67 (dk_at dksX7_block_0 16 rfl rfl)
theorem dX7_block_19 : decode cX7_block 19 = .ok (.dup, 1) := dk_89 (dk_at dksX7_block_0 19 rfl rfl)
theorem dX7_block_20 : decode cX7_block 20 = .ok (.aload_n 0, 1) := dk_42 (dk_at dksX7_block_0 20 rfl rfl)
theorem dX7_block_21 : decode cX7_block 21 = .ok (.iconst 1, 1) := dk_4 (dk_at dksX7_block_0 21 rfl rfl)
theorem dX7_block_22 : decode cX7_block 22 = .ok (.bipush 99, 2) := dk_16 99 (dk_at dksX7_block_0 22 rfl rfl)
theorem dX7_block_24 : decode cX7_block 24 = .ok (.invokevirtual 80, 3) := dk_182 0 80 (dk_at dksX7_block_1 0 rfl rfl)
theorem dX7_block_27 : decode cX7_block 27 = .ok (.invokespecial 325, 3) := dk_183 1 69 (dk_at dksX7_block_1 3 rfl rfl)
theorem dX7_block_30 : decode cX7_block 30 = .ok (.astore 4, 2) := dk_58 4 (dk_at dksX7_block_1 6 rfl rfl)
theorem dX7_block_32 : decode cX7_block 32 = .ok (.aload_n 0, 1) := dk_42 (dk_at dksX7_block_1 8 rfl rfl)
theorem dX7_block_33 : decode cX7_block 33 = .ok (.invokevirtual 206, 3) := dk_182 0 206 (dk_at dksX7_block_1 9 rfl rfl)
theorem dX7_block_36 : decode cX7_block 36 = .ok (.aload_n 0, 1) := dk_42 (dk_at dksX7_block_1 12 rfl rfl)
theorem dX7_block_37 : decode cX7_block 37 = .ok (.ldc 141, 2) := dk_18 141 (dk_at dksX7_block_1 13 rfl rfl)
theorem dX7_block_39 : decode cX7_block 39 = .ok (.invokevirtual 72, 3) := dk_182 0 72 (dk_at dksX7_block_1 15 rfl rfl)
theorem dX7_block_42 : decode cX7_block 42 = .ok (.ifCond .ne 16, 3) := dk_154 0 16 (dk_at dksX7_block_1 18 rfl rfl)
theorem dX7_block_45 : decode cX7_block 45 = .ok (.aload_n 0, 1) := dk_42 (dk_at dksX7_block_1 21 rfl rfl)
theorem dX7_block_46 : decode cX7_block 46 = .ok (.aload_n 1, 1) := dk_43 (dk_at dksX7_block_1 22 rfl rfl)
theorem dX7_block_47 : decode cX7_block 47 = .ok (.aload 4, 2) := dk_25 4 (dk_at dksX7_block_2 0 rfl rfl)
theorem dX7_block_49 : decode cX7_block 49 = .ok (.iload_n 3, 1) := dk_29 (dk_at dksX7_block_2 2 rfl rfl)
theorem dX7_block_50 : decode cX7_block 50 = .ok (.iconst 1, 1) := dk_4 (dk_at dksX7_block_2 3 rfl rfl)
theorem dX7_block_51 : decode cX7_block 51 = .ok (.iadd, 1) := dk_96 (dk_at dksX7_block_2 4 rfl rfl)
theorem dX7_block_52 : decode cX7_block 52 = .ok (.invokevirtual 294, 3) := dk_182 1 38 (dk_at dksX7_block_2 5 rfl rfl)
theorem dX7_block_55 : decode cX7_block 55 = .ok (.goto (-19), 3) := dk_167 255 237 (dk_at dksX7_block_2 8 rfl rfl)
theorem dX7_block_58 : decode cX7_block 58 = .ok (.aload_n 0, 1) := dk_42 (dk_at dksX7_block_2 11 rfl rfl)
theorem dX7_block_59 : decode cX7_block 59 = .ok (.invokevirtual 19, 3) := dk_182 0 19 (dk_at dksX7_block_2 12 rfl rfl)
theorem dX7_block_62 : decode cX7_block 62 = .ok (.aload 4, 2) := dk_25 4 (dk_at dksX7_block_2 15 rfl rfl)
theorem dX7_block_64 : decode cX7_block 64 = .ok (.areturn, 1) := dk_176 (dk_at dksX7_block_2 17 rfl rfl)
abbrev cX7_when : ByteArray := prog_9_method_37_code
def yX7_when : MethodName := ⟨RX7, "when", "(LCatWitness$Court;)LCatWitness$When;"⟩
def dkwX7_when_3 : List UInt8 := [183, 1, 74, 176]
abbrev dktX7_when_3 : List UInt8 := dkwX7_when_3 ++ []
def dkwX7_when_2 : List UInt8 := [182, 1, 33, 62, 187, 1, 72, 89, 28, 29, 28, 154, 0, 11, 42, 43, 182, 0, 235, 167, 0, 4, 3, 3]
abbrev dktX7_when_2 : List UInt8 := dkwX7_when_2 ++ dktX7_when_3
def dkwX7_when_1 : List UInt8 := [182, 0, 242, 62, 187, 1, 72, 89, 28, 3, 42, 3, 16, 9, 182, 0, 80, 29, 183, 1, 74, 176, 42, 43]
abbrev dktX7_when_1 : List UInt8 := dkwX7_when_1 ++ dktX7_when_2
def dkwX7_when_0 : List UInt8 := [42, 182, 0, 146, 61, 28, 156, 0, 8, 42, 182, 0, 68, 191, 42, 182, 0, 19, 28, 6, 160, 0, 26, 42]
abbrev dktX7_when_0 : List UInt8 := dkwX7_when_0 ++ dktX7_when_1
theorem dksX7_when_0 : cX7_when.data.toList.drop 0 = dktX7_when_0 := by decide +kernel
theorem dksX7_when_1 : cX7_when.data.toList.drop 24 = dktX7_when_1 := dk_seg dksX7_when_0 24 rfl rfl
theorem dksX7_when_2 : cX7_when.data.toList.drop 48 = dktX7_when_2 := dk_seg dksX7_when_1 24 rfl rfl
theorem dksX7_when_3 : cX7_when.data.toList.drop 72 = dktX7_when_3 := dk_seg dksX7_when_2 24 rfl rfl
theorem dX7_when_0 : decode cX7_when 0 = .ok (.aload_n 0, 1) := dk_42 (dk_at dksX7_when_0 0 rfl rfl)
theorem dX7_when_1 : decode cX7_when 1 = .ok (.invokevirtual 146, 3) := dk_182 0 146 (dk_at dksX7_when_0 1 rfl rfl)
theorem dX7_when_4 : decode cX7_when 4 = .ok (.istore_n 2, 1) := dk_61 (dk_at dksX7_when_0 4 rfl rfl)
theorem dX7_when_5 : decode cX7_when 5 = .ok (.iload_n 2, 1) := dk_28 (dk_at dksX7_when_0 5 rfl rfl)
theorem dX7_when_6 : decode cX7_when 6 = .ok (.ifCond .ge 8, 3) := dk_156 0 8 (dk_at dksX7_when_0 6 rfl rfl)
theorem dX7_when_9 : decode cX7_when 9 = .ok (.aload_n 0, 1) := dk_42 (dk_at dksX7_when_0 9 rfl rfl)
theorem dX7_when_10 : decode cX7_when 10 = .ok (.invokevirtual 68, 3) := dk_182 0 68 (dk_at dksX7_when_0 10 rfl rfl)
theorem dX7_when_13 : decode cX7_when 13 = .ok (.athrow, 1) := dk_191 (dk_at dksX7_when_0 13 rfl rfl)
theorem dX7_when_14 : decode cX7_when 14 = .ok (.aload_n 0, 1) := dk_42 (dk_at dksX7_when_0 14 rfl rfl)
theorem dX7_when_15 : decode cX7_when 15 = .ok (.invokevirtual 19, 3) := dk_182 0 19 (dk_at dksX7_when_0 15 rfl rfl)
theorem dX7_when_18 : decode cX7_when 18 = .ok (.iload_n 2, 1) := dk_28 (dk_at dksX7_when_0 18 rfl rfl)
theorem dX7_when_19 : decode cX7_when 19 = .ok (.iconst 3, 1) := dk_6 (dk_at dksX7_when_0 19 rfl rfl)
theorem dX7_when_20 : decode cX7_when 20 = .ok (.if_icmp .ne 26, 3) := dk_160 0 26 (dk_at dksX7_when_0 20 rfl rfl)
theorem dX7_when_23 : decode cX7_when 23 = .ok (.aload_n 0, 1) := dk_42 (dk_at dksX7_when_0 23 rfl rfl)
theorem dX7_when_24 : decode cX7_when 24 = .ok (.invokevirtual 242, 3) := dk_182 0 242 (dk_at dksX7_when_1 0 rfl rfl)
theorem dX7_when_27 : decode cX7_when 27 = .ok (.istore_n 3, 1) := dk_62 (dk_at dksX7_when_1 3 rfl rfl)
theorem dX7_when_28 : decode cX7_when 28 = .ok (.new 328, 3) := dk_187 1 72 (dk_at dksX7_when_1 4 rfl rfl)
theorem dX7_when_31 : decode cX7_when 31 = .ok (.dup, 1) := dk_89 (dk_at dksX7_when_1 7 rfl rfl)
theorem dX7_when_32 : decode cX7_when 32 = .ok (.iload_n 2, 1) := dk_28 (dk_at dksX7_when_1 8 rfl rfl)
theorem dX7_when_33 : decode cX7_when 33 = .ok (.iconst 0, 1) := dk_3 (dk_at dksX7_when_1 9 rfl rfl)
theorem dX7_when_34 : decode cX7_when 34 = .ok (.aload_n 0, 1) := dk_42 (dk_at dksX7_when_1 10 rfl rfl)
theorem dX7_when_35 : decode cX7_when 35 = .ok (.iconst 0, 1) := dk_3 (dk_at dksX7_when_1 11 rfl rfl)
theorem dX7_when_36 : decode cX7_when 36 = .ok (.bipush 9, 2) := dk_16 9 (dk_at dksX7_when_1 12 rfl rfl)
theorem dX7_when_38 : decode cX7_when 38 = .ok (.invokevirtual 80, 3) := dk_182 0 80 (dk_at dksX7_when_1 14 rfl rfl)
theorem dX7_when_41 : decode cX7_when 41 = .ok (.iload_n 3, 1) := dk_29 (dk_at dksX7_when_1 17 rfl rfl)
theorem dX7_when_42 : decode cX7_when 42 = .ok (.invokespecial 330, 3) := dk_183 1 74 (dk_at dksX7_when_1 18 rfl rfl)
theorem dX7_when_45 : decode cX7_when 45 = .ok (.areturn, 1) := dk_176 (dk_at dksX7_when_1 21 rfl rfl)
theorem dX7_when_46 : decode cX7_when 46 = .ok (.aload_n 0, 1) := dk_42 (dk_at dksX7_when_1 22 rfl rfl)
theorem dX7_when_47 : decode cX7_when 47 = .ok (.aload_n 1, 1) := dk_43 (dk_at dksX7_when_1 23 rfl rfl)
theorem dX7_when_48 : decode cX7_when 48 = .ok (.invokevirtual 289, 3) := dk_182 1 33 (dk_at dksX7_when_2 0 rfl rfl)
theorem dX7_when_51 : decode cX7_when 51 = .ok (.istore_n 3, 1) := dk_62 (dk_at dksX7_when_2 3 rfl rfl)
theorem dX7_when_52 : decode cX7_when 52 = .ok (.new 328, 3) := dk_187 1 72 (dk_at dksX7_when_2 4 rfl rfl)
theorem dX7_when_55 : decode cX7_when 55 = .ok (.dup, 1) := dk_89 (dk_at dksX7_when_2 7 rfl rfl)
theorem dX7_when_56 : decode cX7_when 56 = .ok (.iload_n 2, 1) := dk_28 (dk_at dksX7_when_2 8 rfl rfl)
theorem dX7_when_57 : decode cX7_when 57 = .ok (.iload_n 3, 1) := dk_29 (dk_at dksX7_when_2 9 rfl rfl)
theorem dX7_when_58 : decode cX7_when 58 = .ok (.iload_n 2, 1) := dk_28 (dk_at dksX7_when_2 10 rfl rfl)
theorem dX7_when_59 : decode cX7_when 59 = .ok (.ifCond .ne 11, 3) := dk_154 0 11 (dk_at dksX7_when_2 11 rfl rfl)
theorem dX7_when_62 : decode cX7_when 62 = .ok (.aload_n 0, 1) := dk_42 (dk_at dksX7_when_2 14 rfl rfl)
theorem dX7_when_63 : decode cX7_when 63 = .ok (.aload_n 1, 1) := dk_43 (dk_at dksX7_when_2 15 rfl rfl)
theorem dX7_when_64 : decode cX7_when 64 = .ok (.invokevirtual 235, 3) := dk_182 0 235 (dk_at dksX7_when_2 16 rfl rfl)
theorem dX7_when_67 : decode cX7_when 67 = .ok (.goto 4, 3) := dk_167 0 4 (dk_at dksX7_when_2 19 rfl rfl)
theorem dX7_when_70 : decode cX7_when 70 = .ok (.iconst 0, 1) := dk_3 (dk_at dksX7_when_2 22 rfl rfl)
theorem dX7_when_71 : decode cX7_when 71 = .ok (.iconst 0, 1) := dk_3 (dk_at dksX7_when_2 23 rfl rfl)
theorem dX7_when_72 : decode cX7_when 72 = .ok (.invokespecial 330, 3) := dk_183 1 74 (dk_at dksX7_when_3 0 rfl rfl)
theorem dX7_when_75 : decode cX7_when 75 = .ok (.areturn, 1) := dk_176 (dk_at dksX7_when_3 3 rfl rfl)
abbrev cX7_plain : ByteArray := prog_9_method_35_code
def yX7_plain : MethodName := ⟨RX7, "plain", "(LCatWitness$Court;)LCatWitness$Step;"⟩
def dkwX7_plain_3 : List UInt8 := [183, 1, 61, 176]
abbrev dktX7_plain_3 : List UInt8 := dkwX7_plain_3 ++ []
def dkwX7_plain_2 : List UInt8 := [167, 0, 24, 28, 5, 160, 0, 13, 42, 4, 16, 9, 182, 0, 80, 167, 0, 9, 42, 43, 3, 182, 0, 250]
abbrev dktX7_plain_2 : List UInt8 := dkwX7_plain_2 ++ dktX7_plain_3
def dkwX7_plain_1 : List UInt8 := [3, 3, 183, 1, 61, 176, 42, 43, 182, 1, 33, 62, 187, 1, 59, 89, 28, 29, 28, 154, 0, 7, 3]
abbrev dktX7_plain_1 : List UInt8 := dkwX7_plain_1 ++ dktX7_plain_2
def dkwX7_plain_0 : List UInt8 := [42, 182, 0, 143, 61, 42, 182, 0, 19, 28, 4, 159, 0, 8, 28, 7, 164, 0, 14, 187, 1, 59, 89, 28]
abbrev dktX7_plain_0 : List UInt8 := dkwX7_plain_0 ++ dktX7_plain_1
theorem dksX7_plain_0 : cX7_plain.data.toList.drop 0 = dktX7_plain_0 := by decide +kernel
theorem dksX7_plain_1 : cX7_plain.data.toList.drop 24 = dktX7_plain_1 := dk_seg dksX7_plain_0 24 rfl rfl
theorem dksX7_plain_2 : cX7_plain.data.toList.drop 47 = dktX7_plain_2 := dk_seg dksX7_plain_1 23 rfl rfl
theorem dksX7_plain_3 : cX7_plain.data.toList.drop 71 = dktX7_plain_3 := dk_seg dksX7_plain_2 24 rfl rfl
theorem dX7_plain_0 : decode cX7_plain 0 = .ok (.aload_n 0, 1) := dk_42 (dk_at dksX7_plain_0 0 rfl rfl)
theorem dX7_plain_1 : decode cX7_plain 1 = .ok (.invokevirtual 143, 3) := dk_182 0 143 (dk_at dksX7_plain_0 1 rfl rfl)
theorem dX7_plain_4 : decode cX7_plain 4 = .ok (.istore_n 2, 1) := dk_61 (dk_at dksX7_plain_0 4 rfl rfl)
theorem dX7_plain_5 : decode cX7_plain 5 = .ok (.aload_n 0, 1) := dk_42 (dk_at dksX7_plain_0 5 rfl rfl)
theorem dX7_plain_6 : decode cX7_plain 6 = .ok (.invokevirtual 19, 3) := dk_182 0 19 (dk_at dksX7_plain_0 6 rfl rfl)
theorem dX7_plain_9 : decode cX7_plain 9 = .ok (.iload_n 2, 1) := dk_28 (dk_at dksX7_plain_0 9 rfl rfl)
theorem dX7_plain_10 : decode cX7_plain 10 = .ok (.iconst 1, 1) := dk_4 (dk_at dksX7_plain_0 10 rfl rfl)
theorem dX7_plain_11 : decode cX7_plain 11 = .ok (.if_icmp .eq 8, 3) := dk_159 0 8 (dk_at dksX7_plain_0 11 rfl rfl)
theorem dX7_plain_14 : decode cX7_plain 14 = .ok (.iload_n 2, 1) := dk_28 (dk_at dksX7_plain_0 14 rfl rfl)
theorem dX7_plain_15 : decode cX7_plain 15 = .ok (.iconst 4, 1) := dk_7 (dk_at dksX7_plain_0 15 rfl rfl)
theorem dX7_plain_16 : decode cX7_plain 16 = .ok (.if_icmp .le 14, 3) := dk_164 0 14 (dk_at dksX7_plain_0 16 rfl rfl)
theorem dX7_plain_19 : decode cX7_plain 19 = .ok (.new 315, 3) := dk_187 1 59 (dk_at dksX7_plain_0 19 rfl rfl)
theorem dX7_plain_22 : decode cX7_plain 22 = .ok (.dup, 1) := dk_89 (dk_at dksX7_plain_0 22 rfl rfl)
theorem dX7_plain_23 : decode cX7_plain 23 = .ok (.iload_n 2, 1) := dk_28 (dk_at dksX7_plain_0 23 rfl rfl)
theorem dX7_plain_24 : decode cX7_plain 24 = .ok (.iconst 0, 1) := dk_3 (dk_at dksX7_plain_1 0 rfl rfl)
theorem dX7_plain_25 : decode cX7_plain 25 = .ok (.iconst 0, 1) := dk_3 (dk_at dksX7_plain_1 1 rfl rfl)
theorem dX7_plain_26 : decode cX7_plain 26 = .ok (.invokespecial 317, 3) := dk_183 1 61 (dk_at dksX7_plain_1 2 rfl rfl)
theorem dX7_plain_29 : decode cX7_plain 29 = .ok (.areturn, 1) := dk_176 (dk_at dksX7_plain_1 5 rfl rfl)
theorem dX7_plain_30 : decode cX7_plain 30 = .ok (.aload_n 0, 1) := dk_42 (dk_at dksX7_plain_1 6 rfl rfl)
theorem dX7_plain_31 : decode cX7_plain 31 = .ok (.aload_n 1, 1) := dk_43 (dk_at dksX7_plain_1 7 rfl rfl)
theorem dX7_plain_32 : decode cX7_plain 32 = .ok (.invokevirtual 289, 3) := dk_182 1 33 (dk_at dksX7_plain_1 8 rfl rfl)
theorem dX7_plain_35 : decode cX7_plain 35 = .ok (.istore_n 3, 1) := dk_62 (dk_at dksX7_plain_1 11 rfl rfl)
theorem dX7_plain_36 : decode cX7_plain 36 = .ok (.new 315, 3) := dk_187 1 59 (dk_at dksX7_plain_1 12 rfl rfl)
theorem dX7_plain_39 : decode cX7_plain 39 = .ok (.dup, 1) := dk_89 (dk_at dksX7_plain_1 15 rfl rfl)
theorem dX7_plain_40 : decode cX7_plain 40 = .ok (.iload_n 2, 1) := dk_28 (dk_at dksX7_plain_1 16 rfl rfl)
theorem dX7_plain_41 : decode cX7_plain 41 = .ok (.iload_n 3, 1) := dk_29 (dk_at dksX7_plain_1 17 rfl rfl)
theorem dX7_plain_42 : decode cX7_plain 42 = .ok (.iload_n 2, 1) := dk_28 (dk_at dksX7_plain_1 18 rfl rfl)
theorem dX7_plain_43 : decode cX7_plain 43 = .ok (.ifCond .ne 7, 3) := dk_154 0 7 (dk_at dksX7_plain_1 19 rfl rfl)
theorem dX7_plain_46 : decode cX7_plain 46 = .ok (.iconst 0, 1) := dk_3 (dk_at dksX7_plain_1 22 rfl rfl)
theorem dX7_plain_47 : decode cX7_plain 47 = .ok (.goto 24, 3) := dk_167 0 24 (dk_at dksX7_plain_2 0 rfl rfl)
theorem dX7_plain_50 : decode cX7_plain 50 = .ok (.iload_n 2, 1) := dk_28 (dk_at dksX7_plain_2 3 rfl rfl)
theorem dX7_plain_51 : decode cX7_plain 51 = .ok (.iconst 2, 1) := dk_5 (dk_at dksX7_plain_2 4 rfl rfl)
theorem dX7_plain_52 : decode cX7_plain 52 = .ok (.if_icmp .ne 13, 3) := dk_160 0 13 (dk_at dksX7_plain_2 5 rfl rfl)
theorem dX7_plain_55 : decode cX7_plain 55 = .ok (.aload_n 0, 1) := dk_42 (dk_at dksX7_plain_2 8 rfl rfl)
theorem dX7_plain_56 : decode cX7_plain 56 = .ok (.iconst 1, 1) := dk_4 (dk_at dksX7_plain_2 9 rfl rfl)
theorem dX7_plain_57 : decode cX7_plain 57 = .ok (.bipush 9, 2) := dk_16 9 (dk_at dksX7_plain_2 10 rfl rfl)
theorem dX7_plain_59 : decode cX7_plain 59 = .ok (.invokevirtual 80, 3) := dk_182 0 80 (dk_at dksX7_plain_2 12 rfl rfl)
theorem dX7_plain_62 : decode cX7_plain 62 = .ok (.goto 9, 3) := dk_167 0 9 (dk_at dksX7_plain_2 15 rfl rfl)
theorem dX7_plain_65 : decode cX7_plain 65 = .ok (.aload_n 0, 1) := dk_42 (dk_at dksX7_plain_2 18 rfl rfl)
theorem dX7_plain_66 : decode cX7_plain 66 = .ok (.aload_n 1, 1) := dk_43 (dk_at dksX7_plain_2 19 rfl rfl)
theorem dX7_plain_67 : decode cX7_plain 67 = .ok (.iconst 0, 1) := dk_3 (dk_at dksX7_plain_2 20 rfl rfl)
theorem dX7_plain_68 : decode cX7_plain 68 = .ok (.invokevirtual 250, 3) := dk_182 0 250 (dk_at dksX7_plain_2 21 rfl rfl)
theorem dX7_plain_71 : decode cX7_plain 71 = .ok (.invokespecial 317, 3) := dk_183 1 61 (dk_at dksX7_plain_3 0 rfl rfl)
theorem dX7_plain_74 : decode cX7_plain 74 = .ok (.areturn, 1) := dk_176 (dk_at dksX7_plain_3 3 rfl rfl)
theorem q182 : (Jvm.Cond.initialized "CatWitness$Reader") ∈ lw_all := lw_g (lw_at lw_m1 16 rfl) rfl
theorem q322 : (Jvm.Cond.fieldLinkNest "CatWitness$Reader" (209 : Nat) "CatWitness$Court" "smells" "I" "CatWitness") ∈ lw_tbl := lw_at lw_m1 156 rfl
theorem q325 : (Jvm.Cond.fieldLinkNest "CatWitness$Reader" (219 : Nat) "CatWitness$Court" "cues" "I" "CatWitness") ∈ lw_tbl := lw_at lw_m1 159 rfl
theorem q328 : (Jvm.Cond.fieldLinkNest "CatWitness$Reader" (232 : Nat) "CatWitness$Court" "rules" "I" "CatWitness") ∈ lw_tbl := lw_at lw_m1 162 rfl
theorem q332 : (Jvm.Cond.fieldLinkNest "CatWitness$Reader" (256 : Nat) "CatWitness$Court" "people" "I" "CatWitness") ∈ lw_tbl := lw_at lw_m1 166 rfl
theorem q335 : (Jvm.Cond.fieldLinkNest "CatWitness$Reader" (269 : Nat) "CatWitness$Court" "readers" "I" "CatWitness") ∈ lw_tbl := lw_at lw_m1 169 rfl
theorem q337 : (Jvm.Cond.fieldLinkNest "CatWitness$Reader" (283 : Nat) "CatWitness$Court" "words" "I" "CatWitness") ∈ lw_tbl := lw_at lw_m1 171 rfl
theorem q347 : (Jvm.Cond.fieldLinkNest "CatWitness$Reader" (215 : Nat) "CatWitness$Court" "smellNames" "[J" "CatWitness") ∈ lw_tbl := lw_at lw_m1 181 rfl
theorem q349 : (Jvm.Cond.fieldLinkNest "CatWitness$Reader" (229 : Nat) "CatWitness$Court" "cueNames" "[J" "CatWitness") ∈ lw_tbl := lw_at lw_m1 183 rfl
theorem q351 : (Jvm.Cond.fieldLinkNest "CatWitness$Reader" (266 : Nat) "CatWitness$Court" "personNames" "[J" "CatWitness") ∈ lw_tbl := lw_at lw_m1 185 rfl
theorem q353 : (Jvm.Cond.fieldLinkNest "CatWitness$Reader" (280 : Nat) "CatWitness$Court" "readerNames" "[J" "CatWitness") ∈ lw_tbl := lw_at lw_m1 187 rfl
theorem q355 : (Jvm.Cond.fieldLinkNest "CatWitness$Reader" (222 : Nat) "CatWitness$Court" "sense" "[I" "CatWitness") ∈ lw_tbl := lw_at lw_m1 189 rfl
theorem q358 : (Jvm.Cond.fieldLinkNest "CatWitness$Reader" (261 : Nat) "CatWitness$Court" "fed" "[I" "CatWitness") ∈ lw_tbl := lw_at lw_m1 192 rfl
theorem q361 : (Jvm.Cond.fieldLinkNest "CatWitness$Reader" (263 : Nat) "CatWitness$Court" "scents" "[I" "CatWitness") ∈ lw_tbl := lw_at lw_m1 195 rfl
theorem q367 : (Jvm.Cond.fieldLinkNest "CatWitness$Reader" (259 : Nat) "CatWitness$Court" "guilty" "[I" "CatWitness") ∈ lw_tbl := lw_at lw_m1 201 rfl
theorem q372 : (Jvm.Cond.fieldLinkNest "CatWitness$Reader" (272 : Nat) "CatWitness$Court" "slip" "[I" "CatWitness") ∈ lw_tbl := lw_at lw_m1 206 rfl
theorem q375 : (Jvm.Cond.fieldLinkNest "CatWitness$Reader" (278 : Nat) "CatWitness$Court" "votes" "[I" "CatWitness") ∈ lw_tbl := lw_at lw_m1 209 rfl
theorem q378 : (Jvm.Cond.fieldLinkNest "CatWitness$Reader" (286 : Nat) "CatWitness$Court" "about" "[I" "CatWitness") ∈ lw_tbl := lw_at lw_m1 212 rfl
theorem q381 : (Jvm.Cond.fieldLinkNest "CatWitness$Reader" (291 : Nat) "CatWitness$Court" "says" "[I" "CatWitness") ∈ lw_tbl := lw_at lw_m1 215 rfl
theorem q384 : (Jvm.Cond.fieldLinkNest "CatWitness$Reader" (245 : Nat) "CatWitness$Court" "rule" "[LCatWitness$Rule;" "CatWitness") ∈ lw_tbl := lw_at lw_m1 218 rfl
theorem q448 : (Jvm.Cond.fieldLinkNest "CatWitness$Reader" (22 : Nat) "CatWitness" "tape" "[B" "CatWitness") ∈ lw_tbl := lw_at lw_m2 42 rfl
theorem q453 : (Jvm.Cond.fieldLinkNest "CatWitness$Reader" (55 : Nat) "CatWitness" "bad" "LCatWitness$Bad;" "CatWitness") ∈ lw_tbl := lw_at lw_m2 47 rfl
theorem q669 : (Jvm.Cond.instantiable "CatWitness$Reader" (7 : Nat)) ∈ lw_all := lw_g (lw_at lw_m3 23 rfl) rfl
theorem q671 : (Jvm.Cond.instanceMethod ({ cls := "CatWitness$Reader", name := "<init>", desc := "(LCatWitness;I)V" } : Jvm.MethodName)) ∈ lw_all := lw_g (lw_at lw_m3 25 rfl) rfl
theorem q672 : (Jvm.Cond.code ({ cls := "CatWitness$Reader", name := "<init>", desc := "(LCatWitness;I)V" } : Jvm.MethodName) prog_9_method_1_code (3 : Nat) (Option.none : Option Jvm.ClassFile.FieldType)) ∈ lw_all := lw_g (lw_at lw_m3 26 rfl) rfl
theorem q673 : (Jvm.Cond.methodLink "CatWitness$Reader" (9 : Nat) ({ cls := "java/lang/Object", name := "<init>", desc := "()V" } : Jvm.MethodName)) ∈ lw_all := lw_g (lw_at lw_m3 27 rfl) rfl
theorem q674 : (Jvm.Cond.methodLink "CatWitness$Reader" (19 : Nat) ({ cls := "CatWitness$Reader", name := "next", desc := "()V" } : Jvm.MethodName)) ∈ lw_all := lw_g (lw_at lw_m3 28 rfl) rfl
theorem q675 : (Jvm.Cond.privateMethod ({ cls := "CatWitness$Reader", name := "next", desc := "()V" } : Jvm.MethodName)) ∈ lw_tbl := lw_at lw_m3 29 rfl
theorem q676 : (Jvm.Cond.instanceMethod ({ cls := "CatWitness$Reader", name := "next", desc := "()V" } : Jvm.MethodName)) ∈ lw_all := lw_g (lw_at lw_m3 30 rfl) rfl
theorem q677 : (Jvm.Cond.code ({ cls := "CatWitness$Reader", name := "next", desc := "()V" } : Jvm.MethodName) prog_9_method_4_code (1 : Nat) (Option.none : Option Jvm.ClassFile.FieldType)) ∈ lw_all := lw_g (lw_at lw_m3 31 rfl) rfl
theorem q678 : (Jvm.Cond.methodLink "CatWitness$Reader" (35 : Nat) ({ cls := "CatWitness$Reader", name := "isLetter", desc := "(I)Z" } : Jvm.MethodName)) ∈ lw_all := lw_g (lw_at lw_m3 32 rfl) rfl
theorem q679 : (Jvm.Cond.privateMethod ({ cls := "CatWitness$Reader", name := "isLetter", desc := "(I)Z" } : Jvm.MethodName)) ∈ lw_tbl := lw_at lw_m3 33 rfl
theorem q680 : (Jvm.Cond.instanceMethod ({ cls := "CatWitness$Reader", name := "isLetter", desc := "(I)Z" } : Jvm.MethodName)) ∈ lw_all := lw_g (lw_at lw_m3 34 rfl) rfl
theorem q681 : (Jvm.Cond.code ({ cls := "CatWitness$Reader", name := "isLetter", desc := "(I)Z" } : Jvm.MethodName) prog_9_method_2_code (2 : Nat) (Option.some Jvm.ClassFile.FieldType.boolean)) ∈ lw_all := lw_g (lw_at lw_m3 35 rfl) rfl
theorem q682 : (Jvm.Cond.methodLink "CatWitness$Reader" (39 : Nat) ({ cls := "CatWitness$Reader", name := "isDigit", desc := "(I)Z" } : Jvm.MethodName)) ∈ lw_all := lw_g (lw_at lw_m3 36 rfl) rfl
theorem q683 : (Jvm.Cond.privateMethod ({ cls := "CatWitness$Reader", name := "isDigit", desc := "(I)Z" } : Jvm.MethodName)) ∈ lw_tbl := lw_at lw_m3 37 rfl
theorem q684 : (Jvm.Cond.instanceMethod ({ cls := "CatWitness$Reader", name := "isDigit", desc := "(I)Z" } : Jvm.MethodName)) ∈ lw_all := lw_g (lw_at lw_m3 38 rfl) rfl
theorem q685 : (Jvm.Cond.code ({ cls := "CatWitness$Reader", name := "isDigit", desc := "(I)Z" } : Jvm.MethodName) prog_9_method_3_code (2 : Nat) (Option.some Jvm.ClassFile.FieldType.boolean)) ∈ lw_all := lw_g (lw_at lw_m3 39 rfl) rfl
theorem q686 : (Jvm.Cond.fieldLink "CatWitness$Reader" (15 : Nat) "CatWitness$Reader" "size" "I") ∈ lw_all := lw_g (lw_at lw_m3 40 rfl) rfl
theorem q687 : (Jvm.Cond.fieldLink "CatWitness$Reader" (29 : Nat) "CatWitness$Reader" "at" "I") ∈ lw_all := lw_g (lw_at lw_m3 41 rfl) rfl
theorem q688 : (Jvm.Cond.fieldLink "CatWitness$Reader" (26 : Nat) "CatWitness$Reader" "behind" "I") ∈ lw_all := lw_g (lw_at lw_m3 42 rfl) rfl
theorem q689 : (Jvm.Cond.fieldLink "CatWitness$Reader" (32 : Nat) "CatWitness$Reader" "sort" "I") ∈ lw_all := lw_g (lw_at lw_m3 43 rfl) rfl
theorem q690 : (Jvm.Cond.fieldLink "CatWitness$Reader" (42 : Nat) "CatWitness$Reader" "number" "I") ∈ lw_all := lw_g (lw_at lw_m3 44 rfl) rfl
theorem q691 : (Jvm.Cond.fieldLink "CatWitness$Reader" (298 : Nat) "CatWitness$Reader" "steps" "I") ∈ lw_all := lw_g (lw_at lw_m3 45 rfl) rfl
theorem q693 : (Jvm.Cond.fieldLink "CatWitness$Reader" (3 : Nat) "CatWitness$Reader" "this$0" "LCatWitness;") ∈ lw_all := lw_g (lw_at lw_m3 47 rfl) rfl
theorem q694 : (Jvm.Cond.laysFinal "CatWitness$Reader" "CatWitness$Reader" "size" "I") ∈ lw_all := lw_g (lw_at lw_m3 48 rfl) rfl
theorem q695 : (Jvm.Cond.soleField "CatWitness$Reader" "size") ∈ lw_all := lw_g (lw_at lw_m3 49 rfl) rfl
theorem q696 : (Jvm.Cond.lays "CatWitness$Reader" "CatWitness$Reader" "at" "I") ∈ lw_all := lw_g (lw_at lw_m3 50 rfl) rfl
theorem q697 : (Jvm.Cond.soleField "CatWitness$Reader" "at") ∈ lw_all := lw_g (lw_at lw_m3 51 rfl) rfl
theorem q698 : (Jvm.Cond.lays "CatWitness$Reader" "CatWitness$Reader" "behind" "I") ∈ lw_all := lw_g (lw_at lw_m3 52 rfl) rfl
theorem q699 : (Jvm.Cond.soleField "CatWitness$Reader" "behind") ∈ lw_all := lw_g (lw_at lw_m3 53 rfl) rfl
theorem q700 : (Jvm.Cond.lays "CatWitness$Reader" "CatWitness$Reader" "sort" "I") ∈ lw_all := lw_g (lw_at lw_m3 54 rfl) rfl
theorem q701 : (Jvm.Cond.soleField "CatWitness$Reader" "sort") ∈ lw_all := lw_g (lw_at lw_m3 55 rfl) rfl
theorem q702 : (Jvm.Cond.lays "CatWitness$Reader" "CatWitness$Reader" "number" "I") ∈ lw_all := lw_g (lw_at lw_m3 56 rfl) rfl
theorem q703 : (Jvm.Cond.soleField "CatWitness$Reader" "number") ∈ lw_all := lw_g (lw_at lw_m3 57 rfl) rfl
theorem q704 : (Jvm.Cond.lays "CatWitness$Reader" "CatWitness$Reader" "steps" "I") ∈ lw_all := lw_g (lw_at lw_m3 58 rfl) rfl
theorem q705 : (Jvm.Cond.soleField "CatWitness$Reader" "steps") ∈ lw_all := lw_g (lw_at lw_m3 59 rfl) rfl
theorem q706 : (Jvm.Cond.laysFinal "CatWitness$Reader" "CatWitness$Reader" "this$0" "LCatWitness;") ∈ lw_all := lw_g (lw_at lw_m3 60 rfl) rfl
theorem q707 : (Jvm.Cond.soleField "CatWitness$Reader" "this$0") ∈ lw_all := lw_g (lw_at lw_m3 61 rfl) rfl
theorem q708 : (Jvm.Cond.superclass "CatWitness$Reader" "java/lang/Object") ∈ lw_all := lw_g (lw_at lw_m3 62 rfl) rfl
theorem q710 : (Jvm.Cond.instanceMethod ({ cls := "CatWitness$Reader", name := "court", desc := "(LCatWitness$Court;)V" } : Jvm.MethodName)) ∈ lw_all := lw_g (lw_at lw_m3 64 rfl) rfl
theorem q711 : (Jvm.Cond.selects "CatWitness$Reader" ({ cls := "CatWitness$Reader", name := "court", desc := "(LCatWitness$Court;)V" } : Jvm.MethodName) ({ cls := "CatWitness$Reader", name := "court", desc := "(LCatWitness$Court;)V" } : Jvm.MethodName)) ∈ lw_all := lw_g (lw_at lw_m3 65 rfl) rfl
theorem q712 : (Jvm.Cond.code ({ cls := "CatWitness$Reader", name := "court", desc := "(LCatWitness$Court;)V" } : Jvm.MethodName) prog_9_method_26_code (2 : Nat) (Option.none : Option Jvm.ClassFile.FieldType)) ∈ lw_all := lw_g (lw_at lw_m3 66 rfl) rfl
theorem q713 : (Jvm.Cond.stringRef "CatWitness$Reader" (116 : Nat) "smell") ∈ lw_tbl := lw_at lw_m3 67 rfl
theorem q714 : (Jvm.Cond.methodLink "CatWitness$Reader" (72 : Nat) ({ cls := "CatWitness$Reader", name := "isWord", desc := "(Ljava/lang/String;)Z" } : Jvm.MethodName)) ∈ lw_all := lw_g (lw_at lw_m3 68 rfl) rfl
theorem q715 : (Jvm.Cond.privateMethod ({ cls := "CatWitness$Reader", name := "isWord", desc := "(Ljava/lang/String;)Z" } : Jvm.MethodName)) ∈ lw_tbl := lw_at lw_m3 69 rfl
theorem q716 : (Jvm.Cond.instanceMethod ({ cls := "CatWitness$Reader", name := "isWord", desc := "(Ljava/lang/String;)Z" } : Jvm.MethodName)) ∈ lw_all := lw_g (lw_at lw_m3 70 rfl) rfl
theorem q717 : (Jvm.Cond.code ({ cls := "CatWitness$Reader", name := "isWord", desc := "(Ljava/lang/String;)Z" } : Jvm.MethodName) prog_9_method_5_code (3 : Nat) (Option.some Jvm.ClassFile.FieldType.boolean)) ∈ lw_all := lw_g (lw_at lw_m3 71 rfl) rfl
theorem q718 : (Jvm.Cond.methodLink "CatWitness$Reader" (45 : Nat) ({ cls := "java/lang/String", name := "length", desc := "()I" } : Jvm.MethodName)) ∈ lw_all := lw_g (lw_at lw_m3 72 rfl) rfl
theorem q728 : (Jvm.Cond.methodLink "CatWitness$Reader" (51 : Nat) ({ cls := "java/lang/String", name := "charAt", desc := "(I)C" } : Jvm.MethodName)) ∈ lw_all := lw_g (lw_at lw_m3 82 rfl) rfl
theorem q766 : (Jvm.Cond.methodLink "CatWitness$Reader" (187 : Nat) ({ cls := "CatWitness$Reader", name := "newSmell", desc := "(LCatWitness$Court;)V" } : Jvm.MethodName)) ∈ lw_all := lw_g (lw_at lw_m3 120 rfl) rfl
theorem q767 : (Jvm.Cond.privateMethod ({ cls := "CatWitness$Reader", name := "newSmell", desc := "(LCatWitness$Court;)V" } : Jvm.MethodName)) ∈ lw_tbl := lw_at lw_m3 121 rfl
theorem q768 : (Jvm.Cond.instanceMethod ({ cls := "CatWitness$Reader", name := "newSmell", desc := "(LCatWitness$Court;)V" } : Jvm.MethodName)) ∈ lw_all := lw_g (lw_at lw_m3 122 rfl) rfl
theorem q769 : (Jvm.Cond.code ({ cls := "CatWitness$Reader", name := "newSmell", desc := "(LCatWitness$Court;)V" } : Jvm.MethodName) prog_9_method_27_code (5 : Nat) (Option.none : Option Jvm.ClassFile.FieldType)) ∈ lw_all := lw_g (lw_at lw_m3 123 rfl) rfl
theorem q770 : (Jvm.Cond.methodLink "CatWitness$Reader" (211 : Nat) ({ cls := "CatWitness$Reader", name := "fresh", desc := "(LCatWitness$Court;Z)J" } : Jvm.MethodName)) ∈ lw_all := lw_g (lw_at lw_m3 124 rfl) rfl
theorem q771 : (Jvm.Cond.privateMethod ({ cls := "CatWitness$Reader", name := "fresh", desc := "(LCatWitness$Court;Z)J" } : Jvm.MethodName)) ∈ lw_tbl := lw_at lw_m3 125 rfl
theorem q772 : (Jvm.Cond.instanceMethod ({ cls := "CatWitness$Reader", name := "fresh", desc := "(LCatWitness$Court;Z)J" } : Jvm.MethodName)) ∈ lw_all := lw_g (lw_at lw_m3 126 rfl) rfl
theorem q773 : (Jvm.Cond.code ({ cls := "CatWitness$Reader", name := "fresh", desc := "(LCatWitness$Court;Z)J" } : Jvm.MethodName) prog_9_method_21_code (5 : Nat) (Option.some Jvm.ClassFile.FieldType.long)) ∈ lw_all := lw_g (lw_at lw_m3 127 rfl) rfl
theorem q774 : (Jvm.Cond.methodLink "CatWitness$Reader" (157 : Nat) ({ cls := "CatWitness$Reader", name := "room", desc := "(Z)V" } : Jvm.MethodName)) ∈ lw_all := lw_g (lw_at lw_m3 128 rfl) rfl
theorem q775 : (Jvm.Cond.privateMethod ({ cls := "CatWitness$Reader", name := "room", desc := "(Z)V" } : Jvm.MethodName)) ∈ lw_tbl := lw_at lw_m3 129 rfl
theorem q776 : (Jvm.Cond.instanceMethod ({ cls := "CatWitness$Reader", name := "room", desc := "(Z)V" } : Jvm.MethodName)) ∈ lw_all := lw_g (lw_at lw_m3 130 rfl) rfl
theorem q777 : (Jvm.Cond.code ({ cls := "CatWitness$Reader", name := "room", desc := "(Z)V" } : Jvm.MethodName) prog_9_method_20_code (2 : Nat) (Option.none : Option Jvm.ClassFile.FieldType)) ∈ lw_all := lw_g (lw_at lw_m3 131 rfl) rfl
theorem q778 : (Jvm.Cond.methodLink "CatWitness$Reader" (59 : Nat) ({ cls := "CatWitness$Bad", name := "at", desc := "(II)LCatWitness$Bad;" } : Jvm.MethodName)) ∈ lw_all := lw_g (lw_at lw_m3 132 rfl) rfl
theorem q782 : (Jvm.Cond.methodLink "CatWitness$Reader" (161 : Nat) ({ cls := "CatWitness$Reader", name := "name", desc := "()J" } : Jvm.MethodName)) ∈ lw_all := lw_g (lw_at lw_m3 136 rfl) rfl
theorem q783 : (Jvm.Cond.privateMethod ({ cls := "CatWitness$Reader", name := "name", desc := "()J" } : Jvm.MethodName)) ∈ lw_tbl := lw_at lw_m3 137 rfl
theorem q784 : (Jvm.Cond.instanceMethod ({ cls := "CatWitness$Reader", name := "name", desc := "()J" } : Jvm.MethodName)) ∈ lw_all := lw_g (lw_at lw_m3 138 rfl) rfl
theorem q785 : (Jvm.Cond.code ({ cls := "CatWitness$Reader", name := "name", desc := "()J" } : Jvm.MethodName) prog_9_method_19_code (4 : Nat) (Option.some Jvm.ClassFile.FieldType.long)) ∈ lw_all := lw_g (lw_at lw_m3 139 rfl) rfl
theorem q786 : (Jvm.Cond.methodLink "CatWitness$Reader" (149 : Nat) ({ cls := "CatWitness$Reader", name := "isKept", desc := "()Z" } : Jvm.MethodName)) ∈ lw_all := lw_g (lw_at lw_m3 140 rfl) rfl
theorem q787 : (Jvm.Cond.privateMethod ({ cls := "CatWitness$Reader", name := "isKept", desc := "()Z" } : Jvm.MethodName)) ∈ lw_tbl := lw_at lw_m3 141 rfl
theorem q788 : (Jvm.Cond.instanceMethod ({ cls := "CatWitness$Reader", name := "isKept", desc := "()Z" } : Jvm.MethodName)) ∈ lw_all := lw_g (lw_at lw_m3 142 rfl) rfl
theorem q789 : (Jvm.Cond.code ({ cls := "CatWitness$Reader", name := "isKept", desc := "()Z" } : Jvm.MethodName) prog_9_method_18_code (2 : Nat) (Option.some Jvm.ClassFile.FieldType.boolean)) ∈ lw_all := lw_g (lw_at lw_m3 143 rfl) rfl
theorem q790 : (Jvm.Cond.stringRef "CatWitness$Reader" (118 : Nat) "sign") ∈ lw_tbl := lw_at lw_m3 144 rfl
theorem q791 : (Jvm.Cond.stringRef "CatWitness$Reader" (120 : Nat) "means") ∈ lw_tbl := lw_at lw_m3 145 rfl
theorem q792 : (Jvm.Cond.stringRef "CatWitness$Reader" (122 : Nat) "rule") ∈ lw_tbl := lw_at lw_m3 146 rfl
theorem q793 : (Jvm.Cond.stringRef "CatWitness$Reader" (124 : Nat) "fed") ∈ lw_tbl := lw_at lw_m3 147 rfl
theorem q794 : (Jvm.Cond.stringRef "CatWitness$Reader" (126 : Nat) "smells") ∈ lw_tbl := lw_at lw_m3 148 rfl
theorem q795 : (Jvm.Cond.stringRef "CatWitness$Reader" (128 : Nat) "person") ∈ lw_tbl := lw_at lw_m3 149 rfl
theorem q796 : (Jvm.Cond.stringRef "CatWitness$Reader" (130 : Nat) "reader") ∈ lw_tbl := lw_at lw_m3 150 rfl
theorem q797 : (Jvm.Cond.stringRef "CatWitness$Reader" (132 : Nat) "slips") ∈ lw_tbl := lw_at lw_m3 151 rfl
theorem q798 : (Jvm.Cond.stringRef "CatWitness$Reader" (134 : Nat) "votes") ∈ lw_tbl := lw_at lw_m3 152 rfl
theorem q799 : (Jvm.Cond.stringRef "CatWitness$Reader" (136 : Nat) "word") ∈ lw_tbl := lw_at lw_m3 153 rfl
theorem q800 : (Jvm.Cond.methodLink "CatWitness$Reader" (89 : Nat) ({ cls := "CatWitness$Reader", name := "senses", desc := "()I" } : Jvm.MethodName)) ∈ lw_all := lw_g (lw_at lw_m3 154 rfl) rfl
theorem q801 : (Jvm.Cond.privateMethod ({ cls := "CatWitness$Reader", name := "senses", desc := "()I" } : Jvm.MethodName)) ∈ lw_tbl := lw_at lw_m3 155 rfl
theorem q802 : (Jvm.Cond.instanceMethod ({ cls := "CatWitness$Reader", name := "senses", desc := "()I" } : Jvm.MethodName)) ∈ lw_all := lw_g (lw_at lw_m3 156 rfl) rfl
theorem q803 : (Jvm.Cond.code ({ cls := "CatWitness$Reader", name := "senses", desc := "()I" } : Jvm.MethodName) prog_9_method_13_code (1 : Nat) (Option.some Jvm.ClassFile.FieldType.int)) ∈ lw_all := lw_g (lw_at lw_m3 157 rfl) rfl
theorem q804 : (Jvm.Cond.stringRef "CatWitness$Reader" (83 : Nat) "nothing") ∈ lw_tbl := lw_at lw_m3 158 rfl
theorem q805 : (Jvm.Cond.stringRef "CatWitness$Reader" (85 : Nat) "guilty") ∈ lw_tbl := lw_at lw_m3 159 rfl
theorem q806 : (Jvm.Cond.stringRef "CatWitness$Reader" (87 : Nat) "clean") ∈ lw_tbl := lw_at lw_m3 160 rfl
theorem q807 : (Jvm.Cond.stringRef "CatWitness$Reader" (137 : Nat) "when") ∈ lw_tbl := lw_at lw_m3 161 rfl
theorem q808 : (Jvm.Cond.stringRef "CatWitness$Reader" (139 : Nat) "loop") ∈ lw_tbl := lw_at lw_m3 162 rfl
theorem q809 : (Jvm.Cond.stringRef "CatWitness$Reader" (141 : Nat) "end") ∈ lw_tbl := lw_at lw_m3 163 rfl
theorem q810 : (Jvm.Cond.methodLink "CatWitness$Reader" (143 : Nat) ({ cls := "CatWitness$Reader", name := "acts", desc := "()I" } : Jvm.MethodName)) ∈ lw_all := lw_g (lw_at lw_m3 164 rfl) rfl
theorem q811 : (Jvm.Cond.privateMethod ({ cls := "CatWitness$Reader", name := "acts", desc := "()I" } : Jvm.MethodName)) ∈ lw_tbl := lw_at lw_m3 165 rfl
theorem q812 : (Jvm.Cond.instanceMethod ({ cls := "CatWitness$Reader", name := "acts", desc := "()I" } : Jvm.MethodName)) ∈ lw_all := lw_g (lw_at lw_m3 166 rfl) rfl
theorem q813 : (Jvm.Cond.code ({ cls := "CatWitness$Reader", name := "acts", desc := "()I" } : Jvm.MethodName) prog_9_method_16_code (1 : Nat) (Option.some Jvm.ClassFile.FieldType.int)) ∈ lw_all := lw_g (lw_at lw_m3 167 rfl) rfl
theorem q814 : (Jvm.Cond.stringRef "CatWitness$Reader" (92 : Nat) "sit") ∈ lw_tbl := lw_at lw_m3 168 rfl
theorem q815 : (Jvm.Cond.stringRef "CatWitness$Reader" (94 : Nat) "term") ∈ lw_tbl := lw_at lw_m3 169 rfl
theorem q816 : (Jvm.Cond.stringRef "CatWitness$Reader" (96 : Nat) "feed") ∈ lw_tbl := lw_at lw_m3 170 rfl
theorem q817 : (Jvm.Cond.stringRef "CatWitness$Reader" (98 : Nat) "rub") ∈ lw_tbl := lw_at lw_m3 171 rfl
theorem q818 : (Jvm.Cond.stringRef "CatWitness$Reader" (100 : Nat) "wash") ∈ lw_tbl := lw_at lw_m3 172 rfl
theorem q819 : (Jvm.Cond.stringRef "CatWitness$Reader" (102 : Nat) "night") ∈ lw_tbl := lw_at lw_m3 173 rfl
theorem q820 : (Jvm.Cond.stringRef "CatWitness$Reader" (104 : Nat) "any") ∈ lw_tbl := lw_at lw_m3 174 rfl
theorem q821 : (Jvm.Cond.stringRef "CatWitness$Reader" (106 : Nat) "stop") ∈ lw_tbl := lw_at lw_m3 175 rfl
theorem q822 : (Jvm.Cond.methodLink "CatWitness$Reader" (146 : Nat) ({ cls := "CatWitness$Reader", name := "tests", desc := "()I" } : Jvm.MethodName)) ∈ lw_all := lw_g (lw_at lw_m3 176 rfl) rfl
theorem q823 : (Jvm.Cond.privateMethod ({ cls := "CatWitness$Reader", name := "tests", desc := "()I" } : Jvm.MethodName)) ∈ lw_tbl := lw_at lw_m3 177 rfl
theorem q824 : (Jvm.Cond.instanceMethod ({ cls := "CatWitness$Reader", name := "tests", desc := "()I" } : Jvm.MethodName)) ∈ lw_all := lw_g (lw_at lw_m3 178 rfl) rfl
theorem q825 : (Jvm.Cond.code ({ cls := "CatWitness$Reader", name := "tests", desc := "()I" } : Jvm.MethodName) prog_9_method_17_code (1 : Nat) (Option.some Jvm.ClassFile.FieldType.int)) ∈ lw_all := lw_g (lw_at lw_m3 179 rfl) rfl
theorem q826 : (Jvm.Cond.stringRef "CatWitness$Reader" (108 : Nat) "shows") ∈ lw_tbl := lw_at lw_m3 180 rfl
theorem q827 : (Jvm.Cond.stringRef "CatWitness$Reader" (110 : Nat) "held") ∈ lw_tbl := lw_at lw_m3 181 rfl
theorem q828 : (Jvm.Cond.stringRef "CatWitness$Reader" (112 : Nat) "free") ∈ lw_tbl := lw_at lw_m3 182 rfl
theorem q829 : (Jvm.Cond.stringRef "CatWitness$Reader" (114 : Nat) "warm") ∈ lw_tbl := lw_at lw_m3 183 rfl
theorem q830 : (Jvm.Cond.methodLink "CatWitness$Reader" (68 : Nat) ({ cls := "CatWitness$Reader", name := "wrong", desc := "()LCatWitness$Bad;" } : Jvm.MethodName)) ∈ lw_all := lw_g (lw_at lw_m3 184 rfl) rfl
theorem q831 : (Jvm.Cond.privateMethod ({ cls := "CatWitness$Reader", name := "wrong", desc := "()LCatWitness$Bad;" } : Jvm.MethodName)) ∈ lw_tbl := lw_at lw_m3 185 rfl
theorem q832 : (Jvm.Cond.instanceMethod ({ cls := "CatWitness$Reader", name := "wrong", desc := "()LCatWitness$Bad;" } : Jvm.MethodName)) ∈ lw_all := lw_g (lw_at lw_m3 186 rfl) rfl
theorem q833 : (Jvm.Cond.code ({ cls := "CatWitness$Reader", name := "wrong", desc := "()LCatWitness$Bad;" } : Jvm.MethodName) prog_9_method_7_code (1 : Nat) (Option.some (Jvm.ClassFile.FieldType.object "CatWitness$Bad"))) ∈ lw_all := lw_g (lw_at lw_m3 187 rfl) rfl
theorem q834 : (Jvm.Cond.constantLong "CatWitness$Reader" (153 : Nat) (32 : Int64)) ∈ lw_all := lw_g (lw_at lw_m3 188 rfl) rfl
theorem q835 : (Jvm.Cond.constantLong "CatWitness$Reader" (155 : Nat) (96 : Int64)) ∈ lw_all := lw_g (lw_at lw_m3 189 rfl) rfl
theorem q836 : (Jvm.Cond.methodLink "CatWitness$Reader" (165 : Nat) ({ cls := "CatWitness$Court", name := "smellNamed", desc := "(J)I" } : Jvm.MethodName)) ∈ lw_all := lw_g (lw_at lw_m3 190 rfl) rfl
theorem q843 : (Jvm.Cond.methodLink "CatWitness$Reader" (171 : Nat) ({ cls := "CatWitness$Court", name := "cueNamed", desc := "(J)I" } : Jvm.MethodName)) ∈ lw_all := lw_g (lw_at lw_m3 197 rfl) rfl
theorem q847 : (Jvm.Cond.methodLink "CatWitness$Reader" (174 : Nat) ({ cls := "CatWitness$Court", name := "personNamed", desc := "(J)I" } : Jvm.MethodName)) ∈ lw_all := lw_g (lw_at lw_m3 201 rfl) rfl
theorem q851 : (Jvm.Cond.methodLink "CatWitness$Reader" (177 : Nat) ({ cls := "CatWitness$Court", name := "readerNamed", desc := "(J)I" } : Jvm.MethodName)) ∈ lw_all := lw_g (lw_at lw_m3 205 rfl) rfl
theorem q855 : (Jvm.Cond.methodLink "CatWitness$Reader" (191 : Nat) ({ cls := "CatWitness$Reader", name := "newCue", desc := "(LCatWitness$Court;)V" } : Jvm.MethodName)) ∈ lw_all := lw_g (lw_at lw_m3 209 rfl) rfl
theorem q856 : (Jvm.Cond.privateMethod ({ cls := "CatWitness$Reader", name := "newCue", desc := "(LCatWitness$Court;)V" } : Jvm.MethodName)) ∈ lw_tbl := lw_at lw_m3 210 rfl
theorem q857 : (Jvm.Cond.instanceMethod ({ cls := "CatWitness$Reader", name := "newCue", desc := "(LCatWitness$Court;)V" } : Jvm.MethodName)) ∈ lw_all := lw_g (lw_at lw_m3 211 rfl) rfl
theorem q858 : (Jvm.Cond.code ({ cls := "CatWitness$Reader", name := "newCue", desc := "(LCatWitness$Court;)V" } : Jvm.MethodName) prog_9_method_28_code (5 : Nat) (Option.none : Option Jvm.ClassFile.FieldType)) ∈ lw_all := lw_g (lw_at lw_m3 212 rfl) rfl
theorem q859 : (Jvm.Cond.methodLink "CatWitness$Reader" (76 : Nat) ({ cls := "CatWitness$Reader", name := "word", desc := "(Ljava/lang/String;)V" } : Jvm.MethodName)) ∈ lw_all := lw_g (lw_at lw_m3 213 rfl) rfl
theorem q860 : (Jvm.Cond.privateMethod ({ cls := "CatWitness$Reader", name := "word", desc := "(Ljava/lang/String;)V" } : Jvm.MethodName)) ∈ lw_tbl := lw_at lw_m3 214 rfl
theorem q861 : (Jvm.Cond.instanceMethod ({ cls := "CatWitness$Reader", name := "word", desc := "(Ljava/lang/String;)V" } : Jvm.MethodName)) ∈ lw_all := lw_g (lw_at lw_m3 215 rfl) rfl
theorem q862 : (Jvm.Cond.code ({ cls := "CatWitness$Reader", name := "word", desc := "(Ljava/lang/String;)V" } : Jvm.MethodName) prog_9_method_9_code (2 : Nat) (Option.none : Option Jvm.ClassFile.FieldType)) ∈ lw_all := lw_g (lw_at lw_m3 216 rfl) rfl
theorem q863 : (Jvm.Cond.methodLink "CatWitness$Reader" (226 : Nat) ({ cls := "CatWitness$Reader", name := "sense", desc := "(I)I" } : Jvm.MethodName)) ∈ lw_all := lw_g (lw_at lw_m3 217 rfl) rfl
theorem q864 : (Jvm.Cond.privateMethod ({ cls := "CatWitness$Reader", name := "sense", desc := "(I)I" } : Jvm.MethodName)) ∈ lw_tbl := lw_at lw_m3 218 rfl
theorem q865 : (Jvm.Cond.instanceMethod ({ cls := "CatWitness$Reader", name := "sense", desc := "(I)I" } : Jvm.MethodName)) ∈ lw_all := lw_g (lw_at lw_m3 219 rfl) rfl
theorem q866 : (Jvm.Cond.code ({ cls := "CatWitness$Reader", name := "sense", desc := "(I)I" } : Jvm.MethodName) prog_9_method_14_code (3 : Nat) (Option.some Jvm.ClassFile.FieldType.int)) ∈ lw_all := lw_g (lw_at lw_m3 220 rfl) rfl
theorem q867 : (Jvm.Cond.methodLink "CatWitness$Reader" (194 : Nat) ({ cls := "CatWitness$Reader", name := "newRule", desc := "(LCatWitness$Court;)V" } : Jvm.MethodName)) ∈ lw_all := lw_g (lw_at lw_m3 221 rfl) rfl
theorem q868 : (Jvm.Cond.privateMethod ({ cls := "CatWitness$Reader", name := "newRule", desc := "(LCatWitness$Court;)V" } : Jvm.MethodName)) ∈ lw_tbl := lw_at lw_m3 222 rfl
theorem q869 : (Jvm.Cond.instanceMethod ({ cls := "CatWitness$Reader", name := "newRule", desc := "(LCatWitness$Court;)V" } : Jvm.MethodName)) ∈ lw_all := lw_g (lw_at lw_m3 223 rfl) rfl
theorem q870 : (Jvm.Cond.code ({ cls := "CatWitness$Reader", name := "newRule", desc := "(LCatWitness$Court;)V" } : Jvm.MethodName) prog_9_method_29_code (9 : Nat) (Option.none : Option Jvm.ClassFile.FieldType)) ∈ lw_all := lw_g (lw_at lw_m3 224 rfl) rfl
theorem q871 : (Jvm.Cond.methodLink "CatWitness$Reader" (235 : Nat) ({ cls := "CatWitness$Reader", name := "cue", desc := "(LCatWitness$Court;)I" } : Jvm.MethodName)) ∈ lw_all := lw_g (lw_at lw_m3 225 rfl) rfl
theorem q872 : (Jvm.Cond.privateMethod ({ cls := "CatWitness$Reader", name := "cue", desc := "(LCatWitness$Court;)I" } : Jvm.MethodName)) ∈ lw_tbl := lw_at lw_m3 226 rfl
theorem q873 : (Jvm.Cond.instanceMethod ({ cls := "CatWitness$Reader", name := "cue", desc := "(LCatWitness$Court;)I" } : Jvm.MethodName)) ∈ lw_all := lw_g (lw_at lw_m3 227 rfl) rfl
theorem q874 : (Jvm.Cond.code ({ cls := "CatWitness$Reader", name := "cue", desc := "(LCatWitness$Court;)I" } : Jvm.MethodName) prog_9_method_24_code (2 : Nat) (Option.some Jvm.ClassFile.FieldType.int)) ∈ lw_all := lw_g (lw_at lw_m3 228 rfl) rfl
theorem q875 : (Jvm.Cond.methodLink "CatWitness$Reader" (184 : Nat) ({ cls := "CatWitness$Reader", name := "known", desc := "(II)I" } : Jvm.MethodName)) ∈ lw_all := lw_g (lw_at lw_m3 229 rfl) rfl
theorem q876 : (Jvm.Cond.privateMethod ({ cls := "CatWitness$Reader", name := "known", desc := "(II)I" } : Jvm.MethodName)) ∈ lw_tbl := lw_at lw_m3 230 rfl
theorem q877 : (Jvm.Cond.instanceMethod ({ cls := "CatWitness$Reader", name := "known", desc := "(II)I" } : Jvm.MethodName)) ∈ lw_all := lw_g (lw_at lw_m3 231 rfl) rfl
theorem q878 : (Jvm.Cond.code ({ cls := "CatWitness$Reader", name := "known", desc := "(II)I" } : Jvm.MethodName) prog_9_method_22_code (3 : Nat) (Option.some Jvm.ClassFile.FieldType.int)) ∈ lw_all := lw_g (lw_at lw_m3 232 rfl) rfl
theorem q879 : (Jvm.Cond.methodLinkNest "CatWitness$Reader" (180 : Nat) ({ cls := "CatWitness", name := "has", desc := "(II)Z" } : Jvm.MethodName) "CatWitness") ∈ lw_tbl := lw_at lw_m3 233 rfl
theorem q882 : (Jvm.Cond.methodLink "CatWitness$Reader" (239 : Nat) ({ cls := "CatWitness$Reader", name := "reads", desc := "(Ljava/lang/String;)Z" } : Jvm.MethodName)) ∈ lw_all := lw_g (lw_at lw_m3 236 rfl) rfl
theorem q883 : (Jvm.Cond.privateMethod ({ cls := "CatWitness$Reader", name := "reads", desc := "(Ljava/lang/String;)Z" } : Jvm.MethodName)) ∈ lw_tbl := lw_at lw_m3 237 rfl
theorem q884 : (Jvm.Cond.instanceMethod ({ cls := "CatWitness$Reader", name := "reads", desc := "(Ljava/lang/String;)Z" } : Jvm.MethodName)) ∈ lw_all := lw_g (lw_at lw_m3 238 rfl) rfl
theorem q885 : (Jvm.Cond.code ({ cls := "CatWitness$Reader", name := "reads", desc := "(Ljava/lang/String;)Z" } : Jvm.MethodName) prog_9_method_12_code (2 : Nat) (Option.some Jvm.ClassFile.FieldType.boolean)) ∈ lw_all := lw_g (lw_at lw_m3 239 rfl) rfl
theorem q886 : (Jvm.Cond.methodLink "CatWitness$Reader" (242 : Nat) ({ cls := "CatWitness$Reader", name := "compare", desc := "()I" } : Jvm.MethodName)) ∈ lw_all := lw_g (lw_at lw_m4 0 rfl) rfl
theorem q887 : (Jvm.Cond.privateMethod ({ cls := "CatWitness$Reader", name := "compare", desc := "()I" } : Jvm.MethodName)) ∈ lw_tbl := lw_at lw_m4 1 rfl
theorem q888 : (Jvm.Cond.instanceMethod ({ cls := "CatWitness$Reader", name := "compare", desc := "()I" } : Jvm.MethodName)) ∈ lw_all := lw_g (lw_at lw_m4 2 rfl) rfl
theorem q889 : (Jvm.Cond.code ({ cls := "CatWitness$Reader", name := "compare", desc := "()I" } : Jvm.MethodName) prog_9_method_15_code (2 : Nat) (Option.some Jvm.ClassFile.FieldType.int)) ∈ lw_all := lw_g (lw_at lw_m4 3 rfl) rfl
theorem q890 : (Jvm.Cond.methodLink "CatWitness$Reader" (64 : Nat) ({ cls := "CatWitness$Reader", name := "isSign", desc := "(C)Z" } : Jvm.MethodName)) ∈ lw_all := lw_g (lw_at lw_m4 4 rfl) rfl
theorem q891 : (Jvm.Cond.privateMethod ({ cls := "CatWitness$Reader", name := "isSign", desc := "(C)Z" } : Jvm.MethodName)) ∈ lw_tbl := lw_at lw_m4 5 rfl
theorem q892 : (Jvm.Cond.instanceMethod ({ cls := "CatWitness$Reader", name := "isSign", desc := "(C)Z" } : Jvm.MethodName)) ∈ lw_all := lw_g (lw_at lw_m4 6 rfl) rfl
theorem q893 : (Jvm.Cond.code ({ cls := "CatWitness$Reader", name := "isSign", desc := "(C)Z" } : Jvm.MethodName) prog_9_method_6_code (2 : Nat) (Option.some Jvm.ClassFile.FieldType.boolean)) ∈ lw_all := lw_g (lw_at lw_m4 7 rfl) rfl
theorem q894 : (Jvm.Cond.methodLink "CatWitness$Reader" (80 : Nat) ({ cls := "CatWitness$Reader", name := "number", desc := "(II)I" } : Jvm.MethodName)) ∈ lw_all := lw_g (lw_at lw_m4 8 rfl) rfl
theorem q895 : (Jvm.Cond.privateMethod ({ cls := "CatWitness$Reader", name := "number", desc := "(II)I" } : Jvm.MethodName)) ∈ lw_tbl := lw_at lw_m4 9 rfl
theorem q896 : (Jvm.Cond.instanceMethod ({ cls := "CatWitness$Reader", name := "number", desc := "(II)I" } : Jvm.MethodName)) ∈ lw_all := lw_g (lw_at lw_m4 10 rfl) rfl
theorem q897 : (Jvm.Cond.code ({ cls := "CatWitness$Reader", name := "number", desc := "(II)I" } : Jvm.MethodName) prog_9_method_10_code (4 : Nat) (Option.some Jvm.ClassFile.FieldType.int)) ∈ lw_all := lw_g (lw_at lw_m4 11 rfl) rfl
theorem q898 : (Jvm.Cond.classLink "CatWitness$Reader" (248 : Nat) "CatWitness$Rule") ∈ lw_all := lw_g (lw_at lw_m4 12 rfl) rfl
theorem q900 : (Jvm.Cond.methodLink "CatWitness$Reader" (250 : Nat) ({ cls := "CatWitness$Reader", name := "smell", desc := "(LCatWitness$Court;I)I" } : Jvm.MethodName)) ∈ lw_all := lw_g (lw_at lw_m4 14 rfl) rfl
theorem q901 : (Jvm.Cond.privateMethod ({ cls := "CatWitness$Reader", name := "smell", desc := "(LCatWitness$Court;I)I" } : Jvm.MethodName)) ∈ lw_tbl := lw_at lw_m4 15 rfl
theorem q902 : (Jvm.Cond.instanceMethod ({ cls := "CatWitness$Reader", name := "smell", desc := "(LCatWitness$Court;I)I" } : Jvm.MethodName)) ∈ lw_all := lw_g (lw_at lw_m4 16 rfl) rfl
theorem q903 : (Jvm.Cond.code ({ cls := "CatWitness$Reader", name := "smell", desc := "(LCatWitness$Court;I)I" } : Jvm.MethodName) prog_9_method_23_code (3 : Nat) (Option.some Jvm.ClassFile.FieldType.int)) ∈ lw_all := lw_g (lw_at lw_m4 17 rfl) rfl
theorem q904 : (Jvm.Cond.methodLink "CatWitness$Reader" (253 : Nat) ({ cls := "CatWitness$Rule", name := "<init>", desc := "(IIIIIII)V" } : Jvm.MethodName)) ∈ lw_all := lw_g (lw_at lw_m4 18 rfl) rfl
theorem q938 : (Jvm.Cond.methodLink "CatWitness$Reader" (197 : Nat) ({ cls := "CatWitness$Reader", name := "newPerson", desc := "(LCatWitness$Court;)V" } : Jvm.MethodName)) ∈ lw_all := lw_g (lw_at lw_m4 52 rfl) rfl
theorem q939 : (Jvm.Cond.privateMethod ({ cls := "CatWitness$Reader", name := "newPerson", desc := "(LCatWitness$Court;)V" } : Jvm.MethodName)) ∈ lw_tbl := lw_at lw_m4 53 rfl
theorem q940 : (Jvm.Cond.instanceMethod ({ cls := "CatWitness$Reader", name := "newPerson", desc := "(LCatWitness$Court;)V" } : Jvm.MethodName)) ∈ lw_all := lw_g (lw_at lw_m4 54 rfl) rfl
theorem q941 : (Jvm.Cond.code ({ cls := "CatWitness$Reader", name := "newPerson", desc := "(LCatWitness$Court;)V" } : Jvm.MethodName) prog_9_method_30_code (6 : Nat) (Option.none : Option Jvm.ClassFile.FieldType)) ∈ lw_all := lw_g (lw_at lw_m4 55 rfl) rfl
theorem q942 : (Jvm.Cond.methodLink "CatWitness$Reader" (200 : Nat) ({ cls := "CatWitness$Reader", name := "newReader", desc := "(LCatWitness$Court;)V" } : Jvm.MethodName)) ∈ lw_all := lw_g (lw_at lw_m4 56 rfl) rfl
theorem q943 : (Jvm.Cond.privateMethod ({ cls := "CatWitness$Reader", name := "newReader", desc := "(LCatWitness$Court;)V" } : Jvm.MethodName)) ∈ lw_tbl := lw_at lw_m4 57 rfl
theorem q944 : (Jvm.Cond.instanceMethod ({ cls := "CatWitness$Reader", name := "newReader", desc := "(LCatWitness$Court;)V" } : Jvm.MethodName)) ∈ lw_all := lw_g (lw_at lw_m4 58 rfl) rfl
theorem q945 : (Jvm.Cond.code ({ cls := "CatWitness$Reader", name := "newReader", desc := "(LCatWitness$Court;)V" } : Jvm.MethodName) prog_9_method_31_code (5 : Nat) (Option.none : Option Jvm.ClassFile.FieldType)) ∈ lw_all := lw_g (lw_at lw_m4 59 rfl) rfl
theorem q946 : (Jvm.Cond.methodLink "CatWitness$Reader" (275 : Nat) ({ cls := "CatWitness$Reader", name := "behind", desc := "(Ljava/lang/String;II)I" } : Jvm.MethodName)) ∈ lw_all := lw_g (lw_at lw_m4 60 rfl) rfl
theorem q947 : (Jvm.Cond.privateMethod ({ cls := "CatWitness$Reader", name := "behind", desc := "(Ljava/lang/String;II)I" } : Jvm.MethodName)) ∈ lw_tbl := lw_at lw_m4 61 rfl
theorem q948 : (Jvm.Cond.instanceMethod ({ cls := "CatWitness$Reader", name := "behind", desc := "(Ljava/lang/String;II)I" } : Jvm.MethodName)) ∈ lw_all := lw_g (lw_at lw_m4 62 rfl) rfl
theorem q949 : (Jvm.Cond.code ({ cls := "CatWitness$Reader", name := "behind", desc := "(Ljava/lang/String;II)I" } : Jvm.MethodName) prog_9_method_11_code (4 : Nat) (Option.some Jvm.ClassFile.FieldType.int)) ∈ lw_all := lw_g (lw_at lw_m4 63 rfl) rfl
theorem q950 : (Jvm.Cond.methodLink "CatWitness$Reader" (203 : Nat) ({ cls := "CatWitness$Reader", name := "newWord", desc := "(LCatWitness$Court;)V" } : Jvm.MethodName)) ∈ lw_all := lw_g (lw_at lw_m4 64 rfl) rfl
theorem q951 : (Jvm.Cond.privateMethod ({ cls := "CatWitness$Reader", name := "newWord", desc := "(LCatWitness$Court;)V" } : Jvm.MethodName)) ∈ lw_tbl := lw_at lw_m4 65 rfl
theorem q952 : (Jvm.Cond.instanceMethod ({ cls := "CatWitness$Reader", name := "newWord", desc := "(LCatWitness$Court;)V" } : Jvm.MethodName)) ∈ lw_all := lw_g (lw_at lw_m4 66 rfl) rfl
theorem q953 : (Jvm.Cond.code ({ cls := "CatWitness$Reader", name := "newWord", desc := "(LCatWitness$Court;)V" } : Jvm.MethodName) prog_9_method_32_code (3 : Nat) (Option.none : Option Jvm.ClassFile.FieldType)) ∈ lw_all := lw_g (lw_at lw_m4 67 rfl) rfl
theorem q954 : (Jvm.Cond.methodLink "CatWitness$Reader" (289 : Nat) ({ cls := "CatWitness$Reader", name := "person", desc := "(LCatWitness$Court;)I" } : Jvm.MethodName)) ∈ lw_all := lw_g (lw_at lw_m4 68 rfl) rfl
theorem q955 : (Jvm.Cond.privateMethod ({ cls := "CatWitness$Reader", name := "person", desc := "(LCatWitness$Court;)I" } : Jvm.MethodName)) ∈ lw_tbl := lw_at lw_m4 69 rfl
theorem q956 : (Jvm.Cond.instanceMethod ({ cls := "CatWitness$Reader", name := "person", desc := "(LCatWitness$Court;)I" } : Jvm.MethodName)) ∈ lw_all := lw_g (lw_at lw_m4 70 rfl) rfl
theorem q957 : (Jvm.Cond.code ({ cls := "CatWitness$Reader", name := "person", desc := "(LCatWitness$Court;)I" } : Jvm.MethodName) prog_9_method_25_code (2 : Nat) (Option.some Jvm.ClassFile.FieldType.int)) ∈ lw_all := lw_g (lw_at lw_m4 71 rfl) rfl
theorem q958 : (Jvm.Cond.methodLink "CatWitness$Reader" (206 : Nat) ({ cls := "CatWitness$Reader", name := "close", desc := "()V" } : Jvm.MethodName)) ∈ lw_all := lw_g (lw_at lw_m4 72 rfl) rfl
theorem q959 : (Jvm.Cond.privateMethod ({ cls := "CatWitness$Reader", name := "close", desc := "()V" } : Jvm.MethodName)) ∈ lw_tbl := lw_at lw_m4 73 rfl
theorem q960 : (Jvm.Cond.instanceMethod ({ cls := "CatWitness$Reader", name := "close", desc := "()V" } : Jvm.MethodName)) ∈ lw_all := lw_g (lw_at lw_m4 74 rfl) rfl
theorem q961 : (Jvm.Cond.code ({ cls := "CatWitness$Reader", name := "close", desc := "()V" } : Jvm.MethodName) prog_9_method_8_code (1 : Nat) (Option.none : Option Jvm.ClassFile.FieldType)) ∈ lw_all := lw_g (lw_at lw_m4 75 rfl) rfl
theorem q1007 : (Jvm.Cond.instanceMethod ({ cls := "CatWitness$Reader", name := "weeks", desc := "(LCatWitness$Court;LCatWitness$Block;)V" } : Jvm.MethodName)) ∈ lw_all := lw_g (lw_at lw_m4 121 rfl) rfl
theorem q1008 : (Jvm.Cond.selects "CatWitness$Reader" ({ cls := "CatWitness$Reader", name := "weeks", desc := "(LCatWitness$Court;LCatWitness$Block;)V" } : Jvm.MethodName) ({ cls := "CatWitness$Reader", name := "weeks", desc := "(LCatWitness$Court;LCatWitness$Block;)V" } : Jvm.MethodName)) ∈ lw_all := lw_g (lw_at lw_m4 122 rfl) rfl
theorem q1009 : (Jvm.Cond.code ({ cls := "CatWitness$Reader", name := "weeks", desc := "(LCatWitness$Court;LCatWitness$Block;)V" } : Jvm.MethodName) prog_9_method_33_code (3 : Nat) (Option.none : Option Jvm.ClassFile.FieldType)) ∈ lw_all := lw_g (lw_at lw_m4 123 rfl) rfl
theorem q1010 : (Jvm.Cond.methodLink "CatWitness$Reader" (294 : Nat) ({ cls := "CatWitness$Reader", name := "step", desc := "(LCatWitness$Court;LCatWitness$Block;I)V" } : Jvm.MethodName)) ∈ lw_all := lw_g (lw_at lw_m4 124 rfl) rfl
theorem q1011 : (Jvm.Cond.privateMethod ({ cls := "CatWitness$Reader", name := "step", desc := "(LCatWitness$Court;LCatWitness$Block;I)V" } : Jvm.MethodName)) ∈ lw_tbl := lw_at lw_m4 125 rfl
theorem q1012 : (Jvm.Cond.instanceMethod ({ cls := "CatWitness$Reader", name := "step", desc := "(LCatWitness$Court;LCatWitness$Block;I)V" } : Jvm.MethodName)) ∈ lw_all := lw_g (lw_at lw_m4 126 rfl) rfl
theorem q1013 : (Jvm.Cond.code ({ cls := "CatWitness$Reader", name := "step", desc := "(LCatWitness$Court;LCatWitness$Block;I)V" } : Jvm.MethodName) prog_9_method_34_code (7 : Nat) (Option.none : Option Jvm.ClassFile.FieldType)) ∈ lw_all := lw_g (lw_at lw_m4 127 rfl) rfl
theorem q1014 : (Jvm.Cond.methodLink "CatWitness$Reader" (301 : Nat) ({ cls := "CatWitness$Reader", name := "block", desc := "(LCatWitness$Court;ZI)LCatWitness$Block;" } : Jvm.MethodName)) ∈ lw_all := lw_g (lw_at lw_m4 128 rfl) rfl
theorem q1015 : (Jvm.Cond.privateMethod ({ cls := "CatWitness$Reader", name := "block", desc := "(LCatWitness$Court;ZI)LCatWitness$Block;" } : Jvm.MethodName)) ∈ lw_tbl := lw_at lw_m4 129 rfl
theorem q1016 : (Jvm.Cond.instanceMethod ({ cls := "CatWitness$Reader", name := "block", desc := "(LCatWitness$Court;ZI)LCatWitness$Block;" } : Jvm.MethodName)) ∈ lw_all := lw_g (lw_at lw_m4 130 rfl) rfl
theorem q1017 : (Jvm.Cond.code ({ cls := "CatWitness$Reader", name := "block", desc := "(LCatWitness$Court;ZI)LCatWitness$Block;" } : Jvm.MethodName) prog_9_method_36_code (5 : Nat) (Option.some (Jvm.ClassFile.FieldType.object "CatWitness$Block"))) ∈ lw_all := lw_g (lw_at lw_m4 131 rfl) rfl
theorem q1018 : (Jvm.Cond.methodLink "CatWitness$Reader" (320 : Nat) ({ cls := "CatWitness$Reader", name := "when", desc := "(LCatWitness$Court;)LCatWitness$When;" } : Jvm.MethodName)) ∈ lw_all := lw_g (lw_at lw_m4 132 rfl) rfl
theorem q1019 : (Jvm.Cond.privateMethod ({ cls := "CatWitness$Reader", name := "when", desc := "(LCatWitness$Court;)LCatWitness$When;" } : Jvm.MethodName)) ∈ lw_tbl := lw_at lw_m4 133 rfl
theorem q1020 : (Jvm.Cond.instanceMethod ({ cls := "CatWitness$Reader", name := "when", desc := "(LCatWitness$Court;)LCatWitness$When;" } : Jvm.MethodName)) ∈ lw_all := lw_g (lw_at lw_m4 134 rfl) rfl
theorem q1021 : (Jvm.Cond.code ({ cls := "CatWitness$Reader", name := "when", desc := "(LCatWitness$Court;)LCatWitness$When;" } : Jvm.MethodName) prog_9_method_37_code (4 : Nat) (Option.some (Jvm.ClassFile.FieldType.object "CatWitness$When"))) ∈ lw_all := lw_g (lw_at lw_m4 135 rfl) rfl
theorem q1022 : (Jvm.Cond.classLink "CatWitness$Reader" (328 : Nat) "CatWitness$When") ∈ lw_all := lw_g (lw_at lw_m4 136 rfl) rfl
theorem q1024 : (Jvm.Cond.methodLink "CatWitness$Reader" (330 : Nat) ({ cls := "CatWitness$When", name := "<init>", desc := "(IIII)V" } : Jvm.MethodName)) ∈ lw_all := lw_g (lw_at lw_m4 138 rfl) rfl
theorem q1043 : (Jvm.Cond.classLink "CatWitness$Reader" (323 : Nat) "CatWitness$Loop") ∈ lw_all := lw_g (lw_at lw_m4 157 rfl) rfl
theorem q1044 : (Jvm.Cond.methodLink "CatWitness$Reader" (325 : Nat) ({ cls := "CatWitness$Loop", name := "<init>", desc := "(I)V" } : Jvm.MethodName)) ∈ lw_all := lw_g (lw_at lw_m4 158 rfl) rfl
theorem q1045 : (Jvm.Cond.methodLink "CatWitness$Reader" (305 : Nat) ({ cls := "CatWitness$Reader", name := "plain", desc := "(LCatWitness$Court;)LCatWitness$Step;" } : Jvm.MethodName)) ∈ lw_all := lw_g (lw_at lw_m4 159 rfl) rfl
theorem q1046 : (Jvm.Cond.privateMethod ({ cls := "CatWitness$Reader", name := "plain", desc := "(LCatWitness$Court;)LCatWitness$Step;" } : Jvm.MethodName)) ∈ lw_tbl := lw_at lw_m4 160 rfl
theorem q1047 : (Jvm.Cond.instanceMethod ({ cls := "CatWitness$Reader", name := "plain", desc := "(LCatWitness$Court;)LCatWitness$Step;" } : Jvm.MethodName)) ∈ lw_all := lw_g (lw_at lw_m4 161 rfl) rfl
theorem q1048 : (Jvm.Cond.code ({ cls := "CatWitness$Reader", name := "plain", desc := "(LCatWitness$Court;)LCatWitness$Step;" } : Jvm.MethodName) prog_9_method_35_code (4 : Nat) (Option.some (Jvm.ClassFile.FieldType.object "CatWitness$Step"))) ∈ lw_all := lw_g (lw_at lw_m4 162 rfl) rfl
theorem q1049 : (Jvm.Cond.classLink "CatWitness$Reader" (315 : Nat) "CatWitness$Act") ∈ lw_all := lw_g (lw_at lw_m4 163 rfl) rfl
theorem q1051 : (Jvm.Cond.methodLink "CatWitness$Reader" (317 : Nat) ({ cls := "CatWitness$Act", name := "<init>", desc := "(III)V" } : Jvm.MethodName)) ∈ lw_all := lw_g (lw_at lw_m4 165 rfl) rfl
theorem q1065 : (Jvm.Cond.methodLink "CatWitness$Reader" (309 : Nat) ({ cls := "CatWitness$Block", name := "add", desc := "(LCatWitness$Step;)V" } : Jvm.MethodName)) ∈ lw_all := lw_g (lw_at lw_m4 179 rfl) rfl
theorem in_X7 : ∀ w ∈ wsX70, w ∈ lw_all := lw_in wsX70 [694, 696, 698, 700, 702, 704, 706] (by decide +kernel) (by decide +kernel)
