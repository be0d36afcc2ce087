/-! CatWitness$Rule -/
set_option maxRecDepth 100000
def RX8 : String := "CatWitness$Rule"
def TX8 : u_T := fun k => match k with
  | 0 => ("CatWitness$Rule", "cue", "I", true)
  | 1 => ("CatWitness$Rule", "guilt", "I", true)
  | 2 => ("CatWitness$Rule", "fedSign", "I", true)
  | 3 => ("CatWitness$Rule", "fedNumber", "I", true)
  | 4 => ("CatWitness$Rule", "warmSign", "I", true)
  | 5 => ("CatWitness$Rule", "warmNumber", "I", true)
  | _ => ("CatWitness$Rule", "smell", "I", true)
def tyX8 : Nat → FieldType := fun k => match k with
  | 0 => .int
  | 1 => .int
  | 2 => .int
  | 3 => .int
  | 4 => .int
  | 5 => .int
  | _ => .int
abbrev wsX80 : List Cond := u_ws RX8 TX8 7
theorem nmX8 : ∀ a, a < 7 → ∀ b, b < 7 → a ≠ b → (TX8 a).2.1 ≠ (TX8 b).2.1 := by decide +kernel
theorem tyX8_ok : ∀ k, k < 7 → parseFieldDescriptor (TX8 k).2.2.1 = some (tyX8 k) := by decide +kernel
abbrev cX8_init : ByteArray := prog_11_method_1_code
def yX8_init : MethodName := ⟨RX8, "<init>", "(IIIIIII)V"⟩
def dkwX8_init_1 : List UInt8 := [181, 0, 21, 42, 21, 5, 181, 0, 24, 42, 21, 6, 181, 0, 27, 42, 21, 7, 181, 0, 30, 177]
abbrev dktX8_init_1 : List UInt8 := dkwX8_init_1 ++ []
def dkwX8_init_0 : List UInt8 := [42, 183, 0, 3, 42, 27, 181, 0, 9, 42, 28, 181, 0, 15, 42, 29, 181, 0, 18, 42, 21, 4]
abbrev dktX8_init_0 : List UInt8 := dkwX8_init_0 ++ dktX8_init_1
theorem dksX8_init_0 : cX8_init.data.toList.drop 0 = dktX8_init_0 := by decide +kernel
theorem dksX8_init_1 : cX8_init.data.toList.drop 22 = dktX8_init_1 := dk_seg dksX8_init_0 22 rfl rfl
theorem dX8_init_0 : decode cX8_init 0 = .ok (.aload_n 0, 1) := dk_42 (dk_at dksX8_init_0 0 rfl rfl)
theorem dX8_init_1 : decode cX8_init 1 = .ok (.invokespecial 3, 3) := dk_183 0 3 (dk_at dksX8_init_0 1 rfl rfl)
theorem dX8_init_4 : decode cX8_init 4 = .ok (.aload_n 0, 1) := dk_42 (dk_at dksX8_init_0 4 rfl rfl)
theorem dX8_init_5 : decode cX8_init 5 = .ok (.iload_n 1, 1) := dk_27 (dk_at dksX8_init_0 5 rfl rfl)
theorem dX8_init_6 : decode cX8_init 6 = .ok (.putfield 9, 3) := dk_181 0 9 (dk_at dksX8_init_0 6 rfl rfl)
theorem dX8_init_9 : decode cX8_init 9 = .ok (.aload_n 0, 1) := dk_42 (dk_at dksX8_init_0 9 rfl rfl)
theorem dX8_init_10 : decode cX8_init 10 = .ok (.iload_n 2, 1) := dk_28 (dk_at dksX8_init_0 10 rfl rfl)
theorem dX8_init_11 : decode cX8_init 11 = .ok (.putfield 15, 3) := dk_181 0 15 (dk_at dksX8_init_0 11 rfl rfl)
theorem dX8_init_14 : decode cX8_init 14 = .ok (.aload_n 0, 1) := dk_42 (dk_at dksX8_init_0 14 rfl rfl)
theorem dX8_init_15 : decode cX8_init 15 = .ok (.iload_n 3, 1) := dk_29 (dk_at dksX8_init_0 15 rfl rfl)
theorem dX8_init_16 : decode cX8_init 16 = .ok (.putfield 18, 3) := dk_181 0 18 (dk_at dksX8_init_0 16 rfl rfl)
theorem dX8_init_19 : decode cX8_init 19 = .ok (.aload_n 0, 1) := dk_42 (dk_at dksX8_init_0 19 rfl rfl)
theorem dX8_init_20 : decode cX8_init 20 = .ok (.iload 4, 2) := dk_21 4 (dk_at dksX8_init_0 20 rfl rfl)
theorem dX8_init_22 : decode cX8_init 22 = .ok (.putfield 21, 3) := dk_181 0 21 (dk_at dksX8_init_1 0 rfl rfl)
theorem dX8_init_25 : decode cX8_init 25 = .ok (.aload_n 0, 1) := dk_42 (dk_at dksX8_init_1 3 rfl rfl)
theorem dX8_init_26 : decode cX8_init 26 = .ok (.iload 5, 2) := dk_21 5 (dk_at dksX8_init_1 4 rfl rfl)
theorem dX8_init_28 : decode cX8_init 28 = .ok (.putfield 24, 3) := dk_181 0 24 (dk_at dksX8_init_1 6 rfl rfl)
theorem dX8_init_31 : decode cX8_init 31 = .ok (.aload_n 0, 1) := dk_42 (dk_at dksX8_init_1 9 rfl rfl)
theorem dX8_init_32 : decode cX8_init 32 = .ok (.iload 6, 2) := dk_21 6 (dk_at dksX8_init_1 10 rfl rfl)
theorem dX8_init_34 : decode cX8_init 34 = .ok (.putfield 27, 3) := dk_181 0 27 (dk_at dksX8_init_1 12 rfl rfl)
theorem dX8_init_37 : decode cX8_init 37 = .ok (.aload_n 0, 1) := dk_42 (dk_at dksX8_init_1 15 rfl rfl)
theorem dX8_init_38 : decode cX8_init 38 = .ok (.iload 7, 2) := dk_21 7 (dk_at dksX8_init_1 16 rfl rfl)
theorem dX8_init_40 : decode cX8_init 40 = .ok (.putfield 30, 3) := dk_181 0 30 (dk_at dksX8_init_1 18 rfl rfl)
theorem dX8_init_43 : decode cX8_init 43 = .ok (.return_, 1) := dk_177 (dk_at dksX8_init_1 21 rfl rfl)
abbrev cX8_bears : ByteArray := prog_11_method_2_code
def yX8_bears : MethodName := ⟨RX8, "bears", "(ZIII)Z"⟩
def dkwX8_bears_4 : List UInt8 := [167, 0, 4, 3, 172]
abbrev dktX8_bears_4 : List UInt8 := dkwX8_bears_4 ++ []
def dkwX8_bears_3 : List UInt8 := [3, 172, 42, 180, 0, 30, 155, 0, 15, 21, 4, 42, 180, 0, 30, 184, 0, 37, 153, 0, 7, 4]
abbrev dktX8_bears_3 : List UInt8 := dkwX8_bears_3 ++ dktX8_bears_4
def dkwX8_bears_2 : List UInt8 := [3, 172, 42, 180, 0, 24, 153, 0, 20, 29, 42, 180, 0, 24, 42, 180, 0, 27, 184, 0, 33, 154, 0, 5]
abbrev dktX8_bears_2 : List UInt8 := dkwX8_bears_2 ++ dktX8_bears_3
def dkwX8_bears_1 : List UInt8 := [3, 172, 42, 180, 0, 18, 153, 0, 20, 28, 42, 180, 0, 18, 42, 180, 0, 21, 184, 0, 33, 154, 0, 5]
abbrev dktX8_bears_1 : List UInt8 := dkwX8_bears_1 ++ dktX8_bears_2
def dkwX8_bears_0 : List UInt8 := [42, 180, 0, 15, 153, 0, 22, 42, 180, 0, 15, 4, 160, 0, 7, 4, 167, 0, 4, 3, 27, 159, 0, 5]
abbrev dktX8_bears_0 : List UInt8 := dkwX8_bears_0 ++ dktX8_bears_1
theorem dksX8_bears_0 : cX8_bears.data.toList.drop 0 = dktX8_bears_0 := by decide +kernel
theorem dksX8_bears_1 : cX8_bears.data.toList.drop 24 = dktX8_bears_1 := dk_seg dksX8_bears_0 24 rfl rfl
theorem dksX8_bears_2 : cX8_bears.data.toList.drop 48 = dktX8_bears_2 := dk_seg dksX8_bears_1 24 rfl rfl
theorem dksX8_bears_3 : cX8_bears.data.toList.drop 72 = dktX8_bears_3 := dk_seg dksX8_bears_2 24 rfl rfl
theorem dksX8_bears_4 : cX8_bears.data.toList.drop 94 = dktX8_bears_4 := dk_seg dksX8_bears_3 22 rfl rfl
theorem dX8_bears_0 : decode cX8_bears 0 = .ok (.aload_n 0, 1) := dk_42 (dk_at dksX8_bears_0 0 rfl rfl)
theorem dX8_bears_1 : decode cX8_bears 1 = .ok (.getfield 15, 3) := dk_180 0 15 (dk_at dksX8_bears_0 1 rfl rfl)
theorem dX8_bears_4 : decode cX8_bears 4 = .ok (.ifCond .eq 22, 3) := dk_153 0 22 (dk_at dksX8_bears_0 4 rfl rfl)
theorem dX8_bears_7 : decode cX8_bears 7 = .ok (.aload_n 0, 1) := dk_42 (dk_at dksX8_bears_0 7 rfl rfl)
theorem dX8_bears_8 : decode cX8_bears 8 = .ok (.getfield 15, 3) := dk_180 0 15 (dk_at dksX8_bears_0 8 rfl rfl)
theorem dX8_bears_11 : decode cX8_bears 11 = .ok (.iconst 1, 1) := dk_4 (dk_at dksX8_bears_0 11 rfl rfl)
theorem dX8_bears_12 : decode cX8_bears 12 = .ok (.if_icmp .ne 7, 3) := dk_160 0 7 (dk_at dksX8_bears_0 12 rfl rfl)
theorem dX8_bears_15 : decode cX8_bears 15 = .ok (.iconst 1, 1) := dk_4 (dk_at dksX8_bears_0 15 rfl rfl)
theorem dX8_bears_16 : decode cX8_bears 16 = .ok (.goto 4, 3) := dk_167 0 4 (dk_at dksX8_bears_0 16 rfl rfl)
theorem dX8_bears_19 : decode cX8_bears 19 = .ok (.iconst 0, 1) := dk_3 (dk_at dksX8_bears_0 19 rfl rfl)
theorem dX8_bears_20 : decode cX8_bears 20 = .ok (.iload_n 1, 1) := dk_27 (dk_at dksX8_bears_0 20 rfl rfl)
theorem dX8_bears_21 : decode cX8_bears 21 = .ok (.if_icmp .eq 5, 3) := dk_159 0 5 (dk_at dksX8_bears_0 21 rfl rfl)
theorem dX8_bears_24 : decode cX8_bears 24 = .ok (.iconst 0, 1) := dk_3 (dk_at dksX8_bears_1 0 rfl rfl)
theorem dX8_bears_25 : decode cX8_bears 25 = .ok (.ireturn, 1) := dk_172 (dk_at dksX8_bears_1 1 rfl rfl)
theorem dX8_bears_26 : decode cX8_bears 26 = .ok (.aload_n 0, 1) := dk_42 (dk_at dksX8_bears_1 2 rfl rfl)
theorem dX8_bears_27 : decode cX8_bears 27 = .ok (.getfield 18, 3) := dk_180 0 18 (dk_at dksX8_bears_1 3 rfl rfl)
theorem dX8_bears_30 : decode cX8_bears 30 = .ok (.ifCond .eq 20, 3) := dk_153 0 20 (dk_at dksX8_bears_1 6 rfl rfl)
theorem dX8_bears_33 : decode cX8_bears 33 = .ok (.iload_n 2, 1) := dk_28 (dk_at dksX8_bears_1 9 rfl rfl)
theorem dX8_bears_34 : decode cX8_bears 34 = .ok (.aload_n 0, 1) := dk_42 (dk_at dksX8_bears_1 10 rfl rfl)
theorem dX8_bears_35 : decode cX8_bears 35 = .ok (.getfield 18, 3) := dk_180 0 18 (dk_at dksX8_bears_1 11 rfl rfl)
theorem dX8_bears_38 : decode cX8_bears 38 = .ok (.aload_n 0, 1) := dk_42 (dk_at dksX8_bears_1 14 rfl rfl)
theorem dX8_bears_39 : decode cX8_bears 39 = .ok (.getfield 21, 3) := dk_180 0 21 (dk_at dksX8_bears_1 15 rfl rfl)
theorem dX8_bears_42 : decode cX8_bears 42 = .ok (.invokestatic 33, 3) := dk_184 0 33 (dk_at dksX8_bears_1 18 rfl rfl)
theorem dX8_bears_45 : decode cX8_bears 45 = .ok (.ifCond .ne 5, 3) := dk_154 0 5 (dk_at dksX8_bears_1 21 rfl rfl)
theorem dX8_bears_48 : decode cX8_bears 48 = .ok (.iconst 0, 1) := dk_3 (dk_at dksX8_bears_2 0 rfl rfl)
theorem dX8_bears_49 : decode cX8_bears 49 = .ok (.ireturn, 1) := dk_172 (dk_at dksX8_bears_2 1 rfl rfl)
theorem dX8_bears_50 : decode cX8_bears 50 = .ok (.aload_n 0, 1) := dk_42 (dk_at dksX8_bears_2 2 rfl rfl)
theorem dX8_bears_51 : decode cX8_bears 51 = .ok (.getfield 24, 3) := dk_180 0 24 (dk_at dksX8_bears_2 3 rfl rfl)
theorem dX8_bears_54 : decode cX8_bears 54 = .ok (.ifCond .eq 20, 3) := dk_153 0 20 (dk_at dksX8_bears_2 6 rfl rfl)
theorem dX8_bears_57 : decode cX8_bears 57 = .ok (.iload_n 3, 1) := dk_29 (dk_at dksX8_bears_2 9 rfl rfl)
theorem dX8_bears_58 : decode cX8_bears 58 = .ok (.aload_n 0, 1) := dk_42 (dk_at dksX8_bears_2 10 rfl rfl)
theorem dX8_bears_59 : decode cX8_bears 59 = .ok (.getfield 24, 3) := dk_180 0 24 (dk_at dksX8_bears_2 11 rfl rfl)
theorem dX8_bears_62 : decode cX8_bears 62 = .ok (.aload_n 0, 1) := dk_42 (dk_at dksX8_bears_2 14 rfl rfl)
theorem dX8_bears_63 : decode cX8_bears 63 = .ok (.getfield 27, 3) := dk_180 0 27 (dk_at dksX8_bears_2 15 rfl rfl)
theorem dX8_bears_66 : decode cX8_bears 66 = .ok (.invokestatic 33, 3) := dk_184 0 33 (dk_at dksX8_bears_2 18 rfl rfl)
theorem dX8_bears_69 : decode cX8_bears 69 = .ok (.ifCond .ne 5, 3) := dk_154 0 5 (dk_at dksX8_bears_2 21 rfl rfl)
theorem dX8_bears_72 : decode cX8_bears 72 = .ok (.iconst 0, 1) := dk_3 (dk_at dksX8_bears_3 0 rfl rfl)
theorem dX8_bears_73 : decode cX8_bears 73 = .ok (.ireturn, 1) := dk_172 (dk_at dksX8_bears_3 1 rfl rfl)
theorem dX8_bears_74 : decode cX8_bears 74 = .ok (.aload_n 0, 1) := dk_42 (dk_at dksX8_bears_3 2 rfl rfl)
theorem dX8_bears_75 : decode cX8_bears 75 = .ok (.getfield 30, 3) := dk_180 0 30 (dk_at dksX8_bears_3 3 rfl rfl)
theorem dX8_bears_78 : decode cX8_bears 78 = .ok (.ifCond .lt 15, 3) := dk_155 0 15 (dk_at dksX8_bears_3 6 rfl rfl)
theorem dX8_bears_81 : decode cX8_bears 81 = .ok (.iload 4, 2) := dk_21 4 (dk_at dksX8_bears_3 9 rfl rfl)
theorem dX8_bears_83 : decode cX8_bears 83 = .ok (.aload_n 0, 1) := dk_42 (dk_at dksX8_bears_3 11 rfl rfl)
theorem dX8_bears_84 : decode cX8_bears 84 = .ok (.getfield 30, 3) := dk_180 0 30 (dk_at dksX8_bears_3 12 rfl rfl)
theorem dX8_bears_87 : decode cX8_bears 87 = .ok (.invokestatic 37, 3) := dk_184 0 37 (dk_at dksX8_bears_3 15 rfl rfl)
theorem dX8_bears_90 : decode cX8_bears 90 = .ok (.ifCond .eq 7, 3) := dk_153 0 7 (dk_at dksX8_bears_3 18 rfl rfl)
theorem dX8_bears_93 : decode cX8_bears 93 = .ok (.iconst 1, 1) := dk_4 (dk_at dksX8_bears_3 21 rfl rfl)
theorem dX8_bears_94 : decode cX8_bears 94 = .ok (.goto 4, 3) := dk_167 0 4 (dk_at dksX8_bears_4 0 rfl rfl)
theorem dX8_bears_97 : decode cX8_bears 97 = .ok (.iconst 0, 1) := dk_3 (dk_at dksX8_bears_4 3 rfl rfl)
theorem dX8_bears_98 : decode cX8_bears 98 = .ok (.ireturn, 1) := dk_172 (dk_at dksX8_bears_4 4 rfl rfl)
theorem q186 : (Jvm.Cond.initialized "CatWitness$Rule") ∈ lw_all := lw_g (lw_at lw_m1 20 rfl) rfl
theorem q899 : (Jvm.Cond.instantiable "CatWitness$Rule" (7 : Nat)) ∈ lw_all := lw_g (lw_at lw_m4 13 rfl) rfl
theorem q905 : (Jvm.Cond.instanceMethod ({ cls := "CatWitness$Rule", name := "<init>", desc := "(IIIIIII)V" } : Jvm.MethodName)) ∈ lw_all := lw_g (lw_at lw_m4 19 rfl) rfl
theorem q906 : (Jvm.Cond.code ({ cls := "CatWitness$Rule", name := "<init>", desc := "(IIIIIII)V" } : Jvm.MethodName) prog_11_method_1_code (8 : Nat) (Option.none : Option Jvm.ClassFile.FieldType)) ∈ lw_all := lw_g (lw_at lw_m4 20 rfl) rfl
theorem q907 : (Jvm.Cond.methodLink "CatWitness$Rule" (3 : Nat) ({ cls := "java/lang/Object", name := "<init>", desc := "()V" } : Jvm.MethodName)) ∈ lw_all := lw_g (lw_at lw_m4 21 rfl) rfl
theorem q908 : (Jvm.Cond.fieldLink "CatWitness$Rule" (9 : Nat) "CatWitness$Rule" "cue" "I") ∈ lw_all := lw_g (lw_at lw_m4 22 rfl) rfl
theorem q911 : (Jvm.Cond.fieldLink "CatWitness$Rule" (15 : Nat) "CatWitness$Rule" "guilt" "I") ∈ lw_all := lw_g (lw_at lw_m4 25 rfl) rfl
theorem q913 : (Jvm.Cond.fieldLink "CatWitness$Rule" (18 : Nat) "CatWitness$Rule" "fedSign" "I") ∈ lw_all := lw_g (lw_at lw_m4 27 rfl) rfl
theorem q915 : (Jvm.Cond.fieldLink "CatWitness$Rule" (21 : Nat) "CatWitness$Rule" "fedNumber" "I") ∈ lw_all := lw_g (lw_at lw_m4 29 rfl) rfl
theorem q917 : (Jvm.Cond.fieldLink "CatWitness$Rule" (24 : Nat) "CatWitness$Rule" "warmSign" "I") ∈ lw_all := lw_g (lw_at lw_m4 31 rfl) rfl
theorem q919 : (Jvm.Cond.fieldLink "CatWitness$Rule" (27 : Nat) "CatWitness$Rule" "warmNumber" "I") ∈ lw_all := lw_g (lw_at lw_m4 33 rfl) rfl
theorem q921 : (Jvm.Cond.fieldLink "CatWitness$Rule" (30 : Nat) "CatWitness$Rule" "smell" "I") ∈ lw_all := lw_g (lw_at lw_m4 35 rfl) rfl
theorem q923 : (Jvm.Cond.laysFinal "CatWitness$Rule" "CatWitness$Rule" "cue" "I") ∈ lw_all := lw_g (lw_at lw_m4 37 rfl) rfl
theorem q924 : (Jvm.Cond.soleField "CatWitness$Rule" "cue") ∈ lw_all := lw_g (lw_at lw_m4 38 rfl) rfl
theorem q925 : (Jvm.Cond.laysFinal "CatWitness$Rule" "CatWitness$Rule" "guilt" "I") ∈ lw_all := lw_g (lw_at lw_m4 39 rfl) rfl
theorem q926 : (Jvm.Cond.soleField "CatWitness$Rule" "guilt") ∈ lw_all := lw_g (lw_at lw_m4 40 rfl) rfl
theorem q927 : (Jvm.Cond.laysFinal "CatWitness$Rule" "CatWitness$Rule" "fedSign" "I") ∈ lw_all := lw_g (lw_at lw_m4 41 rfl) rfl
theorem q928 : (Jvm.Cond.soleField "CatWitness$Rule" "fedSign") ∈ lw_all := lw_g (lw_at lw_m4 42 rfl) rfl
theorem q929 : (Jvm.Cond.laysFinal "CatWitness$Rule" "CatWitness$Rule" "fedNumber" "I") ∈ lw_all := lw_g (lw_at lw_m4 43 rfl) rfl
theorem q930 : (Jvm.Cond.soleField "CatWitness$Rule" "fedNumber") ∈ lw_all := lw_g (lw_at lw_m4 44 rfl) rfl
theorem q931 : (Jvm.Cond.laysFinal "CatWitness$Rule" "CatWitness$Rule" "warmSign" "I") ∈ lw_all := lw_g (lw_at lw_m4 45 rfl) rfl
theorem q932 : (Jvm.Cond.soleField "CatWitness$Rule" "warmSign") ∈ lw_all := lw_g (lw_at lw_m4 46 rfl) rfl
theorem q933 : (Jvm.Cond.laysFinal "CatWitness$Rule" "CatWitness$Rule" "warmNumber" "I") ∈ lw_all := lw_g (lw_at lw_m4 47 rfl) rfl
theorem q934 : (Jvm.Cond.soleField "CatWitness$Rule" "warmNumber") ∈ lw_all := lw_g (lw_at lw_m4 48 rfl) rfl
theorem q935 : (Jvm.Cond.laysFinal "CatWitness$Rule" "CatWitness$Rule" "smell" "I") ∈ lw_all := lw_g (lw_at lw_m4 49 rfl) rfl
theorem q936 : (Jvm.Cond.soleField "CatWitness$Rule" "smell") ∈ lw_all := lw_g (lw_at lw_m4 50 rfl) rfl
theorem q937 : (Jvm.Cond.superclass "CatWitness$Rule" "java/lang/Object") ∈ lw_all := lw_g (lw_at lw_m4 51 rfl) rfl
theorem q1162 : (Jvm.Cond.instanceMethod ({ cls := "CatWitness$Rule", name := "bears", desc := "(ZIII)Z" } : Jvm.MethodName)) ∈ lw_all := lw_g (lw_at lw_m5 36 rfl) rfl
theorem q1163 : (Jvm.Cond.selects "CatWitness$Rule" ({ cls := "CatWitness$Rule", name := "bears", desc := "(ZIII)Z" } : Jvm.MethodName) ({ cls := "CatWitness$Rule", name := "bears", desc := "(ZIII)Z" } : Jvm.MethodName)) ∈ lw_all := lw_g (lw_at lw_m5 37 rfl) rfl
theorem q1164 : (Jvm.Cond.code ({ cls := "CatWitness$Rule", name := "bears", desc := "(ZIII)Z" } : Jvm.MethodName) prog_11_method_2_code (5 : Nat) (Option.some Jvm.ClassFile.FieldType.boolean)) ∈ lw_all := lw_g (lw_at lw_m5 38 rfl) rfl
theorem q1165 : (Jvm.Cond.methodLinkNest "CatWitness$Rule" (33 : Nat) ({ cls := "CatWitness", name := "compares", desc := "(III)Z" } : Jvm.MethodName) "CatWitness") ∈ lw_tbl := lw_at lw_m5 39 rfl
theorem q1168 : (Jvm.Cond.methodLinkNest "CatWitness$Rule" (37 : Nat) ({ cls := "CatWitness", name := "has", desc := "(II)Z" } : Jvm.MethodName) "CatWitness") ∈ lw_tbl := lw_at lw_m5 42 rfl
theorem in_X8 : ∀ w ∈ wsX80, w ∈ lw_all := lw_in wsX80 [923, 925, 927, 929, 931, 933, 935] (by decide +kernel) (by decide +kernel)
