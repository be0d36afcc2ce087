/-! CatWitness$House -/
set_option maxRecDepth 100000
def RX4 : String := "CatWitness$House"
def TX4 : u_T := fun k => match k with
  | 0 => ("CatWitness$House", "court", "LCatWitness$Court;", true)
  | _ => ("CatWitness$House", "weeks", "LCatWitness$Loop;", false)
def tyX4 : Nat → FieldType := fun k => match k with
  | 0 => .object "CatWitness$Court"
  | _ => .object "CatWitness$Loop"
abbrev wsX40 : List Cond := u_ws RX4 TX4 2
theorem nmX4 : ∀ a, a < 2 → ∀ b, b < 2 → a ≠ b → (TX4 a).2.1 ≠ (TX4 b).2.1 := by decide +kernel
theorem tyX4_ok : ∀ k, k < 2 → parseFieldDescriptor (TX4 k).2.2.1 = some (tyX4 k) := by decide +kernel
abbrev cX4_init : ByteArray := prog_6_method_1_code
def yX4_init : MethodName := ⟨RX4, "<init>", "()V"⟩
def dkwX4_init_0 : List UInt8 := [42, 183, 0, 1, 42, 187, 0, 7, 89, 183, 0, 9, 181, 0, 10, 177]
abbrev dktX4_init_0 : List UInt8 := dkwX4_init_0 ++ []
theorem dksX4_init_0 : cX4_init.data.toList.drop 0 = dktX4_init_0 := by decide +kernel
theorem dX4_init_0 : decode cX4_init 0 = .ok (.aload_n 0, 1) := dk_42 (dk_at dksX4_init_0 0 rfl rfl)
theorem dX4_init_1 : decode cX4_init 1 = .ok (.invokespecial 1, 3) := dk_183 0 1 (dk_at dksX4_init_0 1 rfl rfl)
theorem dX4_init_4 : decode cX4_init 4 = .ok (.aload_n 0, 1) := dk_42 (dk_at dksX4_init_0 4 rfl rfl)
theorem dX4_init_5 : decode cX4_init 5 = .ok (.new 7, 3) := dk_187 0 7 (dk_at dksX4_init_0 5 rfl rfl)
theorem dX4_init_8 : decode cX4_init 8 = .ok (.dup, 1) := dk_89 (dk_at dksX4_init_0 8 rfl rfl)
theorem dX4_init_9 : decode cX4_init 9 = .ok (.invokespecial 9, 3) := dk_183 0 9 (dk_at dksX4_init_0 9 rfl rfl)
theorem dX4_init_12 : decode cX4_init 12 = .ok (.putfield 10, 3) := dk_181 0 10 (dk_at dksX4_init_0 12 rfl rfl)
theorem dX4_init_15 : decode cX4_init 15 = .ok (.return_, 1) := dk_177 (dk_at dksX4_init_0 15 rfl rfl)
abbrev cX4_be : ByteArray := prog_6_method_2_code
def yX4_be : MethodName := ⟨RX4, "be", "(LCatWitness$House;)V"⟩
def dkwX4_be_0 : List UInt8 := [42, 180, 0, 10, 43, 180, 0, 10, 182, 0, 16, 42, 43, 180, 0, 20, 181, 0, 20, 177]
abbrev dktX4_be_0 : List UInt8 := dkwX4_be_0 ++ []
theorem dksX4_be_0 : cX4_be.data.toList.drop 0 = dktX4_be_0 := by decide +kernel
theorem dX4_be_0 : decode cX4_be 0 = .ok (.aload_n 0, 1) := dk_42 (dk_at dksX4_be_0 0 rfl rfl)
theorem dX4_be_1 : decode cX4_be 1 = .ok (.getfield 10, 3) := dk_180 0 10 (dk_at dksX4_be_0 1 rfl rfl)
theorem dX4_be_4 : decode cX4_be 4 = .ok (.aload_n 1, 1) := dk_43 (dk_at dksX4_be_0 4 rfl rfl)
theorem dX4_be_5 : decode cX4_be 5 = .ok (.getfield 10, 3) := dk_180 0 10 (dk_at dksX4_be_0 5 rfl rfl)
theorem dX4_be_8 : decode cX4_be 8 = .ok (.invokevirtual 16, 3) := dk_182 0 16 (dk_at dksX4_be_0 8 rfl rfl)
theorem dX4_be_11 : decode cX4_be 11 = .ok (.aload_n 0, 1) := dk_42 (dk_at dksX4_be_0 11 rfl rfl)
theorem dX4_be_12 : decode cX4_be 12 = .ok (.aload_n 1, 1) := dk_43 (dk_at dksX4_be_0 12 rfl rfl)
theorem dX4_be_13 : decode cX4_be 13 = .ok (.getfield 20, 3) := dk_180 0 20 (dk_at dksX4_be_0 13 rfl rfl)
theorem dX4_be_16 : decode cX4_be 16 = .ok (.putfield 20, 3) := dk_181 0 20 (dk_at dksX4_be_0 16 rfl rfl)
theorem dX4_be_19 : decode cX4_be 19 = .ok (.return_, 1) := dk_177 (dk_at dksX4_be_0 19 rfl rfl)
theorem q173 : (Jvm.Cond.initialized "CatWitness$House") ∈ lw_all := lw_g (lw_at lw_m1 7 rfl) rfl
theorem q307 : (Jvm.Cond.instantiable "CatWitness$House" (2 : Nat)) ∈ lw_all := lw_g (lw_at lw_m1 141 rfl) rfl
theorem q309 : (Jvm.Cond.instanceMethod ({ cls := "CatWitness$House", name := "<init>", desc := "()V" } : Jvm.MethodName)) ∈ lw_all := lw_g (lw_at lw_m1 143 rfl) rfl
theorem q310 : (Jvm.Cond.code ({ cls := "CatWitness$House", name := "<init>", desc := "()V" } : Jvm.MethodName) prog_6_method_1_code (1 : Nat) (Option.none : Option Jvm.ClassFile.FieldType)) ∈ lw_all := lw_g (lw_at lw_m1 144 rfl) rfl
theorem q311 : (Jvm.Cond.methodLink "CatWitness$House" (1 : Nat) ({ cls := "java/lang/Object", name := "<init>", desc := "()V" } : Jvm.MethodName)) ∈ lw_all := lw_g (lw_at lw_m1 145 rfl) rfl
theorem q312 : (Jvm.Cond.classLink "CatWitness$House" (7 : Nat) "CatWitness$Court") ∈ lw_all := lw_g (lw_at lw_m1 146 rfl) rfl
theorem q314 : (Jvm.Cond.methodLinkNest "CatWitness$House" (9 : Nat) ({ cls := "CatWitness$Court", name := "<init>", desc := "()V" } : Jvm.MethodName) "CatWitness") ∈ lw_tbl := lw_at lw_m1 148 rfl
theorem q435 : (Jvm.Cond.fieldLink "CatWitness$House" (10 : Nat) "CatWitness$House" "court" "LCatWitness$Court;") ∈ lw_all := lw_g (lw_at lw_m2 29 rfl) rfl
theorem q437 : (Jvm.Cond.fieldLink "CatWitness$House" (20 : Nat) "CatWitness$House" "weeks" "LCatWitness$Loop;") ∈ lw_all := lw_g (lw_at lw_m2 31 rfl) rfl
theorem q439 : (Jvm.Cond.laysFinal "CatWitness$House" "CatWitness$House" "court" "LCatWitness$Court;") ∈ lw_all := lw_g (lw_at lw_m2 33 rfl) rfl
theorem q440 : (Jvm.Cond.soleField "CatWitness$House" "court") ∈ lw_all := lw_g (lw_at lw_m2 34 rfl) rfl
theorem q441 : (Jvm.Cond.lays "CatWitness$House" "CatWitness$House" "weeks" "LCatWitness$Loop;") ∈ lw_all := lw_g (lw_at lw_m2 35 rfl) rfl
theorem q442 : (Jvm.Cond.soleField "CatWitness$House" "weeks") ∈ lw_all := lw_g (lw_at lw_m2 36 rfl) rfl
theorem q443 : (Jvm.Cond.superclass "CatWitness$House" "java/lang/Object") ∈ lw_all := lw_g (lw_at lw_m2 37 rfl) rfl
theorem q1603 : (Jvm.Cond.instanceMethod ({ cls := "CatWitness$House", name := "be", desc := "(LCatWitness$House;)V" } : Jvm.MethodName)) ∈ lw_all := lw_g (lw_at lw_m6 237 rfl) rfl
theorem q1604 : (Jvm.Cond.selects "CatWitness$House" ({ cls := "CatWitness$House", name := "be", desc := "(LCatWitness$House;)V" } : Jvm.MethodName) ({ cls := "CatWitness$House", name := "be", desc := "(LCatWitness$House;)V" } : Jvm.MethodName)) ∈ lw_all := lw_g (lw_at lw_m6 238 rfl) rfl
theorem q1605 : (Jvm.Cond.code ({ cls := "CatWitness$House", name := "be", desc := "(LCatWitness$House;)V" } : Jvm.MethodName) prog_6_method_2_code (2 : Nat) (Option.none : Option Jvm.ClassFile.FieldType)) ∈ lw_all := lw_g (lw_at lw_m6 239 rfl) rfl
theorem q1606 : (Jvm.Cond.methodLink "CatWitness$House" (16 : Nat) ({ cls := "CatWitness$Court", name := "be", desc := "(LCatWitness$Court;)V" } : Jvm.MethodName)) ∈ lw_all := lw_g (lw_at lw_m7 0 rfl) rfl
theorem in_X4 : ∀ w ∈ wsX40, w ∈ lw_all := lw_in wsX40 [439, 441] (by decide +kernel) (by decide +kernel)
