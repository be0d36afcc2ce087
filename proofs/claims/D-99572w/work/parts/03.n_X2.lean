/-! CatWitness$Bad -/
set_option maxRecDepth 100000
def RX2 : String := "CatWitness$Bad"
def TX2 : u_T := fun k => match k with
  | 0 => ("java/lang/Throwable", "cause", "Ljava/lang/Throwable;", false)
  | 1 => ("java/lang/Throwable", "stackTrace", "[Ljava/lang/StackTraceElement;", false)
  | 2 => ("java/lang/Throwable", "suppressedExceptions", "Ljava/util/List;", false)
  | 3 => ("java/lang/Throwable", "detailMessage", "Ljava/lang/String;", false)
  | 4 => ("java/lang/Throwable", "backtrace", "Ljava/lang/Object;", false)
  | 5 => ("java/lang/Throwable", "depth", "I", false)
  | 6 => ("CatWitness$Bad", "kind", "I", false)
  | _ => ("CatWitness$Bad", "place", "I", false)
def tyX2 : Nat → FieldType := fun k => match k with
  | 0 => .object "java/lang/Throwable"
  | 1 => .array (.object "java/lang/StackTraceElement")
  | 2 => .object "java/util/List"
  | 3 => .object "java/lang/String"
  | 4 => .object "java/lang/Object"
  | 5 => .int
  | 6 => .int
  | _ => .int
abbrev wsX20 : List Cond := u_ws RX2 TX2 8
theorem nmX2 : ∀ a, a < 8 → ∀ b, b < 8 → a ≠ b → (TX2 a).2.1 ≠ (TX2 b).2.1 := by decide +kernel
theorem tyX2_ok : ∀ k, k < 8 → parseFieldDescriptor (TX2 k).2.2.1 = some (tyX2 k) := by decide +kernel
abbrev cX2_init : ByteArray := prog_3_method_1_code
def yX2_init : MethodName := ⟨RX2, "<init>", "()V"⟩
def dkwX2_init_0 : List UInt8 := [42, 1, 1, 3, 3, 183, 0, 1, 177]
abbrev dktX2_init_0 : List UInt8 := dkwX2_init_0 ++ []
theorem dksX2_init_0 : cX2_init.data.toList.drop 0 = dktX2_init_0 := by decide +kernel
theorem dX2_init_0 : decode cX2_init 0 = .ok (.aload_n 0, 1) := dk_42 (dk_at dksX2_init_0 0 rfl rfl)
theorem dX2_init_1 : decode cX2_init 1 = .ok (.aconst_null, 1) := dk_1 (dk_at dksX2_init_0 1 rfl rfl)
theorem dX2_init_2 : decode cX2_init 2 = .ok (.aconst_null, 1) := dk_1 (dk_at dksX2_init_0 2 rfl rfl)
theorem dX2_init_3 : decode cX2_init 3 = .ok (.iconst 0, 1) := dk_3 (dk_at dksX2_init_0 3 rfl rfl)
theorem dX2_init_4 : decode cX2_init 4 = .ok (.iconst 0, 1) := dk_3 (dk_at dksX2_init_0 4 rfl rfl)
theorem dX2_init_5 : decode cX2_init 5 = .ok (.invokespecial 1, 3) := dk_183 0 1 (dk_at dksX2_init_0 5 rfl rfl)
theorem dX2_init_8 : decode cX2_init 8 = .ok (.return_, 1) := dk_177 (dk_at dksX2_init_0 8 rfl rfl)
abbrev cX2_at : ByteArray := prog_3_method_2_code
def yX2_at : MethodName := ⟨RX2, "at", "(II)LCatWitness$Bad;"⟩
def dkwX2_at_0 : List UInt8 := [42, 27, 181, 0, 7, 42, 28, 181, 0, 13, 42, 176]
abbrev dktX2_at_0 : List UInt8 := dkwX2_at_0 ++ []
theorem dksX2_at_0 : cX2_at.data.toList.drop 0 = dktX2_at_0 := by decide +kernel
theorem dX2_at_0 : decode cX2_at 0 = .ok (.aload_n 0, 1) := dk_42 (dk_at dksX2_at_0 0 rfl rfl)
theorem dX2_at_1 : decode cX2_at 1 = .ok (.iload_n 1, 1) := dk_27 (dk_at dksX2_at_0 1 rfl rfl)
theorem dX2_at_2 : decode cX2_at 2 = .ok (.putfield 7, 3) := dk_181 0 7 (dk_at dksX2_at_0 2 rfl rfl)
theorem dX2_at_5 : decode cX2_at 5 = .ok (.aload_n 0, 1) := dk_42 (dk_at dksX2_at_0 5 rfl rfl)
theorem dX2_at_6 : decode cX2_at 6 = .ok (.iload_n 2, 1) := dk_28 (dk_at dksX2_at_0 6 rfl rfl)
theorem dX2_at_7 : decode cX2_at 7 = .ok (.putfield 13, 3) := dk_181 0 13 (dk_at dksX2_at_0 7 rfl rfl)
theorem dX2_at_10 : decode cX2_at 10 = .ok (.aload_n 0, 1) := dk_42 (dk_at dksX2_at_0 10 rfl rfl)
theorem dX2_at_11 : decode cX2_at 11 = .ok (.areturn, 1) := dk_176 (dk_at dksX2_at_0 11 rfl rfl)
theorem q171 : (Jvm.Cond.initialized "CatWitness$Bad") ∈ lw_all := lw_g (lw_at lw_m1 5 rfl) rfl
theorem q217 : (Jvm.Cond.instantiable "CatWitness$Bad" (8 : Nat)) ∈ lw_all := lw_g (lw_at lw_m1 51 rfl) rfl
theorem q218 : (Jvm.Cond.castable "CatWitness$Bad" "CatWitness$Bad") ∈ lw_tbl := lw_at lw_m1 52 rfl
theorem q223 : (Jvm.Cond.selects "CatWitness$Bad" ({ cls := "java/lang/Throwable", name := "fillInStackTrace", desc := "(I)Ljava/lang/Throwable;" } : Jvm.MethodName) ({ cls := "java/lang/Throwable", name := "fillInStackTrace", desc := "(I)Ljava/lang/Throwable;" } : Jvm.MethodName)) ∈ lw_all := lw_g (lw_at lw_m1 57 rfl) rfl
theorem q224 : (Jvm.Cond.selects "CatWitness$Bad" ({ cls := "java/lang/Throwable", name := "fillInStackTrace", desc := "()Ljava/lang/Throwable;" } : Jvm.MethodName) ({ cls := "java/lang/Throwable", name := "fillInStackTrace", desc := "()Ljava/lang/Throwable;" } : Jvm.MethodName)) ∈ lw_all := lw_g (lw_at lw_m1 58 rfl) rfl
theorem q225 : (Jvm.Cond.lays "CatWitness$Bad" "java/lang/Throwable" "cause" "Ljava/lang/Throwable;") ∈ lw_all := lw_g (lw_at lw_m1 59 rfl) rfl
theorem q227 : (Jvm.Cond.lays "CatWitness$Bad" "java/lang/Throwable" "stackTrace" "[Ljava/lang/StackTraceElement;") ∈ lw_all := lw_g (lw_at lw_m1 61 rfl) rfl
theorem q229 : (Jvm.Cond.lays "CatWitness$Bad" "java/lang/Throwable" "suppressedExceptions" "Ljava/util/List;") ∈ lw_all := lw_g (lw_at lw_m1 63 rfl) rfl
theorem q231 : (Jvm.Cond.lays "CatWitness$Bad" "java/lang/Throwable" "detailMessage" "Ljava/lang/String;") ∈ lw_all := lw_g (lw_at lw_m1 65 rfl) rfl
theorem q233 : (Jvm.Cond.lays "CatWitness$Bad" "java/lang/Throwable" "backtrace" "Ljava/lang/Object;") ∈ lw_all := lw_g (lw_at lw_m1 67 rfl) rfl
theorem q257 : (Jvm.Cond.instanceMethod ({ cls := "CatWitness$Bad", name := "<init>", desc := "()V" } : Jvm.MethodName)) ∈ lw_all := lw_g (lw_at lw_m1 91 rfl) rfl
theorem q258 : (Jvm.Cond.code ({ cls := "CatWitness$Bad", name := "<init>", desc := "()V" } : Jvm.MethodName) prog_3_method_1_code (1 : Nat) (Option.none : Option Jvm.ClassFile.FieldType)) ∈ lw_all := lw_g (lw_at lw_m1 92 rfl) rfl
theorem q259 : (Jvm.Cond.methodLink "CatWitness$Bad" (1 : Nat) ({ cls := "java/lang/Exception", name := "<init>", desc := "(Ljava/lang/String;Ljava/lang/Throwable;ZZ)V" } : Jvm.MethodName)) ∈ lw_all := lw_g (lw_at lw_m1 93 rfl) rfl
theorem q265 : (Jvm.Cond.fieldLink "CatWitness$Bad" (7 : Nat) "CatWitness$Bad" "kind" "I") ∈ lw_all := lw_g (lw_at lw_m1 99 rfl) rfl
theorem q267 : (Jvm.Cond.fieldLink "CatWitness$Bad" (13 : Nat) "CatWitness$Bad" "place" "I") ∈ lw_all := lw_g (lw_at lw_m1 101 rfl) rfl
theorem q274 : (Jvm.Cond.lays "CatWitness$Bad" "CatWitness$Bad" "kind" "I") ∈ lw_all := lw_g (lw_at lw_m1 108 rfl) rfl
theorem q275 : (Jvm.Cond.soleField "CatWitness$Bad" "kind") ∈ lw_all := lw_g (lw_at lw_m1 109 rfl) rfl
theorem q276 : (Jvm.Cond.lays "CatWitness$Bad" "CatWitness$Bad" "place" "I") ∈ lw_all := lw_g (lw_at lw_m1 110 rfl) rfl
theorem q277 : (Jvm.Cond.soleField "CatWitness$Bad" "place") ∈ lw_all := lw_g (lw_at lw_m1 111 rfl) rfl
theorem q282 : (Jvm.Cond.lays "CatWitness$Bad" "java/lang/Throwable" "depth" "I") ∈ lw_all := lw_g (lw_at lw_m1 116 rfl) rfl
theorem q285 : (Jvm.Cond.superclass "CatWitness$Bad" "java/lang/Exception") ∈ lw_all := lw_g (lw_at lw_m1 119 rfl) rfl
theorem q779 : (Jvm.Cond.instanceMethod ({ cls := "CatWitness$Bad", name := "at", desc := "(II)LCatWitness$Bad;" } : Jvm.MethodName)) ∈ lw_all := lw_g (lw_at lw_m3 133 rfl) rfl
theorem q780 : (Jvm.Cond.selects "CatWitness$Bad" ({ cls := "CatWitness$Bad", name := "at", desc := "(II)LCatWitness$Bad;" } : Jvm.MethodName) ({ cls := "CatWitness$Bad", name := "at", desc := "(II)LCatWitness$Bad;" } : Jvm.MethodName)) ∈ lw_all := lw_g (lw_at lw_m3 134 rfl) rfl
theorem q781 : (Jvm.Cond.code ({ cls := "CatWitness$Bad", name := "at", desc := "(II)LCatWitness$Bad;" } : Jvm.MethodName) prog_3_method_2_code (3 : Nat) (Option.some (Jvm.ClassFile.FieldType.object "CatWitness$Bad"))) ∈ lw_all := lw_g (lw_at lw_m3 135 rfl) rfl
theorem in_X2 : ∀ w ∈ wsX20, w ∈ lw_all := lw_in wsX20 [225, 227, 229, 231, 233, 282, 274, 276] (by decide +kernel) (by decide +kernel)
