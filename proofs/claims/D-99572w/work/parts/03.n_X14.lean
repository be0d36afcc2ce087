/-! CatWitness$Living -/
set_option maxRecDepth 100000
def RX14 : String := "CatWitness$Living"
def TX14 : u_T := fun k => match k with
  | 0 => ("CatWitness$Living", "court", "LCatWitness$Court;", true)
  | 1 => ("CatWitness$Living", "state", "I", false)
  | 2 => ("CatWitness$Living", "done", "I", false)
  | 3 => ("CatWitness$Living", "missed", "I", false)
  | 4 => ("CatWitness$Living", "sittings", "I", false)
  | 5 => ("CatWitness$Living", "free", "I", false)
  | 6 => ("CatWitness$Living", "held", "I", false)
  | 7 => ("CatWitness$Living", "isOver", "Z", false)
  | _ => ("CatWitness$Living", "isLeft", "Z", false)
def tyX14 : Nat → FieldType := fun k => match k with
  | 0 => .object "CatWitness$Court"
  | 1 => .int
  | 2 => .int
  | 3 => .int
  | 4 => .int
  | 5 => .int
  | 6 => .int
  | 7 => .boolean
  | _ => .boolean
abbrev wsX140 : List Cond := u_ws RX14 TX14 9
theorem nmX14 : ∀ a, a < 9 → ∀ b, b < 9 → a ≠ b → (TX14 a).2.1 ≠ (TX14 b).2.1 := by decide +kernel
theorem tyX14_ok : ∀ k, k < 9 → parseFieldDescriptor (TX14 k).2.2.1 = some (tyX14 k) := by decide +kernel
abbrev cX14_init : ByteArray := prog_7_method_1_code
def yX14_init : MethodName := ⟨RX14, "<init>", "(LCatWitness$Court;I)V"⟩
def dkwX14_init_0 : List UInt8 := [42, 183, 0, 1, 42, 43, 181, 0, 7, 42, 28, 181, 0, 13, 177]
abbrev dktX14_init_0 : List UInt8 := dkwX14_init_0 ++ []
theorem dksX14_init_0 : cX14_init.data.toList.drop 0 = dktX14_init_0 := by decide +kernel
theorem dX14_init_0 : decode cX14_init 0 = .ok (.aload_n 0, 1) := dk_42 (dk_at dksX14_init_0 0 rfl rfl)
theorem dX14_init_1 : decode cX14_init 1 = .ok (.invokespecial 1, 3) := dk_183 0 1 (dk_at dksX14_init_0 1 rfl rfl)
theorem dX14_init_4 : decode cX14_init 4 = .ok (.aload_n 0, 1) := dk_42 (dk_at dksX14_init_0 4 rfl rfl)
theorem dX14_init_5 : decode cX14_init 5 = .ok (.aload_n 1, 1) := dk_43 (dk_at dksX14_init_0 5 rfl rfl)
theorem dX14_init_6 : decode cX14_init 6 = .ok (.putfield 7, 3) := dk_181 0 7 (dk_at dksX14_init_0 6 rfl rfl)
theorem dX14_init_9 : decode cX14_init 9 = .ok (.aload_n 0, 1) := dk_42 (dk_at dksX14_init_0 9 rfl rfl)
theorem dX14_init_10 : decode cX14_init 10 = .ok (.iload_n 2, 1) := dk_28 (dk_at dksX14_init_0 10 rfl rfl)
theorem dX14_init_11 : decode cX14_init 11 = .ok (.putfield 13, 3) := dk_181 0 13 (dk_at dksX14_init_0 11 rfl rfl)
theorem dX14_init_14 : decode cX14_init 14 = .ok (.return_, 1) := dk_177 (dk_at dksX14_init_0 14 rfl rfl)
abbrev cX14_draw : ByteArray := prog_7_method_2_code
def yX14_draw : MethodName := ⟨RX14, "draw", "(I)I"⟩
def dkwX14_draw_1 : List UInt8 := [16, 8, 108, 27, 112, 172]
abbrev dktX14_draw_1 : List UInt8 := dkwX14_draw_1 ++ []
def dkwX14_draw_0 : List UInt8 := [42, 42, 180, 0, 13, 17, 12, 109, 104, 17, 44, 135, 96, 18, 17, 112, 181, 0, 13, 42, 180, 0, 13]
abbrev dktX14_draw_0 : List UInt8 := dkwX14_draw_0 ++ dktX14_draw_1
theorem dksX14_draw_0 : cX14_draw.data.toList.drop 0 = dktX14_draw_0 := by decide +kernel
theorem dksX14_draw_1 : cX14_draw.data.toList.drop 23 = dktX14_draw_1 := dk_seg dksX14_draw_0 23 rfl rfl
theorem dX14_draw_0 : decode cX14_draw 0 = .ok (.aload_n 0, 1) := dk_42 (dk_at dksX14_draw_0 0 rfl rfl)
theorem dX14_draw_1 : decode cX14_draw 1 = .ok (.aload_n 0, 1) := dk_42 (dk_at dksX14_draw_0 1 rfl rfl)
theorem dX14_draw_2 : decode cX14_draw 2 = .ok (.getfield 13, 3) := dk_180 0 13 (dk_at dksX14_draw_0 2 rfl rfl)
theorem dX14_draw_5 : decode cX14_draw 5 = .ok (.sipush 3181, 3) := dk_17 12 109 (dk_at dksX14_draw_0 5 rfl rfl)
theorem dX14_draw_8 : decode cX14_draw 8 = .ok (.imul, 1) := dk_104 (dk_at dksX14_draw_0 8 rfl rfl)
theorem dX14_draw_9 : decode cX14_draw 9 = .ok (.sipush 11399, 3) := dk_17 44 135 (dk_at dksX14_draw_0 9 rfl rfl)
theorem dX14_draw_12 : decode cX14_draw 12 = .ok (.iadd, 1) := dk_96 (dk_at dksX14_draw_0 12 rfl rfl)
theorem dX14_draw_13 : decode cX14_draw 13 = .ok (.ldc 17, 2) := dk_18 17 (dk_at dksX14_draw_0 13 rfl rfl)
theorem dX14_draw_15 : decode cX14_draw 15 = .ok (.irem, 1) := dk_112 (dk_at dksX14_draw_0 15 rfl rfl)
theorem dX14_draw_16 : decode cX14_draw 16 = .ok (.putfield 13, 3) := dk_181 0 13 (dk_at dksX14_draw_0 16 rfl rfl)
theorem dX14_draw_19 : decode cX14_draw 19 = .ok (.aload_n 0, 1) := dk_42 (dk_at dksX14_draw_0 19 rfl rfl)
theorem dX14_draw_20 : decode cX14_draw 20 = .ok (.getfield 13, 3) := dk_180 0 13 (dk_at dksX14_draw_0 20 rfl rfl)
theorem dX14_draw_23 : decode cX14_draw 23 = .ok (.bipush 8, 2) := dk_16 8 (dk_at dksX14_draw_1 0 rfl rfl)
theorem dX14_draw_25 : decode cX14_draw 25 = .ok (.idiv, 1) := dk_108 (dk_at dksX14_draw_1 2 rfl rfl)
theorem dX14_draw_26 : decode cX14_draw 26 = .ok (.iload_n 1, 1) := dk_27 (dk_at dksX14_draw_1 3 rfl rfl)
theorem dX14_draw_27 : decode cX14_draw 27 = .ok (.irem, 1) := dk_112 (dk_at dksX14_draw_1 4 rfl rfl)
theorem dX14_draw_28 : decode cX14_draw 28 = .ok (.ireturn, 1) := dk_172 (dk_at dksX14_draw_1 5 rfl rfl)
theorem q196 : (Jvm.Cond.initialized "CatWitness$Living") ∈ lw_all := lw_g (lw_at lw_m1 30 rfl) rfl
theorem q1479 : (Jvm.Cond.instantiable "CatWitness$Living" (9 : Nat)) ∈ lw_all := lw_g (lw_at lw_m6 113 rfl) rfl
theorem q1481 : (Jvm.Cond.instanceMethod ({ cls := "CatWitness$Living", name := "<init>", desc := "(LCatWitness$Court;I)V" } : Jvm.MethodName)) ∈ lw_all := lw_g (lw_at lw_m6 115 rfl) rfl
theorem q1482 : (Jvm.Cond.code ({ cls := "CatWitness$Living", name := "<init>", desc := "(LCatWitness$Court;I)V" } : Jvm.MethodName) prog_7_method_1_code (3 : Nat) (Option.none : Option Jvm.ClassFile.FieldType)) ∈ lw_all := lw_g (lw_at lw_m6 116 rfl) rfl
theorem q1483 : (Jvm.Cond.methodLink "CatWitness$Living" (1 : Nat) ({ cls := "java/lang/Object", name := "<init>", desc := "()V" } : Jvm.MethodName)) ∈ lw_all := lw_g (lw_at lw_m6 117 rfl) rfl
theorem q1484 : (Jvm.Cond.fieldLink "CatWitness$Living" (7 : Nat) "CatWitness$Living" "court" "LCatWitness$Court;") ∈ lw_all := lw_g (lw_at lw_m6 118 rfl) rfl
theorem q1487 : (Jvm.Cond.fieldLink "CatWitness$Living" (13 : Nat) "CatWitness$Living" "state" "I") ∈ lw_all := lw_g (lw_at lw_m6 121 rfl) rfl
theorem q1504 : (Jvm.Cond.laysFinal "CatWitness$Living" "CatWitness$Living" "court" "LCatWitness$Court;") ∈ lw_all := lw_g (lw_at lw_m6 138 rfl) rfl
theorem q1505 : (Jvm.Cond.soleField "CatWitness$Living" "court") ∈ lw_all := lw_g (lw_at lw_m6 139 rfl) rfl
theorem q1506 : (Jvm.Cond.lays "CatWitness$Living" "CatWitness$Living" "state" "I") ∈ lw_all := lw_g (lw_at lw_m6 140 rfl) rfl
theorem q1507 : (Jvm.Cond.soleField "CatWitness$Living" "state") ∈ lw_all := lw_g (lw_at lw_m6 141 rfl) rfl
theorem q1508 : (Jvm.Cond.lays "CatWitness$Living" "CatWitness$Living" "done" "I") ∈ lw_all := lw_g (lw_at lw_m6 142 rfl) rfl
theorem q1509 : (Jvm.Cond.soleField "CatWitness$Living" "done") ∈ lw_all := lw_g (lw_at lw_m6 143 rfl) rfl
theorem q1510 : (Jvm.Cond.lays "CatWitness$Living" "CatWitness$Living" "missed" "I") ∈ lw_all := lw_g (lw_at lw_m6 144 rfl) rfl
theorem q1511 : (Jvm.Cond.soleField "CatWitness$Living" "missed") ∈ lw_all := lw_g (lw_at lw_m6 145 rfl) rfl
theorem q1512 : (Jvm.Cond.lays "CatWitness$Living" "CatWitness$Living" "sittings" "I") ∈ lw_all := lw_g (lw_at lw_m6 146 rfl) rfl
theorem q1513 : (Jvm.Cond.soleField "CatWitness$Living" "sittings") ∈ lw_all := lw_g (lw_at lw_m6 147 rfl) rfl
theorem q1514 : (Jvm.Cond.lays "CatWitness$Living" "CatWitness$Living" "free" "I") ∈ lw_all := lw_g (lw_at lw_m6 148 rfl) rfl
theorem q1515 : (Jvm.Cond.soleField "CatWitness$Living" "free") ∈ lw_all := lw_g (lw_at lw_m6 149 rfl) rfl
theorem q1516 : (Jvm.Cond.lays "CatWitness$Living" "CatWitness$Living" "held" "I") ∈ lw_all := lw_g (lw_at lw_m6 150 rfl) rfl
theorem q1517 : (Jvm.Cond.soleField "CatWitness$Living" "held") ∈ lw_all := lw_g (lw_at lw_m6 151 rfl) rfl
theorem q1518 : (Jvm.Cond.lays "CatWitness$Living" "CatWitness$Living" "isOver" "Z") ∈ lw_all := lw_g (lw_at lw_m6 152 rfl) rfl
theorem q1519 : (Jvm.Cond.soleField "CatWitness$Living" "isOver") ∈ lw_all := lw_g (lw_at lw_m6 153 rfl) rfl
theorem q1520 : (Jvm.Cond.lays "CatWitness$Living" "CatWitness$Living" "isLeft" "Z") ∈ lw_all := lw_g (lw_at lw_m6 154 rfl) rfl
theorem q1521 : (Jvm.Cond.soleField "CatWitness$Living" "isLeft") ∈ lw_all := lw_g (lw_at lw_m6 155 rfl) rfl
theorem q1522 : (Jvm.Cond.superclass "CatWitness$Living" "java/lang/Object") ∈ lw_all := lw_g (lw_at lw_m6 156 rfl) rfl
theorem q1566 : (Jvm.Cond.instanceMethod ({ cls := "CatWitness$Living", name := "draw", desc := "(I)I" } : Jvm.MethodName)) ∈ lw_all := lw_g (lw_at lw_m6 200 rfl) rfl
theorem q1567 : (Jvm.Cond.selects "CatWitness$Living" ({ cls := "CatWitness$Living", name := "draw", desc := "(I)I" } : Jvm.MethodName) ({ cls := "CatWitness$Living", name := "draw", desc := "(I)I" } : Jvm.MethodName)) ∈ lw_all := lw_g (lw_at lw_m6 201 rfl) rfl
theorem q1568 : (Jvm.Cond.code ({ cls := "CatWitness$Living", name := "draw", desc := "(I)I" } : Jvm.MethodName) prog_7_method_2_code (2 : Nat) (Option.some Jvm.ClassFile.FieldType.int)) ∈ lw_all := lw_g (lw_at lw_m6 202 rfl) rfl
theorem q1569 : (Jvm.Cond.constant "CatWitness$Living" (17 : Nat) (65536 : Int32)) ∈ lw_all := lw_g (lw_at lw_m6 203 rfl) rfl
theorem in_X14 : ∀ w ∈ wsX140, w ∈ lw_all := lw_in wsX140 [1504, 1506, 1508, 1510, 1512, 1514, 1516, 1518, 1520] (by decide +kernel) (by decide +kernel)
