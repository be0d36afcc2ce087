theorem q206 : (Jvm.Cond.arrayOver (Jvm.ClassFile.FieldType.object "CatWitness$Tray")) ∈ lw_tbl := lw_at lw_m1 40 rfl
set_option maxRecDepth 100000
theorem q286 : (Jvm.Cond.arrayClass Jvm.ClassFile.FieldType.byte) ∈ lw_all := lw_g (lw_at lw_m1 120 rfl) rfl
theorem q319 : (Jvm.Cond.arrayOver (Jvm.ClassFile.FieldType.object "CatWitness$Rule")) ∈ lw_tbl := lw_at lw_m1 153 rfl
theorem q433 : (Jvm.Cond.arrayClass Jvm.ClassFile.FieldType.long) ∈ lw_all := lw_g (lw_at lw_m2 27 rfl) rfl
theorem q434 : (Jvm.Cond.arrayClass Jvm.ClassFile.FieldType.int) ∈ lw_all := lw_g (lw_at lw_m2 28 rfl) rfl
theorem q444 : (Jvm.Cond.arrayOver (Jvm.ClassFile.FieldType.object "CatWitness$House")) ∈ lw_tbl := lw_at lw_m2 38 rfl
theorem q594 : (Jvm.Cond.arrayClass Jvm.ClassFile.FieldType.short) ∈ lw_all := lw_g (lw_at lw_m2 188 rfl) rfl
theorem q995 : (Jvm.Cond.arrayOver (Jvm.ClassFile.FieldType.object "CatWitness$Step")) ∈ lw_tbl := lw_at lw_m4 109 rfl
theorem q1748 : (Jvm.Cond.arrayClass Jvm.ClassFile.FieldType.boolean) ∈ lw_all := lw_g (lw_at lw_m7 142 rfl) rfl
