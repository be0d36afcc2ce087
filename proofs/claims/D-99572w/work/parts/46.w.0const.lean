set_option maxRecDepth 100000
theorem pf_X0_219 {Γ : tX} {cc : ByteArray} {f L : Nat} {N0 : Nat → Nat} {uc us pc : Nat} {lv : List (Nat × Value)} {st : List Value} {S : tS} (C : TC Γ cc RX0 f L) {x : Option Nat} {t : Nat} (hk : t % 32 = 5) (h0 : N0 t ≠ 0) (hd : decode cc pc = .ok (.putfield 219, 3)) (kk : TJ Γ N0 uc us (pc + 3) lv st (sR S t 1 x)) : TJ Γ N0 uc us pc lv (va_rf (x.map (xad Γ)) :: .ref (xad Γ t) :: st) S := tj_putN C (Cn := RX4) (T := TX4) (N := 2) 5 t 1 219 hk (by decide) rfl in_X4 tyX4 tyX4_ok nmX4 (by decide) (by decide) q438 rfl rfl h0 (by cases x <;> rfl) (by cases x <;> rfl) (tPut_R rfl) hd kk
theorem gf_X0_234 {Γ : tX} {cc : ByteArray} {f L : Nat} {N0 : Nat → Nat} {uc us pc : Nat} {lv : List (Nat × Value)} {st : List Value} {S : tS} (C : TC Γ cc RX0 f L) {t : Nat} (hk : t % 32 = 11) (h0 : N0 t ≠ 0) (hd : decode cc pc = .ok (.getfield 234, 3)) (kk : TJ Γ N0 uc us (pc + 3) lv (.int (gI S t 5) :: st) S) : TJ Γ N0 uc us pc lv (.ref (xad Γ t) :: st) S := tj_getN C (Cn := RX7) (T := TX7) (N := 7) 11 t 5 234 hk (by decide) rfl in_X7 (by decide) (by decide) q692 rfl h0 rfl hd kk
theorem lk_X0_231 : GoodIn lw_all (wsV RX0 231 RX7 yX7_weeks (ws_ yX7_weeks cX7_weeks 3 (none))) := lw_V q1006 q1007 q1008 q182 q1009
theorem lk_X0_223 : GoodIn lw_all (wsV RX0 223 RX0 yX0_faulty (ws_ yX0_faulty cX0_faulty 2 (some .int))) := lw_V q974 q976 qs38 q167 q977
theorem lk_X0_213 : GoodIn lw_all (wsV RX0 213 RX7 yX7_court (ws_ yX7_court cX7_court 2 (none))) := lw_V q709 q710 q711 q182 q712
theorem ty_X7_weeks : tyOk yX7_weeks 2 := ⟨by decide +kernel, by decide +kernel, by decide +kernel⟩
theorem ty_X7_init : tyOk yX7_init 2 := ⟨by decide +kernel, by decide +kernel, by decide +kernel⟩
theorem ty_X0_faulty : tyOk yX0_faulty 1 := ⟨by decide +kernel, by decide +kernel, by decide +kernel⟩
theorem ty_X7_court : tyOk yX7_court 1 := ⟨by decide +kernel, by decide +kernel, by decide +kernel⟩
