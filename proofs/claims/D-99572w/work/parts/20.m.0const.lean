set_option maxRecDepth 100000
theorem kc_1 : Int32.ofInt (1) = nI 1 := by decide +kernel
theorem kl_J11_265 : Cond.constant RJ11 265 (nI 1431655765) ∈ lw_all := by
  have h := q1179
  exact h
theorem kl_J11_266 : Cond.constant RJ11 266 (nI 858993459) ∈ lw_all := by
  have h := q1180
  exact h
theorem kc_2 : Int32.ofInt (2) = nI 2 := by decide +kernel
theorem kc_4 : Int32.ofInt (4) = nI 4 := by decide +kernel
theorem kl_J11_267 : Cond.constant RJ11 267 (nI 252645135) ∈ lw_all := by
  have h := q1181
  exact h
theorem kb_8 : (Int8.ofInt (8)).toInt32 = nI 8 := by decide +kernel
theorem kb_16 : (Int8.ofInt (16)).toInt32 = nI 16 := by decide +kernel
theorem kb_63 : (Int8.ofInt (63)).toInt32 = nI 63 := by decide +kernel
theorem kc_0 : Int32.ofInt (0) = nI 0 := by decide +kernel
theorem ki_1 (x : Int32) : x + Int32.ofInt (1) = x + nI 1 := by rw [show Int32.ofInt (1) = nI 1 by decide +kernel]
theorem ks_2008 : (Int16.ofInt (2008)).toInt32 = nI 2008 := by decide +kernel
theorem kc_m1 : Int32.ofInt (-1) = (-1) := by decide +kernel
theorem ks_255 : (Int16.ofInt (255)).toInt32 = nI 255 := by decide +kernel
theorem kb_97 : (Int8.ofInt (97)).toInt32 = nI 97 := by decide +kernel
theorem kb_122 : (Int8.ofInt (122)).toInt32 = nI 122 := by decide +kernel
theorem kb_48 : (Int8.ofInt (48)).toInt32 = nI 48 := by decide +kernel
theorem kb_57 : (Int8.ofInt (57)).toInt32 = nI 57 := by decide +kernel
theorem kb_32 : (Int8.ofInt (32)).toInt32 = nI 32 := by decide +kernel
theorem kb_10 : (Int8.ofInt (10)).toInt32 = nI 10 := by decide +kernel
theorem kb_59 : (Int8.ofInt (59)).toInt32 = nI 59 := by decide +kernel
theorem kb_60 : (Int8.ofInt (60)).toInt32 = nI 60 := by decide +kernel
theorem kb_62 : (Int8.ofInt (62)).toInt32 = nI 62 := by decide +kernel
theorem kb_61 : (Int8.ofInt (61)).toInt32 = nI 61 := by decide +kernel
theorem kc_3 : Int32.ofInt (3) = nI 3 := by decide +kernel
theorem kl_X6_145 : Cond.constant RX6 145 (nI 100000) ∈ lw_all := by
  have h := q1826
  exact h
theorem kb_92 : (Int8.ofInt (92)).toInt32 = nI 92 := by decide +kernel
theorem kn_2008 : (nI 2008).toNatClampNeg = 2008 := nI_clamp (by decide)
theorem ks_2009 : (Int16.ofInt (2009)).toInt32 = nI 2009 := by decide +kernel
theorem kn_2009 : (nI 2009).toNatClampNeg = 2009 := nI_clamp (by decide)
theorem kb_103 : (Int8.ofInt (103)).toInt32 = nI 103 := by decide +kernel
theorem ks_2011 : (Int16.ofInt (2011)).toInt32 = nI 2011 := by decide +kernel
theorem kn_2011 : (nI 2011).toNatClampNeg = 2011 := nI_clamp (by decide)
theorem kb_109 : (Int8.ofInt (109)).toInt32 = nI 109 := by decide +kernel
theorem ks_2012 : (Int16.ofInt (2012)).toInt32 = nI 2012 := by decide +kernel
theorem kn_2012 : (nI 2012).toNatClampNeg = 2012 := nI_clamp (by decide)
theorem kb_6 : (Int8.ofInt (6)).toInt32 = nI 6 := by decide +kernel
theorem kc_5 : Int32.ofInt (5) = nI 5 := by decide +kernel
theorem kb_7 : (Int8.ofInt (7)).toInt32 = nI 7 := by decide +kernel
theorem kb_9 : (Int8.ofInt (9)).toInt32 = nI 9 := by decide +kernel
theorem ks_2018 : (Int16.ofInt (2018)).toInt32 = nI 2018 := by decide +kernel
theorem kb_72 : (Int8.ofInt (72)).toInt32 = nI 72 := by decide +kernel
theorem kb_11 : (Int8.ofInt (11)).toInt32 = nI 11 := by decide +kernel
theorem kb_99 : (Int8.ofInt (99)).toInt32 = nI 99 := by decide +kernel
theorem kb_12 : (Int8.ofInt (12)).toInt32 = nI 12 := by decide +kernel
theorem ks_2110 : (Int16.ofInt (2110)).toInt32 = nI 2110 := by decide +kernel
theorem kb_17 : (Int8.ofInt (17)).toInt32 = nI 17 := by decide +kernel
theorem kb_13 : (Int8.ofInt (13)).toInt32 = nI 13 := by decide +kernel
theorem kb_14 : (Int8.ofInt (14)).toInt32 = nI 14 := by decide +kernel
theorem ks_2010 : (Int16.ofInt (2010)).toInt32 = nI 2010 := by decide +kernel
theorem kn_2010 : (nI 2010).toNatClampNeg = 2010 := nI_clamp (by decide)
theorem ks_2122 : (Int16.ofInt (2122)).toInt32 = nI 2122 := by decide +kernel
theorem ks_2013 : (Int16.ofInt (2013)).toInt32 = nI 2013 := by decide +kernel
theorem kn_2013 : (nI 2013).toNatClampNeg = 2013 := nI_clamp (by decide)
theorem kb_102 : (Int8.ofInt (102)).toInt32 = nI 102 := by decide +kernel
theorem kn_4 : (nI 4).toNatClampNeg = 4 := nI_clamp (by decide)
theorem kn_3 : (nI 3).toNatClampNeg = 3 := nI_clamp (by decide)
theorem kb_114 : (Int8.ofInt (114)).toInt32 = nI 114 := by decide +kernel
theorem kn_5 : (nI 5).toNatClampNeg = 5 := nI_clamp (by decide)
theorem kl_X6_380 : Cond.constantLong RX6 380 (lN 20) ∈ lw_all := by
  have h := q2183
  exact h
theorem kl_X6_335 : Cond.constantLong RX6 335 (lN 9) ∈ lw_all := by
  have h := q2064
  exact h
theorem kn_1 : (nI 1).toNatClampNeg = 1 := nI_clamp (by decide)
theorem kn_2 : (nI 2).toNatClampNeg = 2 := nI_clamp (by decide)
theorem kl_X6_412 : Cond.constant RX6 412 (nI 1000000) ∈ lw_all := by
  have h := q2220
  exact h
theorem kn_6 : (nI 6).toNatClampNeg = 6 := nI_clamp (by decide)
theorem kn_8 : (nI 8).toNatClampNeg = 8 := nI_clamp (by decide)
theorem ks_134 : (Int16.ofInt (134)).toInt32 = nI 134 := by decide +kernel
theorem kb_24 : (Int8.ofInt (24)).toInt32 = nI 24 := by decide +kernel
theorem kb_23 : (Int8.ofInt (23)).toInt32 = nI 23 := by decide +kernel
theorem ki_m1 (x : Int32) : x + Int32.ofInt (-1) = x + (-1) := by rw [show Int32.ofInt (-1) = (-1) by decide +kernel]
theorem kn_0 : (nI 0).toNatClampNeg = 0 := nI_clamp (by decide)
theorem ks_502 : (Int16.ofInt (502)).toInt32 = nI 502 := by decide +kernel
theorem ks_900 : (Int16.ofInt (900)).toInt32 = nI 900 := by decide +kernel
theorem kn_7 : (nI 7).toNatClampNeg = 7 := nI_clamp (by decide)
theorem ks_9999 : (Int16.ofInt (9999)).toInt32 = nI 9999 := by decide +kernel
theorem ks_3181 : (Int16.ofInt (3181)).toInt32 = nI 3181 := by decide +kernel
theorem ks_11399 : (Int16.ofInt (11399)).toInt32 = nI 11399 := by decide +kernel
theorem kl_X6_481 : Cond.constant RX6 481 (nI 65536) ∈ lw_all := by
  have h := q2389
  exact h
theorem kl_X6_368 : Cond.constantLong RX6 368 (lN 2) ∈ lw_all := by
  have h := q2144
  exact h
theorem ki_m8 (x : Int32) : x + Int32.ofInt (-8) = x + (-8) := by rw [show Int32.ofInt (-8) = (-8) by decide +kernel]
theorem kb_20 : (Int8.ofInt (20)).toInt32 = nI 20 := by decide +kernel
theorem kl_X6_372 : Cond.constantLong RX6 372 (lN 40) ∈ lw_all := by
  have h := q2162
  exact h
theorem ks_3012 : (Int16.ofInt (3012)).toInt32 = nI 3012 := by decide +kernel
theorem kl_X6_473 : Cond.constantLong RX6 473 (lN 3) ∈ lw_all := by
  have h := q2328
  exact h
theorem ks_2200 : (Int16.ofInt (2200)).toInt32 = nI 2200 := by decide +kernel
theorem kb_26 : (Int8.ofInt (26)).toInt32 = nI 26 := by decide +kernel
theorem kb_27 : (Int8.ofInt (27)).toInt32 = nI 27 := by decide +kernel
theorem kb_28 : (Int8.ofInt (28)).toInt32 = nI 28 := by decide +kernel
theorem ks_420 : (Int16.ofInt (420)).toInt32 = nI 420 := by decide +kernel
theorem kb_40 : (Int8.ofInt (40)).toInt32 = nI 40 := by decide +kernel
theorem ks_300 : (Int16.ofInt (300)).toInt32 = nI 300 := by decide +kernel
theorem kb_25 : (Int8.ofInt (25)).toInt32 = nI 25 := by decide +kernel
theorem kl_X6_506 : Cond.constantLong RX6 506 (lN 9999) ∈ lw_all := by
  have h := q2364
  exact h
theorem kl_X6_353 : Cond.constantLong RX6 353 (lN 99) ∈ lw_all := by
  have h := q2107
  exact h
theorem ks_2510 : (Int16.ofInt (2510)).toInt32 = nI 2510 := by decide +kernel
theorem kl_X6_113 : Cond.constantLong RX6 113 ((-1)) ∈ lw_all := by
  have h := q1787
  exact h
theorem kl_X6_370 : Cond.constantLong RX6 370 (lN 16) ∈ lw_all := by
  have h := q2157
  exact h
theorem kl_X6_435 : Cond.constantLong RX6 435 (lN 6) ∈ lw_all := by
  have h := q2272
  exact h
theorem ks_2016 : (Int16.ofInt (2016)).toInt32 = nI 2016 := by decide +kernel
theorem kn_2016 : (nI 2016).toNatClampNeg = 2016 := nI_clamp (by decide)
theorem ks_2142 : (Int16.ofInt (2142)).toInt32 = nI 2142 := by decide +kernel
theorem kb_22 : (Int8.ofInt (22)).toInt32 = nI 22 := by decide +kernel
theorem kb_15 : (Int8.ofInt (15)).toInt32 = nI 15 := by decide +kernel
theorem kb_30 : (Int8.ofInt (30)).toInt32 = nI 30 := by decide +kernel
theorem ks_494 : (Int16.ofInt (494)).toInt32 = nI 494 := by decide +kernel
theorem gf_X6_7 {Γ : tX} {cc : ByteArray} {f L : Nat} {N0 : Nat → Nat} {uc us pc : Nat} {lv : List (Nat × Value)} {st : List Value} {S : tS} (C : TC Γ cc RX6 f L) (h0 : N0 0 ≠ 0) (hd : decode cc pc = .ok (.getfield 7, 3)) (kk : TJ Γ N0 uc us (pc + 3) lv (.ref (xad Γ 48) :: st) S) : TJ Γ N0 uc us pc lv (.ref (xad Γ 0) :: st) S := tj_get C (Cn := RX6) (T := TX6) (N := 42) 0 0 0 7 rfl (by decide) rfl in_X6 (by decide) (by decide) q1621 rfl h0 rfl hd kk
theorem gf_X6_161 {Γ : tX} {cc : ByteArray} {f L : Nat} {N0 : Nat → Nat} {uc us pc : Nat} {lv : List (Nat × Value)} {st : List Value} {S : tS} (C : TC Γ cc RX6 f L) (h0 : N0 0 ≠ 0) (hd : decode cc pc = .ok (.getfield 161, 3)) (kk : TJ Γ N0 uc us (pc + 3) lv (.int (gI S 0 18) :: st) S) : TJ Γ N0 uc us pc lv (.ref (xad Γ 0) :: st) S := tj_get C (Cn := RX6) (T := TX6) (N := 42) 0 0 18 161 rfl (by decide) rfl in_X6 (by decide) (by decide) q1639 rfl h0 rfl hd kk
theorem gf_X6_136 {Γ : tX} {cc : ByteArray} {f L : Nat} {N0 : Nat → Nat} {uc us pc : Nat} {lv : List (Nat × Value)} {st : List Value} {S : tS} (C : TC Γ cc RX6 f L) (h0 : N0 0 ≠ 0) (hd : decode cc pc = .ok (.getfield 136, 3)) (kk : TJ Γ N0 uc us (pc + 3) lv (.int (gI S 0 12) :: st) S) : TJ Γ N0 uc us pc lv (.ref (xad Γ 0) :: st) S := tj_get C (Cn := RX6) (T := TX6) (N := 42) 0 0 12 136 rfl (by decide) rfl in_X6 (by decide) (by decide) q1633 rfl h0 rfl hd kk
theorem pf_X6_161 {Γ : tX} {cc : ByteArray} {f L : Nat} {N0 : Nat → Nat} {uc us pc : Nat} {lv : List (Nat × Value)} {st : List Value} {S : tS} (C : TC Γ cc RX6 f L) {x : Int32} (h0 : N0 0 ≠ 0) (hd : decode cc pc = .ok (.putfield 161, 3)) (kk : TJ Γ N0 uc us (pc + 3) lv st (sI S 0 18 x)) : TJ Γ N0 uc us pc lv (.int x :: .ref (xad Γ 0) :: st) S := tj_put C (Cn := RX6) (T := TX6) (N := 42) 0 0 18 161 rfl (by decide) rfl in_X6 tyX6 tyX6_ok nmX6 (by decide) (by decide) q1639 rfl rfl h0 rfl rfl (tPut_I rfl) hd kk
theorem gf_X6_130 {Γ : tX} {cc : ByteArray} {f L : Nat} {N0 : Nat → Nat} {uc us pc : Nat} {lv : List (Nat × Value)} {st : List Value} {S : tS} (C : TC Γ cc RX6 f L) (h0 : N0 0 ≠ 0) (hd : decode cc pc = .ok (.getfield 130, 3)) (kk : TJ Γ N0 uc us (pc + 3) lv (.int (gI S 0 13) :: st) S) : TJ Γ N0 uc us pc lv (.ref (xad Γ 0) :: st) S := tj_get C (Cn := RX6) (T := TX6) (N := 42) 0 0 13 130 rfl (by decide) rfl in_X6 (by decide) (by decide) q1634 rfl h0 rfl hd kk
theorem pf_X6_41 {Γ : tX} {cc : ByteArray} {f L : Nat} {N0 : Nat → Nat} {uc us pc : Nat} {lv : List (Nat × Value)} {st : List Value} {S : tS} (C : TC Γ cc RX6 f L) {x : Int32} (h0 : N0 0 ≠ 0) (hd : decode cc pc = .ok (.putfield 41, 3)) (kk : TJ Γ N0 uc us (pc + 3) lv st (sI S 0 17 x)) : TJ Γ N0 uc us pc lv (.int x :: .ref (xad Γ 0) :: st) S := tj_put C (Cn := RX6) (T := TX6) (N := 42) 0 0 17 41 rfl (by decide) rfl in_X6 tyX6 tyX6_ok nmX6 (by decide) (by decide) q1638 rfl rfl h0 rfl rfl (tPut_I rfl) hd kk
theorem gf_X6_121 {Γ : tX} {cc : ByteArray} {f L : Nat} {N0 : Nat → Nat} {uc us pc : Nat} {lv : List (Nat × Value)} {st : List Value} {S : tS} (C : TC Γ cc RX6 f L) (h0 : N0 0 ≠ 0) (hd : decode cc pc = .ok (.getfield 121, 3)) (kk : TJ Γ N0 uc us (pc + 3) lv (.int (gI S 0 11) :: st) S) : TJ Γ N0 uc us pc lv (.ref (xad Γ 0) :: st) S := tj_get C (Cn := RX6) (T := TX6) (N := 42) 0 0 11 121 rfl (by decide) rfl in_X6 (by decide) (by decide) q1632 rfl h0 rfl hd kk
theorem gf_X6_34 {Γ : tX} {cc : ByteArray} {f L : Nat} {N0 : Nat → Nat} {uc us pc : Nat} {lv : List (Nat × Value)} {st : List Value} {S : tS} (C : TC Γ cc RX6 f L) (h0 : N0 0 ≠ 0) (hd : decode cc pc = .ok (.getfield 34, 3)) (kk : TJ Γ N0 uc us (pc + 3) lv (.ref (xad Γ 242) :: st) S) : TJ Γ N0 uc us pc lv (.ref (xad Γ 0) :: st) S := tj_get C (Cn := RX6) (T := TX6) (N := 42) 0 0 9 34 rfl (by decide) rfl in_X6 (by decide) (by decide) q1630 rfl h0 rfl hd kk
theorem gf_X6_124 {Γ : tX} {cc : ByteArray} {f L : Nat} {N0 : Nat → Nat} {uc us pc : Nat} {lv : List (Nat × Value)} {st : List Value} {S : tS} (C : TC Γ cc RX6 f L) (h0 : N0 0 ≠ 0) (hd : decode cc pc = .ok (.getfield 124, 3)) (kk : TJ Γ N0 uc us (pc + 3) lv (.int (gI S 0 14) :: st) S) : TJ Γ N0 uc us pc lv (.ref (xad Γ 0) :: st) S := tj_get C (Cn := RX6) (T := TX6) (N := 42) 0 0 14 124 rfl (by decide) rfl in_X6 (by decide) (by decide) q1635 rfl h0 rfl hd kk
theorem pf_X6_130 {Γ : tX} {cc : ByteArray} {f L : Nat} {N0 : Nat → Nat} {uc us pc : Nat} {lv : List (Nat × Value)} {st : List Value} {S : tS} (C : TC Γ cc RX6 f L) {x : Int32} (h0 : N0 0 ≠ 0) (hd : decode cc pc = .ok (.putfield 130, 3)) (kk : TJ Γ N0 uc us (pc + 3) lv st (sI S 0 13 x)) : TJ Γ N0 uc us pc lv (.int x :: .ref (xad Γ 0) :: st) S := tj_put C (Cn := RX6) (T := TX6) (N := 42) 0 0 13 130 rfl (by decide) rfl in_X6 tyX6 tyX6_ok nmX6 (by decide) (by decide) q1634 rfl rfl h0 rfl rfl (tPut_I rfl) hd kk
theorem pf_X6_133 {Γ : tX} {cc : ByteArray} {f L : Nat} {N0 : Nat → Nat} {uc us pc : Nat} {lv : List (Nat × Value)} {st : List Value} {S : tS} (C : TC Γ cc RX6 f L) {x : Int32} (h0 : N0 0 ≠ 0) (hd : decode cc pc = .ok (.putfield 133, 3)) (kk : TJ Γ N0 uc us (pc + 3) lv st (sI S 0 15 x)) : TJ Γ N0 uc us pc lv (.int x :: .ref (xad Γ 0) :: st) S := tj_put C (Cn := RX6) (T := TX6) (N := 42) 0 0 15 133 rfl (by decide) rfl in_X6 tyX6 tyX6_ok nmX6 (by decide) (by decide) q1636 rfl rfl h0 rfl rfl (tPut_I rfl) hd kk
theorem pf_X6_124 {Γ : tX} {cc : ByteArray} {f L : Nat} {N0 : Nat → Nat} {uc us pc : Nat} {lv : List (Nat × Value)} {st : List Value} {S : tS} (C : TC Γ cc RX6 f L) {x : Int32} (h0 : N0 0 ≠ 0) (hd : decode cc pc = .ok (.putfield 124, 3)) (kk : TJ Γ N0 uc us (pc + 3) lv st (sI S 0 14 x)) : TJ Γ N0 uc us pc lv (.int x :: .ref (xad Γ 0) :: st) S := tj_put C (Cn := RX6) (T := TX6) (N := 42) 0 0 14 124 rfl (by decide) rfl in_X6 tyX6 tyX6_ok nmX6 (by decide) (by decide) q1635 rfl rfl h0 rfl rfl (tPut_I rfl) hd kk
theorem pf_X6_136 {Γ : tX} {cc : ByteArray} {f L : Nat} {N0 : Nat → Nat} {uc us pc : Nat} {lv : List (Nat × Value)} {st : List Value} {S : tS} (C : TC Γ cc RX6 f L) {x : Int32} (h0 : N0 0 ≠ 0) (hd : decode cc pc = .ok (.putfield 136, 3)) (kk : TJ Γ N0 uc us (pc + 3) lv st (sI S 0 12 x)) : TJ Γ N0 uc us pc lv (.int x :: .ref (xad Γ 0) :: st) S := tj_put C (Cn := RX6) (T := TX6) (N := 42) 0 0 12 136 rfl (by decide) rfl in_X6 tyX6 tyX6_ok nmX6 (by decide) (by decide) q1633 rfl rfl h0 rfl rfl (tPut_I rfl) hd kk
theorem gf_X6_133 {Γ : tX} {cc : ByteArray} {f L : Nat} {N0 : Nat → Nat} {uc us pc : Nat} {lv : List (Nat × Value)} {st : List Value} {S : tS} (C : TC Γ cc RX6 f L) (h0 : N0 0 ≠ 0) (hd : decode cc pc = .ok (.getfield 133, 3)) (kk : TJ Γ N0 uc us (pc + 3) lv (.int (gI S 0 15) :: st) S) : TJ Γ N0 uc us pc lv (.ref (xad Γ 0) :: st) S := tj_get C (Cn := RX6) (T := TX6) (N := 42) 0 0 15 133 rfl (by decide) rfl in_X6 (by decide) (by decide) q1636 rfl h0 rfl hd kk
theorem gf_X6_13 {Γ : tX} {cc : ByteArray} {f L : Nat} {N0 : Nat → Nat} {uc us pc : Nat} {lv : List (Nat × Value)} {st : List Value} {S : tS} (C : TC Γ cc RX6 f L) (h0 : N0 0 ≠ 0) (hd : decode cc pc = .ok (.getfield 13, 3)) (kk : TJ Γ N0 uc us (pc + 3) lv (.ref (xad Γ 81) :: st) S) : TJ Γ N0 uc us pc lv (.ref (xad Γ 0) :: st) S := tj_get C (Cn := RX6) (T := TX6) (N := 42) 0 0 1 13 rfl (by decide) rfl in_X6 (by decide) (by decide) q1622 rfl h0 rfl hd kk
theorem pf_X6_85 {Γ : tX} {cc : ByteArray} {f L : Nat} {N0 : Nat → Nat} {uc us pc : Nat} {lv : List (Nat × Value)} {st : List Value} {S : tS} (C : TC Γ cc RX6 f L) {x : Int32} (h0 : N0 0 ≠ 0) (hd : decode cc pc = .ok (.putfield 85, 3)) (kk : TJ Γ N0 uc us (pc + 3) lv st (sI S 0 2 x)) : TJ Γ N0 uc us pc lv (.int x :: .ref (xad Γ 0) :: st) S := tj_put C (Cn := RX6) (T := TX6) (N := 42) 0 0 2 85 rfl (by decide) rfl in_X6 tyX6 tyX6_ok nmX6 (by decide) (by decide) q1623 rfl rfl h0 rfl rfl (tPut_I rfl) hd kk
theorem gf_X6_24 {Γ : tX} {cc : ByteArray} {f L : Nat} {N0 : Nat → Nat} {uc us pc : Nat} {lv : List (Nat × Value)} {st : List Value} {S : tS} (C : TC Γ cc RX6 f L) (h0 : N0 0 ≠ 0) (hd : decode cc pc = .ok (.getfield 24, 3)) (kk : TJ Γ N0 uc us (pc + 3) lv (.ref (xad Γ 144) :: st) S) : TJ Γ N0 uc us pc lv (.ref (xad Γ 0) :: st) S := tj_get C (Cn := RX6) (T := TX6) (N := 42) 0 0 6 24 rfl (by decide) rfl in_X6 (by decide) (by decide) q1627 rfl h0 rfl hd kk
theorem gf_X6_27 {Γ : tX} {cc : ByteArray} {f L : Nat} {N0 : Nat → Nat} {uc us pc : Nat} {lv : List (Nat × Value)} {st : List Value} {S : tS} (C : TC Γ cc RX6 f L) (h0 : N0 0 ≠ 0) (hd : decode cc pc = .ok (.getfield 27, 3)) (kk : TJ Γ N0 uc us (pc + 3) lv (.ref (xad Γ 177) :: st) S) : TJ Γ N0 uc us pc lv (.ref (xad Γ 0) :: st) S := tj_get C (Cn := RX6) (T := TX6) (N := 42) 0 0 7 27 rfl (by decide) rfl in_X6 (by decide) (by decide) q1628 rfl h0 rfl hd kk
theorem pf_X6_389 {Γ : tX} {cc : ByteArray} {f L : Nat} {N0 : Nat → Nat} {uc us pc : Nat} {lv : List (Nat × Value)} {st : List Value} {S : tS} (C : TC Γ cc RX6 f L) {x : Int32} (h0 : N0 0 ≠ 0) (hd : decode cc pc = .ok (.putfield 389, 3)) (kk : TJ Γ N0 uc us (pc + 3) lv st (sI S 0 24 x)) : TJ Γ N0 uc us pc lv (.int x :: .ref (xad Γ 0) :: st) S := tj_put C (Cn := RX6) (T := TX6) (N := 42) 0 0 24 389 rfl (by decide) rfl in_X6 tyX6 tyX6_ok nmX6 (by decide) (by decide) q1645 rfl rfl h0 rfl rfl (tPut_I rfl) hd kk
theorem gf_X6_47 {Γ : tX} {cc : ByteArray} {f L : Nat} {N0 : Nat → Nat} {uc us pc : Nat} {lv : List (Nat × Value)} {st : List Value} {S : tS} (C : TC Γ cc RX6 f L) (h0 : N0 0 ≠ 0) (hd : decode cc pc = .ok (.getfield 47, 3)) (kk : TJ Γ N0 uc us (pc + 3) lv (.ref (xad Γ 308) :: st) S) : TJ Γ N0 uc us pc lv (.ref (xad Γ 0) :: st) S := tj_get C (Cn := RX6) (T := TX6) (N := 42) 0 0 23 47 rfl (by decide) rfl in_X6 (by decide) (by decide) q1644 rfl h0 rfl hd kk
theorem gf_X6_389 {Γ : tX} {cc : ByteArray} {f L : Nat} {N0 : Nat → Nat} {uc us pc : Nat} {lv : List (Nat × Value)} {st : List Value} {S : tS} (C : TC Γ cc RX6 f L) (h0 : N0 0 ≠ 0) (hd : decode cc pc = .ok (.getfield 389, 3)) (kk : TJ Γ N0 uc us (pc + 3) lv (.int (gI S 0 24) :: st) S) : TJ Γ N0 uc us pc lv (.ref (xad Γ 0) :: st) S := tj_get C (Cn := RX6) (T := TX6) (N := 42) 0 0 24 389 rfl (by decide) rfl in_X6 (by decide) (by decide) q1645 rfl h0 rfl hd kk
theorem gf_X6_51 {Γ : tX} {cc : ByteArray} {f L : Nat} {N0 : Nat → Nat} {uc us pc : Nat} {lv : List (Nat × Value)} {st : List Value} {S : tS} (C : TC Γ cc RX6 f L) (h0 : N0 0 ≠ 0) (hd : decode cc pc = .ok (.getfield 51, 3)) (kk : TJ Γ N0 uc us (pc + 3) lv (.ref (xad Γ 336) :: st) S) : TJ Γ N0 uc us pc lv (.ref (xad Γ 0) :: st) S := tj_get C (Cn := RX6) (T := TX6) (N := 42) 0 0 25 51 rfl (by decide) rfl in_X6 (by decide) (by decide) q1646 rfl h0 rfl hd kk
theorem gf_X6_115 {Γ : tX} {cc : ByteArray} {f L : Nat} {N0 : Nat → Nat} {uc us pc : Nat} {lv : List (Nat × Value)} {st : List Value} {S : tS} (C : TC Γ cc RX6 f L) (h0 : N0 0 ≠ 0) (hd : decode cc pc = .ok (.getfield 115, 3)) (kk : TJ Γ N0 uc us (pc + 3) lv (.int (gI S 0 10) :: st) S) : TJ Γ N0 uc us pc lv (.ref (xad Γ 0) :: st) S := tj_get C (Cn := RX6) (T := TX6) (N := 42) 0 0 10 115 rfl (by decide) rfl in_X6 (by decide) (by decide) q1631 rfl h0 rfl hd kk
theorem pf_X6_121 {Γ : tX} {cc : ByteArray} {f L : Nat} {N0 : Nat → Nat} {uc us pc : Nat} {lv : List (Nat × Value)} {st : List Value} {S : tS} (C : TC Γ cc RX6 f L) {x : Int32} (h0 : N0 0 ≠ 0) (hd : decode cc pc = .ok (.putfield 121, 3)) (kk : TJ Γ N0 uc us (pc + 3) lv st (sI S 0 11 x)) : TJ Γ N0 uc us pc lv (.int x :: .ref (xad Γ 0) :: st) S := tj_put C (Cn := RX6) (T := TX6) (N := 42) 0 0 11 121 rfl (by decide) rfl in_X6 tyX6 tyX6_ok nmX6 (by decide) (by decide) q1632 rfl rfl h0 rfl rfl (tPut_I rfl) hd kk
theorem pf_X6_115 {Γ : tX} {cc : ByteArray} {f L : Nat} {N0 : Nat → Nat} {uc us pc : Nat} {lv : List (Nat × Value)} {st : List Value} {S : tS} (C : TC Γ cc RX6 f L) {x : Int32} (h0 : N0 0 ≠ 0) (hd : decode cc pc = .ok (.putfield 115, 3)) (kk : TJ Γ N0 uc us (pc + 3) lv st (sI S 0 10 x)) : TJ Γ N0 uc us pc lv (.int x :: .ref (xad Γ 0) :: st) S := tj_put C (Cn := RX6) (T := TX6) (N := 42) 0 0 10 115 rfl (by decide) rfl in_X6 tyX6 tyX6_ok nmX6 (by decide) (by decide) q1631 rfl rfl h0 rfl rfl (tPut_I rfl) hd kk
theorem pf_X6_164 {Γ : tX} {cc : ByteArray} {f L : Nat} {N0 : Nat → Nat} {uc us pc : Nat} {lv : List (Nat × Value)} {st : List Value} {S : tS} (C : TC Γ cc RX6 f L) {x : Int32} (h0 : N0 0 ≠ 0) (hd : decode cc pc = .ok (.putfield 164, 3)) (kk : TJ Γ N0 uc us (pc + 3) lv st (sI S 0 19 x)) : TJ Γ N0 uc us pc lv (.int x :: .ref (xad Γ 0) :: st) S := tj_put C (Cn := RX6) (T := TX6) (N := 42) 0 0 19 164 rfl (by decide) rfl in_X6 tyX6 tyX6_ok nmX6 (by decide) (by decide) q1640 rfl rfl h0 rfl rfl (tPut_I rfl) hd kk
theorem gf_X6_30 {Γ : tX} {cc : ByteArray} {f L : Nat} {N0 : Nat → Nat} {uc us pc : Nat} {lv : List (Nat × Value)} {st : List Value} {S : tS} (C : TC Γ cc RX6 f L) (h0 : N0 0 ≠ 0) (hd : decode cc pc = .ok (.getfield 30, 3)) (kk : TJ Γ N0 uc us (pc + 3) lv (.ref (xad Γ 210) :: st) S) : TJ Γ N0 uc us pc lv (.ref (xad Γ 0) :: st) S := tj_get C (Cn := RX6) (T := TX6) (N := 42) 0 0 8 30 rfl (by decide) rfl in_X6 (by decide) (by decide) q1629 rfl h0 rfl hd kk
theorem gf_X6_72 {Γ : tX} {cc : ByteArray} {f L : Nat} {N0 : Nat → Nat} {uc us pc : Nat} {lv : List (Nat × Value)} {st : List Value} {S : tS} (C : TC Γ cc RX6 f L) (h0 : N0 0 ≠ 0) (hd : decode cc pc = .ok (.getfield 72, 3)) (kk : TJ Γ N0 uc us (pc + 3) lv (.ref (xad Γ 560) :: st) S) : TJ Γ N0 uc us pc lv (.ref (xad Γ 0) :: st) S := tj_get C (Cn := RX6) (T := TX6) (N := 42) 0 0 37 72 rfl (by decide) rfl in_X6 (by decide) (by decide) q1658 rfl h0 rfl hd kk
theorem gf_X6_60 {Γ : tX} {cc : ByteArray} {f L : Nat} {N0 : Nat → Nat} {uc us pc : Nat} {lv : List (Nat × Value)} {st : List Value} {S : tS} (C : TC Γ cc RX6 f L) (h0 : N0 0 ≠ 0) (hd : decode cc pc = .ok (.getfield 60, 3)) (kk : TJ Γ N0 uc us (pc + 3) lv (.ref (xad Γ 432) :: st) S) : TJ Γ N0 uc us pc lv (.ref (xad Γ 0) :: st) S := tj_get C (Cn := RX6) (T := TX6) (N := 42) 0 0 31 60 rfl (by decide) rfl in_X6 (by decide) (by decide) q1652 rfl h0 rfl hd kk
theorem gf_X6_17 {Γ : tX} {cc : ByteArray} {f L : Nat} {N0 : Nat → Nat} {uc us pc : Nat} {lv : List (Nat × Value)} {st : List Value} {S : tS} (C : TC Γ cc RX6 f L) (h0 : N0 0 ≠ 0) (hd : decode cc pc = .ok (.getfield 17, 3)) (kk : TJ Γ N0 uc us (pc + 3) lv (.long (gL S 0 4) :: st) S) : TJ Γ N0 uc us pc lv (.ref (xad Γ 0) :: st) S := tj_get C (Cn := RX6) (T := TX6) (N := 42) 0 0 4 17 rfl (by decide) rfl in_X6 (by decide) (by decide) q1625 rfl h0 rfl hd kk
theorem gf_X6_21 {Γ : tX} {cc : ByteArray} {f L : Nat} {N0 : Nat → Nat} {uc us pc : Nat} {lv : List (Nat × Value)} {st : List Value} {S : tS} (C : TC Γ cc RX6 f L) (h0 : N0 0 ≠ 0) (hd : decode cc pc = .ok (.getfield 21, 3)) (kk : TJ Γ N0 uc us (pc + 3) lv (.ref (xad Γ 112) :: st) S) : TJ Γ N0 uc us pc lv (.ref (xad Γ 0) :: st) S := tj_get C (Cn := RX6) (T := TX6) (N := 42) 0 0 5 21 rfl (by decide) rfl in_X6 (by decide) (by decide) q1626 rfl h0 rfl hd kk
theorem pf_X6_37 {Γ : tX} {cc : ByteArray} {f L : Nat} {N0 : Nat → Nat} {uc us pc : Nat} {lv : List (Nat × Value)} {st : List Value} {S : tS} (C : TC Γ cc RX6 f L) {x : Int32} (h0 : N0 0 ≠ 0) (hd : decode cc pc = .ok (.putfield 37, 3)) (kk : TJ Γ N0 uc us (pc + 3) lv st (sI S 0 16 x)) : TJ Γ N0 uc us pc lv (.int x :: .ref (xad Γ 0) :: st) S := tj_put C (Cn := RX6) (T := TX6) (N := 42) 0 0 16 37 rfl (by decide) rfl in_X6 tyX6 tyX6_ok nmX6 (by decide) (by decide) q1637 rfl rfl h0 rfl rfl (tPut_I rfl) hd kk
theorem gf_X6_75 {Γ : tX} {cc : ByteArray} {f L : Nat} {N0 : Nat → Nat} {uc us pc : Nat} {lv : List (Nat × Value)} {st : List Value} {S : tS} (C : TC Γ cc RX6 f L) (h0 : N0 0 ≠ 0) (hd : decode cc pc = .ok (.getfield 75, 3)) (kk : TJ Γ N0 uc us (pc + 3) lv (.ref (xad Γ 592) :: st) S) : TJ Γ N0 uc us pc lv (.ref (xad Γ 0) :: st) S := tj_get C (Cn := RX6) (T := TX6) (N := 42) 0 0 38 75 rfl (by decide) rfl in_X6 (by decide) (by decide) q1659 rfl h0 rfl hd kk
theorem gf_X6_478 {Γ : tX} {cc : ByteArray} {f L : Nat} {N0 : Nat → Nat} {uc us pc : Nat} {lv : List (Nat × Value)} {st : List Value} {S : tS} (C : TC Γ cc RX6 f L) (h0 : N0 0 ≠ 0) (hd : decode cc pc = .ok (.getfield 478, 3)) (kk : TJ Γ N0 uc us (pc + 3) lv (.int (gI S 0 35) :: st) S) : TJ Γ N0 uc us pc lv (.ref (xad Γ 0) :: st) S := tj_get C (Cn := RX6) (T := TX6) (N := 42) 0 0 35 478 rfl (by decide) rfl in_X6 (by decide) (by decide) q1656 rfl h0 rfl hd kk
theorem pf_X6_478 {Γ : tX} {cc : ByteArray} {f L : Nat} {N0 : Nat → Nat} {uc us pc : Nat} {lv : List (Nat × Value)} {st : List Value} {S : tS} (C : TC Γ cc RX6 f L) {x : Int32} (h0 : N0 0 ≠ 0) (hd : decode cc pc = .ok (.putfield 478, 3)) (kk : TJ Γ N0 uc us (pc + 3) lv st (sI S 0 35 x)) : TJ Γ N0 uc us pc lv (.int x :: .ref (xad Γ 0) :: st) S := tj_put C (Cn := RX6) (T := TX6) (N := 42) 0 0 35 478 rfl (by decide) rfl in_X6 tyX6 tyX6_ok nmX6 (by decide) (by decide) q1656 rfl rfl h0 rfl rfl (tPut_I rfl) hd kk
theorem gf_X6_41 {Γ : tX} {cc : ByteArray} {f L : Nat} {N0 : Nat → Nat} {uc us pc : Nat} {lv : List (Nat × Value)} {st : List Value} {S : tS} (C : TC Γ cc RX6 f L) (h0 : N0 0 ≠ 0) (hd : decode cc pc = .ok (.getfield 41, 3)) (kk : TJ Γ N0 uc us (pc + 3) lv (.int (gI S 0 17) :: st) S) : TJ Γ N0 uc us pc lv (.ref (xad Γ 0) :: st) S := tj_get C (Cn := RX6) (T := TX6) (N := 42) 0 0 17 41 rfl (by decide) rfl in_X6 (by decide) (by decide) q1638 rfl h0 rfl hd kk
theorem gf_X6_37 {Γ : tX} {cc : ByteArray} {f L : Nat} {N0 : Nat → Nat} {uc us pc : Nat} {lv : List (Nat × Value)} {st : List Value} {S : tS} (C : TC Γ cc RX6 f L) (h0 : N0 0 ≠ 0) (hd : decode cc pc = .ok (.getfield 37, 3)) (kk : TJ Γ N0 uc us (pc + 3) lv (.int (gI S 0 16) :: st) S) : TJ Γ N0 uc us pc lv (.ref (xad Γ 0) :: st) S := tj_get C (Cn := RX6) (T := TX6) (N := 42) 0 0 16 37 rfl (by decide) rfl in_X6 (by decide) (by decide) q1637 rfl h0 rfl hd kk
theorem gf_X6_69 {Γ : tX} {cc : ByteArray} {f L : Nat} {N0 : Nat → Nat} {uc us pc : Nat} {lv : List (Nat × Value)} {st : List Value} {S : tS} (C : TC Γ cc RX6 f L) (h0 : N0 0 ≠ 0) (hd : decode cc pc = .ok (.getfield 69, 3)) (kk : TJ Γ N0 uc us (pc + 3) lv (.ref (xad Γ 528) :: st) S) : TJ Γ N0 uc us pc lv (.ref (xad Γ 0) :: st) S := tj_get C (Cn := RX6) (T := TX6) (N := 42) 0 0 34 69 rfl (by decide) rfl in_X6 (by decide) (by decide) q1655 rfl h0 rfl hd kk
theorem gf_X6_66 {Γ : tX} {cc : ByteArray} {f L : Nat} {N0 : Nat → Nat} {uc us pc : Nat} {lv : List (Nat × Value)} {st : List Value} {S : tS} (C : TC Γ cc RX6 f L) (h0 : N0 0 ≠ 0) (hd : decode cc pc = .ok (.getfield 66, 3)) (kk : TJ Γ N0 uc us (pc + 3) lv (.ref (xad Γ 496) :: st) S) : TJ Γ N0 uc us pc lv (.ref (xad Γ 0) :: st) S := tj_get C (Cn := RX6) (T := TX6) (N := 42) 0 0 33 66 rfl (by decide) rfl in_X6 (by decide) (by decide) q1654 rfl h0 rfl hd kk
theorem gf_X6_63 {Γ : tX} {cc : ByteArray} {f L : Nat} {N0 : Nat → Nat} {uc us pc : Nat} {lv : List (Nat × Value)} {st : List Value} {S : tS} (C : TC Γ cc RX6 f L) (h0 : N0 0 ≠ 0) (hd : decode cc pc = .ok (.getfield 63, 3)) (kk : TJ Γ N0 uc us (pc + 3) lv (.ref (xad Γ 464) :: st) S) : TJ Γ N0 uc us pc lv (.ref (xad Γ 0) :: st) S := tj_get C (Cn := RX6) (T := TX6) (N := 42) 0 0 32 63 rfl (by decide) rfl in_X6 (by decide) (by decide) q1653 rfl h0 rfl hd kk
theorem gf_X6_54 {Γ : tX} {cc : ByteArray} {f L : Nat} {N0 : Nat → Nat} {uc us pc : Nat} {lv : List (Nat × Value)} {st : List Value} {S : tS} (C : TC Γ cc RX6 f L) (h0 : N0 0 ≠ 0) (hd : decode cc pc = .ok (.getfield 54, 3)) (kk : TJ Γ N0 uc us (pc + 3) lv (.ref (xad Γ 368) :: st) S) : TJ Γ N0 uc us pc lv (.ref (xad Γ 0) :: st) S := tj_get C (Cn := RX6) (T := TX6) (N := 42) 0 0 29 54 rfl (by decide) rfl in_X6 (by decide) (by decide) q1650 rfl h0 rfl hd kk
theorem gf_X6_57 {Γ : tX} {cc : ByteArray} {f L : Nat} {N0 : Nat → Nat} {uc us pc : Nat} {lv : List (Nat × Value)} {st : List Value} {S : tS} (C : TC Γ cc RX6 f L) (h0 : N0 0 ≠ 0) (hd : decode cc pc = .ok (.getfield 57, 3)) (kk : TJ Γ N0 uc us (pc + 3) lv (.ref (xad Γ 400) :: st) S) : TJ Γ N0 uc us pc lv (.ref (xad Γ 0) :: st) S := tj_get C (Cn := RX6) (T := TX6) (N := 42) 0 0 30 57 rfl (by decide) rfl in_X6 (by decide) (by decide) q1651 rfl h0 rfl hd kk
theorem pf_X6_416 {Γ : tX} {cc : ByteArray} {f L : Nat} {N0 : Nat → Nat} {uc us pc : Nat} {lv : List (Nat × Value)} {st : List Value} {S : tS} (C : TC Γ cc RX6 f L) {x : Int32} (h0 : N0 0 ≠ 0) (hd : decode cc pc = .ok (.putfield 416, 3)) (kk : TJ Γ N0 uc us (pc + 3) lv st (sI S 0 26 x)) : TJ Γ N0 uc us pc lv (.int x :: .ref (xad Γ 0) :: st) S := tj_put C (Cn := RX6) (T := TX6) (N := 42) 0 0 26 416 rfl (by decide) rfl in_X6 tyX6 tyX6_ok nmX6 (by decide) (by decide) q1647 rfl rfl h0 rfl rfl (tPut_I rfl) hd kk
theorem gf_X6_416 {Γ : tX} {cc : ByteArray} {f L : Nat} {N0 : Nat → Nat} {uc us pc : Nat} {lv : List (Nat × Value)} {st : List Value} {S : tS} (C : TC Γ cc RX6 f L) (h0 : N0 0 ≠ 0) (hd : decode cc pc = .ok (.getfield 416, 3)) (kk : TJ Γ N0 uc us (pc + 3) lv (.int (gI S 0 26) :: st) S) : TJ Γ N0 uc us pc lv (.ref (xad Γ 0) :: st) S := tj_get C (Cn := RX6) (T := TX6) (N := 42) 0 0 26 416 rfl (by decide) rfl in_X6 (by decide) (by decide) q1647 rfl h0 rfl hd kk
theorem pf_X6_419 {Γ : tX} {cc : ByteArray} {f L : Nat} {N0 : Nat → Nat} {uc us pc : Nat} {lv : List (Nat × Value)} {st : List Value} {S : tS} (C : TC Γ cc RX6 f L) {x : Int32} (h0 : N0 0 ≠ 0) (hd : decode cc pc = .ok (.putfield 419, 3)) (kk : TJ Γ N0 uc us (pc + 3) lv st (sI S 0 27 x)) : TJ Γ N0 uc us pc lv (.int x :: .ref (xad Γ 0) :: st) S := tj_put C (Cn := RX6) (T := TX6) (N := 42) 0 0 27 419 rfl (by decide) rfl in_X6 tyX6 tyX6_ok nmX6 (by decide) (by decide) q1648 rfl rfl h0 rfl rfl (tPut_I rfl) hd kk
theorem pf_X6_422 {Γ : tX} {cc : ByteArray} {f L : Nat} {N0 : Nat → Nat} {uc us pc : Nat} {lv : List (Nat × Value)} {st : List Value} {S : tS} (C : TC Γ cc RX6 f L) {x : Int32} (h0 : N0 0 ≠ 0) (hd : decode cc pc = .ok (.putfield 422, 3)) (kk : TJ Γ N0 uc us (pc + 3) lv st (sI S 0 28 x)) : TJ Γ N0 uc us pc lv (.int x :: .ref (xad Γ 0) :: st) S := tj_put C (Cn := RX6) (T := TX6) (N := 42) 0 0 28 422 rfl (by decide) rfl in_X6 tyX6 tyX6_ok nmX6 (by decide) (by decide) q1649 rfl rfl h0 rfl rfl (tPut_I rfl) hd kk
theorem gf_X6_422 {Γ : tX} {cc : ByteArray} {f L : Nat} {N0 : Nat → Nat} {uc us pc : Nat} {lv : List (Nat × Value)} {st : List Value} {S : tS} (C : TC Γ cc RX6 f L) (h0 : N0 0 ≠ 0) (hd : decode cc pc = .ok (.getfield 422, 3)) (kk : TJ Γ N0 uc us (pc + 3) lv (.int (gI S 0 28) :: st) S) : TJ Γ N0 uc us pc lv (.ref (xad Γ 0) :: st) S := tj_get C (Cn := RX6) (T := TX6) (N := 42) 0 0 28 422 rfl (by decide) rfl in_X6 (by decide) (by decide) q1649 rfl h0 rfl hd kk
theorem gf_X6_419 {Γ : tX} {cc : ByteArray} {f L : Nat} {N0 : Nat → Nat} {uc us pc : Nat} {lv : List (Nat × Value)} {st : List Value} {S : tS} (C : TC Γ cc RX6 f L) (h0 : N0 0 ≠ 0) (hd : decode cc pc = .ok (.getfield 419, 3)) (kk : TJ Γ N0 uc us (pc + 3) lv (.int (gI S 0 27) :: st) S) : TJ Γ N0 uc us pc lv (.ref (xad Γ 0) :: st) S := tj_get C (Cn := RX6) (T := TX6) (N := 42) 0 0 27 419 rfl (by decide) rfl in_X6 (by decide) (by decide) q1648 rfl h0 rfl hd kk
theorem pf_X6_494 {Γ : tX} {cc : ByteArray} {f L : Nat} {N0 : Nat → Nat} {uc us pc : Nat} {lv : List (Nat × Value)} {st : List Value} {S : tS} (C : TC Γ cc RX6 f L) {x : Int32} (h0 : N0 0 ≠ 0) (hd : decode cc pc = .ok (.putfield 494, 3)) (kk : TJ Γ N0 uc us (pc + 3) lv st (sI S 0 36 x)) : TJ Γ N0 uc us pc lv (.int x :: .ref (xad Γ 0) :: st) S := tj_put C (Cn := RX6) (T := TX6) (N := 42) 0 0 36 494 rfl (by decide) rfl in_X6 tyX6 tyX6_ok nmX6 (by decide) (by decide) q1657 rfl rfl h0 rfl rfl (tPut_I rfl) hd kk
theorem gf_X6_494 {Γ : tX} {cc : ByteArray} {f L : Nat} {N0 : Nat → Nat} {uc us pc : Nat} {lv : List (Nat × Value)} {st : List Value} {S : tS} (C : TC Γ cc RX6 f L) (h0 : N0 0 ≠ 0) (hd : decode cc pc = .ok (.getfield 494, 3)) (kk : TJ Γ N0 uc us (pc + 3) lv (.int (gI S 0 36) :: st) S) : TJ Γ N0 uc us pc lv (.ref (xad Γ 0) :: st) S := tj_get C (Cn := RX6) (T := TX6) (N := 42) 0 0 36 494 rfl (by decide) rfl in_X6 (by decide) (by decide) q1657 rfl h0 rfl hd kk
theorem pf_X6_511 {Γ : tX} {cc : ByteArray} {f L : Nat} {N0 : Nat → Nat} {uc us pc : Nat} {lv : List (Nat × Value)} {st : List Value} {S : tS} (C : TC Γ cc RX6 f L) {x : Int32} (hz : x = nI 0 ∨ x = nI 1) (h0 : N0 0 ≠ 0) (hd : decode cc pc = .ok (.putfield 511, 3)) (kk : TJ Γ N0 uc us (pc + 3) lv st (sI S 0 40 x)) : TJ Γ N0 uc us pc lv (.int x :: .ref (xad Γ 0) :: st) S := tj_put C (Cn := RX6) (T := TX6) (N := 42) 0 0 40 511 rfl (by decide) rfl in_X6 tyX6 tyX6_ok nmX6 (by decide) (by decide) q1661 rfl rfl h0 (by rcases hz with h | h <;> subst h <;> decide +kernel) (by rcases hz with h | h <;> subst h <;> decide +kernel) (tPut_I rfl) hd kk
theorem gf_X6_78 {Γ : tX} {cc : ByteArray} {f L : Nat} {N0 : Nat → Nat} {uc us pc : Nat} {lv : List (Nat × Value)} {st : List Value} {S : tS} (C : TC Γ cc RX6 f L) (h0 : N0 0 ≠ 0) (hd : decode cc pc = .ok (.getfield 78, 3)) (kk : TJ Γ N0 uc us (pc + 3) lv (.ref (xad Γ 624) :: st) S) : TJ Γ N0 uc us pc lv (.ref (xad Γ 0) :: st) S := tj_get C (Cn := RX6) (T := TX6) (N := 42) 0 0 39 78 rfl (by decide) rfl in_X6 (by decide) (by decide) q1660 rfl h0 rfl hd kk
theorem gf_X6_511 {Γ : tX} {cc : ByteArray} {f L : Nat} {N0 : Nat → Nat} {uc us pc : Nat} {lv : List (Nat × Value)} {st : List Value} {S : tS} (C : TC Γ cc RX6 f L) (h0 : N0 0 ≠ 0) (hd : decode cc pc = .ok (.getfield 511, 3)) (kk : TJ Γ N0 uc us (pc + 3) lv (.int (gI S 0 40) :: st) S) : TJ Γ N0 uc us pc lv (.ref (xad Γ 0) :: st) S := tj_get C (Cn := RX6) (T := TX6) (N := 42) 0 0 40 511 rfl (by decide) rfl in_X6 (by decide) (by decide) q1661 rfl h0 rfl hd kk
theorem gf_X6_515 {Γ : tX} {cc : ByteArray} {f L : Nat} {N0 : Nat → Nat} {uc us pc : Nat} {lv : List (Nat × Value)} {st : List Value} {S : tS} (C : TC Γ cc RX6 f L) (h0 : N0 0 ≠ 0) (hd : decode cc pc = .ok (.getfield 515, 3)) (kk : TJ Γ N0 uc us (pc + 3) lv (.int (gI S 0 41) :: st) S) : TJ Γ N0 uc us pc lv (.ref (xad Γ 0) :: st) S := tj_get C (Cn := RX6) (T := TX6) (N := 42) 0 0 41 515 rfl (by decide) rfl in_X6 (by decide) (by decide) q1662 rfl h0 rfl hd kk
theorem pf_X6_515 {Γ : tX} {cc : ByteArray} {f L : Nat} {N0 : Nat → Nat} {uc us pc : Nat} {lv : List (Nat × Value)} {st : List Value} {S : tS} (C : TC Γ cc RX6 f L) {x : Int32} (h0 : N0 0 ≠ 0) (hd : decode cc pc = .ok (.putfield 515, 3)) (kk : TJ Γ N0 uc us (pc + 3) lv st (sI S 0 41 x)) : TJ Γ N0 uc us pc lv (.int x :: .ref (xad Γ 0) :: st) S := tj_put C (Cn := RX6) (T := TX6) (N := 42) 0 0 41 515 rfl (by decide) rfl in_X6 tyX6 tyX6_ok nmX6 (by decide) (by decide) q1662 rfl rfl h0 rfl rfl (tPut_I rfl) hd kk
theorem pf_X6_88 {Γ : tX} {cc : ByteArray} {f L : Nat} {N0 : Nat → Nat} {uc us pc : Nat} {lv : List (Nat × Value)} {st : List Value} {S : tS} (C : TC Γ cc RX6 f L) {x : Int64} (h0 : N0 0 ≠ 0) (hd : decode cc pc = .ok (.putfield 88, 3)) (kk : TJ Γ N0 uc us (pc + 3) lv st (sL S 0 3 x)) : TJ Γ N0 uc us pc lv (.long x :: .ref (xad Γ 0) :: st) S := tj_put C (Cn := RX6) (T := TX6) (N := 42) 0 0 3 88 rfl (by decide) rfl in_X6 tyX6 tyX6_ok nmX6 (by decide) (by decide) q1624 rfl rfl h0 rfl rfl (tPut_L rfl) hd kk
theorem pf_X6_17 {Γ : tX} {cc : ByteArray} {f L : Nat} {N0 : Nat → Nat} {uc us pc : Nat} {lv : List (Nat × Value)} {st : List Value} {S : tS} (C : TC Γ cc RX6 f L) {x : Int64} (h0 : N0 0 ≠ 0) (hd : decode cc pc = .ok (.putfield 17, 3)) (kk : TJ Γ N0 uc us (pc + 3) lv st (sL S 0 4 x)) : TJ Γ N0 uc us pc lv (.long x :: .ref (xad Γ 0) :: st) S := tj_put C (Cn := RX6) (T := TX6) (N := 42) 0 0 4 17 rfl (by decide) rfl in_X6 tyX6 tyX6_ok nmX6 (by decide) (by decide) q1625 rfl rfl h0 rfl rfl (tPut_L rfl) hd kk
theorem gf_X6_85 {Γ : tX} {cc : ByteArray} {f L : Nat} {N0 : Nat → Nat} {uc us pc : Nat} {lv : List (Nat × Value)} {st : List Value} {S : tS} (C : TC Γ cc RX6 f L) (h0 : N0 0 ≠ 0) (hd : decode cc pc = .ok (.getfield 85, 3)) (kk : TJ Γ N0 uc us (pc + 3) lv (.int (gI S 0 2) :: st) S) : TJ Γ N0 uc us pc lv (.ref (xad Γ 0) :: st) S := tj_get C (Cn := RX6) (T := TX6) (N := 42) 0 0 2 85 rfl (by decide) rfl in_X6 (by decide) (by decide) q1623 rfl h0 rfl hd kk
theorem gf_X6_88 {Γ : tX} {cc : ByteArray} {f L : Nat} {N0 : Nat → Nat} {uc us pc : Nat} {lv : List (Nat × Value)} {st : List Value} {S : tS} (C : TC Γ cc RX6 f L) (h0 : N0 0 ≠ 0) (hd : decode cc pc = .ok (.getfield 88, 3)) (kk : TJ Γ N0 uc us (pc + 3) lv (.long (gL S 0 3) :: st) S) : TJ Γ N0 uc us pc lv (.ref (xad Γ 0) :: st) S := tj_get C (Cn := RX6) (T := TX6) (N := 42) 0 0 3 88 rfl (by decide) rfl in_X6 (by decide) (by decide) q1624 rfl h0 rfl hd kk
theorem gf_X6_269 {Γ : tX} {cc : ByteArray} {f L : Nat} {N0 : Nat → Nat} {uc us pc : Nat} {lv : List (Nat × Value)} {st : List Value} {S : tS} (C : TC Γ cc RX6 f L) (h0 : N0 0 ≠ 0) (hd : decode cc pc = .ok (.getfield 269, 3)) (kk : TJ Γ N0 uc us (pc + 3) lv (.int (gI S 0 21) :: st) S) : TJ Γ N0 uc us pc lv (.ref (xad Γ 0) :: st) S := tj_get C (Cn := RX6) (T := TX6) (N := 42) 0 0 21 269 rfl (by decide) rfl in_X6 (by decide) (by decide) q1642 rfl h0 rfl hd kk
theorem gf_X6_272 {Γ : tX} {cc : ByteArray} {f L : Nat} {N0 : Nat → Nat} {uc us pc : Nat} {lv : List (Nat × Value)} {st : List Value} {S : tS} (C : TC Γ cc RX6 f L) (h0 : N0 0 ≠ 0) (hd : decode cc pc = .ok (.getfield 272, 3)) (kk : TJ Γ N0 uc us (pc + 3) lv (.int (gI S 0 22) :: st) S) : TJ Γ N0 uc us pc lv (.ref (xad Γ 0) :: st) S := tj_get C (Cn := RX6) (T := TX6) (N := 42) 0 0 22 272 rfl (by decide) rfl in_X6 (by decide) (by decide) q1643 rfl h0 rfl hd kk
theorem pf_X6_272 {Γ : tX} {cc : ByteArray} {f L : Nat} {N0 : Nat → Nat} {uc us pc : Nat} {lv : List (Nat × Value)} {st : List Value} {S : tS} (C : TC Γ cc RX6 f L) {x : Int32} (h0 : N0 0 ≠ 0) (hd : decode cc pc = .ok (.putfield 272, 3)) (kk : TJ Γ N0 uc us (pc + 3) lv st (sI S 0 22 x)) : TJ Γ N0 uc us pc lv (.int x :: .ref (xad Γ 0) :: st) S := tj_put C (Cn := RX6) (T := TX6) (N := 42) 0 0 22 272 rfl (by decide) rfl in_X6 tyX6 tyX6_ok nmX6 (by decide) (by decide) q1643 rfl rfl h0 rfl rfl (tPut_I rfl) hd kk
theorem gf_X6_44 {Γ : tX} {cc : ByteArray} {f L : Nat} {N0 : Nat → Nat} {uc us pc : Nat} {lv : List (Nat × Value)} {st : List Value} {S : tS} (C : TC Γ cc RX6 f L) (h0 : N0 0 ≠ 0) (hd : decode cc pc = .ok (.getfield 44, 3)) (kk : TJ Γ N0 uc us (pc + 3) lv (.ref (xad Γ 272) :: st) S) : TJ Γ N0 uc us pc lv (.ref (xad Γ 0) :: st) S := tj_get C (Cn := RX6) (T := TX6) (N := 42) 0 0 20 44 rfl (by decide) rfl in_X6 (by decide) (by decide) q1641 rfl h0 rfl hd kk
theorem pf_X6_269 {Γ : tX} {cc : ByteArray} {f L : Nat} {N0 : Nat → Nat} {uc us pc : Nat} {lv : List (Nat × Value)} {st : List Value} {S : tS} (C : TC Γ cc RX6 f L) {x : Int32} (h0 : N0 0 ≠ 0) (hd : decode cc pc = .ok (.putfield 269, 3)) (kk : TJ Γ N0 uc us (pc + 3) lv st (sI S 0 21 x)) : TJ Γ N0 uc us pc lv (.int x :: .ref (xad Γ 0) :: st) S := tj_put C (Cn := RX6) (T := TX6) (N := 42) 0 0 21 269 rfl (by decide) rfl in_X6 tyX6 tyX6_ok nmX6 (by decide) (by decide) q1642 rfl rfl h0 rfl rfl (tPut_I rfl) hd kk
theorem lk_X6_127 : GoodIn lw_all (wsV RX6 127 RX6 yX6_byteAt (ws_ yX6_byteAt cX6_byteAt 2 (some .int))) := lw_V q1816 q1818 qs78 q175 q1819
theorem lk_X6_139 : GoodIn lw_all (va_wsS RX6 139 yX6_isSmall (ws_ yX6_isSmall cX6_isSmall 1 (some .boolean))) := lw_S q1820 q1821 q175 q1822
theorem lk_X6_142 : GoodIn lw_all (va_wsS RX6 142 yX6_isDigit (ws_ yX6_isDigit cX6_isDigit 1 (some .boolean))) := lw_S q1823 q1824 q175 q1825
theorem lk_X6_146 : GoodIn lw_all (va_wsS RX6 146 yJ10_min (ws_ yJ10_min cJ10_min 2 (some .int))) := lw_S q1827 q1170 q187 q1171
theorem lk_X6_176 : GoodIn lw_all (wsV RX6 176 RX6 yX6_inWords (ws_ yX6_inWords cX6_inWords 7 (some .int))) := lw_V q1837 q1839 qs81 q175 q1840
theorem lk_X6_180 : GoodIn lw_all (wsV RX6 180 RX6 yX6_nameHere (ws_ yX6_nameHere cX6_nameHere 4 (some .long))) := lw_V q1871 q1873 qs89 q175 q1874
theorem lk_X6_186 : GoodIn lw_all (wsV RX6 186 RX6 yX6_findHere (ws_ yX6_findHere cX6_findHere 4 (some .int))) := lw_V q1867 q1869 qs88 q175 q1870
theorem lk_X6_189 : GoodIn lw_all (wsV RX6 189 RX6 yX6_isFull (ws_ yX6_isFull cX6_isFull 3 (some .boolean))) := lw_V q1855 q1857 qs85 q175 q1858
theorem lk_X6_167 : GoodIn lw_all (wsV RX6 167 RX6 yX6_ahead (ws_ yX6_ahead cX6_ahead 2 (none))) := lw_V q1812 q1814 qs77 q175 q1815
theorem lk_X6_193 : GoodIn lw_all (wsV RX6 193 RX6 yX6_isName (ws_ yX6_isName cX6_isName 2 (some .boolean))) := lw_V q1859 q1861 qs86 q175 q1862
theorem lk_X6_197 : GoodIn lw_all (wsV RX6 197 RX6 yX6_isTaken (ws_ yX6_isTaken cX6_isTaken 1 (some .boolean))) := lw_V q1863 q1865 qs87 q175 q1866
theorem lk_X6_173 : GoodIn lw_all (wsV RX6 173 RX6 yX6_fails (ws_ yX6_fails cX6_fails 2 (some .boolean))) := lw_V q1843 q1845 qs82 q175 q1846
theorem lk_X6_201 : GoodIn lw_all (wsV RX6 201 RX6 yX6_newOne (ws_ yX6_newOne cX6_newOne 4 (some .boolean))) := lw_V q1851 q1853 qs84 q175 q1854
theorem lk_X6_205 : GoodIn lw_all (wsV RX6 205 RX6 yX6_wantWord (ws_ yX6_wantWord cX6_wantWord 3 (some .boolean))) := lw_V q1879 q1881 qs91 q175 q1882
theorem lk_X6_224 : GoodIn lw_all (va_wsS RX6 224 yX6_personRow (ws_ yX6_personRow cX6_personRow 1 (some .int))) := lw_S q1914 q1915 q175 q1916
theorem lk_X6_209 : GoodIn lw_all (wsV RX6 209 RX6 yX6_isThere (ws_ yX6_isThere cX6_isThere 2 (some .boolean))) := lw_V q1898 q1900 qs95 q175 q1901
theorem lk_X6_212 : GoodIn lw_all (wsV RX6 212 RX6 yX6_number (ws_ yX6_number cX6_number 4 (some .boolean))) := lw_V q1906 q1908 qs97 q175 q1909
theorem lk_X6_227 : GoodIn lw_all (wsV RX6 227 RX6 yX6_smellsTo (ws_ yX6_smellsTo cX6_smellsTo 4 (some .boolean))) := lw_V q1917 q1919 qs99 q175 q1920
theorem lk_X6_170 : GoodIn lw_all (wsV RX6 170 RX6 yX6_isSign (ws_ yX6_isSign cX6_isSign 2 (some .boolean))) := lw_V q1902 q1904 qs96 q175 q1905
theorem lk_X6_215 : GoodIn lw_all (va_wsS RX6 215 yX6_ruleRow (ws_ yX6_ruleRow cX6_ruleRow 1 (some .int))) := lw_S q1887 q1888 q175 q1889
theorem lk_X6_218 : GoodIn lw_all (wsV RX6 218 RX6 yX6_oldOne (ws_ yX6_oldOne cX6_oldOne 4 (some .boolean))) := lw_V q1890 q1892 qs93 q175 q1893
theorem lk_X6_221 : GoodIn lw_all (wsV RX6 221 RX6 yX6_against (ws_ yX6_against cX6_against 4 (some .boolean))) := lw_V q1894 q1896 qs94 q175 q1897
theorem lk_X6_284 : GoodIn lw_all (wsV RX6 284 RX6 yX6_votesOf (ws_ yX6_votesOf cX6_votesOf 2 (some .int))) := lw_V q1973 q1975 qs111 q175 q1976
theorem lk_X6_305 : GoodIn lw_all (wsV RX6 305 RX6 yX6_isPerson (ws_ yX6_isPerson cX6_isPerson 3 (some .boolean))) := lw_V q2013 q2015 qs118 q175 q2016
theorem lk_X6_281 : GoodIn lw_all (wsV RX6 281 RX6 yX6_personOf (ws_ yX6_personOf cX6_personOf 3 (some .int))) := lw_V q1981 q1983 qs113 q175 q1984
theorem lk_X6_95 : GoodIn lw_all (wsV RX6 95 RX6 yX6_gives (ws_ yX6_gives cX6_gives 2 (some .int))) := lw_V q1937 q1939 qs104 q175 q1940
theorem lk_X6_91 : GoodIn lw_all (wsV RX6 91 RX6 yX6_refuse (ws_ yX6_refuse cX6_refuse 2 (some .int))) := lw_V q1828 q1830 qs79 q175 q1831
theorem lk_X6_315 : GoodIn lw_all (wsV RX6 315 RX6 yX6_isIn (ws_ yX6_isIn cX6_isIn 3 (some .boolean))) := lw_V q2053 q2055 qs125 q175 q2056
theorem lk_X6_440 : GoodIn lw_all (wsV RX6 440 RX6 yX6_wordOf (ws_ yX6_wordOf cX6_wordOf 3 (some .int))) := lw_V q2288 q2290 qs147 q175 q2291
theorem lk_X6_102 : GoodIn lw_all (va_wsS RX6 102 yX6_isTray (ws_ yX6_isTray cX6_isTray 1 (some .boolean))) := lw_S q1765 q1766 q175 q1767
theorem lk_X6_337 : GoodIn lw_all (va_wsS RX6 337 yX6_isFrom (ws_ yX6_isFrom cX6_isFrom 6 (some .boolean))) := lw_S q2065 q2066 q175 q2067
theorem lk_X6_299 : GoodIn lw_all (wsV RX6 299 RX6 yX6_ruleOf (ws_ yX6_ruleOf cX6_ruleOf 3 (some .int))) := lw_V q2001 q2003 qs116 q175 q2004
theorem lk_X6_318 : GoodIn lw_all (va_wsS RX6 318 yX6_isSo (ws_ yX6_isSo cX6_isSo 3 (some .boolean))) := lw_S q2057 q2058 q175 q2059
theorem lk_X6_321 : GoodIn lw_all (wsV RX6 321 RX6 yX6_doesBear (ws_ yX6_doesBear cX6_doesBear 8 (some .boolean))) := lw_V q2049 q2051 qs124 q175 q2052
theorem lk_X6_325 : GoodIn lw_all (wsV RX6 325 RX6 yX6_firstOf (ws_ yX6_firstOf cX6_firstOf 6 (some .int))) := lw_V q2045 q2047 qs123 q175 q2048
theorem lk_X6_382 : GoodIn lw_all (wsV RX6 382 RX6 yX6_cueOf (ws_ yX6_cueOf cX6_cueOf 6 (some .int))) := lw_V q2196 q2198 qs139 q175 q2199
theorem lk_X6_385 : GoodIn lw_all (wsV RX6 385 RX6 yX6_wouldShow (ws_ yX6_wouldShow cX6_wouldShow 5 (some .int))) := lw_V q2192 q2194 qs138 q175 q2195
theorem lk_X6_392 : GoodIn lw_all (wsV RX6 392 RX6 yX6_doesFit (ws_ yX6_doesFit cX6_doesFit 6 (some .boolean))) := lw_V q2188 q2190 qs137 q175 q2191
theorem lk_X6_409 : GoodIn lw_all (va_wsS RX6 409 yJ10_max (ws_ yJ10_max cJ10_max 2 (some .int))) := lw_S q2225 q2226 q187 q2227
theorem lk_X6_395 : GoodIn lw_all (wsV RX6 395 RX6 yX6_wrongSeen (ws_ yX6_wrongSeen cX6_wrongSeen 5 (some .int))) := lw_V q2179 q2181 qs135 q175 q2182
theorem lk_X6_398 : GoodIn lw_all (wsV RX6 398 RX6 yX6_laysFits (ws_ yX6_laysFits cX6_laysFits 4 (none))) := lw_V q2184 q2186 qs136 q175 q2187
theorem lk_X6_413 : GoodIn lw_all (wsV RX6 413 RX6 yX6_mostAlike (ws_ yX6_mostAlike cX6_mostAlike 6 (some .int))) := lw_V q2221 q2223 qs142 q175 q2224
theorem lk_X6_329 : GoodIn lw_all (wsV RX6 329 RX6 yX6_ruleFor (ws_ yX6_ruleFor cX6_ruleFor 3 (some .int))) := lw_V q2041 q2043 qs122 q175 q2044
theorem lk_X6_302 : GoodIn lw_all (wsV RX6 302 RX6 yX6_orNone (ws_ yX6_orNone cX6_orNone 2 (some .int))) := lw_V q2005 q2007 qs117 q175 q2008
theorem lk_X6_332 : GoodIn lw_all (wsV RX6 332 RX6 yX6_cueFor (ws_ yX6_cueFor cX6_cueFor 4 (some .int))) := lw_V q2037 q2039 qs121 q175 q2040
theorem lk_X6_290 : GoodIn lw_all (wsV RX6 290 RX6 yX6_peopleThat (ws_ yX6_peopleThat cX6_peopleThat 5 (some .int))) := lw_V q1977 q1979 qs112 q175 q1980
theorem lk_X6_344 : GoodIn lw_all (va_wsS RX6 344 yX6_bits (ws_ yX6_bits cX6_bits 3 (some .int))) := lw_S q2096 q2097 q175 q2098
theorem lk_X6_443 : GoodIn lw_all (wsV RX6 443 RX6 yX6_senseFor (ws_ yX6_senseFor cX6_senseFor 4 (some .int))) := lw_V q2292 q2294 qs148 q175 q2295
theorem lk_X6_455 : GoodIn lw_all (wsV RX6 455 RX6 yX6_laysOrders (ws_ yX6_laysOrders cX6_laysOrders 5 (some .int))) := lw_V q2316 q2318 qs151 q175 q2319
theorem lk_X6_98 : GoodIn lw_all (wsV RX6 98 RX6 yX6_is (ws_ yX6_is cX6_is 2 (some .boolean))) := lw_V q1768 q1770 qs73 q175 q1771
theorem lk_X6_446 : GoodIn lw_all (wsV RX6 446 RX6 yX6_clashing (ws_ yX6_clashing cX6_clashing 3 (some .int))) := lw_V q2284 q2286 qs146 q175 q2287
theorem lk_X6_109 : GoodIn lw_all (va_wsS RX6 109 yX6_cut (ws_ yX6_cut cX6_cut 3 (some .long))) := lw_S q1780 q1781 q175 q1782
theorem lk_X6_230 : GoodIn lw_all (wsV RX6 230 RX6 yX6_aSmell (ws_ yX6_aSmell cX6_aSmell 1 (some .boolean))) := lw_V q1847 q1849 qs83 q175 q1850
theorem lk_X6_233 : GoodIn lw_all (wsV RX6 233 RX6 yX6_aCue (ws_ yX6_aCue cX6_aCue 2 (some .boolean))) := lw_V q1875 q1877 qs90 q175 q1878
theorem lk_X6_236 : GoodIn lw_all (wsV RX6 236 RX6 yX6_aRule (ws_ yX6_aRule cX6_aRule 3 (some .boolean))) := lw_V q1883 q1885 qs92 q175 q1886
theorem lk_X6_239 : GoodIn lw_all (wsV RX6 239 RX6 yX6_aPerson (ws_ yX6_aPerson cX6_aPerson 2 (some .boolean))) := lw_V q1910 q1912 qs98 q175 q1913
theorem lk_X6_242 : GoodIn lw_all (wsV RX6 242 RX6 yX6_aReader (ws_ yX6_aReader cX6_aReader 2 (some .boolean))) := lw_V q1921 q1923 qs100 q175 q1924
theorem lk_X6_245 : GoodIn lw_all (wsV RX6 245 RX6 yX6_aWord (ws_ yX6_aWord cX6_aWord 3 (some .boolean))) := lw_V q1925 q1927 qs101 q175 q1928
theorem lk_X6_248 : GoodIn lw_all (wsV RX6 248 RX6 yX6_wantSign (ws_ yX6_wantSign cX6_wantSign 2 (some .boolean))) := lw_V q1929 q1931 qs102 q175 q1932
theorem lk_X6_251 : GoodIn lw_all (wsV RX6 251 RX6 yX6_begins (ws_ yX6_begins cX6_begins 4 (some .boolean))) := lw_V q1808 q1810 qs76 q175 q1811
theorem lk_X6_81 : GoodIn lw_all (wsV RX6 81 RX6 yX6_plain (ws_ yX6_plain cX6_plain 3 (none))) := lw_V q1617 q1619 qs72 q175 q1620
theorem lk_X6_254 : GoodIn lw_all (wsV RX6 254 RX6 yX6_courtPart (ws_ yX6_courtPart cX6_courtPart 3 (some .boolean))) := lw_V q1832 q1834 qs80 q175 q1835
theorem lk_X6_257 : GoodIn lw_all (wsV RX6 257 RX6 yX6_taken (ws_ yX6_taken cX6_taken 2 (some .int))) := lw_V q1933 q1935 qs103 q175 q1936
theorem lk_X6_341 : GoodIn lw_all (wsV RX6 341 RX6 yX6_sits (ws_ yX6_sits cX6_sits 3 (some .int))) := lw_V q2084 q2086 qs126 q175 q2087
theorem lk_X6_347 : GoodIn lw_all (wsV RX6 347 RX6 yX6_isTooMuch (ws_ yX6_isTooMuch cX6_isTooMuch 1 (some .boolean))) := lw_V q2092 q2094 qs127 q175 q2095
theorem lk_X6_350 : GoodIn lw_all (wsV RX6 350 RX6 yX6_terms (ws_ yX6_terms cX6_terms 6 (some .int))) := lw_V q2099 q2101 qs128 q175 q2102
theorem lk_X6_482 : GoodIn lw_all (wsV RX6 482 RX6 yX6_draw (ws_ yX6_draw cX6_draw 2 (some .int))) := lw_V q2385 q2387 qs162 q175 q2388
theorem lk_X6_355 : GoodIn lw_all (wsV RX6 355 RX6 yX6_meals (ws_ yX6_meals cX6_meals 4 (some .boolean))) := lw_V q2108 q2110 qs129 q175 q2111
theorem lk_X6_485 : GoodIn lw_all (wsV RX6 485 RX6 yX6_sitsBy (ws_ yX6_sitsBy cX6_sitsBy 2 (some .boolean))) := lw_V q2373 q2375 qs159 q175 q2376
theorem lk_X6_488 : GoodIn lw_all (wsV RX6 488 RX6 yX6_termsBy (ws_ yX6_termsBy cX6_termsBy 2 (some .boolean))) := lw_V q2377 q2379 qs160 q175 q2380
theorem lk_X6_361 : GoodIn lw_all (wsV RX6 361 RX6 yX6_scents (ws_ yX6_scents cX6_scents 4 (some .boolean))) := lw_V q2120 q2122 qs131 q175 q2123
theorem lk_X6_365 : GoodIn lw_all (wsV RX6 365 RX6 yX6_nights (ws_ yX6_nights cX6_nights 2 (some .boolean))) := lw_V q2128 q2130 qs132 q175 q2131
theorem lk_X6_491 : GoodIn lw_all (wsV RX6 491 RX6 yX6_feedsAny (ws_ yX6_feedsAny cX6_feedsAny 3 (some .boolean))) := lw_V q2381 q2383 qs161 q175 q2384
theorem lk_X6_458 : GoodIn lw_all (wsV RX6 458 RX6 yX6_deeds (ws_ yX6_deeds cX6_deeds 1 (some .int))) := lw_V q2340 q2342 qs154 q175 q2343
theorem lk_X6_293 : GoodIn lw_all (wsV RX6 293 RX6 yX6_isCue (ws_ yX6_isCue cX6_isCue 2 (some .boolean))) := lw_V q1989 q1991 qs114 q175 q1992
theorem lk_X6_358 : GoodIn lw_all (wsV RX6 358 RX6 yX6_isSmell (ws_ yX6_isSmell cX6_isSmell 2 (some .boolean))) := lw_V q2116 q2118 qs130 q175 q2119
theorem lk_X6_118 : GoodIn lw_all (wsV RX6 118 RX6 yX6_four (ws_ yX6_four cX6_four 3 (none))) := lw_V q1796 q1798 qs75 q175 q1799
theorem lk_X6_374 : GoodIn lw_all (wsV RX6 374 RX6 yX6_keeps (ws_ yX6_keeps cX6_keeps 3 (none))) := lw_V q2163 q2165 qs133 q175 q2166
theorem lk_X6_377 : GoodIn lw_all (wsV RX6 377 RX6 yX6_restores (ws_ yX6_restores cX6_restores 3 (none))) := lw_V q2167 q2169 qs134 q175 q2170
theorem lk_X6_464 : GoodIn lw_all (va_wsS RX6 464 yX6_levelAt (ws_ yX6_levelAt cX6_levelAt 1 (some .int))) := lw_S q2337 q2338 q175 q2339
theorem lk_X6_461 : GoodIn lw_all (wsV RX6 461 RX6 yX6_standing (ws_ yX6_standing cX6_standing 4 (some .int))) := lw_V q2333 q2335 qs153 q175 q2336
theorem lk_X6_470 : GoodIn lw_all (wsV RX6 470 RX6 yX6_doesDeed (ws_ yX6_doesDeed cX6_doesDeed 4 (some .boolean))) := lw_V q2348 q2350 qs156 q175 q2351
theorem lk_X6_467 : GoodIn lw_all (wsV RX6 467 RX6 yX6_settles (ws_ yX6_settles cX6_settles 4 (none))) := lw_V q2344 q2346 qs155 q175 q2347
theorem lk_X6_475 : GoodIn lw_all (wsV RX6 475 RX6 yX6_playing (ws_ yX6_playing cX6_playing 3 (some .int))) := lw_V q2329 q2331 qs152 q175 q2332
theorem lk_X6_428 : GoodIn lw_all (wsV RX6 428 RX6 yX6_laysWorlds (ws_ yX6_laysWorlds cX6_laysWorlds 4 (none))) := lw_V q2244 q2246 qs144 q175 q2247
theorem lk_X6_425 : GoodIn lw_all (wsV RX6 425 RX6 yX6_laysLeast (ws_ yX6_laysLeast cX6_laysLeast 7 (none))) := lw_V q2232 q2234 qs143 q175 q2235
theorem lk_X6_497 : GoodIn lw_all (wsV RX6 497 RX6 yX6_does (ws_ yX6_does cX6_does 4 (some .boolean))) := lw_V q2369 q2371 qs158 q175 q2372
theorem lk_X6_500 : GoodIn lw_all (wsV RX6 500 RX6 yX6_holds (ws_ yX6_holds cX6_holds 4 (some .boolean))) := lw_V q2390 q2392 qs163 q175 q2393
theorem lk_X6_503 : GoodIn lw_all (wsV RX6 503 RX6 yX6_behindEnds (ws_ yX6_behindEnds cX6_behindEnds 5 (some .int))) := lw_V q2394 q2396 qs164 q175 q2397
theorem lk_X6_508 : GoodIn lw_all (wsV RX6 508 RX6 yX6_lives (ws_ yX6_lives cX6_lives 4 (none))) := lw_V q2365 q2367 qs157 q175 q2368
theorem lk_X6_518 : GoodIn lw_all (wsV RX6 518 RX6 yX6_copies (ws_ yX6_copies cX6_copies 4 (none))) := lw_V q2410 q2412 qs165 q175 q2413
theorem lk_X6_405 : GoodIn lw_all (wsV RX6 405 RX6 yX6_tellsBy (ws_ yX6_tellsBy cX6_tellsBy 11 (some .boolean))) := lw_V q2212 q2214 qs141 q175 q2215
theorem lk_X6_402 : GoodIn lw_all (wsV RX6 402 RX6 yX6_guiltyIn (ws_ yX6_guiltyIn cX6_guiltyIn 4 (some .int))) := lw_V q2204 q2206 qs140 q175 q2207
theorem lk_X6_309 : GoodIn lw_all (wsV RX6 309 RX6 yX6_isReader (ws_ yX6_isReader cX6_isReader 2 (some .boolean))) := lw_V q2021 q2023 qs119 q175 q2024
theorem lk_X6_437 : GoodIn lw_all (va_wsS RX6 437 yX6_orders (ws_ yX6_orders cX6_orders 4 (some .long))) := lw_S q2277 q2278 q175 q2279
theorem lk_X6_287 : GoodIn lw_all (wsV RX6 287 RX6 yX6_allVotes (ws_ yX6_allVotes cX6_allVotes 3 (some .int))) := lw_V q1969 q1971 qs110 q175 q1972
theorem lk_X6_296 : GoodIn lw_all (wsV RX6 296 RX6 yX6_isRule (ws_ yX6_isRule cX6_isRule 2 (some .boolean))) := lw_V q1997 q1999 qs115 q175 q2000
theorem lk_X6_105 : GoodIn lw_all (wsV RX6 105 RX6 yX6_wrongPlace (ws_ yX6_wrongPlace cX6_wrongPlace 3 (some .int))) := lw_V q1776 q1778 qs74 q175 q1779
theorem lk_X6_312 : GoodIn lw_all (wsV RX6 312 RX6 yX6_slipOf (ws_ yX6_slipOf cX6_slipOf 2 (some .int))) := lw_V q2025 q2027 qs120 q175 q2028
theorem lk_X6_449 : GoodIn lw_all (wsV RX6 449 RX6 yX6_areUnlike (ws_ yX6_areUnlike cX6_areUnlike 4 (some .boolean))) := lw_V q2304 q2306 qs150 q175 q2307
theorem lk_X6_452 : GoodIn lw_all (wsV RX6 452 RX6 yX6_striking (ws_ yX6_striking cX6_striking 4 (some .int))) := lw_V q2300 q2302 qs149 q175 q2303
theorem lk_X6_431 : GoodIn lw_all (wsV RX6 431 RX6 yX6_rightOf (ws_ yX6_rightOf cX6_rightOf 10 (some .long))) := lw_V q2264 q2266 qs145 q175 q2267
theorem lk_X6_260 : GoodIn lw_all (wsV RX6 260 RX6 yX6_personTo (ws_ yX6_personTo cX6_personTo 2 (some .boolean))) := lw_V q1953 q1955 qs107 q175 q1956
theorem lk_X6_263 : GoodIn lw_all (wsV RX6 263 RX6 yX6_smellTo (ws_ yX6_smellTo cX6_smellTo 2 (some .boolean))) := lw_V q1957 q1959 qs108 q175 q1960
theorem lk_X6_266 : GoodIn lw_all (wsV RX6 266 RX6 yX6_test (ws_ yX6_test cX6_test 3 (some .boolean))) := lw_V q1961 q1963 qs109 q175 q1964
theorem lk_X6_275 : GoodIn lw_all (wsV RX6 275 RX6 yX6_weekOrder (ws_ yX6_weekOrder cX6_weekOrder 3 (some .boolean))) := lw_V q1949 q1951 qs106 q175 q1952
theorem lk_X6_278 : GoodIn lw_all (wsV RX6 278 RX6 yX6_weekStep (ws_ yX6_weekStep cX6_weekStep 6 (some .boolean))) := lw_V q1945 q1947 qs105 q175 q1948
theorem ty_X6_byteAt : tyOk yX6_byteAt 1 := ⟨by decide +kernel, by decide +kernel, by decide +kernel⟩
theorem ty_X6_isSmall : tyOk yX6_isSmall 1 := ⟨by decide +kernel, by decide +kernel, by decide +kernel⟩
theorem ty_X6_isDigit : tyOk yX6_isDigit 1 := ⟨by decide +kernel, by decide +kernel, by decide +kernel⟩
theorem ty_J10_min : tyOk yJ10_min 2 := ⟨by decide +kernel, by decide +kernel, by decide +kernel⟩
theorem ty_X6_inWords : tyOk yX6_inWords 1 := ⟨by decide +kernel, by decide +kernel, by decide +kernel⟩
theorem ty_X6_nameHere : tyOk yX6_nameHere 0 := ⟨by decide +kernel, by decide +kernel, by decide +kernel⟩
theorem ty_X6_findHere : tyOk yX6_findHere 2 := ⟨by decide +kernel, by decide +kernel, by decide +kernel⟩
theorem ty_X6_isFull : tyOk yX6_isFull 2 := ⟨by decide +kernel, by decide +kernel, by decide +kernel⟩
theorem ty_X6_ahead : tyOk yX6_ahead 0 := ⟨by decide +kernel, by decide +kernel, by decide +kernel⟩
theorem ty_X6_isName : tyOk yX6_isName 1 := ⟨by decide +kernel, by decide +kernel, by decide +kernel⟩
theorem ty_X6_isTaken : tyOk yX6_isTaken 0 := ⟨by decide +kernel, by decide +kernel, by decide +kernel⟩
theorem ty_X6_fails : tyOk yX6_fails 1 := ⟨by decide +kernel, by decide +kernel, by decide +kernel⟩
theorem ty_X6_newOne : tyOk yX6_newOne 3 := ⟨by decide +kernel, by decide +kernel, by decide +kernel⟩
theorem ty_X6_wantWord : tyOk yX6_wantWord 2 := ⟨by decide +kernel, by decide +kernel, by decide +kernel⟩
theorem ty_X6_personRow : tyOk yX6_personRow 1 := ⟨by decide +kernel, by decide +kernel, by decide +kernel⟩
theorem ty_X6_isThere : tyOk yX6_isThere 1 := ⟨by decide +kernel, by decide +kernel, by decide +kernel⟩
theorem ty_X6_number : tyOk yX6_number 3 := ⟨by decide +kernel, by decide +kernel, by decide +kernel⟩
theorem ty_X6_smellsTo : tyOk yX6_smellsTo 1 := ⟨by decide +kernel, by decide +kernel, by decide +kernel⟩
theorem ty_X6_isSign : tyOk yX6_isSign 1 := ⟨by decide +kernel, by decide +kernel, by decide +kernel⟩
theorem ty_X6_ruleRow : tyOk yX6_ruleRow 1 := ⟨by decide +kernel, by decide +kernel, by decide +kernel⟩
theorem ty_X6_oldOne : tyOk yX6_oldOne 3 := ⟨by decide +kernel, by decide +kernel, by decide +kernel⟩
theorem ty_X6_against : tyOk yX6_against 3 := ⟨by decide +kernel, by decide +kernel, by decide +kernel⟩
theorem ty_X6_votesOf : tyOk yX6_votesOf 1 := ⟨by decide +kernel, by decide +kernel, by decide +kernel⟩
theorem ty_X6_isPerson : tyOk yX6_isPerson 1 := ⟨by decide +kernel, by decide +kernel, by decide +kernel⟩
theorem ty_X6_personOf : tyOk yX6_personOf 2 := ⟨by decide +kernel, by decide +kernel, by decide +kernel⟩
theorem ty_X6_gives : tyOk yX6_gives 1 := ⟨by decide +kernel, by decide +kernel, by decide +kernel⟩
theorem ty_X6_refuse : tyOk yX6_refuse 1 := ⟨by decide +kernel, by decide +kernel, by decide +kernel⟩
theorem ty_X6_isIn : tyOk yX6_isIn 2 := ⟨by decide +kernel, by decide +kernel, by decide +kernel⟩
theorem ty_X6_wordOf : tyOk yX6_wordOf 2 := ⟨by decide +kernel, by decide +kernel, by decide +kernel⟩
theorem ty_X6_isTray : tyOk yX6_isTray 1 := ⟨by decide +kernel, by decide +kernel, by decide +kernel⟩
theorem ty_X6_isFrom : tyOk yX6_isFrom 3 := ⟨by decide +kernel, by decide +kernel, by decide +kernel⟩
theorem ty_X6_ruleOf : tyOk yX6_ruleOf 2 := ⟨by decide +kernel, by decide +kernel, by decide +kernel⟩
theorem ty_X6_isSo : tyOk yX6_isSo 3 := ⟨by decide +kernel, by decide +kernel, by decide +kernel⟩
theorem ty_X6_doesBear : tyOk yX6_doesBear 5 := ⟨by decide +kernel, by decide +kernel, by decide +kernel⟩
theorem ty_X6_firstOf : tyOk yX6_firstOf 4 := ⟨by decide +kernel, by decide +kernel, by decide +kernel⟩
theorem ty_X6_cueOf : tyOk yX6_cueOf 4 := ⟨by decide +kernel, by decide +kernel, by decide +kernel⟩
theorem ty_X6_wouldShow : tyOk yX6_wouldShow 3 := ⟨by decide +kernel, by decide +kernel, by decide +kernel⟩
theorem ty_X6_doesFit : tyOk yX6_doesFit 3 := ⟨by decide +kernel, by decide +kernel, by decide +kernel⟩
theorem ty_J10_max : tyOk yJ10_max 2 := ⟨by decide +kernel, by decide +kernel, by decide +kernel⟩
theorem ty_X6_wrongSeen : tyOk yX6_wrongSeen 2 := ⟨by decide +kernel, by decide +kernel, by decide +kernel⟩
theorem ty_X6_laysFits : tyOk yX6_laysFits 2 := ⟨by decide +kernel, by decide +kernel, by decide +kernel⟩
theorem ty_X6_mostAlike : tyOk yX6_mostAlike 2 := ⟨by decide +kernel, by decide +kernel, by decide +kernel⟩
theorem ty_X6_ruleFor : tyOk yX6_ruleFor 2 := ⟨by decide +kernel, by decide +kernel, by decide +kernel⟩
theorem ty_X6_orNone : tyOk yX6_orNone 1 := ⟨by decide +kernel, by decide +kernel, by decide +kernel⟩
theorem ty_X6_cueFor : tyOk yX6_cueFor 2 := ⟨by decide +kernel, by decide +kernel, by decide +kernel⟩
theorem ty_X6_peopleThat : tyOk yX6_peopleThat 1 := ⟨by decide +kernel, by decide +kernel, by decide +kernel⟩
theorem ty_X6_bits : tyOk yX6_bits 1 := ⟨by decide +kernel, by decide +kernel, by decide +kernel⟩
theorem ty_X6_senseFor : tyOk yX6_senseFor 2 := ⟨by decide +kernel, by decide +kernel, by decide +kernel⟩
theorem ty_X6_laysOrders : tyOk yX6_laysOrders 0 := ⟨by decide +kernel, by decide +kernel, by decide +kernel⟩
theorem ty_X6_is : tyOk yX6_is 1 := ⟨by decide +kernel, by decide +kernel, by decide +kernel⟩
theorem ty_X6_clashing : tyOk yX6_clashing 0 := ⟨by decide +kernel, by decide +kernel, by decide +kernel⟩
theorem ty_X6_cut : tyOk yX6_cut 2 := ⟨by decide +kernel, by decide +kernel, by decide +kernel⟩
theorem ty_X6_aSmell : tyOk yX6_aSmell 0 := ⟨by decide +kernel, by decide +kernel, by decide +kernel⟩
theorem ty_X6_aCue : tyOk yX6_aCue 0 := ⟨by decide +kernel, by decide +kernel, by decide +kernel⟩
theorem ty_X6_aRule : tyOk yX6_aRule 0 := ⟨by decide +kernel, by decide +kernel, by decide +kernel⟩
theorem ty_X6_aPerson : tyOk yX6_aPerson 0 := ⟨by decide +kernel, by decide +kernel, by decide +kernel⟩
theorem ty_X6_aReader : tyOk yX6_aReader 0 := ⟨by decide +kernel, by decide +kernel, by decide +kernel⟩
theorem ty_X6_aWord : tyOk yX6_aWord 0 := ⟨by decide +kernel, by decide +kernel, by decide +kernel⟩
theorem ty_X6_wantSign : tyOk yX6_wantSign 1 := ⟨by decide +kernel, by decide +kernel, by decide +kernel⟩
theorem ty_X6_begins : tyOk yX6_begins 2 := ⟨by decide +kernel, by decide +kernel, by decide +kernel⟩
theorem ty_X6_plain : tyOk yX6_plain 1 := ⟨by decide +kernel, by decide +kernel, by decide +kernel⟩
theorem ty_X6_courtPart : tyOk yX6_courtPart 0 := ⟨by decide +kernel, by decide +kernel, by decide +kernel⟩
theorem ty_X6_taken : tyOk yX6_taken 1 := ⟨by decide +kernel, by decide +kernel, by decide +kernel⟩
theorem ty_X6_sits : tyOk yX6_sits 1 := ⟨by decide +kernel, by decide +kernel, by decide +kernel⟩
theorem ty_X6_isTooMuch : tyOk yX6_isTooMuch 0 := ⟨by decide +kernel, by decide +kernel, by decide +kernel⟩
theorem ty_X6_terms : tyOk yX6_terms 0 := ⟨by decide +kernel, by decide +kernel, by decide +kernel⟩
theorem ty_X6_draw : tyOk yX6_draw 1 := ⟨by decide +kernel, by decide +kernel, by decide +kernel⟩
theorem ty_X6_meals : tyOk yX6_meals 2 := ⟨by decide +kernel, by decide +kernel, by decide +kernel⟩
theorem ty_X6_sitsBy : tyOk yX6_sitsBy 1 := ⟨by decide +kernel, by decide +kernel, by decide +kernel⟩
theorem ty_X6_termsBy : tyOk yX6_termsBy 0 := ⟨by decide +kernel, by decide +kernel, by decide +kernel⟩
theorem ty_X6_scents : tyOk yX6_scents 3 := ⟨by decide +kernel, by decide +kernel, by decide +kernel⟩
theorem ty_X6_nights : tyOk yX6_nights 0 := ⟨by decide +kernel, by decide +kernel, by decide +kernel⟩
theorem ty_X6_feedsAny : tyOk yX6_feedsAny 0 := ⟨by decide +kernel, by decide +kernel, by decide +kernel⟩
theorem ty_X6_deeds : tyOk yX6_deeds 0 := ⟨by decide +kernel, by decide +kernel, by decide +kernel⟩
theorem ty_X6_isCue : tyOk yX6_isCue 1 := ⟨by decide +kernel, by decide +kernel, by decide +kernel⟩
theorem ty_X6_isSmell : tyOk yX6_isSmell 1 := ⟨by decide +kernel, by decide +kernel, by decide +kernel⟩
theorem ty_X6_four : tyOk yX6_four 1 := ⟨by decide +kernel, by decide +kernel, by decide +kernel⟩
theorem ty_X6_keeps : tyOk yX6_keeps 1 := ⟨by decide +kernel, by decide +kernel, by decide +kernel⟩
theorem ty_X6_restores : tyOk yX6_restores 1 := ⟨by decide +kernel, by decide +kernel, by decide +kernel⟩
theorem ty_X6_levelAt : tyOk yX6_levelAt 1 := ⟨by decide +kernel, by decide +kernel, by decide +kernel⟩
theorem ty_X6_standing : tyOk yX6_standing 0 := ⟨by decide +kernel, by decide +kernel, by decide +kernel⟩
theorem ty_X6_doesDeed : tyOk yX6_doesDeed 1 := ⟨by decide +kernel, by decide +kernel, by decide +kernel⟩
theorem ty_X6_settles : tyOk yX6_settles 2 := ⟨by decide +kernel, by decide +kernel, by decide +kernel⟩
theorem ty_X6_playing : tyOk yX6_playing 1 := ⟨by decide +kernel, by decide +kernel, by decide +kernel⟩
theorem ty_X6_laysWorlds : tyOk yX6_laysWorlds 0 := ⟨by decide +kernel, by decide +kernel, by decide +kernel⟩
theorem ty_X6_laysLeast : tyOk yX6_laysLeast 2 := ⟨by decide +kernel, by decide +kernel, by decide +kernel⟩
theorem ty_X6_does : tyOk yX6_does 1 := ⟨by decide +kernel, by decide +kernel, by decide +kernel⟩
theorem ty_X6_holds : tyOk yX6_holds 1 := ⟨by decide +kernel, by decide +kernel, by decide +kernel⟩
theorem ty_X6_behindEnds : tyOk yX6_behindEnds 1 := ⟨by decide +kernel, by decide +kernel, by decide +kernel⟩
theorem ty_X6_lives : tyOk yX6_lives 1 := ⟨by decide +kernel, by decide +kernel, by decide +kernel⟩
theorem ty_X6_copies : tyOk yX6_copies 2 := ⟨by decide +kernel, by decide +kernel, by decide +kernel⟩
theorem ty_X6_tellsBy : tyOk yX6_tellsBy 2 := ⟨by decide +kernel, by decide +kernel, by decide +kernel⟩
theorem ty_X6_guiltyIn : tyOk yX6_guiltyIn 1 := ⟨by decide +kernel, by decide +kernel, by decide +kernel⟩
theorem ty_X6_isReader : tyOk yX6_isReader 1 := ⟨by decide +kernel, by decide +kernel, by decide +kernel⟩
theorem ty_X6_orders : tyOk yX6_orders 1 := ⟨by decide +kernel, by decide +kernel, by decide +kernel⟩
theorem ty_X6_allVotes : tyOk yX6_allVotes 0 := ⟨by decide +kernel, by decide +kernel, by decide +kernel⟩
theorem ty_X6_isRule : tyOk yX6_isRule 1 := ⟨by decide +kernel, by decide +kernel, by decide +kernel⟩
theorem ty_X6_wrongPlace : tyOk yX6_wrongPlace 2 := ⟨by decide +kernel, by decide +kernel, by decide +kernel⟩
theorem ty_X6_slipOf : tyOk yX6_slipOf 1 := ⟨by decide +kernel, by decide +kernel, by decide +kernel⟩
theorem ty_X6_areUnlike : tyOk yX6_areUnlike 1 := ⟨by decide +kernel, by decide +kernel, by decide +kernel⟩
theorem ty_X6_striking : tyOk yX6_striking 0 := ⟨by decide +kernel, by decide +kernel, by decide +kernel⟩
theorem ty_X6_rightOf : tyOk yX6_rightOf 1 := ⟨by decide +kernel, by decide +kernel, by decide +kernel⟩
theorem ty_X6_personTo : tyOk yX6_personTo 1 := ⟨by decide +kernel, by decide +kernel, by decide +kernel⟩
theorem ty_X6_smellTo : tyOk yX6_smellTo 1 := ⟨by decide +kernel, by decide +kernel, by decide +kernel⟩
theorem ty_X6_test : tyOk yX6_test 1 := ⟨by decide +kernel, by decide +kernel, by decide +kernel⟩
theorem ty_X6_weekOrder : tyOk yX6_weekOrder 2 := ⟨by decide +kernel, by decide +kernel, by decide +kernel⟩
theorem ty_X6_weekStep : tyOk yX6_weekStep 0 := ⟨by decide +kernel, by decide +kernel, by decide +kernel⟩
theorem pn_J11 : plainName RJ11 = true := by decide +kernel
theorem pn_J12 : plainName RJ12 = true := by decide +kernel
theorem pn_J13 : plainName RJ13 = true := by decide +kernel
theorem pn_X6 : plainName RX6 = true := by decide +kernel
