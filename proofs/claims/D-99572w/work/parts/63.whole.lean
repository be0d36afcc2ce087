set_option maxRecDepth 100000
def nwL : List Cond := flatC (Jvm.Cond.and given_1 narrow_1)
def tmS (i : Nat) : Term := match strT[i]? with | some q => .string q.1 q.2.1 | none => .string "" 0
def vS (i : Nat) : Term := .field (tmS i) "java/lang/String" "value" "[B"
theorem nw_places (ws : List Cond) (ps : List Nat) (hp : ws = ps.filterMap (fun i => nwL[i]?)) : ∀ w ∈ ws, w ∈ nwL := by
  intro w h
  rw [hp] at h
  obtain ⟨i, -, hi⟩ := List.mem_filterMap.mp h
  exact List.mem_of_getElem? hi
theorem nw_ex : ∀ w ∈ (List.range nST).map (fun i => Cond.exactly (tmS i) "java/lang/String"), w ∈ nwL := nw_places _ [466, 318, 329, 339, 371, 378, 386, 394, 401, 409, 418, 425, 433, 442, 450, 458, 221, 230, 238, 247, 255, 262, 272, 282, 292, 301, 310, 348, 356, 364] (by decide +kernel)
theorem nw_co : ∀ w ∈ (List.range nST).map (fun i => Cond.eq (.field (tmS i) "java/lang/String" "coder" "B") (.int 0)), w ∈ nwL := nw_places _ [467, 319, 330, 340, 372, 379, 387, 395, 402, 410, 419, 426, 434, 443, 451, 459, 222, 231, 239, 248, 256, 263, 273, 283, 293, 302, 311, 349, 357, 365] (by decide +kernel)
theorem nw_ar : ∀ w ∈ (List.range nST).map (fun i => Cond.arrayOf (vS i) .byte), w ∈ nwL := nw_places _ [468, 320, 331, 341, 373, 380, 388, 396, 403, 411, 420, 427, 435, 444, 452, 460, 223, 232, 240, 249, 257, 264, 274, 284, 294, 303, 312, 350, 358, 366] (by decide +kernel)
theorem nw_le : ∀ w ∈ (List.range nST).map (fun i => Cond.eq (.length (vS i)) (.int (Int32.ofNat (lenT.getD i 0)))), w ∈ nwL := nw_places _ [469, 321, 332, 342, 374, 381, 389, 397, 404, 412, 421, 428, 436, 445, 453, 461, 224, 233, 241, 250, 258, 265, 275, 285, 295, 304, 313, 351, 359, 367] (by decide +kernel)
theorem nw_el : ∀ w ∈ (List.range nST).flatMap (fun i => (List.range (lenT.getD i 0)).map (fun j => Cond.eq (.elem (vS i) (.int (Int32.ofNat j))) (.int ((bytT.getD i []).getD j 0)))), w ∈ nwL := nw_places _ [470, 471, 472, 473, 474, 475, 476, 477, 478, 479, 480, 481, 482, 483, 484, 485, 486, 487, 488, 489, 490, 491, 492, 493, 494, 495, 496, 497, 498, 499, 500, 501, 502, 503, 504, 505, 506, 507, 508, 509, 510, 511, 512, 513, 514, 515, 516, 517, 518, 519, 520, 521, 522, 523, 524, 525, 526, 527, 528, 529, 530, 531, 532, 533, 534, 535, 536, 537, 538, 539, 540, 541, 542, 543, 544, 545, 546, 547, 548, 549, 550, 551, 552, 553, 554, 555, 556, 557, 558, 559, 560, 561, 562, 563, 564, 565, 566, 567, 568, 569, 570, 571, 572, 573, 574, 575, 576, 577, 578, 579, 580, 581, 582, 583, 584, 585, 586, 587, 588, 589, 590, 591, 592, 593, 594, 595, 596, 597, 598, 599, 600, 601, 602, 603, 604, 605, 606, 607, 608, 609, 610, 611, 612, 613, 614, 615, 616, 617, 618, 619, 620, 621, 622, 623, 624, 625, 626, 627, 628, 322, 323, 324, 325, 326, 327, 328, 333, 334, 335, 336, 337, 338, 343, 344, 345, 346, 347, 375, 376, 377, 382, 383, 384, 385, 390, 391, 392, 393, 398, 399, 400, 405, 406, 407, 408, 413, 414, 415, 416, 417, 422, 423, 424, 429, 430, 431, 432, 437, 438, 439, 440, 441, 446, 447, 448, 449, 454, 455, 456, 457, 462, 463, 464, 465, 225, 226, 227, 228, 229, 234, 235, 236, 237, 242, 243, 244, 245, 246, 251, 252, 253, 254, 259, 260, 261, 266, 267, 268, 269, 270, 271, 276, 277, 278, 279, 280, 281, 286, 287, 288, 289, 290, 291, 296, 297, 298, 299, 300, 305, 306, 307, 308, 309, 314, 315, 316, 317, 352, 353, 354, 355, 360, 361, 362, 363, 368, 369, 370] (by decide +kernel)
theorem nw_nc : ∀ w ∈ tncs.map (fun q => Cond.not (.castable q.1 q.2)), w ∈ nwL := nw_places _ [14, 42, 56, 103, 101, 100, 124, 127, 126, 149, 153, 151] (by decide +kernel)
theorem nw_st : ∀ w ∈ ([.isRef (.static Bundle.tN "UNASSIGNED_STACK" Bundle.steD), .isRef (.static Bundle.tN "SUPPRESSED_SENTINEL" Bundle.listD), .eq (.static "java/lang/String" "COMPACT_STRINGS" "Z") (.int 1), .isRef (.static "jdk/internal/util/Preconditions" "SIOOBE_FORMATTER" "Ljava/util/function/BiFunction;")] : List Cond), w ∈ nwL := nw_places _ [4, 5, 6, 7] (by decide +kernel)
theorem tb_sr : ∀ w ∈ strT.map (fun q => Cond.stringRef q.1 q.2.1 q.2.2), w ∈ lw_tbl := tz_places _ [1836, 804, 805, 806, 814, 815, 816, 817, 818, 819, 820, 821, 826, 827, 828, 829, 713, 790, 791, 792, 793, 794, 795, 796, 797, 798, 799, 807, 808, 809] (by decide +kernel)
theorem tb_ls : ∀ w ∈ ([.laysStatic Bundle.tN "UNASSIGNED_STACK" Bundle.steD, .laysStatic Bundle.tN "SUPPRESSED_SENTINEL" Bundle.listD, .laysStatic "java/lang/String" "COMPACT_STRINGS" "Z", .laysStatic "jdk/internal/util/Preconditions" "SIOOBE_FORMATTER" "Ljava/util/function/BiFunction;", .initialized "java/lang/Throwable", .initialized "java/lang/String", .initialized "jdk/internal/util/Preconditions"] : List Cond), w ∈ lw_tbl := tz_places _ [241, 243, 727, 743, 169, 178, 184] (by decide +kernel)
def strNe (i j : Nat) : Bool := lenT.getD i 0 != lenT.getD j 0 || (List.range (lenT.getD i 0)).any (fun k => (bytT.getD i []).getD k 0 != (bytT.getD j []).getD k 0)
theorem strNe_all : (List.range nST).all (fun i => (List.range nST).all (fun j => i == j || strNe i j)) = true := by decide +kernel
theorem lenT_small : (List.range nST).all (fun i => decide (lenT.getD i 0 < 2 ^ 31)) = true := by decide +kernel
theorem eq_int {args : Array Value} {s : State} {t : Term} {x : Int32} (h : (Cond.eq t (.int x)).before args s = true) : t.eval args s none [] s = some (.int x) := by
  simp only [Cond.before, Cond.holds, Cond.value] at h
  cases ht : t.eval args s none [] s with
  | none => simp [ht] at h
  | some v =>
    have hx : (Term.int x).eval args s none [] s = some (.int x) := rfl
    rw [ht, hx] at h
    cases v <;> simp at h
    rw [h]
theorem start_K {args : Array Value} {s : State} (hts0 : ∀ w ∈ lw_tbl, w.before args s = true) : ∃ (dC : Nat → ClassId) (dI : Nat → Nat → Nat) (dA : Nat → ClassId), va_K (dC, dI) tcl (ttys dA) s := by
  have hts : ∀ w ∈ lw_all, w.before args s = true := fun w h => hts0 w (lw_all_tbl h)
  obtain ⟨c0, i0, h0⟩ := u_known (C := RX6) (T := TX6) (N := 42) (n := 42) hts in_X6 (hts _ q1612)
  obtain ⟨c1, i1, h1⟩ := u_known (C := RX0) (T := TX0) (N := 28) (n := 28) hts in_X0 (hts _ q198)
  obtain ⟨c2, i2, h2⟩ := u_known (C := RX1) (T := TX1) (N := 1) (n := 1) hts in_X1 (hts _ q207)
  obtain ⟨c3, i3, h3⟩ := u_known (C := RX2) (T := TX2) (N := 8) (n := 8) hts in_X2 (hts _ q217)
  obtain ⟨c4, i4, h4⟩ := u_known (C := RX3) (T := TX3) (N := 7) (n := 7) hts in_X3 (hts _ q288)
  obtain ⟨c5, i5, h5⟩ := u_known (C := RX4) (T := TX4) (N := 2) (n := 2) hts in_X4 (hts _ q307)
  obtain ⟨c6, i6, h6⟩ := u_known (C := RX5) (T := TX5) (N := 23) (n := 23) hts in_X5 (hts _ q313)
  obtain ⟨c7, i7, h7⟩ := u_known (C := RX8) (T := TX8) (N := 7) (n := 7) hts in_X8 (hts _ q899)
  obtain ⟨c8, i8, h8⟩ := u_known (C := RX13) (T := TX13) (N := 3) (n := 3) hts in_X13 (hts _ q1050)
  obtain ⟨c9, i9, h9⟩ := u_known (C := RX11) (T := TX11) (N := 3) (n := 3) hts in_X11 (hts _ q983)
  obtain ⟨c10, i10, h10⟩ := u_known (C := RX12) (T := TX12) (N := 6) (n := 6) hts in_X12 (hts _ q1023)
  obtain ⟨c11, i11, h11⟩ := u_known (C := RX7) (T := TX7) (N := 7) (n := 7) hts in_X7 (hts _ q669)
  obtain ⟨c12, i12, h12⟩ := u_known (C := RX14) (T := TX14) (N := 9) (n := 9) hts in_X14 (hts _ q1479)
  obtain ⟨a16, k16, m16, p16, q16, r16⟩ := Cond.arrayClass_spec (hts _ q434 : (Cond.arrayClass .int).holds args s none s [] = true)
  obtain ⟨a17, k17, m17, p17, q17, r17⟩ := Cond.arrayClass_spec (hts _ q433 : (Cond.arrayClass .long).holds args s none s [] = true)
  obtain ⟨a18, k18, m18, p18, q18, r18⟩ := Cond.arrayClass_spec (hts _ q286 : (Cond.arrayClass .byte).holds args s none s [] = true)
  obtain ⟨a19, k19, m19, p19, q19, r19⟩ := Cond.arrayClass_spec (hts _ q594 : (Cond.arrayClass .short).holds args s none s [] = true)
  obtain ⟨a20, k20, m20, p20, q20, r20⟩ := Cond.arrayClass_spec (hts _ q1748 : (Cond.arrayClass .boolean).holds args s none s [] = true)
  obtain ⟨m21, a21, k21, n21, -, p21, q21, r21⟩ := Cond.arrayOver_spec (hts0 _ q206 : (Cond.arrayOver (.object "CatWitness$Tray")).holds args s none s [] = true)
  obtain ⟨m22, a22, k22, n22, -, p22, q22, r22⟩ := Cond.arrayOver_spec (hts0 _ q444 : (Cond.arrayOver (.object "CatWitness$House")).holds args s none s [] = true)
  obtain ⟨m23, a23, k23, n23, -, p23, q23, r23⟩ := Cond.arrayOver_spec (hts0 _ q319 : (Cond.arrayOver (.object "CatWitness$Rule")).holds args s none s [] = true)
  obtain ⟨m24, a24, k24, n24, -, p24, q24, r24⟩ := Cond.arrayOver_spec (hts0 _ q995 : (Cond.arrayOver (.object "CatWitness$Step")).holds args s none s [] = true)
  refine ⟨fun k => match k with | 0 => c0 | 1 => c1 | 2 => c2 | 3 => c3 | 4 => c4 | 5 => c5 | 6 => c6 | 7 => c7 | 8 => c8 | 9 => c9 | 10 => c10 | 11 => c11 | 12 => c12 | _ => c0, fun k => match k with | 0 => i0 | 1 => i1 | 2 => i2 | 3 => i3 | 4 => i4 | 5 => i5 | 6 => i6 | 7 => i7 | 8 => i8 | 9 => i9 | 10 => i10 | 11 => i11 | 12 => i12 | _ => i0, fun k => match k with | 16 => a16 | 17 => a17 | 18 => a18 | 19 => a19 | 20 => a20 | 21 => a21 | 22 => a22 | 23 => a23 | _ => a24, ?_, ?_⟩
  · intro k q hq
    match k, hq with
    | 0, hq => cases hq; exact h0
    | 1, hq => cases hq; exact h1
    | 2, hq => cases hq; exact h2
    | 3, hq => cases hq; exact h3
    | 4, hq => cases hq; exact h4
    | 5, hq => cases hq; exact h5
    | 6, hq => cases hq; exact h6
    | 7, hq => cases hq; exact h7
    | 8, hq => cases hq; exact h8
    | 9, hq => cases hq; exact h9
    | 10, hq => cases hq; exact h10
    | 11, hq => cases hq; exact h11
    | 12, hq => cases hq; exact h12
    | k + 13, hq => simp [tcl] at hq
  · intro k q hq
    match k, hq with
    | 0, hq => cases hq; exact ⟨fun n z => ⟨fun k h => (by cases h), k16, q16, m16, r16⟩, p16⟩
    | 1, hq => cases hq; exact ⟨fun n z => ⟨fun k h => (by cases h), k17, q17, m17, r17⟩, p17⟩
    | 2, hq => cases hq; exact ⟨fun n z => ⟨fun k h => (by cases h), k18, q18, m18, r18⟩, p18⟩
    | 3, hq => cases hq; exact ⟨fun n z => ⟨fun k h => (by cases h), k19, q19, m19, r19⟩, p19⟩
    | 4, hq => cases hq; exact ⟨fun n z => ⟨fun k h => (by cases h), k20, q20, m20, r20⟩, p20⟩
    | 5, hq => cases hq; exact ⟨fun n z => ⟨fun k h => (by cases h), k21, p21, m21, q21⟩, k21, m21, p21, q21, n21, r21⟩
    | 6, hq => cases hq; exact ⟨fun n z => ⟨fun k h => (by cases h), k22, p22, m22, q22⟩, k22, m22, p22, q22, n22, r22⟩
    | 7, hq => cases hq; exact ⟨fun n z => ⟨fun k h => (by cases h), k23, p23, m23, q23⟩, k23, m23, p23, q23, n23, r23⟩
    | 8, hq => cases hq; exact ⟨fun n z => ⟨fun k h => (by cases h), k24, p24, m24, q24⟩, k24, m24, p24, q24, n24, r24⟩
    | k + 9, hq => simp [ttys] at hq
theorem start_S {args : Array Value} {s : State} {A : Nat → Prop} (hA : ∀ a : Nat, a < s.heap.size → ¬ A a) (hn : ∀ w ∈ nwL, w.before args s = true) : ∃ adK adV : Nat → Nat, vk_S nST lenT bytT adK adV A s s.heap ∧ ∀ i : Nat, i < nST → (tmS i).eval args s none [] s = some (.ref (adK i)) := by
  have rg : ∀ {f : Nat → Cond}, (∀ w ∈ (List.range nST).map f, w ∈ nwL) → ∀ i, i < nST → (f i).before args s = true := fun {f} h i hi => hn _ (h _ (List.mem_map.mpr ⟨i, List.mem_range.mpr hi, rfl⟩))
  have hle := rg nw_le
  have hex := rg nw_ex
  have hel : ∀ i : Nat, i < nST → ∀ j : Nat, j < lenT.getD i 0 → (Cond.eq (.elem (vS i) (.int (Int32.ofNat j))) (.int ((bytT.getD i []).getD j 0))).before args s = true := fun i hi j hj => hn _ (nw_el _ (List.mem_flatMap.mpr ⟨i, List.mem_range.mpr hi, List.mem_map.mpr ⟨j, List.mem_range.mpr hj, rfl⟩⟩))
  have hsm : ∀ i : Nat, i < nST → lenT.getD i 0 < 2 ^ 31 := fun i hi => by
    have := List.all_eq_true.mp lenT_small i (List.mem_range.mpr hi)
    simpa using this
  refine vk_Sof (args := args) (tm := tmS) hsm hex (rg nw_co) (rg nw_ar) hle hel (fun i j hi hj hij => Or.inl ?_) hA
  obtain ⟨ai, -, -, -, ei, -⟩ := Cond.exactly_spec (hex i hi)
  obtain ⟨aj, -, -, -, ej, -⟩ := Cond.exactly_spec (hex j hj)
  have hne : (tmS i).eval args s none [] s ≠ (tmS j).eval args s none [] s := fun he => by
    have hv : (vS i).eval args s none [] s = (vS j).eval args s none [] s := by simp only [vS, Term.eval, he]
    have hl : (Term.length (vS i)).eval args s none [] s = (Term.length (vS j)).eval args s none [] s := by simp only [Term.eval, hv]
    have l1 := eq_int (hle i hi)
    have l2 := eq_int (hle j hj)
    rw [hl, l2] at l1
    have l3 : Int32.ofNat (lenT.getD j 0) = Int32.ofNat (lenT.getD i 0) := by simpa using l1
    have l4 : lenT.getD j 0 = lenT.getD i 0 := (nI_eq (hsm j hj) (hsm i hi)).mp l3
    have h1 := List.all_eq_true.mp (List.all_eq_true.mp strNe_all i (List.mem_range.mpr hi)) j (List.mem_range.mpr hj)
    simp only [Bool.or_eq_true, beq_iff_eq, hij, false_or] at h1
    unfold strNe at h1
    rw [Bool.or_eq_true] at h1
    rcases h1 with h1 | h1
    · simp at h1
      exact h1 (by simpa using l4.symm)
    · obtain ⟨k, hk, h2⟩ := List.any_eq_true.mp h1
      have hk := List.mem_range.mp hk
      have e1 := eq_int (hel i hi k hk)
      have e2 := eq_int (hel j hj k (by rw [l4]; exact hk))
      have he2 : (Term.elem (vS i) (.int (Int32.ofNat k))).eval args s none [] s = (Term.elem (vS j) (.int (Int32.ofNat k))).eval args s none [] s := by simp only [Term.eval, hv]
      rw [he2, e2] at e1
      have e3 : (bytT.getD j []).getD k 0 = (bytT.getD i []).getD k 0 := by simpa using e1
      rw [e3] at h2
      simp at h2
  simp only [Cond.before, Cond.holds, Cond.value]
  rw [ei, ej] at hne ⊢
  simp at hne ⊢
  exact hne
