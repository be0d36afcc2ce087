/-! ROWS: what the machine throws by itself (an index, a negative size), caught by a caller -/
set_option maxRecDepth 100000
theorem tz_places (ws : List Cond) (ps : List Nat) (hp : ws = ps.filterMap (fun i => lw_tbl[i]?)) : ∀ w ∈ ws, w ∈ lw_tbl := by
  intro w h
  rw [hp] at h
  obtain ⟨i, -, hi⟩ := List.mem_filterMap.mp h
  exact List.mem_of_getElem? hi
def tz_AIO : String := "java/lang/ArrayIndexOutOfBoundsException"
def tz_NAS : String := "java/lang/NegativeArraySizeException"
def tz_upA : List String := ["java/lang/IndexOutOfBoundsException", "java/lang/RuntimeException", "java/lang/Exception"]
def tz_upN : List String := ["java/lang/RuntimeException", "java/lang/Exception"]
theorem tz_atA : ∀ w ∈ vx_atM tz_AIO tz_upA, w ∈ lw_tbl := tz_places _ [169, 236, 245, 250, 253, 255, 237, 238, 203, 204, 239, 244, 251, 271, 226, 272, 228, 273, 230, 240, 242, 232, 561, 562, 270, 232, 601, 602, 603, 604, 616, 604, 605, 606, 555, 572, 555, 556, 557, 558, 220, 558, 559, 560, 561, 222, 178, 574, 286, 575, 577, 576, 578, 180, 600, 614, 617, 248, 609, 610, 612, 608, 235, 234, 607] (by decide +kernel)
theorem tz_atN : ∀ w ∈ vx_atM tz_NAS tz_upN, w ∈ lw_tbl := tz_places _ [169, 236, 245, 250, 253, 255, 237, 238, 203, 204, 239, 244, 251, 271, 226, 272, 228, 273, 230, 240, 242, 232, 561, 562, 270, 232, 552, 553, 554, 555, 572, 555, 556, 557, 558, 220, 558, 559, 560, 561, 222, 178, 574, 286, 575, 577, 576, 578, 177, 551, 570, 573, 249, 565, 566, 568, 564, 235, 234, 563] (by decide +kernel)
theorem tz_okA : (vx_atM tz_AIO tz_upA).all (fun w => vx_ot w && (goodWord w || (tnest w && w.onTables))) = true := by decide +kernel
theorem tz_okN : (vx_atM tz_NAS tz_upN).all (fun w => vx_ot w && (goodWord w || (tnest w && w.onTables))) = true := by decide +kernel
theorem tz_at {Γ : tX} {cc : ByteArray} {own : String} {f L : Nat} (C : TC Γ cc own f L) {ws : List Cond} (h : ∀ w ∈ ws, w ∈ lw_tbl) (hg : ws.all (fun w => vx_ot w && (goodWord w || (tnest w && w.onTables))) = true) : (∀ w ∈ ws, w.before (xargs Γ) (xs Γ) = true) ∧ ∀ w ∈ ws, vx_ot w = true := by
  refine ⟨fun w hw => ?_, fun w hw => ?_⟩
  · have g := List.all_eq_true.mp hg w hw
    simp only [Bool.and_eq_true, Bool.or_eq_true] at g
    rcases g.2 with g | g
    · exact C.ts _ (List.mem_filter.mpr ⟨h w hw, g⟩)
    · exact va_Nw.use g.2 (C.K.2.1 w (h w hw) g.1)
  · have g := List.all_eq_true.mp hg w hw
    simp only [Bool.and_eq_true] at g
    exact g.1
theorem tH_grow {G : tG} {ad : Nat → Nat} {A : Nat → Prop} {S : tS} {H H1 : Heap} (h : tH G ad A S H) (hq : ∀ q : Nat, q < H.size → H1[q]? = H[q]?) : tH G ad A S H1 := by
  obtain ⟨hw, Ls, g1, g2, g3, g4⟩ := h
  exact ⟨hw, Ls, g1, g2, g3.kept (fun k x hx => hq x.1 ((g3 k x hx).lt)), g4⟩
section TVM
variable {Γ : tX} {cc : ByteArray} {own : String} {f L : Nat} {N0 : Nat → Nat} {uc us pc : Nat} {lv lv' : List (Nat × Value)} {st : List Value} {S : tS}
/-- the machine's note, in the world of tags -/
theorem tz_note (C : TC Γ cc own f L) (hst : (xl Γ).stackTraces = false) {cls text : String} {names : List String} {nb : Nat} {H : Heap} {locs : List Loc} {ls : Array Slot} (hw1 : ∀ w ∈ vx_atM cls names, w ∈ lw_tbl) (hw2 : (vx_atM cls names).all (fun w => vx_ot w && (goodWord w || (tnest w && w.onTables))) = true) (hcls : Bundle.fit cls = true) (hnames : ∀ n ∈ names, Bundle.fit n = true) (hsoe : (cls == "java/lang/StackOverflowError") = false) (hoom : (cls == "java/lang/OutOfMemoryError") = false)
    (htext : (text == notModelled) = false) (hnb : (stringBytes (stringToUtf16 text)).size ≤ nb) (hnb1 : nb ≤ 1000) (hlen : names.length ≤ 3) (hf : 12 ≤ f) (hL : 10260 ≤ L) (hrest : (st.map fun v => v.category).sum ≤ 8) (hu : uc + 3 ≤ (xR Γ).cells ∧ us + (nb + 10) ≤ (xR Γ).slots) (h1 : gN S = N0) (hH : tH (xG Γ) (xad Γ) (xA Γ) S H) (hS : va_S (xA Γ) (xs Γ).heap H locs) (hl : lv_has ls (xnL Γ) lv) (kx : ∀ q : Nat, TXJ Γ N0 (uc + 3) (us + (nb + 10)) pc lv S cls q) :
    vx_Note (xp Γ) (xl Γ) (xe Γ) (xR Γ) (xs Γ) (xm Γ) (xargs Γ) (xbelow Γ) (xmeth Γ) (xc Γ) H locs uc us (xQ Γ) (F0 (xm Γ) pc ls st) cls text := by
  obtain ⟨w1, w2⟩ := tz_at C hw1 hw2
  have hfr := C.fr
  have hlo := C.lo
  refine vx_vm (nb := nb) C.x hst hcls hnames hsoe hoom w1 w2 C.Z.2.1 C.Z.2.2.1 hS (by rw [hl.1]; exact C.ml.symm) htext hnb hnb1 (by omega) (by omega) (by omega) hu.1 hu.2 C.lk (fun H1 q9 ce z1 z2 z3 z4 z5 z6 => ?_)
  exact kx q9 h1 hu.1 hu.2 H1 locs ls st ce (tH_grow hH z2) z3 hl z4 z5 z6
theorem tj_ialdV (C : TC Γ cc own f L) (hst : (xl Γ).stackTraces = false) (t : Nat) {i : Int32} (hk : t % 32 = 16) (hn0 : N0 t ≠ 0) (hout : ¬ vp_in i (gN S t - 1)) (hsz : gN S t ≤ 1000) (hf : 12 ≤ f) (hL : 10260 ≤ L) (hrest : (st.map fun v => v.category).sum ≤ 8) (hu : uc + 3 ≤ (xR Γ).cells ∧ us + 222 ≤ (xR Γ).slots) (hd : decode cc pc = .ok (.iaload, 1)) (kx : ∀ q : Nat, TXJ Γ N0 (uc + 3) (us + 222) pc lv S tz_AIO q) : TJ Γ N0 uc us pc lv (.int i :: .ref (xad Γ t) :: st) S := by
  intro h1 h2 h3 H locs ls hH hS hl
  obtain ⟨n, hn⟩ : ∃ n, N0 t = n + 1 := ⟨N0 t - 1, by omega⟩
  have hP := tH_one hH (t := t) (by rw [h1, hn]; omega)
  rw [tEn_i _ _ _ hk (by omega) (by rw [h1]; exact hn)] at hP
  rw [h1, hn] at hout hsz
  exact vx_ialdZ (D := (xG Γ).1) C.x C.b C.K.1 hP 0 0 rfl rfl hout hd (fun tx htx => tz_note C hst tz_atA tz_okA (by decide +kernel) (by decide +kernel) (by decide) (by decide) (by rw [htx]; exact index_text_modelled i _) (by rw [htx]; exact index_text_bytes i (by omega)) (by omega) (by decide) hf hL hrest hu h1 hH hS hl kx)
theorem tj_laldV (C : TC Γ cc own f L) (hst : (xl Γ).stackTraces = false) (t : Nat) {i : Int32} (hk : t % 32 = 17) (hn0 : N0 t ≠ 0) (hout : ¬ vp_in i (gN S t - 1)) (hsz : gN S t ≤ 1000) (hf : 12 ≤ f) (hL : 10260 ≤ L) (hrest : (st.map fun v => v.category).sum ≤ 8) (hu : uc + 3 ≤ (xR Γ).cells ∧ us + 222 ≤ (xR Γ).slots) (hd : decode cc pc = .ok (.laload, 1)) (kx : ∀ q : Nat, TXJ Γ N0 (uc + 3) (us + 222) pc lv S tz_AIO q) : TJ Γ N0 uc us pc lv (.int i :: .ref (xad Γ t) :: st) S := by
  intro h1 h2 h3 H locs ls hH hS hl
  obtain ⟨n, hn⟩ : ∃ n, N0 t = n + 1 := ⟨N0 t - 1, by omega⟩
  have hP := tH_one hH (t := t) (by rw [h1, hn]; omega)
  rw [tEn_l _ _ _ hk (by rw [h1]; exact hn)] at hP
  rw [h1, hn] at hout hsz
  exact vx_laldZ (D := (xG Γ).1) C.x C.b C.K.1 hP 0 1 rfl rfl hout hd (fun tx htx => tz_note C hst tz_atA tz_okA (by decide +kernel) (by decide +kernel) (by decide) (by decide) (by rw [htx]; exact index_text_modelled i _) (by rw [htx]; exact index_text_bytes i (by omega)) (by omega) (by decide) hf hL hrest hu h1 hH hS hl kx)
theorem tj_baldV (C : TC Γ cc own f L) (hst : (xl Γ).stackTraces = false) (t : Nat) {i : Int32} (hk : t % 32 = 18) (hn0 : N0 t ≠ 0) (hout : ¬ vp_in i (gN S t - 1)) (hsz : gN S t ≤ 1000) (hf : 12 ≤ f) (hL : 10260 ≤ L) (hrest : (st.map fun v => v.category).sum ≤ 8) (hu : uc + 3 ≤ (xR Γ).cells ∧ us + 222 ≤ (xR Γ).slots) (hd : decode cc pc = .ok (.baload, 1)) (kx : ∀ q : Nat, TXJ Γ N0 (uc + 3) (us + 222) pc lv S tz_AIO q) : TJ Γ N0 uc us pc lv (.int i :: .ref (xad Γ t) :: st) S := by
  intro h1 h2 h3 H locs ls hH hS hl
  obtain ⟨n, hn⟩ : ∃ n, N0 t = n + 1 := ⟨N0 t - 1, by omega⟩
  have hP := tH_one hH (t := t) (by rw [h1, hn]; omega)
  rw [tEn_i _ _ _ hk (by omega) (by rw [h1]; exact hn)] at hP
  rw [h1, hn] at hout hsz
  exact vx_baldZ (D := (xG Γ).1) C.x C.b C.K.1 hP 0 2 rfl rfl hout hd (fun tx htx => tz_note C hst tz_atA tz_okA (by decide +kernel) (by decide +kernel) (by decide) (by decide) (by rw [htx]; exact index_text_modelled i _) (by rw [htx]; exact index_text_bytes i (by omega)) (by omega) (by decide) hf hL hrest hu h1 hH hS hl kx)
theorem tj_saldV (C : TC Γ cc own f L) (hst : (xl Γ).stackTraces = false) (t : Nat) {i : Int32} (hk : t % 32 = 19) (hn0 : N0 t ≠ 0) (hout : ¬ vp_in i (gN S t - 1)) (hsz : gN S t ≤ 1000) (hf : 12 ≤ f) (hL : 10260 ≤ L) (hrest : (st.map fun v => v.category).sum ≤ 8) (hu : uc + 3 ≤ (xR Γ).cells ∧ us + 222 ≤ (xR Γ).slots) (hd : decode cc pc = .ok (.saload, 1)) (kx : ∀ q : Nat, TXJ Γ N0 (uc + 3) (us + 222) pc lv S tz_AIO q) : TJ Γ N0 uc us pc lv (.int i :: .ref (xad Γ t) :: st) S := by
  intro h1 h2 h3 H locs ls hH hS hl
  obtain ⟨n, hn⟩ : ∃ n, N0 t = n + 1 := ⟨N0 t - 1, by omega⟩
  have hP := tH_one hH (t := t) (by rw [h1, hn]; omega)
  rw [tEn_i _ _ _ hk (by omega) (by rw [h1]; exact hn)] at hP
  rw [h1, hn] at hout hsz
  exact vx_saldZ (D := (xG Γ).1) C.x C.b C.K.1 hP 0 3 rfl rfl hout hd (fun tx htx => tz_note C hst tz_atA tz_okA (by decide +kernel) (by decide +kernel) (by decide) (by decide) (by rw [htx]; exact index_text_modelled i _) (by rw [htx]; exact index_text_bytes i (by omega)) (by omega) (by decide) hf hL hrest hu h1 hH hS hl kx)
theorem tj_iastV (C : TC Γ cc own f L) (hst : (xl Γ).stackTraces = false) (t : Nat) {i : Int32} {x : Int32} (hk : t % 32 = 16) (hn0 : N0 t ≠ 0) (hout : ¬ vp_in i (gN S t - 1)) (hsz : gN S t ≤ 1000) (hf : 12 ≤ f) (hL : 10260 ≤ L) (hrest : (st.map fun v => v.category).sum ≤ 8) (hu : uc + 3 ≤ (xR Γ).cells ∧ us + 222 ≤ (xR Γ).slots) (hd : decode cc pc = .ok (.iastore, 1)) (kx : ∀ q : Nat, TXJ Γ N0 (uc + 3) (us + 222) pc lv S tz_AIO q) : TJ Γ N0 uc us pc lv (.int x :: .int i :: .ref (xad Γ t) :: st) S := by
  intro h1 h2 h3 H locs ls hH hS hl
  obtain ⟨n, hn⟩ : ∃ n, N0 t = n + 1 := ⟨N0 t - 1, by omega⟩
  have hP := tH_one hH (t := t) (by rw [h1, hn]; omega)
  rw [tEn_i _ _ _ hk (by omega) (by rw [h1]; exact hn)] at hP
  rw [h1, hn] at hout hsz
  exact vx_iastZ (D := (xG Γ).1) C.x C.b C.K.1 hP 0 0 rfl rfl hout hd (fun tx htx => tz_note C hst tz_atA tz_okA (by decide +kernel) (by decide +kernel) (by decide) (by decide) (by rw [htx]; exact index_text_modelled i _) (by rw [htx]; exact index_text_bytes i (by omega)) (by omega) (by decide) hf hL hrest hu h1 hH hS hl kx)
theorem tj_lastV (C : TC Γ cc own f L) (hst : (xl Γ).stackTraces = false) (t : Nat) {i : Int32} {x : Int64} (hk : t % 32 = 17) (hn0 : N0 t ≠ 0) (hout : ¬ vp_in i (gN S t - 1)) (hsz : gN S t ≤ 1000) (hf : 12 ≤ f) (hL : 10260 ≤ L) (hrest : (st.map fun v => v.category).sum ≤ 8) (hu : uc + 3 ≤ (xR Γ).cells ∧ us + 222 ≤ (xR Γ).slots) (hd : decode cc pc = .ok (.lastore, 1)) (kx : ∀ q : Nat, TXJ Γ N0 (uc + 3) (us + 222) pc lv S tz_AIO q) : TJ Γ N0 uc us pc lv (.long x :: .int i :: .ref (xad Γ t) :: st) S := by
  intro h1 h2 h3 H locs ls hH hS hl
  obtain ⟨n, hn⟩ : ∃ n, N0 t = n + 1 := ⟨N0 t - 1, by omega⟩
  have hP := tH_one hH (t := t) (by rw [h1, hn]; omega)
  rw [tEn_l _ _ _ hk (by rw [h1]; exact hn)] at hP
  rw [h1, hn] at hout hsz
  exact vx_lastZ (D := (xG Γ).1) C.x C.b C.K.1 hP 0 1 rfl rfl hout hd (fun tx htx => tz_note C hst tz_atA tz_okA (by decide +kernel) (by decide +kernel) (by decide) (by decide) (by rw [htx]; exact index_text_modelled i _) (by rw [htx]; exact index_text_bytes i (by omega)) (by omega) (by decide) hf hL hrest hu h1 hH hS hl kx)
theorem tj_bastV (C : TC Γ cc own f L) (hst : (xl Γ).stackTraces = false) (t : Nat) {i : Int32} {x : Int32} (hk : t % 32 = 18) (hn0 : N0 t ≠ 0) (hout : ¬ vp_in i (gN S t - 1)) (hsz : gN S t ≤ 1000) (hf : 12 ≤ f) (hL : 10260 ≤ L) (hrest : (st.map fun v => v.category).sum ≤ 8) (hu : uc + 3 ≤ (xR Γ).cells ∧ us + 222 ≤ (xR Γ).slots) (hd : decode cc pc = .ok (.bastore, 1)) (kx : ∀ q : Nat, TXJ Γ N0 (uc + 3) (us + 222) pc lv S tz_AIO q) : TJ Γ N0 uc us pc lv (.int x :: .int i :: .ref (xad Γ t) :: st) S := by
  intro h1 h2 h3 H locs ls hH hS hl
  obtain ⟨n, hn⟩ : ∃ n, N0 t = n + 1 := ⟨N0 t - 1, by omega⟩
  have hP := tH_one hH (t := t) (by rw [h1, hn]; omega)
  rw [tEn_i _ _ _ hk (by omega) (by rw [h1]; exact hn)] at hP
  rw [h1, hn] at hout hsz
  exact vx_bastZ (D := (xG Γ).1) C.x C.b C.K.1 hP 0 2 rfl rfl hout hd (fun tx htx => tz_note C hst tz_atA tz_okA (by decide +kernel) (by decide +kernel) (by decide) (by decide) (by rw [htx]; exact index_text_modelled i _) (by rw [htx]; exact index_text_bytes i (by omega)) (by omega) (by decide) hf hL hrest hu h1 hH hS hl kx)
theorem tj_sastV (C : TC Γ cc own f L) (hst : (xl Γ).stackTraces = false) (t : Nat) {i : Int32} {x : Int32} (hk : t % 32 = 19) (hn0 : N0 t ≠ 0) (hout : ¬ vp_in i (gN S t - 1)) (hsz : gN S t ≤ 1000) (hf : 12 ≤ f) (hL : 10260 ≤ L) (hrest : (st.map fun v => v.category).sum ≤ 8) (hu : uc + 3 ≤ (xR Γ).cells ∧ us + 222 ≤ (xR Γ).slots) (hd : decode cc pc = .ok (.sastore, 1)) (kx : ∀ q : Nat, TXJ Γ N0 (uc + 3) (us + 222) pc lv S tz_AIO q) : TJ Γ N0 uc us pc lv (.int x :: .int i :: .ref (xad Γ t) :: st) S := by
  intro h1 h2 h3 H locs ls hH hS hl
  obtain ⟨n, hn⟩ : ∃ n, N0 t = n + 1 := ⟨N0 t - 1, by omega⟩
  have hP := tH_one hH (t := t) (by rw [h1, hn]; omega)
  rw [tEn_i _ _ _ hk (by omega) (by rw [h1]; exact hn)] at hP
  rw [h1, hn] at hout hsz
  exact vx_sastZ (D := (xG Γ).1) C.x C.b C.K.1 hP 0 3 rfl rfl hout hd (fun tx htx => tz_note C hst tz_atA tz_okA (by decide +kernel) (by decide +kernel) (by decide) (by decide) (by rw [htx]; exact index_text_modelled i _) (by rw [htx]; exact index_text_bytes i (by omega)) (by omega) (by decide) hf hL hrest hu h1 hH hS hl kx)
theorem tz_int_text (n : Int32) : (toString n == notModelled) = false ∧ (stringBytes (stringToUtf16 (toString n))).size ≤ 44 := by
  have h := int32_print n
  refine ⟨?_, ?_⟩
  · have h2 : notModelled.toList.length > 11 := by decide +kernel
    rw [beq_eq_false_iff_ne]
    intro e
    rw [e] at h
    omega
  · have a := stringBytes_size_le (stringToUtf16 (toString n))
    have b := utf16_size_le (toString n)
    omega
theorem tj_newarrV (C : TC Γ cc own f L) (hst : (xl Γ).stackTraces = false) {atype : ArrayType} {x : Int32} (hx : x < nI 0) (hf : 12 ≤ f) (hL : 10260 ≤ L) (hrest : (st.map fun v => v.category).sum ≤ 8) (hu : uc + 3 ≤ (xR Γ).cells ∧ us + 222 ≤ (xR Γ).slots) (hd : decode cc pc = .ok (.newarray atype, 2)) (kx : ∀ q : Nat, TXJ Γ N0 (uc + 3) (us + 222) pc lv S tz_NAS q) : TJ Γ N0 uc us pc lv (.int x :: st) S := by
  intro h1 h2 h3 H locs ls hH hS hl
  exact vx_newarrayZ C.x C.b (by rw [nI_0] at hx; exact hx) hd (fun tx htx => tz_note (nb := 212) C hst tz_atN tz_okN (by decide +kernel) (by decide +kernel) (by decide) (by decide) (by rw [htx]; exact (tz_int_text x).1) (by rw [htx]; exact Nat.le_trans (tz_int_text x).2 (by omega)) (by omega) (by decide) hf hL hrest hu h1 hH hS hl kx)
end TVM
def tBXV (G : tG) (ad : Nat → Nat) (A : Nat → Prop) (N0 : Nat → Nat) (En : String) : String → Addr → tS → State → Prop := fun E q u t => E = En ∧ tBE G ad A N0 u t
def TEXV (Γ : tX) (N0 : Nat → Nat) (mc ms : Nat) (En : String) (KX : tS → Prop) : Prop := ∀ (N1 : Nat → Nat) (pc : Nat) (lv : List (Nat × Value)) (S : tS) (q : Nat), tExt N0 N1 → KX S → TXJ Γ N1 mc ms pc lv S En q
section TEVROWS
variable {Γ : tX} {cc : ByteArray} {own : String} {f L : Nat} {N0 : Nat → Nat} {uc us pc : Nat} {lv lv' : List (Nat × Value)} {st : List Value} {S : tS}
theorem te_xSvV (C : TC Γ cc own f L) {y : MethodName} {bytes : ByteArray} {maxL f1 L1 mc ms n index : Nat} {En : String} {post : tS → Prop} {px : tS → Prop} (As rest : List Value)
    (hM : gN S = N0 → vx_Met (xl Γ) y (ws_ y bytes maxL (none)) (tRe f1 L1 mc ms) (tSP Γ As S) (va_Qv post (tBBE Γ (gN S)) (xA Γ)) (vx_X px (tBXV (xG Γ) (xad Γ) (xA Γ) (gN S) En) (xA Γ)) mc ms (xA Γ)) (hlk : GoodIn lw_all (va_wsS own index y (ws_ y bytes maxL (none)))) (hy : tyOk y n) (hn : As.length = n) (hf : f1 + 1 ≤ f) (hL : 8 + (maxL + 11) + L1 ≤ L) (hu : uc + mc ≤ (xR Γ).cells ∧ us + ms ≤ (xR Γ).slots) (hrest : (rest.map fun v => v.category).sum ≤ 8) (hst : st = As.reverse ++ rest) (hd : decode cc pc = .ok (.invokestatic index, 3))
    (kx : ∀ (q9 : Nat) (u : tS) (N1 : Nat → Nat), px u → gN u = N1 → tExt N0 N1 → tWf N1 → TXJ Γ N1 (uc + mc) (us + ms) pc lv u En q9) (kk : ∀ (u : tS) (N1 : Nat → Nat), post u → gN u = N1 → tExt N0 N1 → tWf N1 → TJ Γ N1 (uc + mc) (us + ms) (pc + 3) lv rest u) : TJ Γ N0 uc us pc lv st S := by
  intro h1 h2 h3 H locs ls hH hS hl
  exact vx_callv (vx_runS (As := As) (rest := rest) ⟨C.x, C.b, C.ml, C.ow, C.ts⟩ (hM h1) (va_cwS n C.ts hlk rfl rfl rfl hy ⟨Nat.le_trans hf C.fr, Nat.le_trans hL C.lo⟩) ⟨tPre_blind, tj_pre C hH hS _⟩ rfl hn hl.1 hst (lv_room hrest) hd hu) hS (fun q _ h => h) (fun q h => h) (fun q _ h => h)
    (fun E ce q9 u t H1 locs1 ht hvm hp hB hz hk hS1 g1 g2 g3 => by obtain ⟨e1, e3⟩ := hB; subst e1; exact kx q9 u _ hp rfl (by rw [← h1]; exact e3.2) e3.1.1 rfl hu.1 hu.2 H1 locs1 ls rest ce (by rw [← ht]; exact e3.1) hS1 hl g1 g2 g3) (fun u t H1 locs1 ht hvm hp hB hz hk hS1 => kk u _ hp rfl (by rw [← h1]; exact hB.2) hB.1.1 rfl hu.1 hu.2 H1 locs1 ls (by rw [← ht]; exact hB.1) hS1 hl)
theorem te_xSlV (C : TC Γ cc own f L) {y : MethodName} {bytes : ByteArray} {maxL f1 L1 mc ms n index : Nat} {En : String} {post : Int64 → tS → Prop} {px : tS → Prop} (As rest : List Value)
    (hM : gN S = N0 → vx_Met (xl Γ) y (ws_ y bytes maxL (some .long)) (tRe f1 L1 mc ms) (tSP Γ As S) (va_Ql post (tBBE Γ (gN S)) (xA Γ)) (vx_X px (tBXV (xG Γ) (xad Γ) (xA Γ) (gN S) En) (xA Γ)) mc ms (xA Γ)) (hlk : GoodIn lw_all (va_wsS own index y (ws_ y bytes maxL (some .long)))) (hy : tyOk y n) (hn : As.length = n) (hf : f1 + 1 ≤ f) (hL : 8 + (maxL + 11) + L1 ≤ L) (hu : uc + mc ≤ (xR Γ).cells ∧ us + ms ≤ (xR Γ).slots) (hrest : (rest.map fun v => v.category).sum ≤ 8) (hst : st = As.reverse ++ rest) (hd : decode cc pc = .ok (.invokestatic index, 3))
    (kx : ∀ (q9 : Nat) (u : tS) (N1 : Nat → Nat), px u → gN u = N1 → tExt N0 N1 → tWf N1 → TXJ Γ N1 (uc + mc) (us + ms) pc lv u En q9) (kk : ∀ (r : Int64) (u : tS) (N1 : Nat → Nat), post r u → gN u = N1 → tExt N0 N1 → tWf N1 → TJ Γ N1 (uc + mc) (us + ms) (pc + 3) lv (.long r :: rest) u) : TJ Γ N0 uc us pc lv st S := by
  intro h1 h2 h3 H locs ls hH hS hl
  exact vx_calll (vx_runS (As := As) (rest := rest) ⟨C.x, C.b, C.ml, C.ow, C.ts⟩ (hM h1) (va_cwS n C.ts hlk rfl rfl rfl hy ⟨Nat.le_trans hf C.fr, Nat.le_trans hL C.lo⟩) ⟨tPre_blind, tj_pre C hH hS _⟩ rfl hn hl.1 hst (lv_room hrest) hd hu) hS (fun q _ h => h) (fun q h => h) (fun q _ h => h)
    (fun E ce q9 u t H1 locs1 ht hvm hp hB hz hk hS1 g1 g2 g3 => by obtain ⟨e1, e3⟩ := hB; subst e1; exact kx q9 u _ hp rfl (by rw [← h1]; exact e3.2) e3.1.1 rfl hu.1 hu.2 H1 locs1 ls rest ce (by rw [← ht]; exact e3.1) hS1 hl g1 g2 g3) (fun r u t H1 locs1 ht hvm hp hB hz hk hS1 => kk r u _ hp rfl (by rw [← h1]; exact hB.2) hB.1.1 rfl hu.1 hu.2 H1 locs1 ls (by rw [← ht]; exact hB.1) hS1 hl)
theorem te_xSaV (C : TC Γ cc own f L) {y : MethodName} {bytes : ByteArray} {maxL f1 L1 mc ms n index : Nat} {En : String} {rt : FieldType} {post : Nat → tS → Prop} {px : tS → Prop} (As rest : List Value)
    (hM : gN S = N0 → vx_Met (xl Γ) y (ws_ y bytes maxL (some rt)) (tRe f1 L1 mc ms) (tSP Γ As S) (va_Qq (fun r (u : tS × Nat) => r = some (xad Γ u.2) ∧ post u.2 u.1) (fun u t => tBBE Γ (gN S) u.1 t) (xA Γ)) (vx_X px (tBXV (xG Γ) (xad Γ) (xA Γ) (gN S) En) (xA Γ)) mc ms (xA Γ)) (hlk : GoodIn lw_all (va_wsS own index y (ws_ y bytes maxL (some rt)))) (hy : tyOk y n) (hn : As.length = n) (hf : f1 + 1 ≤ f) (hL : 8 + (maxL + 11) + L1 ≤ L) (hu : uc + mc ≤ (xR Γ).cells ∧ us + ms ≤ (xR Γ).slots) (hrest : (rest.map fun v => v.category).sum ≤ 8) (hst : st = As.reverse ++ rest) (hd : decode cc pc = .ok (.invokestatic index, 3))
    (kx : ∀ (q9 : Nat) (u : tS) (N1 : Nat → Nat), px u → gN u = N1 → tExt N0 N1 → tWf N1 → TXJ Γ N1 (uc + mc) (us + ms) pc lv u En q9) (kk : ∀ (r : Nat) (u : tS) (N1 : Nat → Nat), post r u → gN u = N1 → tExt N0 N1 → tWf N1 → TJ Γ N1 (uc + mc) (us + ms) (pc + 3) lv (.ref (xad Γ r) :: rest) u) : TJ Γ N0 uc us pc lv st S := by
  intro h1 h2 h3 H locs ls hH hS hl
  exact vx_callq (vx_runS (As := As) (rest := rest) ⟨C.x, C.b, C.ml, C.ow, C.ts⟩ (hM h1) (va_cwS n C.ts hlk rfl rfl rfl hy ⟨Nat.le_trans hf C.fr, Nat.le_trans hL C.lo⟩) ⟨tPre_blind, tj_pre C hH hS _⟩ rfl hn hl.1 hst (lv_room hrest) hd hu) hS (fun q _ h => h) (fun q h => h) (fun q _ h => h)
    (fun E ce q9 u t H1 locs1 ht hvm hp hB hz hk hS1 g1 g2 g3 => by obtain ⟨e1, e3⟩ := hB; subst e1; exact kx q9 u _ hp rfl (by rw [← h1]; exact e3.2) e3.1.1 rfl hu.1 hu.2 H1 locs1 ls rest ce (by rw [← ht]; exact e3.1) hS1 hl g1 g2 g3)
    (fun r u t H1 locs1 ht hvm hp hB hz hk hS1 => by rw [hp.1]; exact kk u.2 u.1 _ hp.2 rfl (by rw [← h1]; exact hB.2) hB.1.1 rfl hu.1 hu.2 H1 locs1 ls (by rw [← ht]; exact hB.1) hS1 hl)
end TEVROWS
theorem te_xmetV_v {l : Launch} {y : MethodName} {cc : ByteArray} {nL f L mc ms : Nat} {En : String} {av : List Value} (lv : List (Nat × Value)) {G : tG} {ad : Nat → Nat} {A : Nat → Prop} {S : tS} {K : tS → Prop} {KX : tS → Prop} (hy : plainName y.cls = true) (hlv : lv_args 0 av = lv) (hsl : (lg_sl av).length ≤ nL)
    (body : ∀ (p : Program) (e : Env) (R : Room) (s : State) (m : MethodId) (args : Array Value) (below : List Frame) (meth : Method) (c : Code) (Q : State → Prop), TC (G, A, p, l, e, R, s, m, args, below, meth, c, Q, ad, nL) cc y.cls f L → tWf (gN S) → (mc ≤ R.cells ∧ ms ≤ R.slots) → TEv (G, A, p, l, e, R, s, m, args, below, meth, c, Q, ad, nL) (gN S) mc ms cc K → TEXV (G, A, p, l, e, R, s, m, args, below, meth, c, Q, ad, nL) (gN S) mc ms En KX → TJ (G, A, p, l, e, R, s, m, args, below, meth, c, Q, ad, nL) (gN S) 0 0 0 lv [] S) :
    vx_Met l y (ws_ y cc nL (none)) (tRe f L mc ms) (va_Pc av (tPre G ad A S)) (va_Qv K (tBE G ad A (gN S)) A) (vx_X KX (tBXV G ad A (gN S) En) A) mc ms A := by
  refine vx_ofW (cc := cc) (maxL := nL) (ret := none) hy rfl ?_
  intro p e s m args below meth c s₁ B hml htab hv
  obtain ⟨rfl, hA, hH, hK, hZ⟩ := hv
  rw [lg_entry_eq]
  have hl := lv_entry av hsl
  generalize (lg_sl av ++ List.replicate (nL - (lg_sl av).length) Slot.unset).toArray = ls at hl ⊢
  rw [hlv] at hl
  have hts := atoms_spec (ws := ws_ y cc nL (none)) B.pre
  refine body p e _ s m _ below meth c _ ⟨B.exec, B.bytes, hml, findClass_of_methodNamed B.named, fun w h => hts w (List.mem_cons_of_mem _ h), B.notSynchronized, hK, hA, Nat.le_refl _, Nat.le_refl _, hZ⟩ hH.1 ⟨Nat.le_refl _, Nat.le_refl _⟩ ?_ ?_ rfl (Nat.zero_le _) (Nat.zero_le _) s.heap [] ls hH va_S.rf hl
  · intro N1 pc lv S1 hx hd hKv hN _ _ H locs ls hH1 hS _
    exact vx_ret (W.vret B.exec B.bytes B.returns (fun t ht hW => ⟨⟨S1, rfl, hKv, by rw [ht]; exact hH1, (by rw [hN]; exact hx)⟩, hS.F ht⟩) hS.2.2 hd B.notSynchronized)
  · intro N1 pc lv S1 q9 hx hKX hN _ _ H locs ls st ce hH1 hS _ g1 g2 g3
    exact vx_out (fun x hx => (htab x hx).elim) B.notSynchronized g1 g2 g3 (fun t ht hvm => ⟨S1, hKX, ⟨rfl, by rw [ht]; exact hH1, (by rw [hN]; exact hx)⟩, hS.F ht⟩) hS.2.2 (Nat.le_refl _) (Nat.le_refl _)
theorem te_xmetV_l {l : Launch} {y : MethodName} {cc : ByteArray} {nL f L mc ms : Nat} {En : String} {av : List Value} (lv : List (Nat × Value)) {G : tG} {ad : Nat → Nat} {A : Nat → Prop} {S : tS} {K : Int64 → tS → Prop} {KX : tS → Prop} (hy : plainName y.cls = true) (hlv : lv_args 0 av = lv) (hsl : (lg_sl av).length ≤ nL)
    (body : ∀ (p : Program) (e : Env) (R : Room) (s : State) (m : MethodId) (args : Array Value) (below : List Frame) (meth : Method) (c : Code) (Q : State → Prop), TC (G, A, p, l, e, R, s, m, args, below, meth, c, Q, ad, nL) cc y.cls f L → tWf (gN S) → (mc ≤ R.cells ∧ ms ≤ R.slots) → TEl (G, A, p, l, e, R, s, m, args, below, meth, c, Q, ad, nL) (gN S) mc ms cc K → TEXV (G, A, p, l, e, R, s, m, args, below, meth, c, Q, ad, nL) (gN S) mc ms En KX → TJ (G, A, p, l, e, R, s, m, args, below, meth, c, Q, ad, nL) (gN S) 0 0 0 lv [] S) :
    vx_Met l y (ws_ y cc nL (some .long)) (tRe f L mc ms) (va_Pc av (tPre G ad A S)) (va_Ql K (tBE G ad A (gN S)) A) (vx_X KX (tBXV G ad A (gN S) En) A) mc ms A := by
  refine vx_ofW (cc := cc) (maxL := nL) (ret := some .long) hy rfl ?_
  intro p e s m args below meth c s₁ B hml htab hv
  obtain ⟨rfl, hA, hH, hK, hZ⟩ := hv
  rw [lg_entry_eq]
  have hl := lv_entry av hsl
  generalize (lg_sl av ++ List.replicate (nL - (lg_sl av).length) Slot.unset).toArray = ls at hl ⊢
  rw [hlv] at hl
  have hts := atoms_spec (ws := ws_ y cc nL (some .long)) B.pre
  refine body p e _ s m _ below meth c _ ⟨B.exec, B.bytes, hml, findClass_of_methodNamed B.named, fun w h => hts w (List.mem_cons_of_mem _ h), B.notSynchronized, hK, hA, Nat.le_refl _, Nat.le_refl _, hZ⟩ hH.1 ⟨Nat.le_refl _, Nat.le_refl _⟩ ?_ ?_ rfl (Nat.zero_le _) (Nat.zero_le _) s.heap [] ls hH va_S.rf hl
  · intro N1 pc lv v S1 hx hd hKv hN _ _ H locs ls hH1 hS _
    exact vx_ret (W.lret (v := v) B.exec B.bytes B.returns (fun t ht hW => ⟨⟨v, S1, rfl, hKv, by rw [ht]; exact hH1, (by rw [hN]; exact hx)⟩, hS.F ht⟩) hS.2.2 hd B.notSynchronized)
  · intro N1 pc lv S1 q9 hx hKX hN _ _ H locs ls st ce hH1 hS _ g1 g2 g3
    exact vx_out (fun x hx => (htab x hx).elim) B.notSynchronized g1 g2 g3 (fun t ht hvm => ⟨S1, hKX, ⟨rfl, by rw [ht]; exact hH1, (by rw [hN]; exact hx)⟩, hS.F ht⟩) hS.2.2 (Nat.le_refl _) (Nat.le_refl _)
theorem te_xmetV_r {l : Launch} {y : MethodName} {cc : ByteArray} {nL f L mc ms : Nat} {En cn : String} {av : List Value} (lv : List (Nat × Value)) {G : tG} {ad : Nat → Nat} {A : Nat → Prop} {S : tS} {K : Nat → tS → Prop} {KX : tS → Prop} (hy : plainName y.cls = true) (hlv : lv_args 0 av = lv) (hsl : (lg_sl av).length ≤ nL)
    (body : ∀ (p : Program) (e : Env) (R : Room) (s : State) (m : MethodId) (args : Array Value) (below : List Frame) (meth : Method) (c : Code) (Q : State → Prop), TC (G, A, p, l, e, R, s, m, args, below, meth, c, Q, ad, nL) cc y.cls f L → tWf (gN S) → (mc ≤ R.cells ∧ ms ≤ R.slots) → TEr (G, A, p, l, e, R, s, m, args, below, meth, c, Q, ad, nL) (gN S) mc ms cc K → TEXV (G, A, p, l, e, R, s, m, args, below, meth, c, Q, ad, nL) (gN S) mc ms En KX → TJ (G, A, p, l, e, R, s, m, args, below, meth, c, Q, ad, nL) (gN S) 0 0 0 lv [] S) :
    vx_Met l y (ws_ y cc nL (some (.object cn))) (tRe f L mc ms) (va_Pc av (tPre G ad A S)) (va_Qq (fun r (u : tS × Nat) => r = some (ad u.2) ∧ K u.2 u.1) (fun u t => tBE G ad A (gN S) u.1 t) A) (vx_X KX (tBXV G ad A (gN S) En) A) mc ms A := by
  refine vx_ofW (cc := cc) (maxL := nL) (ret := some (.object cn)) hy rfl ?_
  intro p e s m args below meth c s₁ B hml htab hv
  obtain ⟨rfl, hA, hH, hK, hZ⟩ := hv
  rw [lg_entry_eq]
  have hl := lv_entry av hsl
  generalize (lg_sl av ++ List.replicate (nL - (lg_sl av).length) Slot.unset).toArray = ls at hl ⊢
  rw [hlv] at hl
  have hts := atoms_spec (ws := ws_ y cc nL (some (.object cn))) B.pre
  refine body p e _ s m _ below meth c _ ⟨B.exec, B.bytes, hml, findClass_of_methodNamed B.named, fun w h => hts w (List.mem_cons_of_mem _ h), B.notSynchronized, hK, hA, Nat.le_refl _, Nat.le_refl _, hZ⟩ hH.1 ⟨Nat.le_refl _, Nat.le_refl _⟩ ?_ ?_ rfl (Nat.zero_le _) (Nat.zero_le _) s.heap [] ls hH va_S.rf hl
  · intro N1 pc lv v S1 hx hd hKv hN _ _ H locs ls hH1 hS _
    exact vx_ret (W.aret (v := .ref (ad v)) B.exec B.bytes B.returns (Or.inl ⟨_, rfl⟩) (Or.inr ⟨_, rfl⟩) (fun t ht hW => ⟨⟨some (ad v), (S1, v), rfl, ⟨rfl, hKv⟩, by rw [ht]; exact hH1, (by rw [hN]; exact hx)⟩, hS.F ht⟩) hS.2.2 hd B.notSynchronized)
  · intro N1 pc lv S1 q9 hx hKX hN _ _ H locs ls st ce hH1 hS _ g1 g2 g3
    exact vx_out (fun x hx => (htab x hx).elim) B.notSynchronized g1 g2 g3 (fun t ht hvm => ⟨S1, hKX, ⟨rfl, by rw [ht]; exact hH1, (by rw [hN]; exact hx)⟩, hS.F ht⟩) hS.2.2 (Nat.le_refl _) (Nat.le_refl _)
