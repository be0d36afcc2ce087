set_option maxRecDepth 100000
/-! rows that read and write the world -/
theorem tH_put {G : tG} {ad : Nat → Nat} {A : Nat → Prop} {S S' : tS} {H1 : Heap} {Ls : List Nat} {i t : Nat} (hw : tWf (gN S)) (h1 : Ls.Nodup) (h2 : ∀ t, t ∈ Ls ↔ gN S t ≠ 0) (hi : Ls[i]? = some t) (hN : gN S' = gN S)
    (ho : ∀ a, a ≠ t → ∀ j, gI S' a j = gI S a j ∧ gL S' a j = gL S a j ∧ gR S' a j = gR S a j) {e : va_E} (he : e = tEn G.2.1 ad S' t)
    (hP : va_P G.1 tcl ((Ls.map (tcell G.2.1 ad S)).set i (ad t, e)) H1) (hD : va_D A ((Ls.map (tcell G.2.1 ad S)).set i (ad t, e))) : tH G ad A S' H1 := by
  have hm : (Ls.map (tcell G.2.1 ad S)).set i (ad t, e) = Ls.map (tcell G.2.1 ad S') := by
    rw [he]
    refine tmap_set (tcell G.2.1 ad S) (tcell G.2.1 ad S') Ls i t h1 hi (fun a ha => ?_)
    unfold tcell
    rw [tEn_congr (fun j => (ho a ha j).1) (fun j => (ho a ha j).2.1) (fun j => (ho a ha j).2.2) (by rw [hN])]
  rw [hm] at hP hD
  exact ⟨by rw [hN]; exact hw, Ls, h1, fun a => by rw [hN]; exact h2 a, hP, hD⟩
section TROWS2
variable {Γ : tX} {cc : ByteArray} {own : String} {f L : Nat} {N0 : Nat → Nat} {uc us pc : Nat} {lv lv' : List (Nat × Value)} {st : List Value} {S : tS}
theorem tj_get (C : TC Γ cc own f L) {Cn ref : String} {T : u_T} {N : Nat} (k t j index : Nat) {v : Value} (hk : t % 32 = k) (hk16 : k < 16) (hc : tcl[k]? = some (Cn, T, N)) (hin : ∀ w ∈ u_ws Cn T N, w ∈ lw_all) (hj : j < N) (hjl : j < (tcode k).length)
    (hlink : Cond.fieldLink own index ref (T j).2.1 (T j).2.2.1 ∈ lw_all) (hsame : (T j).1 = ref) (h0 : N0 t ≠ 0) (hv : fval (xad Γ) S t j ((tcode k).getD j 0) = v) (hd : decode cc pc = .ok (.getfield index, 3))
    (kk : TJ Γ N0 uc us (pc + 3) lv (v :: st) S) : TJ Γ N0 uc us pc lv (.ref (xad Γ t) :: st) S := by
  intro h1 h2 h3 H locs ls hH hS hl
  have hP := tH_one hH (t := t) (by rw [h1]; exact h0)
  rw [tEn_o _ _ _ hk hk16] at hP
  exact va_get (D := (xG Γ).1) (ci := k) C.x C.b C.ts hin C.ow C.K.1 hP 0 rfl hc j hj (C.ts _ hlink) (fun x hx => by rw [← hsame]; exact hx) (by rw [tfs_get hjl, hv]) hd (kk h1 h2 h3 H locs ls hH hS hl)
theorem tj_getN (C : TC Γ cc own f L) {Cn ref host : String} {T : u_T} {N : Nat} (k t j index : Nat) {v : Value} (hk : t % 32 = k) (hk16 : k < 16) (hc : tcl[k]? = some (Cn, T, N)) (hin : ∀ w ∈ u_ws Cn T N, w ∈ lw_all) (hj : j < N) (hjl : j < (tcode k).length)
    (hlink : Cond.fieldLinkNest own index ref (T j).2.1 (T j).2.2.1 host ∈ lw_tbl) (hsame : (T j).1 = ref) (h0 : N0 t ≠ 0) (hv : fval (xad Γ) S t j ((tcode k).getD j 0) = v) (hd : decode cc pc = .ok (.getfield index, 3))
    (kk : TJ Γ N0 uc us (pc + 3) lv (v :: st) S) : TJ Γ N0 uc us pc lv (.ref (xad Γ t) :: st) S := by
  intro h1 h2 h3 H locs ls hH hS hl
  have hP := tH_one hH (t := t) (by rw [h1]; exact h0)
  rw [tEn_o _ _ _ hk hk16] at hP
  exact va_getN (D := (xG Γ).1) (ci := k) C.x C.b C.ts hin C.ow C.K.1 hP 0 rfl hc j hj ((C.K.2.1 _ hlink rfl).use rfl) (fun x hx => by rw [← hsame]; exact hx) (by rw [tfs_get hjl, hv]) hd (kk h1 h2 h3 H locs ls hH hS hl)
/-- what a put of one field must say of the two states -/
def tPut (ad : Nat → Nat) (S S' : tS) (t k j : Nat) (v : Value) : Prop := gN S' = gN S ∧ (∀ a, a ≠ t → ∀ i, gI S' a i = gI S a i ∧ gL S' a i = gL S a i ∧ gR S' a i = gR S a i) ∧ fval ad S' t j ((tcode k).getD j 0) = v ∧ ∀ i, i ≠ j → fval ad S' t i ((tcode k).getD i 0) = fval ad S t i ((tcode k).getD i 0)
theorem tPut_I {ad : Nat → Nat} {S : tS} {t k j : Nat} {x : Int32} (hc : (tcode k).getD j 0 = 0) : tPut ad S (sI S t j x) t k j (.int x) := by
  refine ⟨rfl, fun a ha i => ⟨by rw [gI_sI, if_neg ha], rfl, rfl⟩, ?_, fun i hi => fval_congr (by rw [gI_sI, if_pos rfl, if_neg hi]) rfl rfl⟩
  rw [hc]
  show Value.int (gI (sI S t j x) t j) = _
  rw [gI_sI, if_pos rfl, if_pos rfl]
theorem tPut_L {ad : Nat → Nat} {S : tS} {t k j : Nat} {x : Int64} (hc : (tcode k).getD j 0 = 1) : tPut ad S (sL S t j x) t k j (.long x) := by
  refine ⟨rfl, fun a ha i => ⟨rfl, by rw [gL_sL, if_neg ha], rfl⟩, ?_, fun i hi => fval_congr rfl (by rw [gL_sL, if_pos rfl, if_neg hi]) rfl⟩
  rw [hc]
  show Value.long (gL (sL S t j x) t j) = _
  rw [gL_sL, if_pos rfl, if_pos rfl]
theorem tPut_R {ad : Nat → Nat} {S : tS} {t k j : Nat} {x : Option Nat} (hc : (tcode k).getD j 0 = 2) : tPut ad S (sR S t j x) t k j (va_rf (x.map ad)) := by
  refine ⟨rfl, fun a ha i => ⟨rfl, rfl, by rw [gR_sR, if_neg ha]⟩, ?_, fun i hi => fval_congr rfl rfl (by rw [gR_sR, if_pos rfl, if_neg hi])⟩
  rw [hc]
  show va_rf ((gR (sR S t j x) t j).map ad) = _
  rw [gR_sR, if_pos rfl, if_pos rfl]
theorem tj_put (C : TC Γ cc own f L) {Cn ref : String} {T : u_T} {N : Nat} (k t j index : Nat) {v : Value} {S' : tS} (hk : t % 32 = k) (hk16 : k < 16) (hc : tcl[k]? = some (Cn, T, N)) (hin : ∀ w ∈ u_ws Cn T N, w ∈ lw_all) (tyo : Nat → FieldType) (hty : ∀ k, k < N → parseFieldDescriptor (T k).2.2.1 = some (tyo k)) (hnm : ∀ a, a < N → ∀ b, b < N → a ≠ b → (T a).2.1 ≠ (T b).2.1) (hj : j < N) (hjl : j < (tcode k).length)
    (hlink : Cond.fieldLink own index ref (T j).2.1 (T j).2.2.1 ∈ lw_all) (hsame : (T j).1 = ref) (hfin : (T j).2.2.2 = false) (h0 : N0 t ≠ 0) (hn : narrow (tyo j) v = v) (hfit : fits (tyo j) v = true) (hp : tPut (xad Γ) S S' t k j v) (hd : decode cc pc = .ok (.putfield index, 3))
    (kk : TJ Γ N0 uc us (pc + 3) lv st S') : TJ Γ N0 uc us pc lv (v :: .ref (xad Γ t) :: st) S := by
  intro h1 h2 h3 H locs ls hH hS hl
  obtain ⟨hw, Ls, hn1, hm, hP, hD⟩ := hH
  obtain ⟨i, hi, hci⟩ := tH_idx (G := xG Γ) (ad := xad Γ) (A := xA Γ) hm (t := t) (by rw [h1]; exact h0)
  have hci' : (Ls.map (tcell (xG Γ).2.1 (xad Γ) S))[i]? = some (xad Γ t, .inr (k, tfs (xad Γ) S t k)) := by rw [hci]; unfold tcell; rw [tEn_o _ _ _ hk hk16]
  refine va_put (D := (xG Γ).1) (ci := k) (C := Cn) (T := T) (N := N) C.x C.b C.ts hin tyo hty hnm C.ow C.K.1 hP hD hS i hci' hc j hj (C.ts _ hlink) (fun x hx => by rw [← hsame]; exact hx) hfin (hty j hj) hn hfit (by rw [tfs_len]; exact hjl) hd (fun H1 locs1 hP1 hD1 hS1 => kk (hp.1.trans h1) h2 h3 H1 locs1 ls ?_ hS1 hl)
  refine tH_put hw hn1 hm hi hp.1 hp.2.1 ?_ hP1 hD1
  rw [tfs_set hjl hp.2.2.1 hp.2.2.2, tEn_o _ _ _ hk hk16]
theorem tj_putN (C : TC Γ cc own f L) {Cn ref host : String} {T : u_T} {N : Nat} (k t j index : Nat) {v : Value} {S' : tS} (hk : t % 32 = k) (hk16 : k < 16) (hc : tcl[k]? = some (Cn, T, N)) (hin : ∀ w ∈ u_ws Cn T N, w ∈ lw_all) (tyo : Nat → FieldType) (hty : ∀ k, k < N → parseFieldDescriptor (T k).2.2.1 = some (tyo k)) (hnm : ∀ a, a < N → ∀ b, b < N → a ≠ b → (T a).2.1 ≠ (T b).2.1) (hj : j < N) (hjl : j < (tcode k).length)
    (hlink : Cond.fieldLinkNest own index ref (T j).2.1 (T j).2.2.1 host ∈ lw_tbl) (hsame : (T j).1 = ref) (hfin : (T j).2.2.2 = false) (h0 : N0 t ≠ 0) (hn : narrow (tyo j) v = v) (hfit : fits (tyo j) v = true) (hp : tPut (xad Γ) S S' t k j v) (hd : decode cc pc = .ok (.putfield index, 3))
    (kk : TJ Γ N0 uc us (pc + 3) lv st S') : TJ Γ N0 uc us pc lv (v :: .ref (xad Γ t) :: st) S := by
  intro h1 h2 h3 H locs ls hH hS hl
  obtain ⟨hw, Ls, hn1, hm, hP, hD⟩ := hH
  obtain ⟨i, hi, hci⟩ := tH_idx (G := xG Γ) (ad := xad Γ) (A := xA Γ) hm (t := t) (by rw [h1]; exact h0)
  have hci' : (Ls.map (tcell (xG Γ).2.1 (xad Γ) S))[i]? = some (xad Γ t, .inr (k, tfs (xad Γ) S t k)) := by rw [hci]; unfold tcell; rw [tEn_o _ _ _ hk hk16]
  refine va_putN (D := (xG Γ).1) (ci := k) (C := Cn) (T := T) (N := N) C.x C.b C.ts hin tyo hty hnm C.ow C.K.1 hP hD hS i hci' hc j hj ((C.K.2.1 _ hlink rfl).use rfl) (fun x hx => by rw [← hsame]; exact hx) hfin (hty j hj) hn hfit (by rw [tfs_len]; exact hjl) hd (fun H1 locs1 hP1 hD1 hS1 => kk (hp.1.trans h1) h2 h3 H1 locs1 ls ?_ hS1 hl)
  refine tH_put hw hn1 hm hi hp.1 hp.2.1 ?_ hP1 hD1
  rw [tfs_set hjl hp.2.2.1 hp.2.2.2, tEn_o _ _ _ hk hk16]
theorem tj_iald (C : TC Γ cc own f L) (t n : Nat) {i : Int32} (hk : t % 32 = 16) (hn : N0 t = n + 1) (j : Nat) (hj : i.toNatClampNeg = j) (hin : vp_in i n) (hd : decode cc pc = .ok (.iaload, 1)) (kk : TJ Γ N0 uc us (pc + 1) lv (.int (gI S t j) :: st) S) : TJ Γ N0 uc us pc lv (.int i :: .ref (xad Γ t) :: st) S := by
  subst hj
  intro h1 h2 h3 H locs ls hH hS hl
  have hP := tH_one hH (t := t) (by rw [h1, hn]; omega)
  rw [tEn_i _ _ _ hk (by omega) (by rw [h1]; exact hn)] at hP
  exact va_iald (D := (xG Γ).1) C.x C.b C.K.1 hP 0 0 rfl rfl hin hd (kk h1 h2 h3 H locs ls hH hS hl)
theorem tj_bald (C : TC Γ cc own f L) (t n : Nat) {i : Int32} (hk : t % 32 = 18) (hn : N0 t = n + 1) (j : Nat) (hj : i.toNatClampNeg = j) (hin : vp_in i n) (hd : decode cc pc = .ok (.baload, 1)) (kk : TJ Γ N0 uc us (pc + 1) lv (.int (gI S t j) :: st) S) : TJ Γ N0 uc us pc lv (.int i :: .ref (xad Γ t) :: st) S := by
  subst hj
  intro h1 h2 h3 H locs ls hH hS hl
  have hP := tH_one hH (t := t) (by rw [h1, hn]; omega)
  rw [tEn_i _ _ _ hk (by omega) (by rw [h1]; exact hn)] at hP
  exact va_bald (D := (xG Γ).1) C.x C.b C.K.1 hP 0 2 rfl rfl hin hd (kk h1 h2 h3 H locs ls hH hS hl)
theorem tj_sald (C : TC Γ cc own f L) (t n : Nat) {i : Int32} (hk : t % 32 = 19) (hn : N0 t = n + 1) (j : Nat) (hj : i.toNatClampNeg = j) (hin : vp_in i n) (hd : decode cc pc = .ok (.saload, 1)) (kk : TJ Γ N0 uc us (pc + 1) lv (.int (gI S t j) :: st) S) : TJ Γ N0 uc us pc lv (.int i :: .ref (xad Γ t) :: st) S := by
  subst hj
  intro h1 h2 h3 H locs ls hH hS hl
  have hP := tH_one hH (t := t) (by rw [h1, hn]; omega)
  rw [tEn_i _ _ _ hk (by omega) (by rw [h1]; exact hn)] at hP
  exact va_sald (D := (xG Γ).1) C.x C.b C.K.1 hP 0 3 rfl rfl hin hd (kk h1 h2 h3 H locs ls hH hS hl)
theorem tj_zald (C : TC Γ cc own f L) (t n : Nat) {i : Int32} (hk : t % 32 = 20) (hn : N0 t = n + 1) (j : Nat) (hj : i.toNatClampNeg = j) (hin : vp_in i n) (hd : decode cc pc = .ok (.baload, 1)) (kk : TJ Γ N0 uc us (pc + 1) lv (.int (gI S t j) :: st) S) : TJ Γ N0 uc us pc lv (.int i :: .ref (xad Γ t) :: st) S := by
  subst hj
  intro h1 h2 h3 H locs ls hH hS hl
  have hP := tH_one hH (t := t) (by rw [h1, hn]; omega)
  rw [tEn_i _ _ _ hk (by omega) (by rw [h1]; exact hn)] at hP
  exact va_zald (D := (xG Γ).1) C.x C.b C.K.1 hP 0 4 rfl rfl hin hd (kk h1 h2 h3 H locs ls hH hS hl)
theorem tj_lald (C : TC Γ cc own f L) (t n : Nat) {i : Int32} (hk : t % 32 = 17) (hn : N0 t = n + 1) (j : Nat) (hj : i.toNatClampNeg = j) (hin : vp_in i n) (hd : decode cc pc = .ok (.laload, 1)) (kk : TJ Γ N0 uc us (pc + 1) lv (.long (gL S t j) :: st) S) : TJ Γ N0 uc us pc lv (.int i :: .ref (xad Γ t) :: st) S := by
  subst hj
  intro h1 h2 h3 H locs ls hH hS hl
  have hP := tH_one hH (t := t) (by rw [h1, hn]; omega)
  rw [tEn_l _ _ _ hk (by rw [h1]; exact hn)] at hP
  exact va_lald (D := (xG Γ).1) C.x C.b C.K.1 hP 0 1 rfl rfl hin hd (kk h1 h2 h3 H locs ls hH hS hl)
theorem tj_aald21 (C : TC Γ cc own f L) (t n : Nat) {i : Int32} (hk : t % 32 = 21) (hn : N0 t = n + 1) (j : Nat) (hj : i.toNatClampNeg = j) (hin : vp_in i n) (hd : decode cc pc = .ok (.aaload, 1)) (kk : TJ Γ N0 uc us (pc + 1) lv (va_rf ((gR S t j).map (xad Γ)) :: st) S) : TJ Γ N0 uc us pc lv (.int i :: .ref (xad Γ t) :: st) S := by
  subst hj
  intro h1 h2 h3 H locs ls hH hS hl
  have hP := tH_one hH (t := t) (by rw [h1, hn]; omega)
  rw [tEn_q _ _ _ hk (by omega) (by rw [h1]; exact hn)] at hP
  exact va_aldq (D := (xG Γ).1) C.x C.b C.K.1 hP 0 5 rfl rfl hin hd (kk h1 h2 h3 H locs ls hH hS hl)
theorem tj_aald22 (C : TC Γ cc own f L) (t n : Nat) {i : Int32} (hk : t % 32 = 22) (hn : N0 t = n + 1) (j : Nat) (hj : i.toNatClampNeg = j) (hin : vp_in i n) (hd : decode cc pc = .ok (.aaload, 1)) (kk : TJ Γ N0 uc us (pc + 1) lv (va_rf ((gR S t j).map (xad Γ)) :: st) S) : TJ Γ N0 uc us pc lv (.int i :: .ref (xad Γ t) :: st) S := by
  subst hj
  intro h1 h2 h3 H locs ls hH hS hl
  have hP := tH_one hH (t := t) (by rw [h1, hn]; omega)
  rw [tEn_q _ _ _ hk (by omega) (by rw [h1]; exact hn)] at hP
  exact va_aldq (D := (xG Γ).1) C.x C.b C.K.1 hP 0 6 rfl rfl hin hd (kk h1 h2 h3 H locs ls hH hS hl)
theorem tj_aald23 (C : TC Γ cc own f L) (t n : Nat) {i : Int32} (hk : t % 32 = 23) (hn : N0 t = n + 1) (j : Nat) (hj : i.toNatClampNeg = j) (hin : vp_in i n) (hd : decode cc pc = .ok (.aaload, 1)) (kk : TJ Γ N0 uc us (pc + 1) lv (va_rf ((gR S t j).map (xad Γ)) :: st) S) : TJ Γ N0 uc us pc lv (.int i :: .ref (xad Γ t) :: st) S := by
  subst hj
  intro h1 h2 h3 H locs ls hH hS hl
  have hP := tH_one hH (t := t) (by rw [h1, hn]; omega)
  rw [tEn_q _ _ _ hk (by omega) (by rw [h1]; exact hn)] at hP
  exact va_aldq (D := (xG Γ).1) C.x C.b C.K.1 hP 0 7 rfl rfl hin hd (kk h1 h2 h3 H locs ls hH hS hl)
theorem tj_aald24 (C : TC Γ cc own f L) (t n : Nat) {i : Int32} (hk : t % 32 = 24) (hn : N0 t = n + 1) (j : Nat) (hj : i.toNatClampNeg = j) (hin : vp_in i n) (hd : decode cc pc = .ok (.aaload, 1)) (kk : TJ Γ N0 uc us (pc + 1) lv (va_rf ((gR S t j).map (xad Γ)) :: st) S) : TJ Γ N0 uc us pc lv (.int i :: .ref (xad Γ t) :: st) S := by
  subst hj
  intro h1 h2 h3 H locs ls hH hS hl
  have hP := tH_one hH (t := t) (by rw [h1, hn]; omega)
  rw [tEn_q _ _ _ hk (by omega) (by rw [h1]; exact hn)] at hP
  exact va_aldq (D := (xG Γ).1) C.x C.b C.K.1 hP 0 8 rfl rfl hin hd (kk h1 h2 h3 H locs ls hH hS hl)
theorem tj_iast (C : TC Γ cc own f L) (t n : Nat) {i x : Int32} (hk : t % 32 = 16) (hn : N0 t = n + 1) (j : Nat) (hj : i.toNatClampNeg = j) (hin : vp_in i n) (hd : decode cc pc = .ok (.iastore, 1)) (kk : TJ Γ N0 uc us (pc + 1) lv st (sI S t j x)) : TJ Γ N0 uc us pc lv (.int x :: .int i :: .ref (xad Γ t) :: st) S := by
  subst hj
  intro h1 h2 h3 H locs ls hH hS hl
  obtain ⟨hw, Ls, hn1, hm, hP, hD⟩ := hH
  obtain ⟨b, hi, hci⟩ := tH_idx (G := xG Γ) (ad := xad Γ) (A := xA Γ) hm (t := t) (by rw [h1, hn]; omega)
  have hci' : (Ls.map (tcell (xG Γ).2.1 (xad Γ) S))[b]? = some (xad Γ t, .inl ((xG Γ).2.1 16, n, .inl (gI S t))) := by rw [hci]; unfold tcell; rw [tEn_i _ _ _ hk (by omega) (by rw [h1]; exact hn)]
  refine va_iast (D := (xG Γ).1) C.x C.b C.K.1 hP hD hS b 0 hci' rfl hin hd (fun H1 locs1 hP1 hD1 hS1 => kk h1 h2 h3 H1 locs1 ls ?_ hS1 hl)
  refine tH_put hw hn1 hm hi rfl (fun a ha j => ⟨by rw [gI_sI, if_neg ha], rfl, rfl⟩) ?_ hP1 hD1
  rw [tEn_i _ _ (sI S t i.toNatClampNeg x) hk (by omega) (show gN S t = n + 1 by rw [h1]; exact hn)]
  congr 4
  funext j
  rw [gI_sI, if_pos rfl]
  rfl
theorem tj_bast (C : TC Γ cc own f L) (t n : Nat) {i x : Int32} (hk : t % 32 = 18) (hn : N0 t = n + 1) (j : Nat) (hj : i.toNatClampNeg = j) (hin : vp_in i n) (hd : decode cc pc = .ok (.bastore, 1)) (kk : TJ Γ N0 uc us (pc + 1) lv st (sI S t j (vp_nar .byte x))) : TJ Γ N0 uc us pc lv (.int x :: .int i :: .ref (xad Γ t) :: st) S := by
  subst hj
  intro h1 h2 h3 H locs ls hH hS hl
  obtain ⟨hw, Ls, hn1, hm, hP, hD⟩ := hH
  obtain ⟨b, hi, hci⟩ := tH_idx (G := xG Γ) (ad := xad Γ) (A := xA Γ) hm (t := t) (by rw [h1, hn]; omega)
  have hci' : (Ls.map (tcell (xG Γ).2.1 (xad Γ) S))[b]? = some (xad Γ t, .inl ((xG Γ).2.1 18, n, .inl (gI S t))) := by rw [hci]; unfold tcell; rw [tEn_i _ _ _ hk (by omega) (by rw [h1]; exact hn)]
  refine va_bast (D := (xG Γ).1) C.x C.b C.K.1 hP hD hS b 2 hci' rfl hin hd (fun H1 locs1 hP1 hD1 hS1 => kk h1 h2 h3 H1 locs1 ls ?_ hS1 hl)
  refine tH_put hw hn1 hm hi rfl (fun a ha j => ⟨by rw [gI_sI, if_neg ha], rfl, rfl⟩) ?_ hP1 hD1
  rw [tEn_i _ _ (sI S t i.toNatClampNeg (vp_nar .byte x)) hk (by omega) (show gN S t = n + 1 by rw [h1]; exact hn)]
  congr 4
  funext j
  rw [gI_sI, if_pos rfl]
  rfl
theorem tj_sast (C : TC Γ cc own f L) (t n : Nat) {i x : Int32} (hk : t % 32 = 19) (hn : N0 t = n + 1) (j : Nat) (hj : i.toNatClampNeg = j) (hin : vp_in i n) (hd : decode cc pc = .ok (.sastore, 1)) (kk : TJ Γ N0 uc us (pc + 1) lv st (sI S t j (vp_nar .short x))) : TJ Γ N0 uc us pc lv (.int x :: .int i :: .ref (xad Γ t) :: st) S := by
  subst hj
  intro h1 h2 h3 H locs ls hH hS hl
  obtain ⟨hw, Ls, hn1, hm, hP, hD⟩ := hH
  obtain ⟨b, hi, hci⟩ := tH_idx (G := xG Γ) (ad := xad Γ) (A := xA Γ) hm (t := t) (by rw [h1, hn]; omega)
  have hci' : (Ls.map (tcell (xG Γ).2.1 (xad Γ) S))[b]? = some (xad Γ t, .inl ((xG Γ).2.1 19, n, .inl (gI S t))) := by rw [hci]; unfold tcell; rw [tEn_i _ _ _ hk (by omega) (by rw [h1]; exact hn)]
  refine va_sast (D := (xG Γ).1) C.x C.b C.K.1 hP hD hS b 3 hci' rfl hin hd (fun H1 locs1 hP1 hD1 hS1 => kk h1 h2 h3 H1 locs1 ls ?_ hS1 hl)
  refine tH_put hw hn1 hm hi rfl (fun a ha j => ⟨by rw [gI_sI, if_neg ha], rfl, rfl⟩) ?_ hP1 hD1
  rw [tEn_i _ _ (sI S t i.toNatClampNeg (vp_nar .short x)) hk (by omega) (show gN S t = n + 1 by rw [h1]; exact hn)]
  congr 4
  funext j
  rw [gI_sI, if_pos rfl]
  rfl
theorem tj_zast (C : TC Γ cc own f L) (t n : Nat) {i x : Int32} (hk : t % 32 = 20) (hn : N0 t = n + 1) (j : Nat) (hj : i.toNatClampNeg = j) (hin : vp_in i n) (hd : decode cc pc = .ok (.bastore, 1)) (kk : TJ Γ N0 uc us (pc + 1) lv st (sI S t j (vp_nar .boolean x))) : TJ Γ N0 uc us pc lv (.int x :: .int i :: .ref (xad Γ t) :: st) S := by
  subst hj
  intro h1 h2 h3 H locs ls hH hS hl
  obtain ⟨hw, Ls, hn1, hm, hP, hD⟩ := hH
  obtain ⟨b, hi, hci⟩ := tH_idx (G := xG Γ) (ad := xad Γ) (A := xA Γ) hm (t := t) (by rw [h1, hn]; omega)
  have hci' : (Ls.map (tcell (xG Γ).2.1 (xad Γ) S))[b]? = some (xad Γ t, .inl ((xG Γ).2.1 20, n, .inl (gI S t))) := by rw [hci]; unfold tcell; rw [tEn_i _ _ _ hk (by omega) (by rw [h1]; exact hn)]
  refine va_zast (D := (xG Γ).1) C.x C.b C.K.1 hP hD hS b 4 hci' rfl hin hd (fun H1 locs1 hP1 hD1 hS1 => kk h1 h2 h3 H1 locs1 ls ?_ hS1 hl)
  refine tH_put hw hn1 hm hi rfl (fun a ha j => ⟨by rw [gI_sI, if_neg ha], rfl, rfl⟩) ?_ hP1 hD1
  rw [tEn_i _ _ (sI S t i.toNatClampNeg (vp_nar .boolean x)) hk (by omega) (show gN S t = n + 1 by rw [h1]; exact hn)]
  congr 4
  funext j
  rw [gI_sI, if_pos rfl]
  rfl
theorem tj_last (C : TC Γ cc own f L) (t n : Nat) {i : Int32} {x : Int64} (hk : t % 32 = 17) (hn : N0 t = n + 1) (j : Nat) (hj : i.toNatClampNeg = j) (hin : vp_in i n) (hd : decode cc pc = .ok (.lastore, 1)) (kk : TJ Γ N0 uc us (pc + 1) lv st (sL S t j x)) : TJ Γ N0 uc us pc lv (.long x :: .int i :: .ref (xad Γ t) :: st) S := by
  subst hj
  intro h1 h2 h3 H locs ls hH hS hl
  obtain ⟨hw, Ls, hn1, hm, hP, hD⟩ := hH
  obtain ⟨b, hi, hci⟩ := tH_idx (G := xG Γ) (ad := xad Γ) (A := xA Γ) hm (t := t) (by rw [h1, hn]; omega)
  have hci' : (Ls.map (tcell (xG Γ).2.1 (xad Γ) S))[b]? = some (xad Γ t, .inl ((xG Γ).2.1 17, n, .inr (.inl (gL S t)))) := by rw [hci]; unfold tcell; rw [tEn_l _ _ _ hk (by rw [h1]; exact hn)]
  refine va_last (D := (xG Γ).1) C.x C.b C.K.1 hP hD hS b 1 hci' rfl hin hd (fun H1 locs1 hP1 hD1 hS1 => kk h1 h2 h3 H1 locs1 ls ?_ hS1 hl)
  refine tH_put hw hn1 hm hi rfl (fun a ha j => ⟨rfl, by rw [gL_sL, if_neg ha], rfl⟩) ?_ hP1 hD1
  rw [tEn_l _ _ (sL S t i.toNatClampNeg x) hk (show gN S t = n + 1 by rw [h1]; exact hn)]
  congr 5
  funext j
  rw [gL_sL, if_pos rfl]
  rfl
theorem tj_ialdd (C : TC Γ cc own f L) (t : Nat) {i : Int32} (hk : t % 32 = 16) (hn : N0 t ≠ 0) (j : Nat) (hj : i.toNatClampNeg = j) (hin : vp_in i (gN S t - 1)) (hd : decode cc pc = .ok (.iaload, 1)) (kk : TJ Γ N0 uc us (pc + 1) lv (.int (gI S t j) :: st) S) : TJ Γ N0 uc us pc lv (.int i :: .ref (xad Γ t) :: st) S := tj_hN (fun hN => tj_iald C t (N0 t - 1) hk (by have := hn; omega) j hj (by rw [← hN]; exact hin) hd kk)
theorem tj_baldd (C : TC Γ cc own f L) (t : Nat) {i : Int32} (hk : t % 32 = 18) (hn : N0 t ≠ 0) (j : Nat) (hj : i.toNatClampNeg = j) (hin : vp_in i (gN S t - 1)) (hd : decode cc pc = .ok (.baload, 1)) (kk : TJ Γ N0 uc us (pc + 1) lv (.int (gI S t j) :: st) S) : TJ Γ N0 uc us pc lv (.int i :: .ref (xad Γ t) :: st) S := tj_hN (fun hN => tj_bald C t (N0 t - 1) hk (by have := hn; omega) j hj (by rw [← hN]; exact hin) hd kk)
theorem tj_saldd (C : TC Γ cc own f L) (t : Nat) {i : Int32} (hk : t % 32 = 19) (hn : N0 t ≠ 0) (j : Nat) (hj : i.toNatClampNeg = j) (hin : vp_in i (gN S t - 1)) (hd : decode cc pc = .ok (.saload, 1)) (kk : TJ Γ N0 uc us (pc + 1) lv (.int (gI S t j) :: st) S) : TJ Γ N0 uc us pc lv (.int i :: .ref (xad Γ t) :: st) S := tj_hN (fun hN => tj_sald C t (N0 t - 1) hk (by have := hn; omega) j hj (by rw [← hN]; exact hin) hd kk)
theorem tj_zaldd (C : TC Γ cc own f L) (t : Nat) {i : Int32} (hk : t % 32 = 20) (hn : N0 t ≠ 0) (j : Nat) (hj : i.toNatClampNeg = j) (hin : vp_in i (gN S t - 1)) (hd : decode cc pc = .ok (.baload, 1)) (kk : TJ Γ N0 uc us (pc + 1) lv (.int (gI S t j) :: st) S) : TJ Γ N0 uc us pc lv (.int i :: .ref (xad Γ t) :: st) S := tj_hN (fun hN => tj_zald C t (N0 t - 1) hk (by have := hn; omega) j hj (by rw [← hN]; exact hin) hd kk)
theorem tj_laldd (C : TC Γ cc own f L) (t : Nat) {i : Int32} (hk : t % 32 = 17) (hn : N0 t ≠ 0) (j : Nat) (hj : i.toNatClampNeg = j) (hin : vp_in i (gN S t - 1)) (hd : decode cc pc = .ok (.laload, 1)) (kk : TJ Γ N0 uc us (pc + 1) lv (.long (gL S t j) :: st) S) : TJ Γ N0 uc us pc lv (.int i :: .ref (xad Γ t) :: st) S := tj_hN (fun hN => tj_lald C t (N0 t - 1) hk (by have := hn; omega) j hj (by rw [← hN]; exact hin) hd kk)
theorem tj_aald21d (C : TC Γ cc own f L) (t : Nat) {i : Int32} (hk : t % 32 = 21) (hn : N0 t ≠ 0) (j : Nat) (hj : i.toNatClampNeg = j) (hin : vp_in i (gN S t - 1)) (hd : decode cc pc = .ok (.aaload, 1)) (kk : TJ Γ N0 uc us (pc + 1) lv (va_rf ((gR S t j).map (xad Γ)) :: st) S) : TJ Γ N0 uc us pc lv (.int i :: .ref (xad Γ t) :: st) S := tj_hN (fun hN => tj_aald21 C t (N0 t - 1) hk (by have := hn; omega) j hj (by rw [← hN]; exact hin) hd kk)
theorem tj_aald22d (C : TC Γ cc own f L) (t : Nat) {i : Int32} (hk : t % 32 = 22) (hn : N0 t ≠ 0) (j : Nat) (hj : i.toNatClampNeg = j) (hin : vp_in i (gN S t - 1)) (hd : decode cc pc = .ok (.aaload, 1)) (kk : TJ Γ N0 uc us (pc + 1) lv (va_rf ((gR S t j).map (xad Γ)) :: st) S) : TJ Γ N0 uc us pc lv (.int i :: .ref (xad Γ t) :: st) S := tj_hN (fun hN => tj_aald22 C t (N0 t - 1) hk (by have := hn; omega) j hj (by rw [← hN]; exact hin) hd kk)
theorem tj_aald23d (C : TC Γ cc own f L) (t : Nat) {i : Int32} (hk : t % 32 = 23) (hn : N0 t ≠ 0) (j : Nat) (hj : i.toNatClampNeg = j) (hin : vp_in i (gN S t - 1)) (hd : decode cc pc = .ok (.aaload, 1)) (kk : TJ Γ N0 uc us (pc + 1) lv (va_rf ((gR S t j).map (xad Γ)) :: st) S) : TJ Γ N0 uc us pc lv (.int i :: .ref (xad Γ t) :: st) S := tj_hN (fun hN => tj_aald23 C t (N0 t - 1) hk (by have := hn; omega) j hj (by rw [← hN]; exact hin) hd kk)
theorem tj_aald24d (C : TC Γ cc own f L) (t : Nat) {i : Int32} (hk : t % 32 = 24) (hn : N0 t ≠ 0) (j : Nat) (hj : i.toNatClampNeg = j) (hin : vp_in i (gN S t - 1)) (hd : decode cc pc = .ok (.aaload, 1)) (kk : TJ Γ N0 uc us (pc + 1) lv (va_rf ((gR S t j).map (xad Γ)) :: st) S) : TJ Γ N0 uc us pc lv (.int i :: .ref (xad Γ t) :: st) S := tj_hN (fun hN => tj_aald24 C t (N0 t - 1) hk (by have := hn; omega) j hj (by rw [← hN]; exact hin) hd kk)
theorem tj_iastd (C : TC Γ cc own f L) (t : Nat) {i x : Int32} (hk : t % 32 = 16) (hn : N0 t ≠ 0) (j : Nat) (hj : i.toNatClampNeg = j) (hin : vp_in i (gN S t - 1)) (hd : decode cc pc = .ok (.iastore, 1)) (kk : TJ Γ N0 uc us (pc + 1) lv st (sI S t j x)) : TJ Γ N0 uc us pc lv (.int x :: .int i :: .ref (xad Γ t) :: st) S := tj_hN (fun hN => tj_iast C t (N0 t - 1) hk (by have := hn; omega) j hj (by rw [← hN]; exact hin) hd kk)
theorem tj_bastd (C : TC Γ cc own f L) (t : Nat) {i x : Int32} (hk : t % 32 = 18) (hn : N0 t ≠ 0) (j : Nat) (hj : i.toNatClampNeg = j) (hin : vp_in i (gN S t - 1)) (hd : decode cc pc = .ok (.bastore, 1)) (kk : TJ Γ N0 uc us (pc + 1) lv st (sI S t j (vp_nar .byte x))) : TJ Γ N0 uc us pc lv (.int x :: .int i :: .ref (xad Γ t) :: st) S := tj_hN (fun hN => tj_bast C t (N0 t - 1) hk (by have := hn; omega) j hj (by rw [← hN]; exact hin) hd kk)
theorem tj_sastd (C : TC Γ cc own f L) (t : Nat) {i x : Int32} (hk : t % 32 = 19) (hn : N0 t ≠ 0) (j : Nat) (hj : i.toNatClampNeg = j) (hin : vp_in i (gN S t - 1)) (hd : decode cc pc = .ok (.sastore, 1)) (kk : TJ Γ N0 uc us (pc + 1) lv st (sI S t j (vp_nar .short x))) : TJ Γ N0 uc us pc lv (.int x :: .int i :: .ref (xad Γ t) :: st) S := tj_hN (fun hN => tj_sast C t (N0 t - 1) hk (by have := hn; omega) j hj (by rw [← hN]; exact hin) hd kk)
theorem tj_zastd (C : TC Γ cc own f L) (t : Nat) {i x : Int32} (hk : t % 32 = 20) (hn : N0 t ≠ 0) (j : Nat) (hj : i.toNatClampNeg = j) (hin : vp_in i (gN S t - 1)) (hd : decode cc pc = .ok (.bastore, 1)) (kk : TJ Γ N0 uc us (pc + 1) lv st (sI S t j (vp_nar .boolean x))) : TJ Γ N0 uc us pc lv (.int x :: .int i :: .ref (xad Γ t) :: st) S := tj_hN (fun hN => tj_zast C t (N0 t - 1) hk (by have := hn; omega) j hj (by rw [← hN]; exact hin) hd kk)
theorem tj_lastd (C : TC Γ cc own f L) (t : Nat) {i : Int32} {x : Int64} (hk : t % 32 = 17) (hn : N0 t ≠ 0) (j : Nat) (hj : i.toNatClampNeg = j) (hin : vp_in i (gN S t - 1)) (hd : decode cc pc = .ok (.lastore, 1)) (kk : TJ Γ N0 uc us (pc + 1) lv st (sL S t j x)) : TJ Γ N0 uc us pc lv (.long x :: .int i :: .ref (xad Γ t) :: st) S := tj_hN (fun hN => tj_last C t (N0 t - 1) hk (by have := hn; omega) j hj (by rw [← hN]; exact hin) hd kk)
theorem ttys_at {dA : Nat → ClassId} {k : Nat} (h1 : 16 ≤ k) (h2 : k ≤ 24) : ∃ ty, (ttys dA)[k - 16]? = some (dA k, ty) := by
  obtain ⟨j, rfl⟩ : ∃ j, k = 16 + j := ⟨k - 16, by omega⟩
  rw [Nat.add_sub_cancel_left]
  match j, h2 with
  | 0, _ => exact ⟨_, rfl⟩
  | 1, _ => exact ⟨_, rfl⟩
  | 2, _ => exact ⟨_, rfl⟩
  | 3, _ => exact ⟨_, rfl⟩
  | 4, _ => exact ⟨_, rfl⟩
  | 5, _ => exact ⟨_, rfl⟩
  | 6, _ => exact ⟨_, rfl⟩
  | 7, _ => exact ⟨_, rfl⟩
  | 8, _ => exact ⟨_, rfl⟩
  | n + 9, h => exact absurd h (by omega)
theorem tEn_arr (dA : Nat → ClassId) (ad : Nat → Nat) (S : tS) {t k n : Nat} (hk : t % 32 = k) (h : 16 ≤ k) (hn : gN S t = n + 1) : ∃ x : (Nat → Int32) ⊕ (Nat → Int64) ⊕ (Nat → UInt32) ⊕ (Nat → UInt64) ⊕ (Nat → Option Nat), tEn dA ad S t = .inl (dA k, (n, x)) := by
  subst hk
  unfold tEn
  rw [if_neg (by omega), hn]
  exact ⟨_, rfl⟩
theorem tj_alen (C : TC Γ cc own f L) (k t n : Nat) (h16 : 16 ≤ k) (h24 : k ≤ 24) (hk : t % 32 = k) (hn : N0 t = n + 1) (hd : decode cc pc = .ok (.arraylength, 1)) (kk : TJ Γ N0 uc us (pc + 1) lv (.int (nI n) :: st) S) : TJ Γ N0 uc us pc lv (.ref (xad Γ t) :: st) S := by
  intro h1 h2 h3 H locs ls hH hS hl
  have hP := tH_one hH (t := t) (by rw [h1, hn]; omega)
  obtain ⟨x, hx⟩ := tEn_arr (xG Γ).2.1 (xad Γ) S hk h16 (by rw [h1]; exact hn)
  obtain ⟨ty, hty⟩ := ttys_at (dA := (xG Γ).2.1) h16 h24
  rw [hx] at hP
  exact va_alen (D := (xG Γ).1) (v := nI n) C.x C.b C.K.1 hP 0 (k - 16) rfl hty rfl hd (kk h1 h2 h3 H locs ls hH hS hl)
theorem tj_alend (C : TC Γ cc own f L) (k t : Nat) (h16 : 16 ≤ k) (h24 : k ≤ 24) (hk : t % 32 = k) (hn : N0 t ≠ 0) (hd : decode cc pc = .ok (.arraylength, 1)) (kk : TJ Γ N0 uc us (pc + 1) lv (.int (nI (gN S t - 1)) :: st) S) : TJ Γ N0 uc us pc lv (.ref (xad Γ t) :: st) S := tj_hN (fun hN => tj_alen C k t (gN S t - 1) h16 h24 hk (by have := hn; rw [hN]; omega) hd kk)
theorem tw_acnat : Cond.native arraycopyName ∈ lw_all := q651
theorem tw_acsta : Cond.static arraycopyName ∈ lw_all := q650
theorem tw_acini : Cond.initialized "java/lang/System" ∈ lw_all := q181
theorem tj_copy16 (C : TC Γ cc own f L) (t0 t1 n0 n1 : Nat) {index : Nat} {sp dp n : Int32} (k0 : t0 % 32 = 16) (k1 : t1 % 32 = 16) (e0 : gN S t0 = n0 + 1) (e1 : gN S t1 = n1 + 1) (hlink : Cond.methodLink own index arraycopyName ∈ lw_all) (hb : ¬ sp < nI 0 ∧ ¬ dp < nI 0 ∧ ¬ n < nI 0 ∧ sp.toNatClampNeg + n.toNatClampNeg ≤ n0 ∧ dp.toNatClampNeg + n.toNatClampNeg ≤ n1)
    (hf : 1 ≤ f) (hL : 60 ≤ L) (hrest : (st.map fun v => v.category).sum ≤ 8) (hd : decode cc pc = .ok (.invokestatic index, 3)) (kk : TJ Γ N0 uc us (pc + 3) lv st (wI S t1 (va_cpy (gI S t0) (gI S t1) sp.toNatClampNeg dp.toNatClampNeg n.toNatClampNeg))) : TJ Γ N0 uc us pc lv (.int n :: .int dp :: .ref (xad Γ t1) :: .int sp :: .ref (xad Γ t0) :: st) S := by
  intro h1 h2 h3 H locs ls hH hS hl
  obtain ⟨hw, Ls, hn1, hm, hP, hD⟩ := hH
  obtain ⟨i0, hi0, hc0⟩ := tH_idx (G := xG Γ) (ad := xad Γ) (A := xA Γ) hm (t := t0) (by rw [e0]; omega)
  obtain ⟨i1, hi1, hc1⟩ := tH_idx (G := xG Γ) (ad := xad Γ) (A := xA Γ) hm (t := t1) (by rw [e1]; omega)
  have hc0' : (Ls.map (tcell (xG Γ).2.1 (xad Γ) S))[i0]? = some (xad Γ t0, .inl ((xG Γ).2.1 16, n0, .inl (gI S t0))) := by rw [hc0]; unfold tcell; rw [tEn_i _ _ _ k0 (by omega) e0]
  have hc1' : (Ls.map (tcell (xG Γ).2.1 (xad Γ) S))[i1]? = some (xad Γ t1, .inl ((xG Γ).2.1 16, n1, .inl (gI S t1))) := by rw [hc1]; unfold tcell; rw [tEn_i _ _ _ k1 (by omega) e1]
  refine va_copyi (D := (xG Γ).1) (ty := .int) C.x C.b (by rw [C.ml]; exact hl.1.symm) C.ow (C.ts _ hlink) (C.ts _ tw_acnat) (C.ts _ tw_acsta) (C.ts _ tw_acini) C.K.1 hP hD hS i0 i1 0 0 hc0' hc1' rfl rfl rfl hb.1 hb.2.1 hb.2.2.1 hb.2.2.2.1 hb.2.2.2.2 (fun i _ => rfl) (Nat.le_trans hf C.fr) ?_ hd (fun H1 locs1 hP1 hD1 hS1 => kk h1 h2 h3 H1 locs1 ls ?_ hS1 hl)
  · have h9 : nativeFrameWords "java/lang/System" "arraycopy" 5 + 11 ≤ 52 := by decide +kernel
    have := C.lo
    omega
  · refine tH_put hw hn1 hm hi1 rfl (fun a ha j => ⟨by rw [gI_wI, if_neg ha], rfl, rfl⟩) ?_ hP1 hD1
    rw [tEn_i _ _ (wI S t1 _) k1 (by omega) (show gN S t1 = n1 + 1 from e1)]
    congr 4
    funext j
    rw [gI_wI, if_pos rfl]
theorem tj_copy23 (C : TC Γ cc own f L) (t0 t1 n0 n1 : Nat) {index : Nat} {sp dp n : Int32} (k0 : t0 % 32 = 23) (k1 : t1 % 32 = 23) (e0 : gN S t0 = n0 + 1) (e1 : gN S t1 = n1 + 1) (hlink : Cond.methodLink own index arraycopyName ∈ lw_all) (hb : ¬ sp < nI 0 ∧ ¬ dp < nI 0 ∧ ¬ n < nI 0 ∧ sp.toNatClampNeg + n.toNatClampNeg ≤ n0 ∧ dp.toNatClampNeg + n.toNatClampNeg ≤ n1 ∧ ∀ i : Nat, i < n.toNatClampNeg → ∀ y : Nat, gR S t0 (sp.toNatClampNeg + i) = some y → gN S y ≠ 0 ∧ y % 32 = 7)
    (hf : 1 ≤ f) (hL : 60 ≤ L) (hrest : (st.map fun v => v.category).sum ≤ 8) (hd : decode cc pc = .ok (.invokestatic index, 3)) (kk : TJ Γ N0 uc us (pc + 3) lv st (wR S t1 (va_cpy (gR S t0) (gR S t1) sp.toNatClampNeg dp.toNatClampNeg n.toNatClampNeg))) : TJ Γ N0 uc us pc lv (.int n :: .int dp :: .ref (xad Γ t1) :: .int sp :: .ref (xad Γ t0) :: st) S := by
  intro h1 h2 h3 H locs ls hH hS hl
  have hH0 := hH
  obtain ⟨hw, Ls, hn1, hm, hP, hD⟩ := hH
  obtain ⟨i0, hi0, hc0⟩ := tH_idx (G := xG Γ) (ad := xad Γ) (A := xA Γ) hm (t := t0) (by rw [e0]; omega)
  obtain ⟨i1, hi1, hc1⟩ := tH_idx (G := xG Γ) (ad := xad Γ) (A := xA Γ) hm (t := t1) (by rw [e1]; omega)
  have hc0' : (Ls.map (tcell (xG Γ).2.1 (xad Γ) S))[i0]? = some (xad Γ t0, .inl ((xG Γ).2.1 23, n0, .inr (.inr (.inr (.inr (fun j => (gR S t0 j).map (xad Γ))))))) := by rw [hc0]; unfold tcell; rw [tEn_q _ _ _ k0 (by omega) e0]
  have hc1' : (Ls.map (tcell (xG Γ).2.1 (xad Γ) S))[i1]? = some (xad Γ t1, .inl ((xG Γ).2.1 23, n1, .inr (.inr (.inr (.inr (fun j => (gR S t1 j).map (xad Γ))))))) := by rw [hc1]; unfold tcell; rw [tEn_q _ _ _ k1 (by omega) e1]
  refine va_copyq (D := (xG Γ).1) (C := RX8) C.x C.b (by rw [C.ml]; exact hl.1.symm) C.ow (C.ts _ hlink) (C.ts _ tw_acnat) (C.ts _ tw_acsta) (C.ts _ tw_acini) C.K.1 hP hD hS i0 i1 7 7 hc0' hc1' rfl rfl hb.1 hb.2.1 hb.2.2.1 hb.2.2.2.1 hb.2.2.2.2.1 ?_ (fun comp c0 e e' => vb_asgS comp c0 e e') (Nat.le_trans hf C.fr) ?_ hd (fun H1 locs1 hP1 hD1 hS1 => kk h1 h2 h3 H1 locs1 ls ?_ hS1 hl)
  · intro i hi y hy
    cases ht : gR S t0 (sp.toNatClampNeg + i) with
    | none => rw [ht] at hy; cases hy
    | some t =>
      rw [ht] at hy
      cases hy
      obtain ⟨g1, g2⟩ := hb.2.2.2.2.2 i hi t ht
      have hP7 := tH_one hH0 (t := t) g1
      rw [tEn_o _ _ _ g2 (by omega)] at hP7
      exact va_recv (q := (RX8, TX8, 7)) C.K.1 hP7 rfl (q0 := 0) rfl
  · have h9 : nativeFrameWords "java/lang/System" "arraycopy" 5 + 11 ≤ 52 := by decide +kernel
    have := C.lo
    omega
  · refine tH_put hw hn1 hm hi1 rfl (fun a ha j => ⟨rfl, rfl, by rw [gR_wR, if_neg ha]⟩) ?_ hP1 hD1
    rw [tEn_q _ _ (wR S t1 _) k1 (by omega) (show gN S t1 = n1 + 1 from e1)]
    congr 7
    funext j
    rw [gR_wR, if_pos rfl]
    unfold va_cpy
    split <;> rfl
end TROWS2
