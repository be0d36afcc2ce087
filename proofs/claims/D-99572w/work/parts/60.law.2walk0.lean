set_option maxRecDepth 100000
theorem w_Lw_law_b2010 {Γ : tX} {Nb : Nat → Nat} {K : Int32 → tS → Prop} {mc ms b sl : Nat} {sc : Nat → Int32} (C : TC Γ cL_law RL 79 10311) (hE : tDyn (xad Γ)) (hB : mc ≤ (xR Γ).cells ∧ ms ≤ (xR Γ).slots) (hR : xnL Γ = 4) (r : TEz Γ Nb mc ms cL_law K) (hst : (xl Γ).stackTraces = false) (hG : lawG Γ b sl sc) {κ18 : Nat → Nat → Int32 → tS → Prop} (hκ18 : ∀ (N0 : Nat → Nat) (hx : tExt Nb N0) (hw : tWf N0) (hM : N0 0 ≠ 0) (hX : N0 1025 ≠ 0) (uc : Nat) (us : Nat) (a3 : Int32) (S : tS), κ18 uc us a3 S → TJ Γ N0 uc us 18 [(0, .ref b), (1, .ref (xad Γ 1025)), (2, .ref (xad Γ 0)), (3, .int a3)] [] S) : ∀ (N0 : Nat → Nat) (hx : tExt Nb N0) (hw : tWf N0) (hM : N0 0 ≠ 0) (hX : N0 1025 ≠ 0) (uc : Nat) (us : Nat) (a3 : Int32) (S : tS), Lw_law_b2010 sl sc mc ms K κ18 uc us a3 S → TJ Γ N0 uc us 2010 [(0, .ref b), (1, .ref (xad Γ 1025)), (2, .ref (xad Γ 0)), (3, .int a3)] [] S := by
  intro N0 hx hw hM hX uc us a3 S hf
  unfold Lw_law_b2010 at hf
  obtain ⟨x257, ex⟩ : ∃ y : Int32, y = a3 + nI 6 := ⟨_, rfl⟩
  refine tj_iinc C (by rw [hR]; decide) 3 [(3, .int x257), (0, .ref b), (1, .ref (xad Γ 1025)), (2, .ref (xad Γ 0))] rfl (by rw [ex]; exact ki_6 _) rfl dL_law_2010 ?_
  replace hf := hf x257 ex
  refine tj_goto C 18 (by decide) dL_law_2013 ?_
  exact tj_sub [1, 2, 3, 0] (hκ18 _ hx hw hM hX _ _ _ _ hf) rfl
theorem w_Lw_law_b1997 {Γ : tX} {Nb : Nat → Nat} {K : Int32 → tS → Prop} {mc ms b sl : Nat} {sc : Nat → Int32} (C : TC Γ cL_law RL 79 10311) (hE : tDyn (xad Γ)) (hB : mc ≤ (xR Γ).cells ∧ ms ≤ (xR Γ).slots) (hR : xnL Γ = 4) (r : TEz Γ Nb mc ms cL_law K) (hst : (xl Γ).stackTraces = false) (hG : lawG Γ b sl sc) {κ18 : Nat → Nat → Int32 → tS → Prop} (hκ18 : ∀ (N0 : Nat → Nat) (hx : tExt Nb N0) (hw : tWf N0) (hM : N0 0 ≠ 0) (hX : N0 1025 ≠ 0) (uc : Nat) (us : Nat) (a3 : Int32) (S : tS), κ18 uc us a3 S → TJ Γ N0 uc us 18 [(0, .ref b), (1, .ref (xad Γ 1025)), (2, .ref (xad Γ 0)), (3, .int a3)] [] S) : ∀ (N0 : Nat → Nat) (hx : tExt Nb N0) (hw : tWf N0) (hM : N0 0 ≠ 0) (hX : N0 1025 ≠ 0) (uc : Nat) (us : Nat) (a3 : Int32) (S : tS), Lw_law_b1997 sl sc mc ms K κ18 uc us a3 S → TJ Γ N0 uc us 1997 [(0, .ref b), (1, .ref (xad Γ 1025)), (2, .ref (xad Γ 0)), (3, .int a3)] [] S := by
  intro N0 hx hw hM hX uc us a3 S hf
  unfold Lw_law_b1997 at hf
  refine tj_aload_n C 1 rfl rfl dL_law_1997 ?_
  refine tj_callVi C (k := 1) [] [] (fun hN => c_X_undo (by rw [hN]; exact hX) hf) lk_L_269 ty_X0_undo rfl (Nat.le_of_ble_eq_true rfl) (Nat.le_of_ble_eq_true rfl) (Nat.le_of_ble_eq_true rfl) hX rfl (by decide) rfl rfl dL_law_1998 (fun r254 S253 hf => ?_)
  refine tj_aload_n C 2 rfl rfl dL_law_2001 ?_
  refine tj_callVi C (k := 0) [] [.int r254] (fun hN => c_M_undo (by rw [hN]; exact hM) hf) lk_L_272 ty_X6_undo rfl (Nat.le_of_ble_eq_true rfl) (Nat.le_of_ble_eq_true rfl) (Nat.le_of_ble_eq_true rfl) hM rfl (by decide) rfl rfl dL_law_2002 (fun r256 S255 hf => ?_)
  refine tj_icmp_eq C 2010 (by decide) dL_law_2005 (fun hc => ?_) (fun hc => ?_)
  · replace hf := hf.1 hc
    exact w_Lw_law_b2010 C hE hB hR r hst hG hκ18 _ hx hw hM hX _ _ _ _ hf
  · replace hf := hf.2 hc
    refine tj_iconst C kc_0 dL_law_2008 ?_
    exact tj_up mc ms hB hf.1 (r _ _ _ _ _ hx dL_law_2009 zb0 hf.2)
theorem w_Lw_law_b1984 {Γ : tX} {Nb : Nat → Nat} {K : Int32 → tS → Prop} {mc ms b sl : Nat} {sc : Nat → Int32} (C : TC Γ cL_law RL 79 10311) (hE : tDyn (xad Γ)) (hB : mc ≤ (xR Γ).cells ∧ ms ≤ (xR Γ).slots) (hR : xnL Γ = 4) (r : TEz Γ Nb mc ms cL_law K) (hst : (xl Γ).stackTraces = false) (hG : lawG Γ b sl sc) {κ18 : Nat → Nat → Int32 → tS → Prop} (hκ18 : ∀ (N0 : Nat → Nat) (hx : tExt Nb N0) (hw : tWf N0) (hM : N0 0 ≠ 0) (hX : N0 1025 ≠ 0) (uc : Nat) (us : Nat) (a3 : Int32) (S : tS), κ18 uc us a3 S → TJ Γ N0 uc us 18 [(0, .ref b), (1, .ref (xad Γ 1025)), (2, .ref (xad Γ 0)), (3, .int a3)] [] S) : ∀ (N0 : Nat → Nat) (hx : tExt Nb N0) (hw : tWf N0) (hM : N0 0 ≠ 0) (hX : N0 1025 ≠ 0) (uc : Nat) (us : Nat) (a3 : Int32) (S : tS), Lw_law_b1984 sl sc mc ms K κ18 uc us a3 S → TJ Γ N0 uc us 1984 [(0, .ref b), (1, .ref (xad Γ 1025)), (2, .ref (xad Γ 0)), (3, .int a3)] [] S := by
  intro N0 hx hw hM hX uc us a3 S hf
  unfold Lw_law_b1984 at hf
  refine tj_aload_n C 1 rfl rfl dL_law_1984 ?_
  obtain ⟨c248, s249, hu248, hf⟩ := hf
  refine te_callVi C (k := 1) [] [] (fun hN => c_X_mark (by rw [hN]; exact hX) hE hf) lk_L_265 ty_X0_mark rfl (Nat.le_of_ble_eq_true rfl) (Nat.le_of_ble_eq_true rfl) ⟨Nat.le_trans hu248.1 hB.1, Nat.le_trans hu248.2 hB.2⟩ (Nat.le_of_ble_eq_true rfl) hX rfl (by decide) rfl rfl dL_law_1985 (fun r250 S247 _ hf _ hx248 hw248 => ?_)
  have hw := hw248
  have hM := hx248.ne hM
  have hX := hx248.ne hX
  have hx := hx.tr hx248
  refine tj_aload_n C 2 rfl rfl dL_law_1988 ?_
  refine tj_callVi C (k := 0) [] [.int r250] (fun hN => c_M_mark (by rw [hN]; exact hM) hf) lk_L_268 ty_X6_mark rfl (Nat.le_of_ble_eq_true rfl) (Nat.le_of_ble_eq_true rfl) (Nat.le_of_ble_eq_true rfl) hM rfl (by decide) rfl rfl dL_law_1989 (fun r252 S251 hf => ?_)
  refine tj_icmp_eq C 2010 (by decide) dL_law_1992 (fun hc => ?_) (fun hc => ?_)
  · replace hf := hf.1 hc
    exact w_Lw_law_b2010 C hE hB hR r hst hG hκ18 _ hx hw hM hX _ _ _ _ hf
  · replace hf := hf.2 hc
    refine tj_iconst C kc_0 dL_law_1995 ?_
    exact tj_up mc ms hB hf.1 (r _ _ _ _ _ hx dL_law_1996 zb0 hf.2)
theorem w_Lw_law_b1951 {Γ : tX} {Nb : Nat → Nat} {K : Int32 → tS → Prop} {mc ms b sl : Nat} {sc : Nat → Int32} (C : TC Γ cL_law RL 79 10311) (hE : tDyn (xad Γ)) (hB : mc ≤ (xR Γ).cells ∧ ms ≤ (xR Γ).slots) (hR : xnL Γ = 4) (r : TEz Γ Nb mc ms cL_law K) (hst : (xl Γ).stackTraces = false) (hG : lawG Γ b sl sc) {κ18 : Nat → Nat → Int32 → tS → Prop} (hκ18 : ∀ (N0 : Nat → Nat) (hx : tExt Nb N0) (hw : tWf N0) (hM : N0 0 ≠ 0) (hX : N0 1025 ≠ 0) (uc : Nat) (us : Nat) (a3 : Int32) (S : tS), κ18 uc us a3 S → TJ Γ N0 uc us 18 [(0, .ref b), (1, .ref (xad Γ 1025)), (2, .ref (xad Γ 0)), (3, .int a3)] [] S) : ∀ (N0 : Nat → Nat) (hx : tExt Nb N0) (hw : tWf N0) (hM : N0 0 ≠ 0) (hX : N0 1025 ≠ 0) (uc : Nat) (us : Nat) (a3 : Int32) (S : tS), Lw_law_b1951 sl sc mc ms K κ18 uc us a3 S → TJ Γ N0 uc us 1951 [(0, .ref b), (1, .ref (xad Γ 1025)), (2, .ref (xad Γ 0)), (3, .int a3)] [] S := by
  intro N0 hx hw hM hX uc us a3 S hf
  unfold Lw_law_b1951 at hf
  refine tj_aload_n C 1 rfl rfl dL_law_1951 ?_
  refine tj_aload_n C 0 rfl rfl dL_law_1952 ?_
  refine tj_iload_n C 3 rfl rfl dL_law_1953 ?_
  refine tj_iconst C kc_1 dL_law_1954 ?_
  refine tj_iadd C dL_law_1955 ?_
  refine tj_sld C hG hf.1 dL_law_1956 ?_
  replace hf := hf.2
  refine tj_aload_n C 0 rfl rfl dL_law_1957 ?_
  refine tj_iload_n C 3 rfl rfl dL_law_1958 ?_
  refine tj_iconst C kc_2 dL_law_1959 ?_
  refine tj_iadd C dL_law_1960 ?_
  refine tj_sld C hG hf.1 dL_law_1961 ?_
  replace hf := hf.2
  obtain ⟨c242, s243, hu242, hf⟩ := hf
  refine te_callVz C (k := 1) [.int (sc (a3 + (nI 1)).toNatClampNeg), .int (sc (a3 + (nI 2)).toNatClampNeg)] [] (fun hN => c_X_mean (by rw [hN]; exact hX) hE hf) lk_L_261 ty_X0_mean rfl (Nat.le_of_ble_eq_true rfl) (Nat.le_of_ble_eq_true rfl) ⟨Nat.le_trans hu242.1 hB.1, Nat.le_trans hu242.2 hB.2⟩ (Nat.le_of_ble_eq_true rfl) hX rfl (by decide) rfl rfl dL_law_1962 (fun r244 S241 _ hf _ hx242 hw242 => ?_)
  have hw := hw242
  have hM := hx242.ne hM
  have hX := hx242.ne hX
  have hx := hx.tr hx242
  have hz_r244 := hf.1
  replace hf := hf.2
  refine tj_aload_n C 2 rfl rfl dL_law_1965 ?_
  refine tj_aload_n C 0 rfl rfl dL_law_1966 ?_
  refine tj_iload_n C 3 rfl rfl dL_law_1967 ?_
  refine tj_iconst C kc_1 dL_law_1968 ?_
  refine tj_iadd C dL_law_1969 ?_
  refine tj_sld C hG hf.1 dL_law_1970 ?_
  replace hf := hf.2
  refine tj_aload_n C 0 rfl rfl dL_law_1971 ?_
  refine tj_iload_n C 3 rfl rfl dL_law_1972 ?_
  refine tj_iconst C kc_2 dL_law_1973 ?_
  refine tj_iadd C dL_law_1974 ?_
  refine tj_sld C hG hf.1 dL_law_1975 ?_
  replace hf := hf.2
  refine tj_callVz C (k := 0) [.int (sc (a3 + (nI 1)).toNatClampNeg), .int (sc (a3 + (nI 2)).toNatClampNeg)] [.int r244] (fun hN => c_M_mean (by rw [hN]; exact hM) hf) lk_L_264 ty_X6_mean rfl (Nat.le_of_ble_eq_true rfl) (Nat.le_of_ble_eq_true rfl) (Nat.le_of_ble_eq_true rfl) hM rfl (by decide) rfl rfl dL_law_1976 (fun r246 S245 hf => ?_)
  have hz_r246 := hf.1
  replace hf := hf.2
  refine tj_icmp_eq C 2010 (by decide) dL_law_1979 (fun hc => ?_) (fun hc => ?_)
  · replace hf := hf.1 hc
    exact w_Lw_law_b2010 C hE hB hR r hst hG hκ18 _ hx hw hM hX _ _ _ _ hf
  · replace hf := hf.2 hc
    refine tj_iconst C kc_0 dL_law_1982 ?_
    exact tj_up mc ms hB hf.1 (r _ _ _ _ _ hx dL_law_1983 zb0 hf.2)
theorem w_Lw_law_b1928 {Γ : tX} {Nb : Nat → Nat} {K : Int32 → tS → Prop} {mc ms b sl : Nat} {sc : Nat → Int32} (C : TC Γ cL_law RL 79 10311) (hE : tDyn (xad Γ)) (hB : mc ≤ (xR Γ).cells ∧ ms ≤ (xR Γ).slots) (hR : xnL Γ = 4) (r : TEz Γ Nb mc ms cL_law K) (hst : (xl Γ).stackTraces = false) (hG : lawG Γ b sl sc) {κ18 : Nat → Nat → Int32 → tS → Prop} (hκ18 : ∀ (N0 : Nat → Nat) (hx : tExt Nb N0) (hw : tWf N0) (hM : N0 0 ≠ 0) (hX : N0 1025 ≠ 0) (uc : Nat) (us : Nat) (a3 : Int32) (S : tS), κ18 uc us a3 S → TJ Γ N0 uc us 18 [(0, .ref b), (1, .ref (xad Γ 1025)), (2, .ref (xad Γ 0)), (3, .int a3)] [] S) : ∀ (N0 : Nat → Nat) (hx : tExt Nb N0) (hw : tWf N0) (hM : N0 0 ≠ 0) (hX : N0 1025 ≠ 0) (uc : Nat) (us : Nat) (a3 : Int32) (S : tS), Lw_law_b1928 sl sc mc ms K κ18 uc us a3 S → TJ Γ N0 uc us 1928 [(0, .ref b), (1, .ref (xad Γ 1025)), (2, .ref (xad Γ 0)), (3, .int a3)] [] S := by
  intro N0 hx hw hM hX uc us a3 S hf
  unfold Lw_law_b1928 at hf
  refine tj_aload_n C 1 rfl rfl dL_law_1928 ?_
  refine tj_aload_n C 0 rfl rfl dL_law_1929 ?_
  refine tj_iload_n C 3 rfl rfl dL_law_1930 ?_
  refine tj_iconst C kc_1 dL_law_1931 ?_
  refine tj_iadd C dL_law_1932 ?_
  refine tj_sld C hG hf.1 dL_law_1933 ?_
  replace hf := hf.2
  refine tj_callVi C (k := 1) [.int (sc (a3 + (nI 1)).toNatClampNeg)] [] (fun hN => c_X_lived (by rw [hN]; exact hX) hf) lk_L_257 ty_X0_lived rfl (Nat.le_of_ble_eq_true rfl) (Nat.le_of_ble_eq_true rfl) (Nat.le_of_ble_eq_true rfl) hX rfl (by decide) rfl rfl dL_law_1934 (fun r238 S237 hf => ?_)
  refine tj_aload_n C 2 rfl rfl dL_law_1937 ?_
  refine tj_aload_n C 0 rfl rfl dL_law_1938 ?_
  refine tj_iload_n C 3 rfl rfl dL_law_1939 ?_
  refine tj_iconst C kc_1 dL_law_1940 ?_
  refine tj_iadd C dL_law_1941 ?_
  refine tj_sld C hG hf.1 dL_law_1942 ?_
  replace hf := hf.2
  refine tj_callVi C (k := 0) [.int (sc (a3 + (nI 1)).toNatClampNeg)] [.int r238] (fun hN => c_M_lived (by rw [hN]; exact hM) hf) lk_L_260 ty_X6_lived rfl (Nat.le_of_ble_eq_true rfl) (Nat.le_of_ble_eq_true rfl) (Nat.le_of_ble_eq_true rfl) hM rfl (by decide) rfl rfl dL_law_1943 (fun r240 S239 hf => ?_)
  refine tj_icmp_eq C 2010 (by decide) dL_law_1946 (fun hc => ?_) (fun hc => ?_)
  · replace hf := hf.1 hc
    exact w_Lw_law_b2010 C hE hB hR r hst hG hκ18 _ hx hw hM hX _ _ _ _ hf
  · replace hf := hf.2 hc
    refine tj_iconst C kc_0 dL_law_1949 ?_
    exact tj_up mc ms hB hf.1 (r _ _ _ _ _ hx dL_law_1950 zb0 hf.2)
theorem w_Lw_law_b1905 {Γ : tX} {Nb : Nat → Nat} {K : Int32 → tS → Prop} {mc ms b sl : Nat} {sc : Nat → Int32} (C : TC Γ cL_law RL 79 10311) (hE : tDyn (xad Γ)) (hB : mc ≤ (xR Γ).cells ∧ ms ≤ (xR Γ).slots) (hR : xnL Γ = 4) (r : TEz Γ Nb mc ms cL_law K) (hst : (xl Γ).stackTraces = false) (hG : lawG Γ b sl sc) {κ18 : Nat → Nat → Int32 → tS → Prop} (hκ18 : ∀ (N0 : Nat → Nat) (hx : tExt Nb N0) (hw : tWf N0) (hM : N0 0 ≠ 0) (hX : N0 1025 ≠ 0) (uc : Nat) (us : Nat) (a3 : Int32) (S : tS), κ18 uc us a3 S → TJ Γ N0 uc us 18 [(0, .ref b), (1, .ref (xad Γ 1025)), (2, .ref (xad Γ 0)), (3, .int a3)] [] S) : ∀ (N0 : Nat → Nat) (hx : tExt Nb N0) (hw : tWf N0) (hM : N0 0 ≠ 0) (hX : N0 1025 ≠ 0) (uc : Nat) (us : Nat) (a3 : Int32) (S : tS), Lw_law_b1905 sl sc mc ms K κ18 uc us a3 S → TJ Γ N0 uc us 1905 [(0, .ref b), (1, .ref (xad Γ 1025)), (2, .ref (xad Γ 0)), (3, .int a3)] [] S := by
  intro N0 hx hw hM hX uc us a3 S hf
  unfold Lw_law_b1905 at hf
  refine tj_aload_n C 1 rfl rfl dL_law_1905 ?_
  refine tj_aload_n C 0 rfl rfl dL_law_1906 ?_
  refine tj_iload_n C 3 rfl rfl dL_law_1907 ?_
  refine tj_iconst C kc_1 dL_law_1908 ?_
  refine tj_iadd C dL_law_1909 ?_
  refine tj_sld C hG hf.1 dL_law_1910 ?_
  replace hf := hf.2
  obtain ⟨c232, s233, hu232, hf⟩ := hf
  refine te_callVi C (k := 1) [.int (sc (a3 + (nI 1)).toNatClampNeg)] [] (fun hN => c_X_live (by rw [hN]; exact hX) hE hf) lk_L_253 ty_X0_live rfl (Nat.le_of_ble_eq_true rfl) (Nat.le_of_ble_eq_true rfl) ⟨Nat.le_trans hu232.1 hB.1, Nat.le_trans hu232.2 hB.2⟩ (Nat.le_of_ble_eq_true rfl) hX rfl (by decide) rfl rfl dL_law_1911 (fun r234 S231 _ hf _ hx232 hw232 => ?_)
  have hw := hw232
  have hM := hx232.ne hM
  have hX := hx232.ne hX
  have hx := hx.tr hx232
  refine tj_aload_n C 2 rfl rfl dL_law_1914 ?_
  refine tj_aload_n C 0 rfl rfl dL_law_1915 ?_
  refine tj_iload_n C 3 rfl rfl dL_law_1916 ?_
  refine tj_iconst C kc_1 dL_law_1917 ?_
  refine tj_iadd C dL_law_1918 ?_
  refine tj_sld C hG hf.1 dL_law_1919 ?_
  replace hf := hf.2
  refine tj_callVi C (k := 0) [.int (sc (a3 + (nI 1)).toNatClampNeg)] [.int r234] (fun hN => c_M_live (by rw [hN]; exact hM) hf) lk_L_256 ty_X6_live rfl (Nat.le_of_ble_eq_true rfl) (Nat.le_of_ble_eq_true rfl) (Nat.le_of_ble_eq_true rfl) hM rfl (by decide) rfl rfl dL_law_1920 (fun r236 S235 hf => ?_)
  refine tj_icmp_eq C 2010 (by decide) dL_law_1923 (fun hc => ?_) (fun hc => ?_)
  · replace hf := hf.1 hc
    exact w_Lw_law_b2010 C hE hB hR r hst hG hκ18 _ hx hw hM hX _ _ _ _ hf
  · replace hf := hf.2 hc
    refine tj_iconst C kc_0 dL_law_1926 ?_
    exact tj_up mc ms hB hf.1 (r _ _ _ _ _ hx dL_law_1927 zb0 hf.2)
theorem w_Lw_law_b1882 {Γ : tX} {Nb : Nat → Nat} {K : Int32 → tS → Prop} {mc ms b sl : Nat} {sc : Nat → Int32} (C : TC Γ cL_law RL 79 10311) (hE : tDyn (xad Γ)) (hB : mc ≤ (xR Γ).cells ∧ ms ≤ (xR Γ).slots) (hR : xnL Γ = 4) (r : TEz Γ Nb mc ms cL_law K) (hst : (xl Γ).stackTraces = false) (hG : lawG Γ b sl sc) {κ18 : Nat → Nat → Int32 → tS → Prop} (hκ18 : ∀ (N0 : Nat → Nat) (hx : tExt Nb N0) (hw : tWf N0) (hM : N0 0 ≠ 0) (hX : N0 1025 ≠ 0) (uc : Nat) (us : Nat) (a3 : Int32) (S : tS), κ18 uc us a3 S → TJ Γ N0 uc us 18 [(0, .ref b), (1, .ref (xad Γ 1025)), (2, .ref (xad Γ 0)), (3, .int a3)] [] S) : ∀ (N0 : Nat → Nat) (hx : tExt Nb N0) (hw : tWf N0) (hM : N0 0 ≠ 0) (hX : N0 1025 ≠ 0) (uc : Nat) (us : Nat) (a3 : Int32) (S : tS), Lw_law_b1882 sl sc mc ms K κ18 uc us a3 S → TJ Γ N0 uc us 1882 [(0, .ref b), (1, .ref (xad Γ 1025)), (2, .ref (xad Γ 0)), (3, .int a3)] [] S := by
  intro N0 hx hw hM hX uc us a3 S hf
  unfold Lw_law_b1882 at hf
  refine tj_aload_n C 1 rfl rfl dL_law_1882 ?_
  refine tj_aload_n C 0 rfl rfl dL_law_1883 ?_
  refine tj_iload_n C 3 rfl rfl dL_law_1884 ?_
  refine tj_iconst C kc_1 dL_law_1885 ?_
  refine tj_iadd C dL_law_1886 ?_
  refine tj_sld C hG hf.1 dL_law_1887 ?_
  replace hf := hf.2
  refine tj_xVWi C (k := 1) [.int (sc (a3 + (nI 1)).toNatClampNeg)] [] (fun hN => c_X_copyFed (by rw [hN]; exact hX) hf) lk_L_249 ty_X0_copyFed rfl (Nat.le_of_ble_eq_true rfl) (Nat.le_of_ble_eq_true rfl) (Nat.le_of_ble_eq_true rfl) hX rfl (by decide) rfl rfl dL_law_1888 (fun _ hu => hu.elim) (fun r228 S227 hf => ?_)
  refine tj_aload_n C 2 rfl rfl dL_law_1891 ?_
  refine tj_aload_n C 0 rfl rfl dL_law_1892 ?_
  refine tj_iload_n C 3 rfl rfl dL_law_1893 ?_
  refine tj_iconst C kc_1 dL_law_1894 ?_
  refine tj_iadd C dL_law_1895 ?_
  refine tj_sld C hG hf.1 dL_law_1896 ?_
  replace hf := hf.2
  refine tj_callVi C (k := 0) [.int (sc (a3 + (nI 1)).toNatClampNeg)] [.int r228] (fun hN => c_M_copyFed (by rw [hN]; exact hM) hf) lk_L_252 ty_X6_copyFed rfl (Nat.le_of_ble_eq_true rfl) (Nat.le_of_ble_eq_true rfl) (Nat.le_of_ble_eq_true rfl) hM rfl (by decide) rfl rfl dL_law_1897 (fun r230 S229 hf => ?_)
  refine tj_icmp_eq C 2010 (by decide) dL_law_1900 (fun hc => ?_) (fun hc => ?_)
  · replace hf := hf.1 hc
    exact w_Lw_law_b2010 C hE hB hR r hst hG hκ18 _ hx hw hM hX _ _ _ _ hf
  · replace hf := hf.2 hc
    refine tj_iconst C kc_0 dL_law_1903 ?_
    exact tj_up mc ms hB hf.1 (r _ _ _ _ _ hx dL_law_1904 zb0 hf.2)
theorem w_Lw_law_b1849 {Γ : tX} {Nb : Nat → Nat} {K : Int32 → tS → Prop} {mc ms b sl : Nat} {sc : Nat → Int32} (C : TC Γ cL_law RL 79 10311) (hE : tDyn (xad Γ)) (hB : mc ≤ (xR Γ).cells ∧ ms ≤ (xR Γ).slots) (hR : xnL Γ = 4) (r : TEz Γ Nb mc ms cL_law K) (hst : (xl Γ).stackTraces = false) (hG : lawG Γ b sl sc) {κ18 : Nat → Nat → Int32 → tS → Prop} (hκ18 : ∀ (N0 : Nat → Nat) (hx : tExt Nb N0) (hw : tWf N0) (hM : N0 0 ≠ 0) (hX : N0 1025 ≠ 0) (uc : Nat) (us : Nat) (a3 : Int32) (S : tS), κ18 uc us a3 S → TJ Γ N0 uc us 18 [(0, .ref b), (1, .ref (xad Γ 1025)), (2, .ref (xad Γ 0)), (3, .int a3)] [] S) : ∀ (N0 : Nat → Nat) (hx : tExt Nb N0) (hw : tWf N0) (hM : N0 0 ≠ 0) (hX : N0 1025 ≠ 0) (uc : Nat) (us : Nat) (a3 : Int32) (S : tS), Lw_law_b1849 sl sc mc ms K κ18 uc us a3 S → TJ Γ N0 uc us 1849 [(0, .ref b), (1, .ref (xad Γ 1025)), (2, .ref (xad Γ 0)), (3, .int a3)] [] S := by
  intro N0 hx hw hM hX uc us a3 S hf
  unfold Lw_law_b1849 at hf
  refine tj_aload_n C 1 rfl rfl dL_law_1849 ?_
  refine tj_aload_n C 0 rfl rfl dL_law_1850 ?_
  refine tj_iload_n C 3 rfl rfl dL_law_1851 ?_
  refine tj_iconst C kc_1 dL_law_1852 ?_
  refine tj_iadd C dL_law_1853 ?_
  refine tj_sld C hG hf.1 dL_law_1854 ?_
  replace hf := hf.2
  refine tj_aload_n C 0 rfl rfl dL_law_1855 ?_
  refine tj_iload_n C 3 rfl rfl dL_law_1856 ?_
  refine tj_iconst C kc_2 dL_law_1857 ?_
  refine tj_iadd C dL_law_1858 ?_
  refine tj_sld C hG hf.1 dL_law_1859 ?_
  replace hf := hf.2
  refine tj_callVi C (k := 1) [.int (sc (a3 + (nI 1)).toNatClampNeg), .int (sc (a3 + (nI 2)).toNatClampNeg)] [] (fun hN => c_X_moveOf (by rw [hN]; exact hX) hf) lk_L_245 ty_X0_moveOf rfl (Nat.le_of_ble_eq_true rfl) (Nat.le_of_ble_eq_true rfl) (Nat.le_of_ble_eq_true rfl) hX rfl (by decide) rfl rfl dL_law_1860 (fun r224 S223 hf => ?_)
  refine tj_aload_n C 2 rfl rfl dL_law_1863 ?_
  refine tj_aload_n C 0 rfl rfl dL_law_1864 ?_
  refine tj_iload_n C 3 rfl rfl dL_law_1865 ?_
  refine tj_iconst C kc_1 dL_law_1866 ?_
  refine tj_iadd C dL_law_1867 ?_
  refine tj_sld C hG hf.1 dL_law_1868 ?_
  replace hf := hf.2
  refine tj_aload_n C 0 rfl rfl dL_law_1869 ?_
  refine tj_iload_n C 3 rfl rfl dL_law_1870 ?_
  refine tj_iconst C kc_2 dL_law_1871 ?_
  refine tj_iadd C dL_law_1872 ?_
  refine tj_sld C hG hf.1 dL_law_1873 ?_
  replace hf := hf.2
  refine tj_callVi C (k := 0) [.int (sc (a3 + (nI 1)).toNatClampNeg), .int (sc (a3 + (nI 2)).toNatClampNeg)] [.int r224] (fun hN => c_M_moveOf (by rw [hN]; exact hM) hf) lk_L_248 ty_X6_moveOf rfl (Nat.le_of_ble_eq_true rfl) (Nat.le_of_ble_eq_true rfl) (Nat.le_of_ble_eq_true rfl) hM rfl (by decide) rfl rfl dL_law_1874 (fun r226 S225 hf => ?_)
  refine tj_icmp_eq C 2010 (by decide) dL_law_1877 (fun hc => ?_) (fun hc => ?_)
  · replace hf := hf.1 hc
    exact w_Lw_law_b2010 C hE hB hR r hst hG hκ18 _ hx hw hM hX _ _ _ _ hf
  · replace hf := hf.2 hc
    refine tj_iconst C kc_0 dL_law_1880 ?_
    exact tj_up mc ms hB hf.1 (r _ _ _ _ _ hx dL_law_1881 zb0 hf.2)
theorem w_Lw_law_b1826 {Γ : tX} {Nb : Nat → Nat} {K : Int32 → tS → Prop} {mc ms b sl : Nat} {sc : Nat → Int32} (C : TC Γ cL_law RL 79 10311) (hE : tDyn (xad Γ)) (hB : mc ≤ (xR Γ).cells ∧ ms ≤ (xR Γ).slots) (hR : xnL Γ = 4) (r : TEz Γ Nb mc ms cL_law K) (hst : (xl Γ).stackTraces = false) (hG : lawG Γ b sl sc) {κ18 : Nat → Nat → Int32 → tS → Prop} (hκ18 : ∀ (N0 : Nat → Nat) (hx : tExt Nb N0) (hw : tWf N0) (hM : N0 0 ≠ 0) (hX : N0 1025 ≠ 0) (uc : Nat) (us : Nat) (a3 : Int32) (S : tS), κ18 uc us a3 S → TJ Γ N0 uc us 18 [(0, .ref b), (1, .ref (xad Γ 1025)), (2, .ref (xad Γ 0)), (3, .int a3)] [] S) : ∀ (N0 : Nat → Nat) (hx : tExt Nb N0) (hw : tWf N0) (hM : N0 0 ≠ 0) (hX : N0 1025 ≠ 0) (uc : Nat) (us : Nat) (a3 : Int32) (S : tS), Lw_law_b1826 sl sc mc ms K κ18 uc us a3 S → TJ Γ N0 uc us 1826 [(0, .ref b), (1, .ref (xad Γ 1025)), (2, .ref (xad Γ 0)), (3, .int a3)] [] S := by
  intro N0 hx hw hM hX uc us a3 S hf
  unfold Lw_law_b1826 at hf
  refine tj_aload_n C 1 rfl rfl dL_law_1826 ?_
  refine tj_aload_n C 0 rfl rfl dL_law_1827 ?_
  refine tj_iload_n C 3 rfl rfl dL_law_1828 ?_
  refine tj_iconst C kc_1 dL_law_1829 ?_
  refine tj_iadd C dL_law_1830 ?_
  refine tj_sld C hG hf.1 dL_law_1831 ?_
  replace hf := hf.2
  refine tj_callVi C (k := 1) [.int (sc (a3 + (nI 1)).toNatClampNeg)] [] (fun hN => c_X_game (by rw [hN]; exact hX) hf) lk_L_241 ty_X0_game rfl (Nat.le_of_ble_eq_true rfl) (Nat.le_of_ble_eq_true rfl) (Nat.le_of_ble_eq_true rfl) hX rfl (by decide) rfl rfl dL_law_1832 (fun r220 S219 hf => ?_)
  refine tj_aload_n C 2 rfl rfl dL_law_1835 ?_
  refine tj_aload_n C 0 rfl rfl dL_law_1836 ?_
  refine tj_iload_n C 3 rfl rfl dL_law_1837 ?_
  refine tj_iconst C kc_1 dL_law_1838 ?_
  refine tj_iadd C dL_law_1839 ?_
  refine tj_sld C hG hf.1 dL_law_1840 ?_
  replace hf := hf.2
  refine tj_callVi C (k := 0) [.int (sc (a3 + (nI 1)).toNatClampNeg)] [.int r220] (fun hN => c_M_game (by rw [hN]; exact hM) hf) lk_L_244 ty_X6_game rfl (Nat.le_of_ble_eq_true rfl) (Nat.le_of_ble_eq_true rfl) (Nat.le_of_ble_eq_true rfl) hM rfl (by decide) rfl rfl dL_law_1841 (fun r222 S221 hf => ?_)
  refine tj_icmp_eq C 2010 (by decide) dL_law_1844 (fun hc => ?_) (fun hc => ?_)
  · replace hf := hf.1 hc
    exact w_Lw_law_b2010 C hE hB hR r hst hG hκ18 _ hx hw hM hX _ _ _ _ hf
  · replace hf := hf.2 hc
    refine tj_iconst C kc_0 dL_law_1847 ?_
    exact tj_up mc ms hB hf.1 (r _ _ _ _ _ hx dL_law_1848 zb0 hf.2)
theorem w_Lw_law_b1803 {Γ : tX} {Nb : Nat → Nat} {K : Int32 → tS → Prop} {mc ms b sl : Nat} {sc : Nat → Int32} (C : TC Γ cL_law RL 79 10311) (hE : tDyn (xad Γ)) (hB : mc ≤ (xR Γ).cells ∧ ms ≤ (xR Γ).slots) (hR : xnL Γ = 4) (r : TEz Γ Nb mc ms cL_law K) (hst : (xl Γ).stackTraces = false) (hG : lawG Γ b sl sc) {κ18 : Nat → Nat → Int32 → tS → Prop} (hκ18 : ∀ (N0 : Nat → Nat) (hx : tExt Nb N0) (hw : tWf N0) (hM : N0 0 ≠ 0) (hX : N0 1025 ≠ 0) (uc : Nat) (us : Nat) (a3 : Int32) (S : tS), κ18 uc us a3 S → TJ Γ N0 uc us 18 [(0, .ref b), (1, .ref (xad Γ 1025)), (2, .ref (xad Γ 0)), (3, .int a3)] [] S) : ∀ (N0 : Nat → Nat) (hx : tExt Nb N0) (hw : tWf N0) (hM : N0 0 ≠ 0) (hX : N0 1025 ≠ 0) (uc : Nat) (us : Nat) (a3 : Int32) (S : tS), Lw_law_b1803 sl sc mc ms K κ18 uc us a3 S → TJ Γ N0 uc us 1803 [(0, .ref b), (1, .ref (xad Γ 1025)), (2, .ref (xad Γ 0)), (3, .int a3)] [] S := by
  intro N0 hx hw hM hX uc us a3 S hf
  unfold Lw_law_b1803 at hf
  refine tj_aload_n C 1 rfl rfl dL_law_1803 ?_
  refine tj_aload_n C 0 rfl rfl dL_law_1804 ?_
  refine tj_iload_n C 3 rfl rfl dL_law_1805 ?_
  refine tj_iconst C kc_1 dL_law_1806 ?_
  refine tj_iadd C dL_law_1807 ?_
  refine tj_sld C hG hf.1 dL_law_1808 ?_
  replace hf := hf.2
  refine tj_callVi C (k := 1) [.int (sc (a3 + (nI 1)).toNatClampNeg)] [] (fun hN => c_X_bestAt (by rw [hN]; exact hX) hf) lk_L_237 ty_X0_bestAt rfl (Nat.le_of_ble_eq_true rfl) (Nat.le_of_ble_eq_true rfl) (Nat.le_of_ble_eq_true rfl) hX rfl (by decide) rfl rfl dL_law_1809 (fun r216 S215 hf => ?_)
  refine tj_aload_n C 2 rfl rfl dL_law_1812 ?_
  refine tj_aload_n C 0 rfl rfl dL_law_1813 ?_
  refine tj_iload_n C 3 rfl rfl dL_law_1814 ?_
  refine tj_iconst C kc_1 dL_law_1815 ?_
  refine tj_iadd C dL_law_1816 ?_
  refine tj_sld C hG hf.1 dL_law_1817 ?_
  replace hf := hf.2
  refine tj_callVi C (k := 0) [.int (sc (a3 + (nI 1)).toNatClampNeg)] [.int r216] (fun hN => c_M_bestAt (by rw [hN]; exact hM) hf) lk_L_240 ty_X6_bestAt rfl (Nat.le_of_ble_eq_true rfl) (Nat.le_of_ble_eq_true rfl) (Nat.le_of_ble_eq_true rfl) hM rfl (by decide) rfl rfl dL_law_1818 (fun r218 S217 hf => ?_)
  refine tj_icmp_eq C 2010 (by decide) dL_law_1821 (fun hc => ?_) (fun hc => ?_)
  · replace hf := hf.1 hc
    exact w_Lw_law_b2010 C hE hB hR r hst hG hκ18 _ hx hw hM hX _ _ _ _ hf
  · replace hf := hf.2 hc
    refine tj_iconst C kc_0 dL_law_1824 ?_
    exact tj_up mc ms hB hf.1 (r _ _ _ _ _ hx dL_law_1825 zb0 hf.2)
theorem w_Lw_law_b1790 {Γ : tX} {Nb : Nat → Nat} {K : Int32 → tS → Prop} {mc ms b sl : Nat} {sc : Nat → Int32} (C : TC Γ cL_law RL 79 10311) (hE : tDyn (xad Γ)) (hB : mc ≤ (xR Γ).cells ∧ ms ≤ (xR Γ).slots) (hR : xnL Γ = 4) (r : TEz Γ Nb mc ms cL_law K) (hst : (xl Γ).stackTraces = false) (hG : lawG Γ b sl sc) {κ18 : Nat → Nat → Int32 → tS → Prop} (hκ18 : ∀ (N0 : Nat → Nat) (hx : tExt Nb N0) (hw : tWf N0) (hM : N0 0 ≠ 0) (hX : N0 1025 ≠ 0) (uc : Nat) (us : Nat) (a3 : Int32) (S : tS), κ18 uc us a3 S → TJ Γ N0 uc us 18 [(0, .ref b), (1, .ref (xad Γ 1025)), (2, .ref (xad Γ 0)), (3, .int a3)] [] S) : ∀ (N0 : Nat → Nat) (hx : tExt Nb N0) (hw : tWf N0) (hM : N0 0 ≠ 0) (hX : N0 1025 ≠ 0) (uc : Nat) (us : Nat) (a3 : Int32) (S : tS), Lw_law_b1790 sl sc mc ms K κ18 uc us a3 S → TJ Γ N0 uc us 1790 [(0, .ref b), (1, .ref (xad Γ 1025)), (2, .ref (xad Γ 0)), (3, .int a3)] [] S := by
  intro N0 hx hw hM hX uc us a3 S hf
  unfold Lw_law_b1790 at hf
  refine tj_aload_n C 1 rfl rfl dL_law_1790 ?_
  refine tj_callVi C (k := 1) [] [] (fun hN => c_X_best (by rw [hN]; exact hX) hf) lk_L_233 ty_X0_best rfl (Nat.le_of_ble_eq_true rfl) (Nat.le_of_ble_eq_true rfl) (Nat.le_of_ble_eq_true rfl) hX rfl (by decide) rfl rfl dL_law_1791 (fun r212 S211 hf => ?_)
  refine tj_aload_n C 2 rfl rfl dL_law_1794 ?_
  refine tj_callVi C (k := 0) [] [.int r212] (fun hN => c_M_best (by rw [hN]; exact hM) hf) lk_L_236 ty_X6_best rfl (Nat.le_of_ble_eq_true rfl) (Nat.le_of_ble_eq_true rfl) (Nat.le_of_ble_eq_true rfl) hM rfl (by decide) rfl rfl dL_law_1795 (fun r214 S213 hf => ?_)
  refine tj_icmp_eq C 2010 (by decide) dL_law_1798 (fun hc => ?_) (fun hc => ?_)
  · replace hf := hf.1 hc
    exact w_Lw_law_b2010 C hE hB hR r hst hG hκ18 _ hx hw hM hX _ _ _ _ hf
  · replace hf := hf.2 hc
    refine tj_iconst C kc_0 dL_law_1801 ?_
    exact tj_up mc ms hB hf.1 (r _ _ _ _ _ hx dL_law_1802 zb0 hf.2)
theorem w_Lw_law_b1777 {Γ : tX} {Nb : Nat → Nat} {K : Int32 → tS → Prop} {mc ms b sl : Nat} {sc : Nat → Int32} (C : TC Γ cL_law RL 79 10311) (hE : tDyn (xad Γ)) (hB : mc ≤ (xR Γ).cells ∧ ms ≤ (xR Γ).slots) (hR : xnL Γ = 4) (r : TEz Γ Nb mc ms cL_law K) (hst : (xl Γ).stackTraces = false) (hG : lawG Γ b sl sc) {κ18 : Nat → Nat → Int32 → tS → Prop} (hκ18 : ∀ (N0 : Nat → Nat) (hx : tExt Nb N0) (hw : tWf N0) (hM : N0 0 ≠ 0) (hX : N0 1025 ≠ 0) (uc : Nat) (us : Nat) (a3 : Int32) (S : tS), κ18 uc us a3 S → TJ Γ N0 uc us 18 [(0, .ref b), (1, .ref (xad Γ 1025)), (2, .ref (xad Γ 0)), (3, .int a3)] [] S) : ∀ (N0 : Nat → Nat) (hx : tExt Nb N0) (hw : tWf N0) (hM : N0 0 ≠ 0) (hX : N0 1025 ≠ 0) (uc : Nat) (us : Nat) (a3 : Int32) (S : tS), Lw_law_b1777 sl sc mc ms K κ18 uc us a3 S → TJ Γ N0 uc us 1777 [(0, .ref b), (1, .ref (xad Γ 1025)), (2, .ref (xad Γ 0)), (3, .int a3)] [] S := by
  intro N0 hx hw hM hX uc us a3 S hf
  unfold Lw_law_b1777 at hf
  refine tj_aload_n C 1 rfl rfl dL_law_1777 ?_
  refine tj_callVi C (k := 1) [] [] (fun hN => c_X_struckSet (by rw [hN]; exact hX) hf) lk_L_229 ty_X0_struckSet rfl (Nat.le_of_ble_eq_true rfl) (Nat.le_of_ble_eq_true rfl) (Nat.le_of_ble_eq_true rfl) hX rfl (by decide) rfl rfl dL_law_1778 (fun r208 S207 hf => ?_)
  refine tj_aload_n C 2 rfl rfl dL_law_1781 ?_
  refine tj_callVi C (k := 0) [] [.int r208] (fun hN => c_M_struckSet (by rw [hN]; exact hM) hf) lk_L_232 ty_X6_struckSet rfl (Nat.le_of_ble_eq_true rfl) (Nat.le_of_ble_eq_true rfl) (Nat.le_of_ble_eq_true rfl) hM rfl (by decide) rfl rfl dL_law_1782 (fun r210 S209 hf => ?_)
  refine tj_icmp_eq C 2010 (by decide) dL_law_1785 (fun hc => ?_) (fun hc => ?_)
  · replace hf := hf.1 hc
    exact w_Lw_law_b2010 C hE hB hR r hst hG hκ18 _ hx hw hM hX _ _ _ _ hf
  · replace hf := hf.2 hc
    refine tj_iconst C kc_0 dL_law_1788 ?_
    exact tj_up mc ms hB hf.1 (r _ _ _ _ _ hx dL_law_1789 zb0 hf.2)
theorem w_Lw_law_b1764 {Γ : tX} {Nb : Nat → Nat} {K : Int32 → tS → Prop} {mc ms b sl : Nat} {sc : Nat → Int32} (C : TC Γ cL_law RL 79 10311) (hE : tDyn (xad Γ)) (hB : mc ≤ (xR Γ).cells ∧ ms ≤ (xR Γ).slots) (hR : xnL Γ = 4) (r : TEz Γ Nb mc ms cL_law K) (hst : (xl Γ).stackTraces = false) (hG : lawG Γ b sl sc) {κ18 : Nat → Nat → Int32 → tS → Prop} (hκ18 : ∀ (N0 : Nat → Nat) (hx : tExt Nb N0) (hw : tWf N0) (hM : N0 0 ≠ 0) (hX : N0 1025 ≠ 0) (uc : Nat) (us : Nat) (a3 : Int32) (S : tS), κ18 uc us a3 S → TJ Γ N0 uc us 18 [(0, .ref b), (1, .ref (xad Γ 1025)), (2, .ref (xad Γ 0)), (3, .int a3)] [] S) : ∀ (N0 : Nat → Nat) (hx : tExt Nb N0) (hw : tWf N0) (hM : N0 0 ≠ 0) (hX : N0 1025 ≠ 0) (uc : Nat) (us : Nat) (a3 : Int32) (S : tS), Lw_law_b1764 sl sc mc ms K κ18 uc us a3 S → TJ Γ N0 uc us 1764 [(0, .ref b), (1, .ref (xad Γ 1025)), (2, .ref (xad Γ 0)), (3, .int a3)] [] S := by
  intro N0 hx hw hM hX uc us a3 S hf
  unfold Lw_law_b1764 at hf
  refine tj_aload_n C 1 rfl rfl dL_law_1764 ?_
  refine tj_callVi C (k := 1) [] [] (fun hN => c_X_struck (by rw [hN]; exact hX) hf) lk_L_225 ty_X0_struck rfl (Nat.le_of_ble_eq_true rfl) (Nat.le_of_ble_eq_true rfl) (Nat.le_of_ble_eq_true rfl) hX rfl (by decide) rfl rfl dL_law_1765 (fun r204 S203 hf => ?_)
  refine tj_aload_n C 2 rfl rfl dL_law_1768 ?_
  refine tj_callVi C (k := 0) [] [.int r204] (fun hN => c_M_struck (by rw [hN]; exact hM) hf) lk_L_228 ty_X6_struck rfl (Nat.le_of_ble_eq_true rfl) (Nat.le_of_ble_eq_true rfl) (Nat.le_of_ble_eq_true rfl) hM rfl (by decide) rfl rfl dL_law_1769 (fun r206 S205 hf => ?_)
  refine tj_icmp_eq C 2010 (by decide) dL_law_1772 (fun hc => ?_) (fun hc => ?_)
  · replace hf := hf.1 hc
    exact w_Lw_law_b2010 C hE hB hR r hst hG hκ18 _ hx hw hM hX _ _ _ _ hf
  · replace hf := hf.2 hc
    refine tj_iconst C kc_0 dL_law_1775 ?_
    exact tj_up mc ms hB hf.1 (r _ _ _ _ _ hx dL_law_1776 zb0 hf.2)
theorem w_Lw_law_b1751 {Γ : tX} {Nb : Nat → Nat} {K : Int32 → tS → Prop} {mc ms b sl : Nat} {sc : Nat → Int32} (C : TC Γ cL_law RL 79 10311) (hE : tDyn (xad Γ)) (hB : mc ≤ (xR Γ).cells ∧ ms ≤ (xR Γ).slots) (hR : xnL Γ = 4) (r : TEz Γ Nb mc ms cL_law K) (hst : (xl Γ).stackTraces = false) (hG : lawG Γ b sl sc) {κ18 : Nat → Nat → Int32 → tS → Prop} (hκ18 : ∀ (N0 : Nat → Nat) (hx : tExt Nb N0) (hw : tWf N0) (hM : N0 0 ≠ 0) (hX : N0 1025 ≠ 0) (uc : Nat) (us : Nat) (a3 : Int32) (S : tS), κ18 uc us a3 S → TJ Γ N0 uc us 18 [(0, .ref b), (1, .ref (xad Γ 1025)), (2, .ref (xad Γ 0)), (3, .int a3)] [] S) : ∀ (N0 : Nat → Nat) (hx : tExt Nb N0) (hw : tWf N0) (hM : N0 0 ≠ 0) (hX : N0 1025 ≠ 0) (uc : Nat) (us : Nat) (a3 : Int32) (S : tS), Lw_law_b1751 sl sc mc ms K κ18 uc us a3 S → TJ Γ N0 uc us 1751 [(0, .ref b), (1, .ref (xad Γ 1025)), (2, .ref (xad Γ 0)), (3, .int a3)] [] S := by
  intro N0 hx hw hM hX uc us a3 S hf
  unfold Lw_law_b1751 at hf
  refine tj_aload_n C 1 rfl rfl dL_law_1751 ?_
  refine tj_callVi C (k := 1) [] [] (fun hN => c_X_clash (by rw [hN]; exact hX) hf) lk_L_221 ty_X0_clash rfl (Nat.le_of_ble_eq_true rfl) (Nat.le_of_ble_eq_true rfl) (Nat.le_of_ble_eq_true rfl) hX rfl (by decide) rfl rfl dL_law_1752 (fun r200 S199 hf => ?_)
  refine tj_aload_n C 2 rfl rfl dL_law_1755 ?_
  refine tj_callVi C (k := 0) [] [.int r200] (fun hN => c_M_clash (by rw [hN]; exact hM) hf) lk_L_224 ty_X6_clash rfl (Nat.le_of_ble_eq_true rfl) (Nat.le_of_ble_eq_true rfl) (Nat.le_of_ble_eq_true rfl) hM rfl (by decide) rfl rfl dL_law_1756 (fun r202 S201 hf => ?_)
  refine tj_icmp_eq C 2010 (by decide) dL_law_1759 (fun hc => ?_) (fun hc => ?_)
  · replace hf := hf.1 hc
    exact w_Lw_law_b2010 C hE hB hR r hst hG hκ18 _ hx hw hM hX _ _ _ _ hf
  · replace hf := hf.2 hc
    refine tj_iconst C kc_0 dL_law_1762 ?_
    exact tj_up mc ms hB hf.1 (r _ _ _ _ _ hx dL_law_1763 zb0 hf.2)
theorem w_Lw_law_b1728 {Γ : tX} {Nb : Nat → Nat} {K : Int32 → tS → Prop} {mc ms b sl : Nat} {sc : Nat → Int32} (C : TC Γ cL_law RL 79 10311) (hE : tDyn (xad Γ)) (hB : mc ≤ (xR Γ).cells ∧ ms ≤ (xR Γ).slots) (hR : xnL Γ = 4) (r : TEz Γ Nb mc ms cL_law K) (hst : (xl Γ).stackTraces = false) (hG : lawG Γ b sl sc) {κ18 : Nat → Nat → Int32 → tS → Prop} (hκ18 : ∀ (N0 : Nat → Nat) (hx : tExt Nb N0) (hw : tWf N0) (hM : N0 0 ≠ 0) (hX : N0 1025 ≠ 0) (uc : Nat) (us : Nat) (a3 : Int32) (S : tS), κ18 uc us a3 S → TJ Γ N0 uc us 18 [(0, .ref b), (1, .ref (xad Γ 1025)), (2, .ref (xad Γ 0)), (3, .int a3)] [] S) : ∀ (N0 : Nat → Nat) (hx : tExt Nb N0) (hw : tWf N0) (hM : N0 0 ≠ 0) (hX : N0 1025 ≠ 0) (uc : Nat) (us : Nat) (a3 : Int32) (S : tS), Lw_law_b1728 sl sc mc ms K κ18 uc us a3 S → TJ Γ N0 uc us 1728 [(0, .ref b), (1, .ref (xad Γ 1025)), (2, .ref (xad Γ 0)), (3, .int a3)] [] S := by
  intro N0 hx hw hM hX uc us a3 S hf
  unfold Lw_law_b1728 at hf
  refine tj_aload_n C 1 rfl rfl dL_law_1728 ?_
  refine tj_aload_n C 0 rfl rfl dL_law_1729 ?_
  refine tj_iload_n C 3 rfl rfl dL_law_1730 ?_
  refine tj_iconst C kc_1 dL_law_1731 ?_
  refine tj_iadd C dL_law_1732 ?_
  refine tj_sld C hG hf.1 dL_law_1733 ?_
  replace hf := hf.2
  refine tj_callVz C (k := 1) [.int (sc (a3 + (nI 1)).toNatClampNeg)] [] (fun hN => c_X_power (by rw [hN]; exact hX) hf) lk_L_217 ty_X0_power rfl (Nat.le_of_ble_eq_true rfl) (Nat.le_of_ble_eq_true rfl) (Nat.le_of_ble_eq_true rfl) hX rfl (by decide) rfl rfl dL_law_1734 (fun r196 S195 hf => ?_)
  have hz_r196 := hf.1
  replace hf := hf.2
  refine tj_aload_n C 2 rfl rfl dL_law_1737 ?_
  refine tj_aload_n C 0 rfl rfl dL_law_1738 ?_
  refine tj_iload_n C 3 rfl rfl dL_law_1739 ?_
  refine tj_iconst C kc_1 dL_law_1740 ?_
  refine tj_iadd C dL_law_1741 ?_
  refine tj_sld C hG hf.1 dL_law_1742 ?_
  replace hf := hf.2
  refine tj_callVz C (k := 0) [.int (sc (a3 + (nI 1)).toNatClampNeg)] [.int r196] (fun hN => c_M_power (by rw [hN]; exact hM) hf) lk_L_220 ty_X6_power rfl (Nat.le_of_ble_eq_true rfl) (Nat.le_of_ble_eq_true rfl) (Nat.le_of_ble_eq_true rfl) hM rfl (by decide) rfl rfl dL_law_1743 (fun r198 S197 hf => ?_)
  have hz_r198 := hf.1
  replace hf := hf.2
  refine tj_icmp_eq C 2010 (by decide) dL_law_1746 (fun hc => ?_) (fun hc => ?_)
  · replace hf := hf.1 hc
    exact w_Lw_law_b2010 C hE hB hR r hst hG hκ18 _ hx hw hM hX _ _ _ _ hf
  · replace hf := hf.2 hc
    refine tj_iconst C kc_0 dL_law_1749 ?_
    exact tj_up mc ms hB hf.1 (r _ _ _ _ _ hx dL_law_1750 zb0 hf.2)
theorem w_Lw_law_b1705 {Γ : tX} {Nb : Nat → Nat} {K : Int32 → tS → Prop} {mc ms b sl : Nat} {sc : Nat → Int32} (C : TC Γ cL_law RL 79 10311) (hE : tDyn (xad Γ)) (hB : mc ≤ (xR Γ).cells ∧ ms ≤ (xR Γ).slots) (hR : xnL Γ = 4) (r : TEz Γ Nb mc ms cL_law K) (hst : (xl Γ).stackTraces = false) (hG : lawG Γ b sl sc) {κ18 : Nat → Nat → Int32 → tS → Prop} (hκ18 : ∀ (N0 : Nat → Nat) (hx : tExt Nb N0) (hw : tWf N0) (hM : N0 0 ≠ 0) (hX : N0 1025 ≠ 0) (uc : Nat) (us : Nat) (a3 : Int32) (S : tS), κ18 uc us a3 S → TJ Γ N0 uc us 18 [(0, .ref b), (1, .ref (xad Γ 1025)), (2, .ref (xad Γ 0)), (3, .int a3)] [] S) : ∀ (N0 : Nat → Nat) (hx : tExt Nb N0) (hw : tWf N0) (hM : N0 0 ≠ 0) (hX : N0 1025 ≠ 0) (uc : Nat) (us : Nat) (a3 : Int32) (S : tS), Lw_law_b1705 sl sc mc ms K κ18 uc us a3 S → TJ Γ N0 uc us 1705 [(0, .ref b), (1, .ref (xad Γ 1025)), (2, .ref (xad Γ 0)), (3, .int a3)] [] S := by
  intro N0 hx hw hM hX uc us a3 S hf
  unfold Lw_law_b1705 at hf
  refine tj_aload_n C 1 rfl rfl dL_law_1705 ?_
  refine tj_aload_n C 0 rfl rfl dL_law_1706 ?_
  refine tj_iload_n C 3 rfl rfl dL_law_1707 ?_
  refine tj_iconst C kc_1 dL_law_1708 ?_
  refine tj_iadd C dL_law_1709 ?_
  refine tj_sld C hG hf.1 dL_law_1710 ?_
  replace hf := hf.2
  refine tj_callVi C (k := 1) [.int (sc (a3 + (nI 1)).toNatClampNeg)] [] (fun hN => c_X_sworn (by rw [hN]; exact hX) hf) lk_L_213 ty_X0_sworn rfl (Nat.le_of_ble_eq_true rfl) (Nat.le_of_ble_eq_true rfl) (Nat.le_of_ble_eq_true rfl) hX rfl (by decide) rfl rfl dL_law_1711 (fun r192 S191 hf => ?_)
  refine tj_aload_n C 2 rfl rfl dL_law_1714 ?_
  refine tj_aload_n C 0 rfl rfl dL_law_1715 ?_
  refine tj_iload_n C 3 rfl rfl dL_law_1716 ?_
  refine tj_iconst C kc_1 dL_law_1717 ?_
  refine tj_iadd C dL_law_1718 ?_
  refine tj_sld C hG hf.1 dL_law_1719 ?_
  replace hf := hf.2
  refine tj_callVi C (k := 0) [.int (sc (a3 + (nI 1)).toNatClampNeg)] [.int r192] (fun hN => c_M_sworn (by rw [hN]; exact hM) hf) lk_L_216 ty_X6_sworn rfl (Nat.le_of_ble_eq_true rfl) (Nat.le_of_ble_eq_true rfl) (Nat.le_of_ble_eq_true rfl) hM rfl (by decide) rfl rfl dL_law_1720 (fun r194 S193 hf => ?_)
  refine tj_icmp_eq C 2010 (by decide) dL_law_1723 (fun hc => ?_) (fun hc => ?_)
  · replace hf := hf.1 hc
    exact w_Lw_law_b2010 C hE hB hR r hst hG hκ18 _ hx hw hM hX _ _ _ _ hf
  · replace hf := hf.2 hc
    refine tj_iconst C kc_0 dL_law_1726 ?_
    exact tj_up mc ms hB hf.1 (r _ _ _ _ _ hx dL_law_1727 zb0 hf.2)
theorem w_Lw_law_b1682 {Γ : tX} {Nb : Nat → Nat} {K : Int32 → tS → Prop} {mc ms b sl : Nat} {sc : Nat → Int32} (C : TC Γ cL_law RL 79 10311) (hE : tDyn (xad Γ)) (hB : mc ≤ (xR Γ).cells ∧ ms ≤ (xR Γ).slots) (hR : xnL Γ = 4) (r : TEz Γ Nb mc ms cL_law K) (hst : (xl Γ).stackTraces = false) (hG : lawG Γ b sl sc) {κ18 : Nat → Nat → Int32 → tS → Prop} (hκ18 : ∀ (N0 : Nat → Nat) (hx : tExt Nb N0) (hw : tWf N0) (hM : N0 0 ≠ 0) (hX : N0 1025 ≠ 0) (uc : Nat) (us : Nat) (a3 : Int32) (S : tS), κ18 uc us a3 S → TJ Γ N0 uc us 18 [(0, .ref b), (1, .ref (xad Γ 1025)), (2, .ref (xad Γ 0)), (3, .int a3)] [] S) : ∀ (N0 : Nat → Nat) (hx : tExt Nb N0) (hw : tWf N0) (hM : N0 0 ≠ 0) (hX : N0 1025 ≠ 0) (uc : Nat) (us : Nat) (a3 : Int32) (S : tS), Lw_law_b1682 sl sc mc ms K κ18 uc us a3 S → TJ Γ N0 uc us 1682 [(0, .ref b), (1, .ref (xad Γ 1025)), (2, .ref (xad Γ 0)), (3, .int a3)] [] S := by
  intro N0 hx hw hM hX uc us a3 S hf
  unfold Lw_law_b1682 at hf
  refine tj_aload_n C 1 rfl rfl dL_law_1682 ?_
  refine tj_aload_n C 0 rfl rfl dL_law_1683 ?_
  refine tj_iload_n C 3 rfl rfl dL_law_1684 ?_
  refine tj_iconst C kc_1 dL_law_1685 ?_
  refine tj_iadd C dL_law_1686 ?_
  refine tj_sld C hG hf.1 dL_law_1687 ?_
  replace hf := hf.2
  refine tj_callVz C (k := 1) [.int (sc (a3 + (nI 1)).toNatClampNeg)] [] (fun hN => c_X_verdict (by rw [hN]; exact hX) hf) lk_L_209 ty_X0_verdict rfl (Nat.le_of_ble_eq_true rfl) (Nat.le_of_ble_eq_true rfl) (Nat.le_of_ble_eq_true rfl) hX rfl (by decide) rfl rfl dL_law_1688 (fun r188 S187 hf => ?_)
  have hz_r188 := hf.1
  replace hf := hf.2
  refine tj_aload_n C 2 rfl rfl dL_law_1691 ?_
  refine tj_aload_n C 0 rfl rfl dL_law_1692 ?_
  refine tj_iload_n C 3 rfl rfl dL_law_1693 ?_
  refine tj_iconst C kc_1 dL_law_1694 ?_
  refine tj_iadd C dL_law_1695 ?_
  refine tj_sld C hG hf.1 dL_law_1696 ?_
  replace hf := hf.2
  refine tj_callVz C (k := 0) [.int (sc (a3 + (nI 1)).toNatClampNeg)] [.int r188] (fun hN => c_M_verdict (by rw [hN]; exact hM) hf) lk_L_212 ty_X6_verdict rfl (Nat.le_of_ble_eq_true rfl) (Nat.le_of_ble_eq_true rfl) (Nat.le_of_ble_eq_true rfl) hM rfl (by decide) rfl rfl dL_law_1697 (fun r190 S189 hf => ?_)
  have hz_r190 := hf.1
  replace hf := hf.2
  refine tj_icmp_eq C 2010 (by decide) dL_law_1700 (fun hc => ?_) (fun hc => ?_)
  · replace hf := hf.1 hc
    exact w_Lw_law_b2010 C hE hB hR r hst hG hκ18 _ hx hw hM hX _ _ _ _ hf
  · replace hf := hf.2 hc
    refine tj_iconst C kc_0 dL_law_1703 ?_
    exact tj_up mc ms hB hf.1 (r _ _ _ _ _ hx dL_law_1704 zb0 hf.2)
theorem w_Lw_law_b1669 {Γ : tX} {Nb : Nat → Nat} {K : Int32 → tS → Prop} {mc ms b sl : Nat} {sc : Nat → Int32} (C : TC Γ cL_law RL 79 10311) (hE : tDyn (xad Γ)) (hB : mc ≤ (xR Γ).cells ∧ ms ≤ (xR Γ).slots) (hR : xnL Γ = 4) (r : TEz Γ Nb mc ms cL_law K) (hst : (xl Γ).stackTraces = false) (hG : lawG Γ b sl sc) {κ18 : Nat → Nat → Int32 → tS → Prop} (hκ18 : ∀ (N0 : Nat → Nat) (hx : tExt Nb N0) (hw : tWf N0) (hM : N0 0 ≠ 0) (hX : N0 1025 ≠ 0) (uc : Nat) (us : Nat) (a3 : Int32) (S : tS), κ18 uc us a3 S → TJ Γ N0 uc us 18 [(0, .ref b), (1, .ref (xad Γ 1025)), (2, .ref (xad Γ 0)), (3, .int a3)] [] S) : ∀ (N0 : Nat → Nat) (hx : tExt Nb N0) (hw : tWf N0) (hM : N0 0 ≠ 0) (hX : N0 1025 ≠ 0) (uc : Nat) (us : Nat) (a3 : Int32) (S : tS), Lw_law_b1669 sl sc mc ms K κ18 uc us a3 S → TJ Γ N0 uc us 1669 [(0, .ref b), (1, .ref (xad Γ 1025)), (2, .ref (xad Γ 0)), (3, .int a3)] [] S := by
  intro N0 hx hw hM hX uc us a3 S hf
  unfold Lw_law_b1669 at hf
  refine tj_aload_n C 1 rfl rfl dL_law_1669 ?_
  refine tj_callVi C (k := 1) [] [] (fun hN => c_X_mute (by rw [hN]; exact hX) hf) lk_L_205 ty_X0_mute rfl (Nat.le_of_ble_eq_true rfl) (Nat.le_of_ble_eq_true rfl) (Nat.le_of_ble_eq_true rfl) hX rfl (by decide) rfl rfl dL_law_1670 (fun r184 S183 hf => ?_)
  refine tj_aload_n C 2 rfl rfl dL_law_1673 ?_
  refine tj_callVi C (k := 0) [] [.int r184] (fun hN => c_M_mute (by rw [hN]; exact hM) hf) lk_L_208 ty_X6_mute rfl (Nat.le_of_ble_eq_true rfl) (Nat.le_of_ble_eq_true rfl) (Nat.le_of_ble_eq_true rfl) hM rfl (by decide) rfl rfl dL_law_1674 (fun r186 S185 hf => ?_)
  refine tj_icmp_eq C 2010 (by decide) dL_law_1677 (fun hc => ?_) (fun hc => ?_)
  · replace hf := hf.1 hc
    exact w_Lw_law_b2010 C hE hB hR r hst hG hκ18 _ hx hw hM hX _ _ _ _ hf
  · replace hf := hf.2 hc
    refine tj_iconst C kc_0 dL_law_1680 ?_
    exact tj_up mc ms hB hf.1 (r _ _ _ _ _ hx dL_law_1681 zb0 hf.2)
theorem w_Lw_law_b1646 {Γ : tX} {Nb : Nat → Nat} {K : Int32 → tS → Prop} {mc ms b sl : Nat} {sc : Nat → Int32} (C : TC Γ cL_law RL 79 10311) (hE : tDyn (xad Γ)) (hB : mc ≤ (xR Γ).cells ∧ ms ≤ (xR Γ).slots) (hR : xnL Γ = 4) (r : TEz Γ Nb mc ms cL_law K) (hst : (xl Γ).stackTraces = false) (hG : lawG Γ b sl sc) {κ18 : Nat → Nat → Int32 → tS → Prop} (hκ18 : ∀ (N0 : Nat → Nat) (hx : tExt Nb N0) (hw : tWf N0) (hM : N0 0 ≠ 0) (hX : N0 1025 ≠ 0) (uc : Nat) (us : Nat) (a3 : Int32) (S : tS), κ18 uc us a3 S → TJ Γ N0 uc us 18 [(0, .ref b), (1, .ref (xad Γ 1025)), (2, .ref (xad Γ 0)), (3, .int a3)] [] S) : ∀ (N0 : Nat → Nat) (hx : tExt Nb N0) (hw : tWf N0) (hM : N0 0 ≠ 0) (hX : N0 1025 ≠ 0) (uc : Nat) (us : Nat) (a3 : Int32) (S : tS), Lw_law_b1646 sl sc mc ms K κ18 uc us a3 S → TJ Γ N0 uc us 1646 [(0, .ref b), (1, .ref (xad Γ 1025)), (2, .ref (xad Γ 0)), (3, .int a3)] [] S := by
  intro N0 hx hw hM hX uc us a3 S hf
  unfold Lw_law_b1646 at hf
  refine tj_aload_n C 1 rfl rfl dL_law_1646 ?_
  refine tj_aload_n C 0 rfl rfl dL_law_1647 ?_
  refine tj_iload_n C 3 rfl rfl dL_law_1648 ?_
  refine tj_iconst C kc_1 dL_law_1649 ?_
  refine tj_iadd C dL_law_1650 ?_
  refine tj_sld C hG hf.1 dL_law_1651 ?_
  replace hf := hf.2
  refine tj_callVz C (k := 1) [.int (sc (a3 + (nI 1)).toNatClampNeg)] [] (fun hN => c_X_tells (by rw [hN]; exact hX) hf) lk_L_200 ty_X0_tells rfl (Nat.le_of_ble_eq_true rfl) (Nat.le_of_ble_eq_true rfl) (Nat.le_of_ble_eq_true rfl) hX rfl (by decide) rfl rfl dL_law_1652 (fun r180 S179 hf => ?_)
  have hz_r180 := hf.1
  replace hf := hf.2
  refine tj_aload_n C 2 rfl rfl dL_law_1655 ?_
  refine tj_aload_n C 0 rfl rfl dL_law_1656 ?_
  refine tj_iload_n C 3 rfl rfl dL_law_1657 ?_
  refine tj_iconst C kc_1 dL_law_1658 ?_
  refine tj_iadd C dL_law_1659 ?_
  refine tj_sld C hG hf.1 dL_law_1660 ?_
  replace hf := hf.2
  refine tj_callVz C (k := 0) [.int (sc (a3 + (nI 1)).toNatClampNeg)] [.int r180] (fun hN => c_M_tells (by rw [hN]; exact hM) hf) lk_L_204 ty_X6_tells rfl (Nat.le_of_ble_eq_true rfl) (Nat.le_of_ble_eq_true rfl) (Nat.le_of_ble_eq_true rfl) hM rfl (by decide) rfl rfl dL_law_1661 (fun r182 S181 hf => ?_)
  have hz_r182 := hf.1
  replace hf := hf.2
  refine tj_icmp_eq C 2010 (by decide) dL_law_1664 (fun hc => ?_) (fun hc => ?_)
  · replace hf := hf.1 hc
    exact w_Lw_law_b2010 C hE hB hR r hst hG hκ18 _ hx hw hM hX _ _ _ _ hf
  · replace hf := hf.2 hc
    refine tj_iconst C kc_0 dL_law_1667 ?_
    exact tj_up mc ms hB hf.1 (r _ _ _ _ _ hx dL_law_1668 zb0 hf.2)
theorem w_Lw_law_b1633 {Γ : tX} {Nb : Nat → Nat} {K : Int32 → tS → Prop} {mc ms b sl : Nat} {sc : Nat → Int32} (C : TC Γ cL_law RL 79 10311) (hE : tDyn (xad Γ)) (hB : mc ≤ (xR Γ).cells ∧ ms ≤ (xR Γ).slots) (hR : xnL Γ = 4) (r : TEz Γ Nb mc ms cL_law K) (hst : (xl Γ).stackTraces = false) (hG : lawG Γ b sl sc) {κ18 : Nat → Nat → Int32 → tS → Prop} (hκ18 : ∀ (N0 : Nat → Nat) (hx : tExt Nb N0) (hw : tWf N0) (hM : N0 0 ≠ 0) (hX : N0 1025 ≠ 0) (uc : Nat) (us : Nat) (a3 : Int32) (S : tS), κ18 uc us a3 S → TJ Γ N0 uc us 18 [(0, .ref b), (1, .ref (xad Γ 1025)), (2, .ref (xad Γ 0)), (3, .int a3)] [] S) : ∀ (N0 : Nat → Nat) (hx : tExt Nb N0) (hw : tWf N0) (hM : N0 0 ≠ 0) (hX : N0 1025 ≠ 0) (uc : Nat) (us : Nat) (a3 : Int32) (S : tS), Lw_law_b1633 sl sc mc ms K κ18 uc us a3 S → TJ Γ N0 uc us 1633 [(0, .ref b), (1, .ref (xad Γ 1025)), (2, .ref (xad Γ 0)), (3, .int a3)] [] S := by
  intro N0 hx hw hM hX uc us a3 S hf
  unfold Lw_law_b1633 at hf
  refine tj_aload_n C 1 rfl rfl dL_law_1633 ?_
  refine tj_callVi C (k := 1) [] [] (fun hN => c_X_idle (by rw [hN]; exact hX) hf) lk_L_196 ty_X0_idle rfl (Nat.le_of_ble_eq_true rfl) (Nat.le_of_ble_eq_true rfl) (Nat.le_of_ble_eq_true rfl) hX rfl (by decide) rfl rfl dL_law_1634 (fun r176 S175 hf => ?_)
  refine tj_aload_n C 2 rfl rfl dL_law_1637 ?_
  refine tj_callVi C (k := 0) [] [.int r176] (fun hN => c_M_idle (by rw [hN]; exact hM) hf) lk_L_199 ty_X6_idle rfl (Nat.le_of_ble_eq_true rfl) (Nat.le_of_ble_eq_true rfl) (Nat.le_of_ble_eq_true rfl) hM rfl (by decide) rfl rfl dL_law_1638 (fun r178 S177 hf => ?_)
  refine tj_icmp_eq C 2010 (by decide) dL_law_1641 (fun hc => ?_) (fun hc => ?_)
  · replace hf := hf.1 hc
    exact w_Lw_law_b2010 C hE hB hR r hst hG hκ18 _ hx hw hM hX _ _ _ _ hf
  · replace hf := hf.2 hc
    refine tj_iconst C kc_0 dL_law_1644 ?_
    exact tj_up mc ms hB hf.1 (r _ _ _ _ _ hx dL_law_1645 zb0 hf.2)
theorem w_Lw_law_b1610 {Γ : tX} {Nb : Nat → Nat} {K : Int32 → tS → Prop} {mc ms b sl : Nat} {sc : Nat → Int32} (C : TC Γ cL_law RL 79 10311) (hE : tDyn (xad Γ)) (hB : mc ≤ (xR Γ).cells ∧ ms ≤ (xR Γ).slots) (hR : xnL Γ = 4) (r : TEz Γ Nb mc ms cL_law K) (hst : (xl Γ).stackTraces = false) (hG : lawG Γ b sl sc) {κ18 : Nat → Nat → Int32 → tS → Prop} (hκ18 : ∀ (N0 : Nat → Nat) (hx : tExt Nb N0) (hw : tWf N0) (hM : N0 0 ≠ 0) (hX : N0 1025 ≠ 0) (uc : Nat) (us : Nat) (a3 : Int32) (S : tS), κ18 uc us a3 S → TJ Γ N0 uc us 18 [(0, .ref b), (1, .ref (xad Γ 1025)), (2, .ref (xad Γ 0)), (3, .int a3)] [] S) : ∀ (N0 : Nat → Nat) (hx : tExt Nb N0) (hw : tWf N0) (hM : N0 0 ≠ 0) (hX : N0 1025 ≠ 0) (uc : Nat) (us : Nat) (a3 : Int32) (S : tS), Lw_law_b1610 sl sc mc ms K κ18 uc us a3 S → TJ Γ N0 uc us 1610 [(0, .ref b), (1, .ref (xad Γ 1025)), (2, .ref (xad Γ 0)), (3, .int a3)] [] S := by
  intro N0 hx hw hM hX uc us a3 S hf
  unfold Lw_law_b1610 at hf
  refine tj_aload_n C 1 rfl rfl dL_law_1610 ?_
  refine tj_aload_n C 0 rfl rfl dL_law_1611 ?_
  refine tj_iload_n C 3 rfl rfl dL_law_1612 ?_
  refine tj_iconst C kc_1 dL_law_1613 ?_
  refine tj_iadd C dL_law_1614 ?_
  refine tj_sld C hG hf.1 dL_law_1615 ?_
  replace hf := hf.2
  refine tj_callVi C (k := 1) [.int (sc (a3 + (nI 1)).toNatClampNeg)] [] (fun hN => c_X_reach (by rw [hN]; exact hX) hf) lk_L_192 ty_X0_reach rfl (Nat.le_of_ble_eq_true rfl) (Nat.le_of_ble_eq_true rfl) (Nat.le_of_ble_eq_true rfl) hX rfl (by decide) rfl rfl dL_law_1616 (fun r172 S171 hf => ?_)
  refine tj_aload_n C 2 rfl rfl dL_law_1619 ?_
  refine tj_aload_n C 0 rfl rfl dL_law_1620 ?_
  refine tj_iload_n C 3 rfl rfl dL_law_1621 ?_
  refine tj_iconst C kc_1 dL_law_1622 ?_
  refine tj_iadd C dL_law_1623 ?_
  refine tj_sld C hG hf.1 dL_law_1624 ?_
  replace hf := hf.2
  refine tj_callVi C (k := 0) [.int (sc (a3 + (nI 1)).toNatClampNeg)] [.int r172] (fun hN => c_M_reach (by rw [hN]; exact hM) hf) lk_L_195 ty_X6_reach rfl (Nat.le_of_ble_eq_true rfl) (Nat.le_of_ble_eq_true rfl) (Nat.le_of_ble_eq_true rfl) hM rfl (by decide) rfl rfl dL_law_1625 (fun r174 S173 hf => ?_)
  refine tj_icmp_eq C 2010 (by decide) dL_law_1628 (fun hc => ?_) (fun hc => ?_)
  · replace hf := hf.1 hc
    exact w_Lw_law_b2010 C hE hB hR r hst hG hκ18 _ hx hw hM hX _ _ _ _ hf
  · replace hf := hf.2 hc
    refine tj_iconst C kc_0 dL_law_1631 ?_
    exact tj_up mc ms hB hf.1 (r _ _ _ _ _ hx dL_law_1632 zb0 hf.2)
theorem w_Lw_law_b1567 {Γ : tX} {Nb : Nat → Nat} {K : Int32 → tS → Prop} {mc ms b sl : Nat} {sc : Nat → Int32} (C : TC Γ cL_law RL 79 10311) (hE : tDyn (xad Γ)) (hB : mc ≤ (xR Γ).cells ∧ ms ≤ (xR Γ).slots) (hR : xnL Γ = 4) (r : TEz Γ Nb mc ms cL_law K) (hst : (xl Γ).stackTraces = false) (hG : lawG Γ b sl sc) {κ18 : Nat → Nat → Int32 → tS → Prop} (hκ18 : ∀ (N0 : Nat → Nat) (hx : tExt Nb N0) (hw : tWf N0) (hM : N0 0 ≠ 0) (hX : N0 1025 ≠ 0) (uc : Nat) (us : Nat) (a3 : Int32) (S : tS), κ18 uc us a3 S → TJ Γ N0 uc us 18 [(0, .ref b), (1, .ref (xad Γ 1025)), (2, .ref (xad Γ 0)), (3, .int a3)] [] S) : ∀ (N0 : Nat → Nat) (hx : tExt Nb N0) (hw : tWf N0) (hM : N0 0 ≠ 0) (hX : N0 1025 ≠ 0) (uc : Nat) (us : Nat) (a3 : Int32) (S : tS), Lw_law_b1567 sl sc mc ms K κ18 uc us a3 S → TJ Γ N0 uc us 1567 [(0, .ref b), (1, .ref (xad Γ 1025)), (2, .ref (xad Γ 0)), (3, .int a3)] [] S := by
  intro N0 hx hw hM hX uc us a3 S hf
  unfold Lw_law_b1567 at hf
  refine tj_aload_n C 1 rfl rfl dL_law_1567 ?_
  refine tj_aload_n C 0 rfl rfl dL_law_1568 ?_
  refine tj_iload_n C 3 rfl rfl dL_law_1569 ?_
  refine tj_iconst C kc_1 dL_law_1570 ?_
  refine tj_iadd C dL_law_1571 ?_
  refine tj_sld C hG hf.1 dL_law_1572 ?_
  replace hf := hf.2
  refine tj_aload_n C 0 rfl rfl dL_law_1573 ?_
  refine tj_iload_n C 3 rfl rfl dL_law_1574 ?_
  refine tj_iconst C kc_2 dL_law_1575 ?_
  refine tj_iadd C dL_law_1576 ?_
  refine tj_sld C hG hf.1 dL_law_1577 ?_
  replace hf := hf.2
  refine tj_aload_n C 0 rfl rfl dL_law_1578 ?_
  refine tj_iload_n C 3 rfl rfl dL_law_1579 ?_
  refine tj_iconst C kc_3 dL_law_1580 ?_
  refine tj_iadd C dL_law_1581 ?_
  refine tj_sld C hG hf.1 dL_law_1582 ?_
  replace hf := hf.2
  refine tj_callVi C (k := 1) [.int (sc (a3 + (nI 1)).toNatClampNeg), .int (sc (a3 + (nI 2)).toNatClampNeg), .int (sc (a3 + (nI 3)).toNatClampNeg)] [] (fun hN => c_X_leastBy (by rw [hN]; exact hX) hf) lk_L_188 ty_X0_leastBy rfl (Nat.le_of_ble_eq_true rfl) (Nat.le_of_ble_eq_true rfl) (Nat.le_of_ble_eq_true rfl) hX rfl (by decide) rfl rfl dL_law_1583 (fun r168 S167 hf => ?_)
  refine tj_aload_n C 2 rfl rfl dL_law_1586 ?_
  refine tj_aload_n C 0 rfl rfl dL_law_1587 ?_
  refine tj_iload_n C 3 rfl rfl dL_law_1588 ?_
  refine tj_iconst C kc_1 dL_law_1589 ?_
  refine tj_iadd C dL_law_1590 ?_
  refine tj_sld C hG hf.1 dL_law_1591 ?_
  replace hf := hf.2
  refine tj_aload_n C 0 rfl rfl dL_law_1592 ?_
  refine tj_iload_n C 3 rfl rfl dL_law_1593 ?_
  refine tj_iconst C kc_2 dL_law_1594 ?_
  refine tj_iadd C dL_law_1595 ?_
  refine tj_sld C hG hf.1 dL_law_1596 ?_
  replace hf := hf.2
  refine tj_aload_n C 0 rfl rfl dL_law_1597 ?_
  refine tj_iload_n C 3 rfl rfl dL_law_1598 ?_
  refine tj_iconst C kc_3 dL_law_1599 ?_
  refine tj_iadd C dL_law_1600 ?_
  refine tj_sld C hG hf.1 dL_law_1601 ?_
  replace hf := hf.2
  refine tj_callVi C (k := 0) [.int (sc (a3 + (nI 1)).toNatClampNeg), .int (sc (a3 + (nI 2)).toNatClampNeg), .int (sc (a3 + (nI 3)).toNatClampNeg)] [.int r168] (fun hN => c_M_leastBy (by rw [hN]; exact hM) hf) lk_L_191 ty_X6_leastBy rfl (Nat.le_of_ble_eq_true rfl) (Nat.le_of_ble_eq_true rfl) (Nat.le_of_ble_eq_true rfl) hM rfl (by decide) rfl rfl dL_law_1602 (fun r170 S169 hf => ?_)
  refine tj_icmp_eq C 2010 (by decide) dL_law_1605 (fun hc => ?_) (fun hc => ?_)
  · replace hf := hf.1 hc
    exact w_Lw_law_b2010 C hE hB hR r hst hG hκ18 _ hx hw hM hX _ _ _ _ hf
  · replace hf := hf.2 hc
    refine tj_iconst C kc_0 dL_law_1608 ?_
    exact tj_up mc ms hB hf.1 (r _ _ _ _ _ hx dL_law_1609 zb0 hf.2)
theorem w_Lw_law_b1534 {Γ : tX} {Nb : Nat → Nat} {K : Int32 → tS → Prop} {mc ms b sl : Nat} {sc : Nat → Int32} (C : TC Γ cL_law RL 79 10311) (hE : tDyn (xad Γ)) (hB : mc ≤ (xR Γ).cells ∧ ms ≤ (xR Γ).slots) (hR : xnL Γ = 4) (r : TEz Γ Nb mc ms cL_law K) (hst : (xl Γ).stackTraces = false) (hG : lawG Γ b sl sc) {κ18 : Nat → Nat → Int32 → tS → Prop} (hκ18 : ∀ (N0 : Nat → Nat) (hx : tExt Nb N0) (hw : tWf N0) (hM : N0 0 ≠ 0) (hX : N0 1025 ≠ 0) (uc : Nat) (us : Nat) (a3 : Int32) (S : tS), κ18 uc us a3 S → TJ Γ N0 uc us 18 [(0, .ref b), (1, .ref (xad Γ 1025)), (2, .ref (xad Γ 0)), (3, .int a3)] [] S) : ∀ (N0 : Nat → Nat) (hx : tExt Nb N0) (hw : tWf N0) (hM : N0 0 ≠ 0) (hX : N0 1025 ≠ 0) (uc : Nat) (us : Nat) (a3 : Int32) (S : tS), Lw_law_b1534 sl sc mc ms K κ18 uc us a3 S → TJ Γ N0 uc us 1534 [(0, .ref b), (1, .ref (xad Γ 1025)), (2, .ref (xad Γ 0)), (3, .int a3)] [] S := by
  intro N0 hx hw hM hX uc us a3 S hf
  unfold Lw_law_b1534 at hf
  refine tj_aload_n C 1 rfl rfl dL_law_1534 ?_
  refine tj_aload_n C 0 rfl rfl dL_law_1535 ?_
  refine tj_iload_n C 3 rfl rfl dL_law_1536 ?_
  refine tj_iconst C kc_1 dL_law_1537 ?_
  refine tj_iadd C dL_law_1538 ?_
  refine tj_sld C hG hf.1 dL_law_1539 ?_
  replace hf := hf.2
  refine tj_aload_n C 0 rfl rfl dL_law_1540 ?_
  refine tj_iload_n C 3 rfl rfl dL_law_1541 ?_
  refine tj_iconst C kc_2 dL_law_1542 ?_
  refine tj_iadd C dL_law_1543 ?_
  refine tj_sld C hG hf.1 dL_law_1544 ?_
  replace hf := hf.2
  refine tj_callVi C (k := 1) [.int (sc (a3 + (nI 1)).toNatClampNeg), .int (sc (a3 + (nI 2)).toNatClampNeg)] [] (fun hN => c_X_least (by rw [hN]; exact hX) hf) lk_L_184 ty_X0_least rfl (Nat.le_of_ble_eq_true rfl) (Nat.le_of_ble_eq_true rfl) (Nat.le_of_ble_eq_true rfl) hX rfl (by decide) rfl rfl dL_law_1545 (fun r164 S163 hf => ?_)
  refine tj_aload_n C 2 rfl rfl dL_law_1548 ?_
  refine tj_aload_n C 0 rfl rfl dL_law_1549 ?_
  refine tj_iload_n C 3 rfl rfl dL_law_1550 ?_
  refine tj_iconst C kc_1 dL_law_1551 ?_
  refine tj_iadd C dL_law_1552 ?_
  refine tj_sld C hG hf.1 dL_law_1553 ?_
  replace hf := hf.2
  refine tj_aload_n C 0 rfl rfl dL_law_1554 ?_
  refine tj_iload_n C 3 rfl rfl dL_law_1555 ?_
  refine tj_iconst C kc_2 dL_law_1556 ?_
  refine tj_iadd C dL_law_1557 ?_
  refine tj_sld C hG hf.1 dL_law_1558 ?_
  replace hf := hf.2
  refine tj_callVi C (k := 0) [.int (sc (a3 + (nI 1)).toNatClampNeg), .int (sc (a3 + (nI 2)).toNatClampNeg)] [.int r164] (fun hN => c_M_least (by rw [hN]; exact hM) hf) lk_L_187 ty_X6_least rfl (Nat.le_of_ble_eq_true rfl) (Nat.le_of_ble_eq_true rfl) (Nat.le_of_ble_eq_true rfl) hM rfl (by decide) rfl rfl dL_law_1559 (fun r166 S165 hf => ?_)
  refine tj_icmp_eq C 2010 (by decide) dL_law_1562 (fun hc => ?_) (fun hc => ?_)
  · replace hf := hf.1 hc
    exact w_Lw_law_b2010 C hE hB hR r hst hG hκ18 _ hx hw hM hX _ _ _ _ hf
  · replace hf := hf.2 hc
    refine tj_iconst C kc_0 dL_law_1565 ?_
    exact tj_up mc ms hB hf.1 (r _ _ _ _ _ hx dL_law_1566 zb0 hf.2)
theorem w_Lw_law_b1491 {Γ : tX} {Nb : Nat → Nat} {K : Int32 → tS → Prop} {mc ms b sl : Nat} {sc : Nat → Int32} (C : TC Γ cL_law RL 79 10311) (hE : tDyn (xad Γ)) (hB : mc ≤ (xR Γ).cells ∧ ms ≤ (xR Γ).slots) (hR : xnL Γ = 4) (r : TEz Γ Nb mc ms cL_law K) (hst : (xl Γ).stackTraces = false) (hG : lawG Γ b sl sc) {κ18 : Nat → Nat → Int32 → tS → Prop} (hκ18 : ∀ (N0 : Nat → Nat) (hx : tExt Nb N0) (hw : tWf N0) (hM : N0 0 ≠ 0) (hX : N0 1025 ≠ 0) (uc : Nat) (us : Nat) (a3 : Int32) (S : tS), κ18 uc us a3 S → TJ Γ N0 uc us 18 [(0, .ref b), (1, .ref (xad Γ 1025)), (2, .ref (xad Γ 0)), (3, .int a3)] [] S) : ∀ (N0 : Nat → Nat) (hx : tExt Nb N0) (hw : tWf N0) (hM : N0 0 ≠ 0) (hX : N0 1025 ≠ 0) (uc : Nat) (us : Nat) (a3 : Int32) (S : tS), Lw_law_b1491 sl sc mc ms K κ18 uc us a3 S → TJ Γ N0 uc us 1491 [(0, .ref b), (1, .ref (xad Γ 1025)), (2, .ref (xad Γ 0)), (3, .int a3)] [] S := by
  intro N0 hx hw hM hX uc us a3 S hf
  unfold Lw_law_b1491 at hf
  refine tj_aload_n C 1 rfl rfl dL_law_1491 ?_
  refine tj_aload_n C 0 rfl rfl dL_law_1492 ?_
  refine tj_iload_n C 3 rfl rfl dL_law_1493 ?_
  refine tj_iconst C kc_1 dL_law_1494 ?_
  refine tj_iadd C dL_law_1495 ?_
  refine tj_sld C hG hf.1 dL_law_1496 ?_
  replace hf := hf.2
  refine tj_aload_n C 0 rfl rfl dL_law_1497 ?_
  refine tj_iload_n C 3 rfl rfl dL_law_1498 ?_
  refine tj_iconst C kc_2 dL_law_1499 ?_
  refine tj_iadd C dL_law_1500 ?_
  refine tj_sld C hG hf.1 dL_law_1501 ?_
  replace hf := hf.2
  refine tj_aload_n C 0 rfl rfl dL_law_1502 ?_
  refine tj_iload_n C 3 rfl rfl dL_law_1503 ?_
  refine tj_iconst C kc_3 dL_law_1504 ?_
  refine tj_iadd C dL_law_1505 ?_
  refine tj_sld C hG hf.1 dL_law_1506 ?_
  replace hf := hf.2
  refine tj_xVWi C (k := 1) [.int (sc (a3 + (nI 1)).toNatClampNeg), .int (sc (a3 + (nI 2)).toNatClampNeg), .int (sc (a3 + (nI 3)).toNatClampNeg)] [] (fun hN => c_X_ask (by rw [hN]; exact hX) hf) lk_L_180 ty_X0_ask rfl (Nat.le_of_ble_eq_true rfl) (Nat.le_of_ble_eq_true rfl) (Nat.le_of_ble_eq_true rfl) hX rfl (by decide) rfl rfl dL_law_1507 (fun _ hu => hu.elim) (fun r160 S159 hf => ?_)
  refine tj_aload_n C 2 rfl rfl dL_law_1510 ?_
  refine tj_aload_n C 0 rfl rfl dL_law_1511 ?_
  refine tj_iload_n C 3 rfl rfl dL_law_1512 ?_
  refine tj_iconst C kc_1 dL_law_1513 ?_
  refine tj_iadd C dL_law_1514 ?_
  refine tj_sld C hG hf.1 dL_law_1515 ?_
  replace hf := hf.2
  refine tj_aload_n C 0 rfl rfl dL_law_1516 ?_
  refine tj_iload_n C 3 rfl rfl dL_law_1517 ?_
  refine tj_iconst C kc_2 dL_law_1518 ?_
  refine tj_iadd C dL_law_1519 ?_
  refine tj_sld C hG hf.1 dL_law_1520 ?_
  replace hf := hf.2
  refine tj_aload_n C 0 rfl rfl dL_law_1521 ?_
  refine tj_iload_n C 3 rfl rfl dL_law_1522 ?_
  refine tj_iconst C kc_3 dL_law_1523 ?_
  refine tj_iadd C dL_law_1524 ?_
  refine tj_sld C hG hf.1 dL_law_1525 ?_
  replace hf := hf.2
  refine tj_callVi C (k := 0) [.int (sc (a3 + (nI 1)).toNatClampNeg), .int (sc (a3 + (nI 2)).toNatClampNeg), .int (sc (a3 + (nI 3)).toNatClampNeg)] [.int r160] (fun hN => c_M_ask (by rw [hN]; exact hM) hf) lk_L_183 ty_X6_ask rfl (Nat.le_of_ble_eq_true rfl) (Nat.le_of_ble_eq_true rfl) (Nat.le_of_ble_eq_true rfl) hM rfl (by decide) rfl rfl dL_law_1526 (fun r162 S161 hf => ?_)
  refine tj_icmp_eq C 2010 (by decide) dL_law_1529 (fun hc => ?_) (fun hc => ?_)
  · replace hf := hf.1 hc
    exact w_Lw_law_b2010 C hE hB hR r hst hG hκ18 _ hx hw hM hX _ _ _ _ hf
  · replace hf := hf.2 hc
    refine tj_iconst C kc_0 dL_law_1532 ?_
    exact tj_up mc ms hB hf.1 (r _ _ _ _ _ hx dL_law_1533 zb0 hf.2)
