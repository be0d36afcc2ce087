set_option maxRecDepth 100000
theorem w_Lw_law_b1448 {Γ : tX} {Nb : Nat → Nat} {K : Int32 → tS → Prop} {mc ms b sl : Nat} {sc : Nat → Int32} (C : TC Γ cL_law RL 79 10311) (hE : tDyn (xad Γ)) (hB : mc ≤ (xR Γ).cells ∧ ms ≤ (xR Γ).slots) (hR : xnL Γ = 4) (r : TEz Γ Nb mc ms cL_law K) (hst : (xl Γ).stackTraces = false) (hG : lawG Γ b sl sc) {κ18 : Nat → Nat → Int32 → tS → Prop} (hκ18 : ∀ (N0 : Nat → Nat) (hx : tExt Nb N0) (hw : tWf N0) (hM : N0 0 ≠ 0) (hX : N0 1025 ≠ 0) (uc : Nat) (us : Nat) (a3 : Int32) (S : tS), κ18 uc us a3 S → TJ Γ N0 uc us 18 [(0, .ref b), (1, .ref (xad Γ 1025)), (2, .ref (xad Γ 0)), (3, .int a3)] [] S) : ∀ (N0 : Nat → Nat) (hx : tExt Nb N0) (hw : tWf N0) (hM : N0 0 ≠ 0) (hX : N0 1025 ≠ 0) (uc : Nat) (us : Nat) (a3 : Int32) (S : tS), Lw_law_b1448 sl sc mc ms K κ18 uc us a3 S → TJ Γ N0 uc us 1448 [(0, .ref b), (1, .ref (xad Γ 1025)), (2, .ref (xad Γ 0)), (3, .int a3)] [] S := by
  intro N0 hx hw hM hX uc us a3 S hf
  unfold Lw_law_b1448 at hf
  refine tj_aload_n C 1 rfl rfl dL_law_1448 ?_
  refine tj_aload_n C 0 rfl rfl dL_law_1449 ?_
  refine tj_iload_n C 3 rfl rfl dL_law_1450 ?_
  refine tj_iconst C kc_1 dL_law_1451 ?_
  refine tj_iadd C dL_law_1452 ?_
  refine tj_sld C hG hf.1 dL_law_1453 ?_
  replace hf := hf.2
  refine tj_aload_n C 0 rfl rfl dL_law_1454 ?_
  refine tj_iload_n C 3 rfl rfl dL_law_1455 ?_
  refine tj_iconst C kc_2 dL_law_1456 ?_
  refine tj_iadd C dL_law_1457 ?_
  refine tj_sld C hG hf.1 dL_law_1458 ?_
  replace hf := hf.2
  refine tj_aload_n C 0 rfl rfl dL_law_1459 ?_
  refine tj_iload_n C 3 rfl rfl dL_law_1460 ?_
  refine tj_iconst C kc_3 dL_law_1461 ?_
  refine tj_iadd C dL_law_1462 ?_
  refine tj_sld C hG hf.1 dL_law_1463 ?_
  replace hf := hf.2
  refine tj_xVWz C (k := 1) [.int (sc (a3 + (nI 1)).toNatClampNeg), .int (sc (a3 + (nI 2)).toNatClampNeg), .int (sc (a3 + (nI 3)).toNatClampNeg)] [] (fun hN => c_X_odds (by rw [hN]; exact hX) hf) lk_L_176 ty_X0_odds rfl (Nat.le_of_ble_eq_true rfl) (Nat.le_of_ble_eq_true rfl) (Nat.le_of_ble_eq_true rfl) hX rfl (by decide) rfl rfl dL_law_1464 (fun _ hu => hu.elim) (fun r156 S155 hf => ?_)
  have hz_r156 := hf.1
  replace hf := hf.2
  refine tj_aload_n C 2 rfl rfl dL_law_1467 ?_
  refine tj_aload_n C 0 rfl rfl dL_law_1468 ?_
  refine tj_iload_n C 3 rfl rfl dL_law_1469 ?_
  refine tj_iconst C kc_1 dL_law_1470 ?_
  refine tj_iadd C dL_law_1471 ?_
  refine tj_sld C hG hf.1 dL_law_1472 ?_
  replace hf := hf.2
  refine tj_aload_n C 0 rfl rfl dL_law_1473 ?_
  refine tj_iload_n C 3 rfl rfl dL_law_1474 ?_
  refine tj_iconst C kc_2 dL_law_1475 ?_
  refine tj_iadd C dL_law_1476 ?_
  refine tj_sld C hG hf.1 dL_law_1477 ?_
  replace hf := hf.2
  refine tj_aload_n C 0 rfl rfl dL_law_1478 ?_
  refine tj_iload_n C 3 rfl rfl dL_law_1479 ?_
  refine tj_iconst C kc_3 dL_law_1480 ?_
  refine tj_iadd C dL_law_1481 ?_
  refine tj_sld C hG hf.1 dL_law_1482 ?_
  replace hf := hf.2
  refine tj_callVz C (k := 0) [.int (sc (a3 + (nI 1)).toNatClampNeg), .int (sc (a3 + (nI 2)).toNatClampNeg), .int (sc (a3 + (nI 3)).toNatClampNeg)] [.int r156] (fun hN => c_M_odds (by rw [hN]; exact hM) hf) lk_L_179 ty_X6_odds rfl (Nat.le_of_ble_eq_true rfl) (Nat.le_of_ble_eq_true rfl) (Nat.le_of_ble_eq_true rfl) hM rfl (by decide) rfl rfl dL_law_1483 (fun r158 S157 hf => ?_)
  have hz_r158 := hf.1
  replace hf := hf.2
  refine tj_icmp_eq C 2010 (by decide) dL_law_1486 (fun hc => ?_) (fun hc => ?_)
  · replace hf := hf.1 hc
    exact w_Lw_law_b2010 C hE hB hR r hst hG hκ18 _ hx hw hM hX _ _ _ _ hf
  · replace hf := hf.2 hc
    refine tj_iconst C kc_0 dL_law_1489 ?_
    exact tj_up mc ms hB hf.1 (r _ _ _ _ _ hx dL_law_1490 zb0 hf.2)
theorem w_Lw_law_b1405 {Γ : tX} {Nb : Nat → Nat} {K : Int32 → tS → Prop} {mc ms b sl : Nat} {sc : Nat → Int32} (C : TC Γ cL_law RL 79 10311) (hE : tDyn (xad Γ)) (hB : mc ≤ (xR Γ).cells ∧ ms ≤ (xR Γ).slots) (hR : xnL Γ = 4) (r : TEz Γ Nb mc ms cL_law K) (hst : (xl Γ).stackTraces = false) (hG : lawG Γ b sl sc) {κ18 : Nat → Nat → Int32 → tS → Prop} (hκ18 : ∀ (N0 : Nat → Nat) (hx : tExt Nb N0) (hw : tWf N0) (hM : N0 0 ≠ 0) (hX : N0 1025 ≠ 0) (uc : Nat) (us : Nat) (a3 : Int32) (S : tS), κ18 uc us a3 S → TJ Γ N0 uc us 18 [(0, .ref b), (1, .ref (xad Γ 1025)), (2, .ref (xad Γ 0)), (3, .int a3)] [] S) : ∀ (N0 : Nat → Nat) (hx : tExt Nb N0) (hw : tWf N0) (hM : N0 0 ≠ 0) (hX : N0 1025 ≠ 0) (uc : Nat) (us : Nat) (a3 : Int32) (S : tS), Lw_law_b1405 sl sc mc ms K κ18 uc us a3 S → TJ Γ N0 uc us 1405 [(0, .ref b), (1, .ref (xad Γ 1025)), (2, .ref (xad Γ 0)), (3, .int a3)] [] S := by
  intro N0 hx hw hM hX uc us a3 S hf
  unfold Lw_law_b1405 at hf
  refine tj_aload_n C 1 rfl rfl dL_law_1405 ?_
  refine tj_aload_n C 0 rfl rfl dL_law_1406 ?_
  refine tj_iload_n C 3 rfl rfl dL_law_1407 ?_
  refine tj_iconst C kc_1 dL_law_1408 ?_
  refine tj_iadd C dL_law_1409 ?_
  refine tj_sld C hG hf.1 dL_law_1410 ?_
  replace hf := hf.2
  refine tj_aload_n C 0 rfl rfl dL_law_1411 ?_
  refine tj_iload_n C 3 rfl rfl dL_law_1412 ?_
  refine tj_iconst C kc_2 dL_law_1413 ?_
  refine tj_iadd C dL_law_1414 ?_
  refine tj_sld C hG hf.1 dL_law_1415 ?_
  replace hf := hf.2
  refine tj_aload_n C 0 rfl rfl dL_law_1416 ?_
  refine tj_iload_n C 3 rfl rfl dL_law_1417 ?_
  refine tj_iconst C kc_3 dL_law_1418 ?_
  refine tj_iadd C dL_law_1419 ?_
  refine tj_sld C hG hf.1 dL_law_1420 ?_
  replace hf := hf.2
  refine tj_xVWi C (k := 1) [.int (sc (a3 + (nI 1)).toNatClampNeg), .int (sc (a3 + (nI 2)).toNatClampNeg), .int (sc (a3 + (nI 3)).toNatClampNeg)] [] (fun hN => c_X_sure (by rw [hN]; exact hX) hf) lk_L_172 ty_X0_sure rfl (Nat.le_of_ble_eq_true rfl) (Nat.le_of_ble_eq_true rfl) (Nat.le_of_ble_eq_true rfl) hX rfl (by decide) rfl rfl dL_law_1421 (fun _ hu => hu.elim) (fun r152 S151 hf => ?_)
  refine tj_aload_n C 2 rfl rfl dL_law_1424 ?_
  refine tj_aload_n C 0 rfl rfl dL_law_1425 ?_
  refine tj_iload_n C 3 rfl rfl dL_law_1426 ?_
  refine tj_iconst C kc_1 dL_law_1427 ?_
  refine tj_iadd C dL_law_1428 ?_
  refine tj_sld C hG hf.1 dL_law_1429 ?_
  replace hf := hf.2
  refine tj_aload_n C 0 rfl rfl dL_law_1430 ?_
  refine tj_iload_n C 3 rfl rfl dL_law_1431 ?_
  refine tj_iconst C kc_2 dL_law_1432 ?_
  refine tj_iadd C dL_law_1433 ?_
  refine tj_sld C hG hf.1 dL_law_1434 ?_
  replace hf := hf.2
  refine tj_aload_n C 0 rfl rfl dL_law_1435 ?_
  refine tj_iload_n C 3 rfl rfl dL_law_1436 ?_
  refine tj_iconst C kc_3 dL_law_1437 ?_
  refine tj_iadd C dL_law_1438 ?_
  refine tj_sld C hG hf.1 dL_law_1439 ?_
  replace hf := hf.2
  refine tj_callVi C (k := 0) [.int (sc (a3 + (nI 1)).toNatClampNeg), .int (sc (a3 + (nI 2)).toNatClampNeg), .int (sc (a3 + (nI 3)).toNatClampNeg)] [.int r152] (fun hN => c_M_sure (by rw [hN]; exact hM) hf) lk_L_175 ty_X6_sure rfl (Nat.le_of_ble_eq_true rfl) (Nat.le_of_ble_eq_true rfl) (Nat.le_of_ble_eq_true rfl) hM rfl (by decide) rfl rfl dL_law_1440 (fun r154 S153 hf => ?_)
  refine tj_icmp_eq C 2010 (by decide) dL_law_1443 (fun hc => ?_) (fun hc => ?_)
  · replace hf := hf.1 hc
    exact w_Lw_law_b2010 C hE hB hR r hst hG hκ18 _ hx hw hM hX _ _ _ _ hf
  · replace hf := hf.2 hc
    refine tj_iconst C kc_0 dL_law_1446 ?_
    exact tj_up mc ms hB hf.1 (r _ _ _ _ _ hx dL_law_1447 zb0 hf.2)
theorem w_Lw_law_b1372 {Γ : tX} {Nb : Nat → Nat} {K : Int32 → tS → Prop} {mc ms b sl : Nat} {sc : Nat → Int32} (C : TC Γ cL_law RL 79 10311) (hE : tDyn (xad Γ)) (hB : mc ≤ (xR Γ).cells ∧ ms ≤ (xR Γ).slots) (hR : xnL Γ = 4) (r : TEz Γ Nb mc ms cL_law K) (hst : (xl Γ).stackTraces = false) (hG : lawG Γ b sl sc) {κ18 : Nat → Nat → Int32 → tS → Prop} (hκ18 : ∀ (N0 : Nat → Nat) (hx : tExt Nb N0) (hw : tWf N0) (hM : N0 0 ≠ 0) (hX : N0 1025 ≠ 0) (uc : Nat) (us : Nat) (a3 : Int32) (S : tS), κ18 uc us a3 S → TJ Γ N0 uc us 18 [(0, .ref b), (1, .ref (xad Γ 1025)), (2, .ref (xad Γ 0)), (3, .int a3)] [] S) : ∀ (N0 : Nat → Nat) (hx : tExt Nb N0) (hw : tWf N0) (hM : N0 0 ≠ 0) (hX : N0 1025 ≠ 0) (uc : Nat) (us : Nat) (a3 : Int32) (S : tS), Lw_law_b1372 sl sc mc ms K κ18 uc us a3 S → TJ Γ N0 uc us 1372 [(0, .ref b), (1, .ref (xad Γ 1025)), (2, .ref (xad Γ 0)), (3, .int a3)] [] S := by
  intro N0 hx hw hM hX uc us a3 S hf
  unfold Lw_law_b1372 at hf
  refine tj_aload_n C 1 rfl rfl dL_law_1372 ?_
  refine tj_aload_n C 0 rfl rfl dL_law_1373 ?_
  refine tj_iload_n C 3 rfl rfl dL_law_1374 ?_
  refine tj_iconst C kc_1 dL_law_1375 ?_
  refine tj_iadd C dL_law_1376 ?_
  refine tj_sld C hG hf.1 dL_law_1377 ?_
  replace hf := hf.2
  refine tj_aload_n C 0 rfl rfl dL_law_1378 ?_
  refine tj_iload_n C 3 rfl rfl dL_law_1379 ?_
  refine tj_iconst C kc_2 dL_law_1380 ?_
  refine tj_iadd C dL_law_1381 ?_
  refine tj_sld C hG hf.1 dL_law_1382 ?_
  replace hf := hf.2
  refine tj_xVWi C (k := 1) [.int (sc (a3 + (nI 1)).toNatClampNeg), .int (sc (a3 + (nI 2)).toNatClampNeg)] [] (fun hN => c_X_fits (by rw [hN]; exact hX) hf) lk_L_168 ty_X0_fits rfl (Nat.le_of_ble_eq_true rfl) (Nat.le_of_ble_eq_true rfl) (Nat.le_of_ble_eq_true rfl) hX rfl (by decide) rfl rfl dL_law_1383 (fun _ hu => hu.elim) (fun r148 S147 hf => ?_)
  refine tj_aload_n C 2 rfl rfl dL_law_1386 ?_
  refine tj_aload_n C 0 rfl rfl dL_law_1387 ?_
  refine tj_iload_n C 3 rfl rfl dL_law_1388 ?_
  refine tj_iconst C kc_1 dL_law_1389 ?_
  refine tj_iadd C dL_law_1390 ?_
  refine tj_sld C hG hf.1 dL_law_1391 ?_
  replace hf := hf.2
  refine tj_aload_n C 0 rfl rfl dL_law_1392 ?_
  refine tj_iload_n C 3 rfl rfl dL_law_1393 ?_
  refine tj_iconst C kc_2 dL_law_1394 ?_
  refine tj_iadd C dL_law_1395 ?_
  refine tj_sld C hG hf.1 dL_law_1396 ?_
  replace hf := hf.2
  refine tj_callVi C (k := 0) [.int (sc (a3 + (nI 1)).toNatClampNeg), .int (sc (a3 + (nI 2)).toNatClampNeg)] [.int r148] (fun hN => c_M_fits (by rw [hN]; exact hM) hf) lk_L_171 ty_X6_fits rfl (Nat.le_of_ble_eq_true rfl) (Nat.le_of_ble_eq_true rfl) (Nat.le_of_ble_eq_true rfl) hM rfl (by decide) rfl rfl dL_law_1397 (fun r150 S149 hf => ?_)
  refine tj_icmp_eq C 2010 (by decide) dL_law_1400 (fun hc => ?_) (fun hc => ?_)
  · replace hf := hf.1 hc
    exact w_Lw_law_b2010 C hE hB hR r hst hG hκ18 _ hx hw hM hX _ _ _ _ hf
  · replace hf := hf.2 hc
    refine tj_iconst C kc_0 dL_law_1403 ?_
    exact tj_up mc ms hB hf.1 (r _ _ _ _ _ hx dL_law_1404 zb0 hf.2)
theorem w_Lw_law_b1349 {Γ : tX} {Nb : Nat → Nat} {K : Int32 → tS → Prop} {mc ms b sl : Nat} {sc : Nat → Int32} (C : TC Γ cL_law RL 79 10311) (hE : tDyn (xad Γ)) (hB : mc ≤ (xR Γ).cells ∧ ms ≤ (xR Γ).slots) (hR : xnL Γ = 4) (r : TEz Γ Nb mc ms cL_law K) (hst : (xl Γ).stackTraces = false) (hG : lawG Γ b sl sc) {κ18 : Nat → Nat → Int32 → tS → Prop} (hκ18 : ∀ (N0 : Nat → Nat) (hx : tExt Nb N0) (hw : tWf N0) (hM : N0 0 ≠ 0) (hX : N0 1025 ≠ 0) (uc : Nat) (us : Nat) (a3 : Int32) (S : tS), κ18 uc us a3 S → TJ Γ N0 uc us 18 [(0, .ref b), (1, .ref (xad Γ 1025)), (2, .ref (xad Γ 0)), (3, .int a3)] [] S) : ∀ (N0 : Nat → Nat) (hx : tExt Nb N0) (hw : tWf N0) (hM : N0 0 ≠ 0) (hX : N0 1025 ≠ 0) (uc : Nat) (us : Nat) (a3 : Int32) (S : tS), Lw_law_b1349 sl sc mc ms K κ18 uc us a3 S → TJ Γ N0 uc us 1349 [(0, .ref b), (1, .ref (xad Γ 1025)), (2, .ref (xad Γ 0)), (3, .int a3)] [] S := by
  intro N0 hx hw hM hX uc us a3 S hf
  unfold Lw_law_b1349 at hf
  refine tj_aload_n C 1 rfl rfl dL_law_1349 ?_
  refine tj_aload_n C 0 rfl rfl dL_law_1350 ?_
  refine tj_iload_n C 3 rfl rfl dL_law_1351 ?_
  refine tj_iconst C kc_1 dL_law_1352 ?_
  refine tj_iadd C dL_law_1353 ?_
  refine tj_sld C hG hf.1 dL_law_1354 ?_
  replace hf := hf.2
  refine tj_callVi C (k := 1) [.int (sc (a3 + (nI 1)).toNatClampNeg)] [] (fun hN => c_X_judgedIn (by rw [hN]; exact hX) hf) lk_L_164 ty_X0_judgedIn rfl (Nat.le_of_ble_eq_true rfl) (Nat.le_of_ble_eq_true rfl) (Nat.le_of_ble_eq_true rfl) hX rfl (by decide) rfl rfl dL_law_1355 (fun r144 S143 hf => ?_)
  refine tj_aload_n C 2 rfl rfl dL_law_1358 ?_
  refine tj_aload_n C 0 rfl rfl dL_law_1359 ?_
  refine tj_iload_n C 3 rfl rfl dL_law_1360 ?_
  refine tj_iconst C kc_1 dL_law_1361 ?_
  refine tj_iadd C dL_law_1362 ?_
  refine tj_sld C hG hf.1 dL_law_1363 ?_
  replace hf := hf.2
  refine tj_callVi C (k := 0) [.int (sc (a3 + (nI 1)).toNatClampNeg)] [.int r144] (fun hN => c_M_judgedIn (by rw [hN]; exact hM) hf) lk_L_167 ty_X6_judgedIn rfl (Nat.le_of_ble_eq_true rfl) (Nat.le_of_ble_eq_true rfl) (Nat.le_of_ble_eq_true rfl) hM rfl (by decide) rfl rfl dL_law_1364 (fun r146 S145 hf => ?_)
  refine tj_icmp_eq C 2010 (by decide) dL_law_1367 (fun hc => ?_) (fun hc => ?_)
  · replace hf := hf.1 hc
    exact w_Lw_law_b2010 C hE hB hR r hst hG hκ18 _ hx hw hM hX _ _ _ _ hf
  · replace hf := hf.2 hc
    refine tj_iconst C kc_0 dL_law_1370 ?_
    exact tj_up mc ms hB hf.1 (r _ _ _ _ _ hx dL_law_1371 zb0 hf.2)
theorem w_Lw_law_b1326 {Γ : tX} {Nb : Nat → Nat} {K : Int32 → tS → Prop} {mc ms b sl : Nat} {sc : Nat → Int32} (C : TC Γ cL_law RL 79 10311) (hE : tDyn (xad Γ)) (hB : mc ≤ (xR Γ).cells ∧ ms ≤ (xR Γ).slots) (hR : xnL Γ = 4) (r : TEz Γ Nb mc ms cL_law K) (hst : (xl Γ).stackTraces = false) (hG : lawG Γ b sl sc) {κ18 : Nat → Nat → Int32 → tS → Prop} (hκ18 : ∀ (N0 : Nat → Nat) (hx : tExt Nb N0) (hw : tWf N0) (hM : N0 0 ≠ 0) (hX : N0 1025 ≠ 0) (uc : Nat) (us : Nat) (a3 : Int32) (S : tS), κ18 uc us a3 S → TJ Γ N0 uc us 18 [(0, .ref b), (1, .ref (xad Γ 1025)), (2, .ref (xad Γ 0)), (3, .int a3)] [] S) : ∀ (N0 : Nat → Nat) (hx : tExt Nb N0) (hw : tWf N0) (hM : N0 0 ≠ 0) (hX : N0 1025 ≠ 0) (uc : Nat) (us : Nat) (a3 : Int32) (S : tS), Lw_law_b1326 sl sc mc ms K κ18 uc us a3 S → TJ Γ N0 uc us 1326 [(0, .ref b), (1, .ref (xad Γ 1025)), (2, .ref (xad Γ 0)), (3, .int a3)] [] S := by
  intro N0 hx hw hM hX uc us a3 S hf
  unfold Lw_law_b1326 at hf
  refine tj_aload_n C 1 rfl rfl dL_law_1326 ?_
  refine tj_aload_n C 0 rfl rfl dL_law_1327 ?_
  refine tj_iload_n C 3 rfl rfl dL_law_1328 ?_
  refine tj_iconst C kc_1 dL_law_1329 ?_
  refine tj_iadd C dL_law_1330 ?_
  refine tj_sld C hG hf.1 dL_law_1331 ?_
  replace hf := hf.2
  refine tj_callVi C (k := 1) [.int (sc (a3 + (nI 1)).toNatClampNeg)] [] (fun hN => c_X_freeIn (by rw [hN]; exact hX) hf) lk_L_160 ty_X0_freeIn rfl (Nat.le_of_ble_eq_true rfl) (Nat.le_of_ble_eq_true rfl) (Nat.le_of_ble_eq_true rfl) hX rfl (by decide) rfl rfl dL_law_1332 (fun r140 S139 hf => ?_)
  refine tj_aload_n C 2 rfl rfl dL_law_1335 ?_
  refine tj_aload_n C 0 rfl rfl dL_law_1336 ?_
  refine tj_iload_n C 3 rfl rfl dL_law_1337 ?_
  refine tj_iconst C kc_1 dL_law_1338 ?_
  refine tj_iadd C dL_law_1339 ?_
  refine tj_sld C hG hf.1 dL_law_1340 ?_
  replace hf := hf.2
  refine tj_callVi C (k := 0) [.int (sc (a3 + (nI 1)).toNatClampNeg)] [.int r140] (fun hN => c_M_freeIn (by rw [hN]; exact hM) hf) lk_L_163 ty_X6_freeIn rfl (Nat.le_of_ble_eq_true rfl) (Nat.le_of_ble_eq_true rfl) (Nat.le_of_ble_eq_true rfl) hM rfl (by decide) rfl rfl dL_law_1341 (fun r142 S141 hf => ?_)
  refine tj_icmp_eq C 2010 (by decide) dL_law_1344 (fun hc => ?_) (fun hc => ?_)
  · replace hf := hf.1 hc
    exact w_Lw_law_b2010 C hE hB hR r hst hG hκ18 _ hx hw hM hX _ _ _ _ hf
  · replace hf := hf.2 hc
    refine tj_iconst C kc_0 dL_law_1347 ?_
    exact tj_up mc ms hB hf.1 (r _ _ _ _ _ hx dL_law_1348 zb0 hf.2)
theorem w_Lw_law_b1303 {Γ : tX} {Nb : Nat → Nat} {K : Int32 → tS → Prop} {mc ms b sl : Nat} {sc : Nat → Int32} (C : TC Γ cL_law RL 79 10311) (hE : tDyn (xad Γ)) (hB : mc ≤ (xR Γ).cells ∧ ms ≤ (xR Γ).slots) (hR : xnL Γ = 4) (r : TEz Γ Nb mc ms cL_law K) (hst : (xl Γ).stackTraces = false) (hG : lawG Γ b sl sc) {κ18 : Nat → Nat → Int32 → tS → Prop} (hκ18 : ∀ (N0 : Nat → Nat) (hx : tExt Nb N0) (hw : tWf N0) (hM : N0 0 ≠ 0) (hX : N0 1025 ≠ 0) (uc : Nat) (us : Nat) (a3 : Int32) (S : tS), κ18 uc us a3 S → TJ Γ N0 uc us 18 [(0, .ref b), (1, .ref (xad Γ 1025)), (2, .ref (xad Γ 0)), (3, .int a3)] [] S) : ∀ (N0 : Nat → Nat) (hx : tExt Nb N0) (hw : tWf N0) (hM : N0 0 ≠ 0) (hX : N0 1025 ≠ 0) (uc : Nat) (us : Nat) (a3 : Int32) (S : tS), Lw_law_b1303 sl sc mc ms K κ18 uc us a3 S → TJ Γ N0 uc us 1303 [(0, .ref b), (1, .ref (xad Γ 1025)), (2, .ref (xad Γ 0)), (3, .int a3)] [] S := by
  intro N0 hx hw hM hX uc us a3 S hf
  unfold Lw_law_b1303 at hf
  refine tj_aload_n C 1 rfl rfl dL_law_1303 ?_
  refine tj_aload_n C 0 rfl rfl dL_law_1304 ?_
  refine tj_iload_n C 3 rfl rfl dL_law_1305 ?_
  refine tj_iconst C kc_1 dL_law_1306 ?_
  refine tj_iadd C dL_law_1307 ?_
  refine tj_sld C hG hf.1 dL_law_1308 ?_
  replace hf := hf.2
  refine tj_callVi C (k := 1) [.int (sc (a3 + (nI 1)).toNatClampNeg)] [] (fun hN => c_X_shown (by rw [hN]; exact hX) hf) lk_L_156 ty_X0_shown rfl (Nat.le_of_ble_eq_true rfl) (Nat.le_of_ble_eq_true rfl) (Nat.le_of_ble_eq_true rfl) hX rfl (by decide) rfl rfl dL_law_1309 (fun r136 S135 hf => ?_)
  refine tj_aload_n C 2 rfl rfl dL_law_1312 ?_
  refine tj_aload_n C 0 rfl rfl dL_law_1313 ?_
  refine tj_iload_n C 3 rfl rfl dL_law_1314 ?_
  refine tj_iconst C kc_1 dL_law_1315 ?_
  refine tj_iadd C dL_law_1316 ?_
  refine tj_sld C hG hf.1 dL_law_1317 ?_
  replace hf := hf.2
  refine tj_callVi C (k := 0) [.int (sc (a3 + (nI 1)).toNatClampNeg)] [.int r136] (fun hN => c_M_shown (by rw [hN]; exact hM) hf) lk_L_159 ty_X6_shown rfl (Nat.le_of_ble_eq_true rfl) (Nat.le_of_ble_eq_true rfl) (Nat.le_of_ble_eq_true rfl) hM rfl (by decide) rfl rfl dL_law_1318 (fun r138 S137 hf => ?_)
  refine tj_icmp_eq C 2010 (by decide) dL_law_1321 (fun hc => ?_) (fun hc => ?_)
  · replace hf := hf.1 hc
    exact w_Lw_law_b2010 C hE hB hR r hst hG hκ18 _ hx hw hM hX _ _ _ _ hf
  · replace hf := hf.2 hc
    refine tj_iconst C kc_0 dL_law_1324 ?_
    exact tj_up mc ms hB hf.1 (r _ _ _ _ _ hx dL_law_1325 zb0 hf.2)
theorem w_Lw_law_b1280 {Γ : tX} {Nb : Nat → Nat} {K : Int32 → tS → Prop} {mc ms b sl : Nat} {sc : Nat → Int32} (C : TC Γ cL_law RL 79 10311) (hE : tDyn (xad Γ)) (hB : mc ≤ (xR Γ).cells ∧ ms ≤ (xR Γ).slots) (hR : xnL Γ = 4) (r : TEz Γ Nb mc ms cL_law K) (hst : (xl Γ).stackTraces = false) (hG : lawG Γ b sl sc) {κ18 : Nat → Nat → Int32 → tS → Prop} (hκ18 : ∀ (N0 : Nat → Nat) (hx : tExt Nb N0) (hw : tWf N0) (hM : N0 0 ≠ 0) (hX : N0 1025 ≠ 0) (uc : Nat) (us : Nat) (a3 : Int32) (S : tS), κ18 uc us a3 S → TJ Γ N0 uc us 18 [(0, .ref b), (1, .ref (xad Γ 1025)), (2, .ref (xad Γ 0)), (3, .int a3)] [] S) : ∀ (N0 : Nat → Nat) (hx : tExt Nb N0) (hw : tWf N0) (hM : N0 0 ≠ 0) (hX : N0 1025 ≠ 0) (uc : Nat) (us : Nat) (a3 : Int32) (S : tS), Lw_law_b1280 sl sc mc ms K κ18 uc us a3 S → TJ Γ N0 uc us 1280 [(0, .ref b), (1, .ref (xad Γ 1025)), (2, .ref (xad Γ 0)), (3, .int a3)] [] S := by
  intro N0 hx hw hM hX uc us a3 S hf
  unfold Lw_law_b1280 at hf
  refine tj_aload_n C 1 rfl rfl dL_law_1280 ?_
  refine tj_aload_n C 0 rfl rfl dL_law_1281 ?_
  refine tj_iload_n C 3 rfl rfl dL_law_1282 ?_
  refine tj_iconst C kc_1 dL_law_1283 ?_
  refine tj_iadd C dL_law_1284 ?_
  refine tj_sld C hG hf.1 dL_law_1285 ?_
  replace hf := hf.2
  refine tj_callVi C (k := 1) [.int (sc (a3 + (nI 1)).toNatClampNeg)] [] (fun hN => c_X_bearing (by rw [hN]; exact hX) hf) lk_L_152 ty_X0_bearing rfl (Nat.le_of_ble_eq_true rfl) (Nat.le_of_ble_eq_true rfl) (Nat.le_of_ble_eq_true rfl) hX rfl (by decide) rfl rfl dL_law_1286 (fun r132 S131 hf => ?_)
  refine tj_aload_n C 2 rfl rfl dL_law_1289 ?_
  refine tj_aload_n C 0 rfl rfl dL_law_1290 ?_
  refine tj_iload_n C 3 rfl rfl dL_law_1291 ?_
  refine tj_iconst C kc_1 dL_law_1292 ?_
  refine tj_iadd C dL_law_1293 ?_
  refine tj_sld C hG hf.1 dL_law_1294 ?_
  replace hf := hf.2
  refine tj_callVi C (k := 0) [.int (sc (a3 + (nI 1)).toNatClampNeg)] [.int r132] (fun hN => c_M_bearing (by rw [hN]; exact hM) hf) lk_L_155 ty_X6_bearing rfl (Nat.le_of_ble_eq_true rfl) (Nat.le_of_ble_eq_true rfl) (Nat.le_of_ble_eq_true rfl) hM rfl (by decide) rfl rfl dL_law_1295 (fun r134 S133 hf => ?_)
  refine tj_icmp_eq C 2010 (by decide) dL_law_1298 (fun hc => ?_) (fun hc => ?_)
  · replace hf := hf.1 hc
    exact w_Lw_law_b2010 C hE hB hR r hst hG hκ18 _ hx hw hM hX _ _ _ _ hf
  · replace hf := hf.2 hc
    refine tj_iconst C kc_0 dL_law_1301 ?_
    exact tj_up mc ms hB hf.1 (r _ _ _ _ _ hx dL_law_1302 zb0 hf.2)
theorem w_Lw_law_b1257 {Γ : tX} {Nb : Nat → Nat} {K : Int32 → tS → Prop} {mc ms b sl : Nat} {sc : Nat → Int32} (C : TC Γ cL_law RL 79 10311) (hE : tDyn (xad Γ)) (hB : mc ≤ (xR Γ).cells ∧ ms ≤ (xR Γ).slots) (hR : xnL Γ = 4) (r : TEz Γ Nb mc ms cL_law K) (hst : (xl Γ).stackTraces = false) (hG : lawG Γ b sl sc) {κ18 : Nat → Nat → Int32 → tS → Prop} (hκ18 : ∀ (N0 : Nat → Nat) (hx : tExt Nb N0) (hw : tWf N0) (hM : N0 0 ≠ 0) (hX : N0 1025 ≠ 0) (uc : Nat) (us : Nat) (a3 : Int32) (S : tS), κ18 uc us a3 S → TJ Γ N0 uc us 18 [(0, .ref b), (1, .ref (xad Γ 1025)), (2, .ref (xad Γ 0)), (3, .int a3)] [] S) : ∀ (N0 : Nat → Nat) (hx : tExt Nb N0) (hw : tWf N0) (hM : N0 0 ≠ 0) (hX : N0 1025 ≠ 0) (uc : Nat) (us : Nat) (a3 : Int32) (S : tS), Lw_law_b1257 sl sc mc ms K κ18 uc us a3 S → TJ Γ N0 uc us 1257 [(0, .ref b), (1, .ref (xad Γ 1025)), (2, .ref (xad Γ 0)), (3, .int a3)] [] S := by
  intro N0 hx hw hM hX uc us a3 S hf
  unfold Lw_law_b1257 at hf
  refine tj_aload_n C 1 rfl rfl dL_law_1257 ?_
  refine tj_aload_n C 0 rfl rfl dL_law_1258 ?_
  refine tj_iload_n C 3 rfl rfl dL_law_1259 ?_
  refine tj_iconst C kc_1 dL_law_1260 ?_
  refine tj_iadd C dL_law_1261 ?_
  refine tj_sld C hG hf.1 dL_law_1262 ?_
  replace hf := hf.2
  refine tj_callVi C (k := 1) [.int (sc (a3 + (nI 1)).toNatClampNeg)] [] (fun hN => c_X_bears (by rw [hN]; exact hX) hf) lk_L_148 ty_X0_bears rfl (Nat.le_of_ble_eq_true rfl) (Nat.le_of_ble_eq_true rfl) (Nat.le_of_ble_eq_true rfl) hX rfl (by decide) rfl rfl dL_law_1263 (fun r128 S127 hf => ?_)
  refine tj_aload_n C 2 rfl rfl dL_law_1266 ?_
  refine tj_aload_n C 0 rfl rfl dL_law_1267 ?_
  refine tj_iload_n C 3 rfl rfl dL_law_1268 ?_
  refine tj_iconst C kc_1 dL_law_1269 ?_
  refine tj_iadd C dL_law_1270 ?_
  refine tj_sld C hG hf.1 dL_law_1271 ?_
  replace hf := hf.2
  refine tj_callVi C (k := 0) [.int (sc (a3 + (nI 1)).toNatClampNeg)] [.int r128] (fun hN => c_M_bears (by rw [hN]; exact hM) hf) lk_L_151 ty_X6_bears rfl (Nat.le_of_ble_eq_true rfl) (Nat.le_of_ble_eq_true rfl) (Nat.le_of_ble_eq_true rfl) hM rfl (by decide) rfl rfl dL_law_1272 (fun r130 S129 hf => ?_)
  refine tj_icmp_eq C 2010 (by decide) dL_law_1275 (fun hc => ?_) (fun hc => ?_)
  · replace hf := hf.1 hc
    exact w_Lw_law_b2010 C hE hB hR r hst hG hκ18 _ hx hw hM hX _ _ _ _ hf
  · replace hf := hf.2 hc
    refine tj_iconst C kc_0 dL_law_1278 ?_
    exact tj_up mc ms hB hf.1 (r _ _ _ _ _ hx dL_law_1279 zb0 hf.2)
theorem w_Lw_law_b1224 {Γ : tX} {Nb : Nat → Nat} {K : Int32 → tS → Prop} {mc ms b sl : Nat} {sc : Nat → Int32} (C : TC Γ cL_law RL 79 10311) (hE : tDyn (xad Γ)) (hB : mc ≤ (xR Γ).cells ∧ ms ≤ (xR Γ).slots) (hR : xnL Γ = 4) (r : TEz Γ Nb mc ms cL_law K) (hst : (xl Γ).stackTraces = false) (hG : lawG Γ b sl sc) {κ18 : Nat → Nat → Int32 → tS → Prop} (hκ18 : ∀ (N0 : Nat → Nat) (hx : tExt Nb N0) (hw : tWf N0) (hM : N0 0 ≠ 0) (hX : N0 1025 ≠ 0) (uc : Nat) (us : Nat) (a3 : Int32) (S : tS), κ18 uc us a3 S → TJ Γ N0 uc us 18 [(0, .ref b), (1, .ref (xad Γ 1025)), (2, .ref (xad Γ 0)), (3, .int a3)] [] S) : ∀ (N0 : Nat → Nat) (hx : tExt Nb N0) (hw : tWf N0) (hM : N0 0 ≠ 0) (hX : N0 1025 ≠ 0) (uc : Nat) (us : Nat) (a3 : Int32) (S : tS), Lw_law_b1224 sl sc mc ms K κ18 uc us a3 S → TJ Γ N0 uc us 1224 [(0, .ref b), (1, .ref (xad Γ 1025)), (2, .ref (xad Γ 0)), (3, .int a3)] [] S := by
  intro N0 hx hw hM hX uc us a3 S hf
  unfold Lw_law_b1224 at hf
  refine tj_aload_n C 1 rfl rfl dL_law_1224 ?_
  refine tj_aload_n C 0 rfl rfl dL_law_1225 ?_
  refine tj_iload_n C 3 rfl rfl dL_law_1226 ?_
  refine tj_iconst C kc_1 dL_law_1227 ?_
  refine tj_iadd C dL_law_1228 ?_
  refine tj_sld C hG hf.1 dL_law_1229 ?_
  replace hf := hf.2
  refine tj_aload_n C 0 rfl rfl dL_law_1230 ?_
  refine tj_iload_n C 3 rfl rfl dL_law_1231 ?_
  refine tj_iconst C kc_2 dL_law_1232 ?_
  refine tj_iadd C dL_law_1233 ?_
  refine tj_sld C hG hf.1 dL_law_1234 ?_
  replace hf := hf.2
  refine tj_callVi C (k := 1) [.int (sc (a3 + (nI 1)).toNatClampNeg), .int (sc (a3 + (nI 2)).toNatClampNeg)] [] (fun hN => c_X_cueAt (by rw [hN]; exact hX) hf) lk_L_144 ty_X0_cueAt rfl (Nat.le_of_ble_eq_true rfl) (Nat.le_of_ble_eq_true rfl) (Nat.le_of_ble_eq_true rfl) hX rfl (by decide) rfl rfl dL_law_1235 (fun r124 S123 hf => ?_)
  refine tj_aload_n C 2 rfl rfl dL_law_1238 ?_
  refine tj_aload_n C 0 rfl rfl dL_law_1239 ?_
  refine tj_iload_n C 3 rfl rfl dL_law_1240 ?_
  refine tj_iconst C kc_1 dL_law_1241 ?_
  refine tj_iadd C dL_law_1242 ?_
  refine tj_sld C hG hf.1 dL_law_1243 ?_
  replace hf := hf.2
  refine tj_aload_n C 0 rfl rfl dL_law_1244 ?_
  refine tj_iload_n C 3 rfl rfl dL_law_1245 ?_
  refine tj_iconst C kc_2 dL_law_1246 ?_
  refine tj_iadd C dL_law_1247 ?_
  refine tj_sld C hG hf.1 dL_law_1248 ?_
  replace hf := hf.2
  refine tj_callVi C (k := 0) [.int (sc (a3 + (nI 1)).toNatClampNeg), .int (sc (a3 + (nI 2)).toNatClampNeg)] [.int r124] (fun hN => c_M_cueAt (by rw [hN]; exact hM) hf) lk_L_147 ty_X6_cueAt rfl (Nat.le_of_ble_eq_true rfl) (Nat.le_of_ble_eq_true rfl) (Nat.le_of_ble_eq_true rfl) hM rfl (by decide) rfl rfl dL_law_1249 (fun r126 S125 hf => ?_)
  refine tj_icmp_eq C 2010 (by decide) dL_law_1252 (fun hc => ?_) (fun hc => ?_)
  · replace hf := hf.1 hc
    exact w_Lw_law_b2010 C hE hB hR r hst hG hκ18 _ hx hw hM hX _ _ _ _ hf
  · replace hf := hf.2 hc
    refine tj_iconst C kc_0 dL_law_1255 ?_
    exact tj_up mc ms hB hf.1 (r _ _ _ _ _ hx dL_law_1256 zb0 hf.2)
theorem w_Lw_law_b1201 {Γ : tX} {Nb : Nat → Nat} {K : Int32 → tS → Prop} {mc ms b sl : Nat} {sc : Nat → Int32} (C : TC Γ cL_law RL 79 10311) (hE : tDyn (xad Γ)) (hB : mc ≤ (xR Γ).cells ∧ ms ≤ (xR Γ).slots) (hR : xnL Γ = 4) (r : TEz Γ Nb mc ms cL_law K) (hst : (xl Γ).stackTraces = false) (hG : lawG Γ b sl sc) {κ18 : Nat → Nat → Int32 → tS → Prop} (hκ18 : ∀ (N0 : Nat → Nat) (hx : tExt Nb N0) (hw : tWf N0) (hM : N0 0 ≠ 0) (hX : N0 1025 ≠ 0) (uc : Nat) (us : Nat) (a3 : Int32) (S : tS), κ18 uc us a3 S → TJ Γ N0 uc us 18 [(0, .ref b), (1, .ref (xad Γ 1025)), (2, .ref (xad Γ 0)), (3, .int a3)] [] S) : ∀ (N0 : Nat → Nat) (hx : tExt Nb N0) (hw : tWf N0) (hM : N0 0 ≠ 0) (hX : N0 1025 ≠ 0) (uc : Nat) (us : Nat) (a3 : Int32) (S : tS), Lw_law_b1201 sl sc mc ms K κ18 uc us a3 S → TJ Γ N0 uc us 1201 [(0, .ref b), (1, .ref (xad Γ 1025)), (2, .ref (xad Γ 0)), (3, .int a3)] [] S := by
  intro N0 hx hw hM hX uc us a3 S hf
  unfold Lw_law_b1201 at hf
  refine tj_aload_n C 1 rfl rfl dL_law_1201 ?_
  refine tj_aload_n C 0 rfl rfl dL_law_1202 ?_
  refine tj_iload_n C 3 rfl rfl dL_law_1203 ?_
  refine tj_iconst C kc_1 dL_law_1204 ?_
  refine tj_iadd C dL_law_1205 ?_
  refine tj_sld C hG hf.1 dL_law_1206 ?_
  replace hf := hf.2
  refine tj_callVi C (k := 1) [.int (sc (a3 + (nI 1)).toNatClampNeg)] [] (fun hN => c_X_cue (by rw [hN]; exact hX) hf) lk_L_140 ty_X0_cue rfl (Nat.le_of_ble_eq_true rfl) (Nat.le_of_ble_eq_true rfl) (Nat.le_of_ble_eq_true rfl) hX rfl (by decide) rfl rfl dL_law_1207 (fun r120 S119 hf => ?_)
  refine tj_aload_n C 2 rfl rfl dL_law_1210 ?_
  refine tj_aload_n C 0 rfl rfl dL_law_1211 ?_
  refine tj_iload_n C 3 rfl rfl dL_law_1212 ?_
  refine tj_iconst C kc_1 dL_law_1213 ?_
  refine tj_iadd C dL_law_1214 ?_
  refine tj_sld C hG hf.1 dL_law_1215 ?_
  replace hf := hf.2
  refine tj_callVi C (k := 0) [.int (sc (a3 + (nI 1)).toNatClampNeg)] [.int r120] (fun hN => c_M_cue (by rw [hN]; exact hM) hf) lk_L_143 ty_X6_cue rfl (Nat.le_of_ble_eq_true rfl) (Nat.le_of_ble_eq_true rfl) (Nat.le_of_ble_eq_true rfl) hM rfl (by decide) rfl rfl dL_law_1216 (fun r122 S121 hf => ?_)
  refine tj_icmp_eq C 2010 (by decide) dL_law_1219 (fun hc => ?_) (fun hc => ?_)
  · replace hf := hf.1 hc
    exact w_Lw_law_b2010 C hE hB hR r hst hG hκ18 _ hx hw hM hX _ _ _ _ hf
  · replace hf := hf.2 hc
    refine tj_iconst C kc_0 dL_law_1222 ?_
    exact tj_up mc ms hB hf.1 (r _ _ _ _ _ hx dL_law_1223 zb0 hf.2)
theorem w_Lw_law_b1168 {Γ : tX} {Nb : Nat → Nat} {K : Int32 → tS → Prop} {mc ms b sl : Nat} {sc : Nat → Int32} (C : TC Γ cL_law RL 79 10311) (hE : tDyn (xad Γ)) (hB : mc ≤ (xR Γ).cells ∧ ms ≤ (xR Γ).slots) (hR : xnL Γ = 4) (r : TEz Γ Nb mc ms cL_law K) (hst : (xl Γ).stackTraces = false) (hG : lawG Γ b sl sc) {κ18 : Nat → Nat → Int32 → tS → Prop} (hκ18 : ∀ (N0 : Nat → Nat) (hx : tExt Nb N0) (hw : tWf N0) (hM : N0 0 ≠ 0) (hX : N0 1025 ≠ 0) (uc : Nat) (us : Nat) (a3 : Int32) (S : tS), κ18 uc us a3 S → TJ Γ N0 uc us 18 [(0, .ref b), (1, .ref (xad Γ 1025)), (2, .ref (xad Γ 0)), (3, .int a3)] [] S) : ∀ (N0 : Nat → Nat) (hx : tExt Nb N0) (hw : tWf N0) (hM : N0 0 ≠ 0) (hX : N0 1025 ≠ 0) (uc : Nat) (us : Nat) (a3 : Int32) (S : tS), Lw_law_b1168 sl sc mc ms K κ18 uc us a3 S → TJ Γ N0 uc us 1168 [(0, .ref b), (1, .ref (xad Γ 1025)), (2, .ref (xad Γ 0)), (3, .int a3)] [] S := by
  intro N0 hx hw hM hX uc us a3 S hf
  unfold Lw_law_b1168 at hf
  refine tj_aload_n C 1 rfl rfl dL_law_1168 ?_
  refine tj_aload_n C 0 rfl rfl dL_law_1169 ?_
  refine tj_iload_n C 3 rfl rfl dL_law_1170 ?_
  refine tj_iconst C kc_1 dL_law_1171 ?_
  refine tj_iadd C dL_law_1172 ?_
  refine tj_sld C hG hf.1 dL_law_1173 ?_
  replace hf := hf.2
  refine tj_aload_n C 0 rfl rfl dL_law_1174 ?_
  refine tj_iload_n C 3 rfl rfl dL_law_1175 ?_
  refine tj_iconst C kc_2 dL_law_1176 ?_
  refine tj_iadd C dL_law_1177 ?_
  refine tj_sld C hG hf.1 dL_law_1178 ?_
  replace hf := hf.2
  refine tj_callVz C (k := 1) [.int (sc (a3 + (nI 1)).toNatClampNeg), .int (sc (a3 + (nI 2)).toNatClampNeg)] [] (fun hN => c_X_strain (by rw [hN]; exact hX) hf) lk_L_136 ty_X0_strain rfl (Nat.le_of_ble_eq_true rfl) (Nat.le_of_ble_eq_true rfl) (Nat.le_of_ble_eq_true rfl) hX rfl (by decide) rfl rfl dL_law_1179 (fun r116 S115 hf => ?_)
  have hz_r116 := hf.1
  replace hf := hf.2
  refine tj_aload_n C 2 rfl rfl dL_law_1182 ?_
  refine tj_aload_n C 0 rfl rfl dL_law_1183 ?_
  refine tj_iload_n C 3 rfl rfl dL_law_1184 ?_
  refine tj_iconst C kc_1 dL_law_1185 ?_
  refine tj_iadd C dL_law_1186 ?_
  refine tj_sld C hG hf.1 dL_law_1187 ?_
  replace hf := hf.2
  refine tj_aload_n C 0 rfl rfl dL_law_1188 ?_
  refine tj_iload_n C 3 rfl rfl dL_law_1189 ?_
  refine tj_iconst C kc_2 dL_law_1190 ?_
  refine tj_iadd C dL_law_1191 ?_
  refine tj_sld C hG hf.1 dL_law_1192 ?_
  replace hf := hf.2
  refine tj_callVz C (k := 0) [.int (sc (a3 + (nI 1)).toNatClampNeg), .int (sc (a3 + (nI 2)).toNatClampNeg)] [.int r116] (fun hN => c_M_strain (by rw [hN]; exact hM) hf) lk_L_139 ty_X6_strain rfl (Nat.le_of_ble_eq_true rfl) (Nat.le_of_ble_eq_true rfl) (Nat.le_of_ble_eq_true rfl) hM rfl (by decide) rfl rfl dL_law_1193 (fun r118 S117 hf => ?_)
  have hz_r118 := hf.1
  replace hf := hf.2
  refine tj_icmp_eq C 2010 (by decide) dL_law_1196 (fun hc => ?_) (fun hc => ?_)
  · replace hf := hf.1 hc
    exact w_Lw_law_b2010 C hE hB hR r hst hG hκ18 _ hx hw hM hX _ _ _ _ hf
  · replace hf := hf.2 hc
    refine tj_iconst C kc_0 dL_law_1199 ?_
    exact tj_up mc ms hB hf.1 (r _ _ _ _ _ hx dL_law_1200 zb0 hf.2)
theorem w_Lw_law_b1145 {Γ : tX} {Nb : Nat → Nat} {K : Int32 → tS → Prop} {mc ms b sl : Nat} {sc : Nat → Int32} (C : TC Γ cL_law RL 79 10311) (hE : tDyn (xad Γ)) (hB : mc ≤ (xR Γ).cells ∧ ms ≤ (xR Γ).slots) (hR : xnL Γ = 4) (r : TEz Γ Nb mc ms cL_law K) (hst : (xl Γ).stackTraces = false) (hG : lawG Γ b sl sc) {κ18 : Nat → Nat → Int32 → tS → Prop} (hκ18 : ∀ (N0 : Nat → Nat) (hx : tExt Nb N0) (hw : tWf N0) (hM : N0 0 ≠ 0) (hX : N0 1025 ≠ 0) (uc : Nat) (us : Nat) (a3 : Int32) (S : tS), κ18 uc us a3 S → TJ Γ N0 uc us 18 [(0, .ref b), (1, .ref (xad Γ 1025)), (2, .ref (xad Γ 0)), (3, .int a3)] [] S) : ∀ (N0 : Nat → Nat) (hx : tExt Nb N0) (hw : tWf N0) (hM : N0 0 ≠ 0) (hX : N0 1025 ≠ 0) (uc : Nat) (us : Nat) (a3 : Int32) (S : tS), Lw_law_b1145 sl sc mc ms K κ18 uc us a3 S → TJ Γ N0 uc us 1145 [(0, .ref b), (1, .ref (xad Γ 1025)), (2, .ref (xad Γ 0)), (3, .int a3)] [] S := by
  intro N0 hx hw hM hX uc us a3 S hf
  unfold Lw_law_b1145 at hf
  refine tj_aload_n C 1 rfl rfl dL_law_1145 ?_
  refine tj_aload_n C 0 rfl rfl dL_law_1146 ?_
  refine tj_iload_n C 3 rfl rfl dL_law_1147 ?_
  refine tj_iconst C kc_1 dL_law_1148 ?_
  refine tj_iadd C dL_law_1149 ?_
  refine tj_sld C hG hf.1 dL_law_1150 ?_
  replace hf := hf.2
  refine tj_callVi C (k := 1) [.int (sc (a3 + (nI 1)).toNatClampNeg)] [] (fun hN => c_X_repeal (by rw [hN]; exact hX) hf) lk_L_132 ty_X0_repeal rfl (Nat.le_of_ble_eq_true rfl) (Nat.le_of_ble_eq_true rfl) (Nat.le_of_ble_eq_true rfl) hX rfl (by decide) rfl rfl dL_law_1151 (fun r112 S111 hf => ?_)
  refine tj_aload_n C 2 rfl rfl dL_law_1154 ?_
  refine tj_aload_n C 0 rfl rfl dL_law_1155 ?_
  refine tj_iload_n C 3 rfl rfl dL_law_1156 ?_
  refine tj_iconst C kc_1 dL_law_1157 ?_
  refine tj_iadd C dL_law_1158 ?_
  refine tj_sld C hG hf.1 dL_law_1159 ?_
  replace hf := hf.2
  refine tj_callVi C (k := 0) [.int (sc (a3 + (nI 1)).toNatClampNeg)] [.int r112] (fun hN => c_M_repeal (by rw [hN]; exact hM) hf) lk_L_135 ty_X6_repeal rfl (Nat.le_of_ble_eq_true rfl) (Nat.le_of_ble_eq_true rfl) (Nat.le_of_ble_eq_true rfl) hM rfl (by decide) rfl rfl dL_law_1160 (fun r114 S113 hf => ?_)
  refine tj_icmp_eq C 2010 (by decide) dL_law_1163 (fun hc => ?_) (fun hc => ?_)
  · replace hf := hf.1 hc
    exact w_Lw_law_b2010 C hE hB hR r hst hG hκ18 _ hx hw hM hX _ _ _ _ hf
  · replace hf := hf.2 hc
    refine tj_iconst C kc_0 dL_law_1166 ?_
    exact tj_up mc ms hB hf.1 (r _ _ _ _ _ hx dL_law_1167 zb0 hf.2)
theorem w_Lw_law_b1102 {Γ : tX} {Nb : Nat → Nat} {K : Int32 → tS → Prop} {mc ms b sl : Nat} {sc : Nat → Int32} (C : TC Γ cL_law RL 79 10311) (hE : tDyn (xad Γ)) (hB : mc ≤ (xR Γ).cells ∧ ms ≤ (xR Γ).slots) (hR : xnL Γ = 4) (r : TEz Γ Nb mc ms cL_law K) (hst : (xl Γ).stackTraces = false) (hG : lawG Γ b sl sc) {κ18 : Nat → Nat → Int32 → tS → Prop} (hκ18 : ∀ (N0 : Nat → Nat) (hx : tExt Nb N0) (hw : tWf N0) (hM : N0 0 ≠ 0) (hX : N0 1025 ≠ 0) (uc : Nat) (us : Nat) (a3 : Int32) (S : tS), κ18 uc us a3 S → TJ Γ N0 uc us 18 [(0, .ref b), (1, .ref (xad Γ 1025)), (2, .ref (xad Γ 0)), (3, .int a3)] [] S) : ∀ (N0 : Nat → Nat) (hx : tExt Nb N0) (hw : tWf N0) (hM : N0 0 ≠ 0) (hX : N0 1025 ≠ 0) (uc : Nat) (us : Nat) (a3 : Int32) (S : tS), Lw_law_b1102 sl sc mc ms K κ18 uc us a3 S → TJ Γ N0 uc us 1102 [(0, .ref b), (1, .ref (xad Γ 1025)), (2, .ref (xad Γ 0)), (3, .int a3)] [] S := by
  intro N0 hx hw hM hX uc us a3 S hf
  unfold Lw_law_b1102 at hf
  refine tj_aload_n C 1 rfl rfl dL_law_1102 ?_
  refine tj_aload_n C 0 rfl rfl dL_law_1103 ?_
  refine tj_iload_n C 3 rfl rfl dL_law_1104 ?_
  refine tj_iconst C kc_1 dL_law_1105 ?_
  refine tj_iadd C dL_law_1106 ?_
  refine tj_sld C hG hf.1 dL_law_1107 ?_
  replace hf := hf.2
  refine tj_aload_n C 0 rfl rfl dL_law_1108 ?_
  refine tj_iload_n C 3 rfl rfl dL_law_1109 ?_
  refine tj_iconst C kc_2 dL_law_1110 ?_
  refine tj_iadd C dL_law_1111 ?_
  refine tj_sld C hG hf.1 dL_law_1112 ?_
  replace hf := hf.2
  refine tj_aload_n C 0 rfl rfl dL_law_1113 ?_
  refine tj_iload_n C 3 rfl rfl dL_law_1114 ?_
  refine tj_iconst C kc_3 dL_law_1115 ?_
  refine tj_iadd C dL_law_1116 ?_
  refine tj_sld C hG hf.1 dL_law_1117 ?_
  replace hf := hf.2
  obtain ⟨c106, s107, hu106, hf⟩ := hf
  refine te_callVi C (k := 1) [.int (sc (a3 + (nI 1)).toNatClampNeg), .int (sc (a3 + (nI 2)).toNatClampNeg), .int (sc (a3 + (nI 3)).toNatClampNeg)] [] (fun hN => c_X_enact (by rw [hN]; exact hX) hE hf) lk_L_127 ty_X0_enact rfl (Nat.le_of_ble_eq_true rfl) (Nat.le_of_ble_eq_true rfl) ⟨Nat.le_trans hu106.1 hB.1, Nat.le_trans hu106.2 hB.2⟩ (Nat.le_of_ble_eq_true rfl) hX rfl (by decide) rfl rfl dL_law_1118 (fun r108 S105 _ hf _ hx106 hw106 => ?_)
  have hw := hw106
  have hM := hx106.ne hM
  have hX := hx106.ne hX
  have hx := hx.tr hx106
  refine tj_aload_n C 2 rfl rfl dL_law_1121 ?_
  refine tj_aload_n C 0 rfl rfl dL_law_1122 ?_
  refine tj_iload_n C 3 rfl rfl dL_law_1123 ?_
  refine tj_iconst C kc_1 dL_law_1124 ?_
  refine tj_iadd C dL_law_1125 ?_
  refine tj_sld C hG hf.1 dL_law_1126 ?_
  replace hf := hf.2
  refine tj_aload_n C 0 rfl rfl dL_law_1127 ?_
  refine tj_iload_n C 3 rfl rfl dL_law_1128 ?_
  refine tj_iconst C kc_2 dL_law_1129 ?_
  refine tj_iadd C dL_law_1130 ?_
  refine tj_sld C hG hf.1 dL_law_1131 ?_
  replace hf := hf.2
  refine tj_aload_n C 0 rfl rfl dL_law_1132 ?_
  refine tj_iload_n C 3 rfl rfl dL_law_1133 ?_
  refine tj_iconst C kc_3 dL_law_1134 ?_
  refine tj_iadd C dL_law_1135 ?_
  refine tj_sld C hG hf.1 dL_law_1136 ?_
  replace hf := hf.2
  refine tj_callVi C (k := 0) [.int (sc (a3 + (nI 1)).toNatClampNeg), .int (sc (a3 + (nI 2)).toNatClampNeg), .int (sc (a3 + (nI 3)).toNatClampNeg)] [.int r108] (fun hN => c_M_enact (by rw [hN]; exact hM) hf) lk_L_131 ty_X6_enact rfl (Nat.le_of_ble_eq_true rfl) (Nat.le_of_ble_eq_true rfl) (Nat.le_of_ble_eq_true rfl) hM rfl (by decide) rfl rfl dL_law_1137 (fun r110 S109 hf => ?_)
  refine tj_icmp_eq C 2010 (by decide) dL_law_1140 (fun hc => ?_) (fun hc => ?_)
  · replace hf := hf.1 hc
    exact w_Lw_law_b2010 C hE hB hR r hst hG hκ18 _ hx hw hM hX _ _ _ _ hf
  · replace hf := hf.2 hc
    refine tj_iconst C kc_0 dL_law_1143 ?_
    exact tj_up mc ms hB hf.1 (r _ _ _ _ _ hx dL_law_1144 zb0 hf.2)
theorem w_Lw_law_b1069 {Γ : tX} {Nb : Nat → Nat} {K : Int32 → tS → Prop} {mc ms b sl : Nat} {sc : Nat → Int32} (C : TC Γ cL_law RL 79 10311) (hE : tDyn (xad Γ)) (hB : mc ≤ (xR Γ).cells ∧ ms ≤ (xR Γ).slots) (hR : xnL Γ = 4) (r : TEz Γ Nb mc ms cL_law K) (hst : (xl Γ).stackTraces = false) (hG : lawG Γ b sl sc) {κ18 : Nat → Nat → Int32 → tS → Prop} (hκ18 : ∀ (N0 : Nat → Nat) (hx : tExt Nb N0) (hw : tWf N0) (hM : N0 0 ≠ 0) (hX : N0 1025 ≠ 0) (uc : Nat) (us : Nat) (a3 : Int32) (S : tS), κ18 uc us a3 S → TJ Γ N0 uc us 18 [(0, .ref b), (1, .ref (xad Γ 1025)), (2, .ref (xad Γ 0)), (3, .int a3)] [] S) : ∀ (N0 : Nat → Nat) (hx : tExt Nb N0) (hw : tWf N0) (hM : N0 0 ≠ 0) (hX : N0 1025 ≠ 0) (uc : Nat) (us : Nat) (a3 : Int32) (S : tS), Lw_law_b1069 sl sc mc ms K κ18 uc us a3 S → TJ Γ N0 uc us 1069 [(0, .ref b), (1, .ref (xad Γ 1025)), (2, .ref (xad Γ 0)), (3, .int a3)] [] S := by
  intro N0 hx hw hM hX uc us a3 S hf
  unfold Lw_law_b1069 at hf
  refine tj_aload_n C 1 rfl rfl dL_law_1069 ?_
  refine tj_aload_n C 0 rfl rfl dL_law_1070 ?_
  refine tj_iload_n C 3 rfl rfl dL_law_1071 ?_
  refine tj_iconst C kc_1 dL_law_1072 ?_
  refine tj_iadd C dL_law_1073 ?_
  refine tj_sld C hG hf.1 dL_law_1074 ?_
  replace hf := hf.2
  refine tj_aload_n C 0 rfl rfl dL_law_1075 ?_
  refine tj_iload_n C 3 rfl rfl dL_law_1076 ?_
  refine tj_iconst C kc_2 dL_law_1077 ?_
  refine tj_iadd C dL_law_1078 ?_
  refine tj_sld C hG hf.1 dL_law_1079 ?_
  replace hf := hf.2
  refine tj_callVz C (k := 1) [.int (sc (a3 + (nI 1)).toNatClampNeg), .int (sc (a3 + (nI 2)).toNatClampNeg)] [] (fun hN => c_X_reread (by rw [hN]; exact hX) hf) lk_L_122 ty_X0_reread rfl (Nat.le_of_ble_eq_true rfl) (Nat.le_of_ble_eq_true rfl) (Nat.le_of_ble_eq_true rfl) hX rfl (by decide) rfl rfl dL_law_1080 (fun r102 S101 hf => ?_)
  have hz_r102 := hf.1
  replace hf := hf.2
  refine tj_aload_n C 2 rfl rfl dL_law_1083 ?_
  refine tj_aload_n C 0 rfl rfl dL_law_1084 ?_
  refine tj_iload_n C 3 rfl rfl dL_law_1085 ?_
  refine tj_iconst C kc_1 dL_law_1086 ?_
  refine tj_iadd C dL_law_1087 ?_
  refine tj_sld C hG hf.1 dL_law_1088 ?_
  replace hf := hf.2
  refine tj_aload_n C 0 rfl rfl dL_law_1089 ?_
  refine tj_iload_n C 3 rfl rfl dL_law_1090 ?_
  refine tj_iconst C kc_2 dL_law_1091 ?_
  refine tj_iadd C dL_law_1092 ?_
  refine tj_sld C hG hf.1 dL_law_1093 ?_
  replace hf := hf.2
  refine tj_callVz C (k := 0) [.int (sc (a3 + (nI 1)).toNatClampNeg), .int (sc (a3 + (nI 2)).toNatClampNeg)] [.int r102] (fun hN => c_M_reread (by rw [hN]; exact hM) hf) lk_L_126 ty_X6_reread rfl (Nat.le_of_ble_eq_true rfl) (Nat.le_of_ble_eq_true rfl) (Nat.le_of_ble_eq_true rfl) hM rfl (by decide) rfl rfl dL_law_1094 (fun r104 S103 hf => ?_)
  have hz_r104 := hf.1
  replace hf := hf.2
  refine tj_icmp_eq C 2010 (by decide) dL_law_1097 (fun hc => ?_) (fun hc => ?_)
  · replace hf := hf.1 hc
    exact w_Lw_law_b2010 C hE hB hR r hst hG hκ18 _ hx hw hM hX _ _ _ _ hf
  · replace hf := hf.2 hc
    refine tj_iconst C kc_0 dL_law_1100 ?_
    exact tj_up mc ms hB hf.1 (r _ _ _ _ _ hx dL_law_1101 zb0 hf.2)
theorem w_Lw_law_b1061 {Γ : tX} {Nb : Nat → Nat} {K : Int32 → tS → Prop} {mc ms b sl : Nat} {sc : Nat → Int32} (C : TC Γ cL_law RL 79 10311) (hE : tDyn (xad Γ)) (hB : mc ≤ (xR Γ).cells ∧ ms ≤ (xR Γ).slots) (hR : xnL Γ = 4) (r : TEz Γ Nb mc ms cL_law K) (hst : (xl Γ).stackTraces = false) (hG : lawG Γ b sl sc) {κ18 : Nat → Nat → Int32 → tS → Prop} (hκ18 : ∀ (N0 : Nat → Nat) (hx : tExt Nb N0) (hw : tWf N0) (hM : N0 0 ≠ 0) (hX : N0 1025 ≠ 0) (uc : Nat) (us : Nat) (a3 : Int32) (S : tS), κ18 uc us a3 S → TJ Γ N0 uc us 18 [(0, .ref b), (1, .ref (xad Γ 1025)), (2, .ref (xad Γ 0)), (3, .int a3)] [] S) : ∀ (N0 : Nat → Nat) (hx : tExt Nb N0) (hw : tWf N0) (hM : N0 0 ≠ 0) (hX : N0 1025 ≠ 0) (uc : Nat) (us : Nat) (a3 : Int32) (s0 : Int32) (s2 : Int32) (s3 : Int32) (S : tS), Lw_law_b1061 sl sc mc ms K κ18 uc us a3 s0 s2 s3 S → TJ Γ N0 uc us 1061 [(0, .ref b), (1, .ref (xad Γ 1025)), (2, .ref (xad Γ 0)), (3, .int a3)] [.int s3, .int s2, .ref (xad Γ 0), .int s0] S := by
  intro N0 hx hw hM hX uc us a3 s0 s2 s3 S hf
  unfold Lw_law_b1061 at hf
  refine tj_callVz C (k := 0) [.int s2, .int s3] [.int s0] (fun hN => c_M_blame (by rw [hN]; exact hM) hf) lk_L_121 ty_X6_blame rfl (Nat.le_of_ble_eq_true rfl) (Nat.le_of_ble_eq_true rfl) (Nat.le_of_ble_eq_true rfl) hM rfl (by decide) rfl rfl dL_law_1061 (fun r265 S264 hf => ?_)
  have hz_r265 := hf.1
  replace hf := hf.2
  refine tj_icmp_eq C 2010 (by decide) dL_law_1064 (fun hc => ?_) (fun hc => ?_)
  · replace hf := hf.1 hc
    exact w_Lw_law_b2010 C hE hB hR r hst hG hκ18 _ hx hw hM hX _ _ _ _ hf
  · replace hf := hf.2 hc
    refine tj_iconst C kc_0 dL_law_1067 ?_
    exact tj_up mc ms hB hf.1 (r _ _ _ _ _ hx dL_law_1068 zb0 hf.2)
theorem w_Lw_law_b1039 {Γ : tX} {Nb : Nat → Nat} {K : Int32 → tS → Prop} {mc ms b sl : Nat} {sc : Nat → Int32} (C : TC Γ cL_law RL 79 10311) (hE : tDyn (xad Γ)) (hB : mc ≤ (xR Γ).cells ∧ ms ≤ (xR Γ).slots) (hR : xnL Γ = 4) (r : TEz Γ Nb mc ms cL_law K) (hst : (xl Γ).stackTraces = false) (hG : lawG Γ b sl sc) {κ18 : Nat → Nat → Int32 → tS → Prop} (hκ18 : ∀ (N0 : Nat → Nat) (hx : tExt Nb N0) (hw : tWf N0) (hM : N0 0 ≠ 0) (hX : N0 1025 ≠ 0) (uc : Nat) (us : Nat) (a3 : Int32) (S : tS), κ18 uc us a3 S → TJ Γ N0 uc us 18 [(0, .ref b), (1, .ref (xad Γ 1025)), (2, .ref (xad Γ 0)), (3, .int a3)] [] S) : ∀ (N0 : Nat → Nat) (hx : tExt Nb N0) (hw : tWf N0) (hM : N0 0 ≠ 0) (hX : N0 1025 ≠ 0) (uc : Nat) (us : Nat) (a3 : Int32) (s1 : Int32) (s2 : Int32) (S : tS), Lw_law_b1039 sl sc mc ms K κ18 uc us a3 s1 s2 S → TJ Γ N0 uc us 1039 [(0, .ref b), (1, .ref (xad Γ 1025)), (2, .ref (xad Γ 0)), (3, .int a3)] [.int s2, .int s1, .ref (xad Γ 1025)] S := by
  intro N0 hx hw hM hX uc us a3 s1 s2 S hf
  unfold Lw_law_b1039 at hf
  refine tj_callVz C (k := 1) [.int s1, .int s2] [] (fun hN => c_X_blame (by rw [hN]; exact hX) hf) lk_L_117 ty_X0_blame rfl (Nat.le_of_ble_eq_true rfl) (Nat.le_of_ble_eq_true rfl) (Nat.le_of_ble_eq_true rfl) hX rfl (by decide) rfl rfl dL_law_1039 (fun r261 S260 hf => ?_)
  have hz_r261 := hf.1
  replace hf := hf.2
  refine tj_aload_n C 2 rfl rfl dL_law_1042 ?_
  refine tj_aload_n C 0 rfl rfl dL_law_1043 ?_
  refine tj_iload_n C 3 rfl rfl dL_law_1044 ?_
  refine tj_iconst C kc_1 dL_law_1045 ?_
  refine tj_iadd C dL_law_1046 ?_
  refine tj_sld C hG hf.1 dL_law_1047 ?_
  replace hf := hf.2
  refine tj_aload_n C 0 rfl rfl dL_law_1048 ?_
  refine tj_iload_n C 3 rfl rfl dL_law_1049 ?_
  refine tj_iconst C kc_2 dL_law_1050 ?_
  refine tj_iadd C dL_law_1051 ?_
  refine tj_sld C hG hf.1 dL_law_1052 ?_
  replace hf := hf.2
  refine tj_if_eq C 1060 (by decide) dL_law_1053 (fun hc => ?_) (fun hc => ?_)
  · replace hf := hf.1 hc
    refine tj_iconst C kc_0 dL_law_1060 ?_
    exact w_Lw_law_b1061 C hE hB hR r hst hG hκ18 _ hx hw hM hX _ _ _ _ _ _ _ hf
  · replace hf := hf.2 hc
    refine tj_iconst C kc_1 dL_law_1056 ?_
    refine tj_goto C 1061 (by decide) dL_law_1057 ?_
    exact w_Lw_law_b1061 C hE hB hR r hst hG hκ18 _ hx hw hM hX _ _ _ _ _ _ _ hf
theorem w_Lw_law_b1020 {Γ : tX} {Nb : Nat → Nat} {K : Int32 → tS → Prop} {mc ms b sl : Nat} {sc : Nat → Int32} (C : TC Γ cL_law RL 79 10311) (hE : tDyn (xad Γ)) (hB : mc ≤ (xR Γ).cells ∧ ms ≤ (xR Γ).slots) (hR : xnL Γ = 4) (r : TEz Γ Nb mc ms cL_law K) (hst : (xl Γ).stackTraces = false) (hG : lawG Γ b sl sc) {κ18 : Nat → Nat → Int32 → tS → Prop} (hκ18 : ∀ (N0 : Nat → Nat) (hx : tExt Nb N0) (hw : tWf N0) (hM : N0 0 ≠ 0) (hX : N0 1025 ≠ 0) (uc : Nat) (us : Nat) (a3 : Int32) (S : tS), κ18 uc us a3 S → TJ Γ N0 uc us 18 [(0, .ref b), (1, .ref (xad Γ 1025)), (2, .ref (xad Γ 0)), (3, .int a3)] [] S) : ∀ (N0 : Nat → Nat) (hx : tExt Nb N0) (hw : tWf N0) (hM : N0 0 ≠ 0) (hX : N0 1025 ≠ 0) (uc : Nat) (us : Nat) (a3 : Int32) (S : tS), Lw_law_b1020 sl sc mc ms K κ18 uc us a3 S → TJ Γ N0 uc us 1020 [(0, .ref b), (1, .ref (xad Γ 1025)), (2, .ref (xad Γ 0)), (3, .int a3)] [] S := by
  intro N0 hx hw hM hX uc us a3 S hf
  unfold Lw_law_b1020 at hf
  refine tj_aload_n C 1 rfl rfl dL_law_1020 ?_
  refine tj_aload_n C 0 rfl rfl dL_law_1021 ?_
  refine tj_iload_n C 3 rfl rfl dL_law_1022 ?_
  refine tj_iconst C kc_1 dL_law_1023 ?_
  refine tj_iadd C dL_law_1024 ?_
  refine tj_sld C hG hf.1 dL_law_1025 ?_
  replace hf := hf.2
  refine tj_aload_n C 0 rfl rfl dL_law_1026 ?_
  refine tj_iload_n C 3 rfl rfl dL_law_1027 ?_
  refine tj_iconst C kc_2 dL_law_1028 ?_
  refine tj_iadd C dL_law_1029 ?_
  refine tj_sld C hG hf.1 dL_law_1030 ?_
  replace hf := hf.2
  refine tj_if_eq C 1038 (by decide) dL_law_1031 (fun hc => ?_) (fun hc => ?_)
  · replace hf := hf.1 hc
    refine tj_iconst C kc_0 dL_law_1038 ?_
    exact w_Lw_law_b1039 C hE hB hR r hst hG hκ18 _ hx hw hM hX _ _ _ _ _ _ hf
  · replace hf := hf.2 hc
    refine tj_iconst C kc_1 dL_law_1034 ?_
    refine tj_goto C 1039 (by decide) dL_law_1035 ?_
    exact w_Lw_law_b1039 C hE hB hR r hst hG hκ18 _ hx hw hM hX _ _ _ _ _ _ hf
theorem w_Lw_law_b997 {Γ : tX} {Nb : Nat → Nat} {K : Int32 → tS → Prop} {mc ms b sl : Nat} {sc : Nat → Int32} (C : TC Γ cL_law RL 79 10311) (hE : tDyn (xad Γ)) (hB : mc ≤ (xR Γ).cells ∧ ms ≤ (xR Γ).slots) (hR : xnL Γ = 4) (r : TEz Γ Nb mc ms cL_law K) (hst : (xl Γ).stackTraces = false) (hG : lawG Γ b sl sc) {κ18 : Nat → Nat → Int32 → tS → Prop} (hκ18 : ∀ (N0 : Nat → Nat) (hx : tExt Nb N0) (hw : tWf N0) (hM : N0 0 ≠ 0) (hX : N0 1025 ≠ 0) (uc : Nat) (us : Nat) (a3 : Int32) (S : tS), κ18 uc us a3 S → TJ Γ N0 uc us 18 [(0, .ref b), (1, .ref (xad Γ 1025)), (2, .ref (xad Γ 0)), (3, .int a3)] [] S) : ∀ (N0 : Nat → Nat) (hx : tExt Nb N0) (hw : tWf N0) (hM : N0 0 ≠ 0) (hX : N0 1025 ≠ 0) (uc : Nat) (us : Nat) (a3 : Int32) (S : tS), Lw_law_b997 sl sc mc ms K κ18 uc us a3 S → TJ Γ N0 uc us 997 [(0, .ref b), (1, .ref (xad Γ 1025)), (2, .ref (xad Γ 0)), (3, .int a3)] [] S := by
  intro N0 hx hw hM hX uc us a3 S hf
  unfold Lw_law_b997 at hf
  refine tj_aload_n C 1 rfl rfl dL_law_997 ?_
  refine tj_aload_n C 0 rfl rfl dL_law_998 ?_
  refine tj_iload_n C 3 rfl rfl dL_law_999 ?_
  refine tj_iconst C kc_1 dL_law_1000 ?_
  refine tj_iadd C dL_law_1001 ?_
  refine tj_sld C hG hf.1 dL_law_1002 ?_
  replace hf := hf.2
  refine tj_callVi C (k := 1) [.int (sc (a3 + (nI 1)).toNatClampNeg)] [] (fun hN => c_X_appeal (by rw [hN]; exact hX) hf) lk_L_113 ty_X0_appeal rfl (Nat.le_of_ble_eq_true rfl) (Nat.le_of_ble_eq_true rfl) (Nat.le_of_ble_eq_true rfl) hX rfl (by decide) rfl rfl dL_law_1003 (fun r98 S97 hf => ?_)
  refine tj_aload_n C 2 rfl rfl dL_law_1006 ?_
  refine tj_aload_n C 0 rfl rfl dL_law_1007 ?_
  refine tj_iload_n C 3 rfl rfl dL_law_1008 ?_
  refine tj_iconst C kc_1 dL_law_1009 ?_
  refine tj_iadd C dL_law_1010 ?_
  refine tj_sld C hG hf.1 dL_law_1011 ?_
  replace hf := hf.2
  refine tj_callVi C (k := 0) [.int (sc (a3 + (nI 1)).toNatClampNeg)] [.int r98] (fun hN => c_M_appeal (by rw [hN]; exact hM) hf) lk_L_116 ty_X6_appeal rfl (Nat.le_of_ble_eq_true rfl) (Nat.le_of_ble_eq_true rfl) (Nat.le_of_ble_eq_true rfl) hM rfl (by decide) rfl rfl dL_law_1012 (fun r100 S99 hf => ?_)
  refine tj_icmp_eq C 2010 (by decide) dL_law_1015 (fun hc => ?_) (fun hc => ?_)
  · replace hf := hf.1 hc
    exact w_Lw_law_b2010 C hE hB hR r hst hG hκ18 _ hx hw hM hX _ _ _ _ hf
  · replace hf := hf.2 hc
    refine tj_iconst C kc_0 dL_law_1018 ?_
    exact tj_up mc ms hB hf.1 (r _ _ _ _ _ hx dL_law_1019 zb0 hf.2)
theorem w_Lw_law_b984 {Γ : tX} {Nb : Nat → Nat} {K : Int32 → tS → Prop} {mc ms b sl : Nat} {sc : Nat → Int32} (C : TC Γ cL_law RL 79 10311) (hE : tDyn (xad Γ)) (hB : mc ≤ (xR Γ).cells ∧ ms ≤ (xR Γ).slots) (hR : xnL Γ = 4) (r : TEz Γ Nb mc ms cL_law K) (hst : (xl Γ).stackTraces = false) (hG : lawG Γ b sl sc) {κ18 : Nat → Nat → Int32 → tS → Prop} (hκ18 : ∀ (N0 : Nat → Nat) (hx : tExt Nb N0) (hw : tWf N0) (hM : N0 0 ≠ 0) (hX : N0 1025 ≠ 0) (uc : Nat) (us : Nat) (a3 : Int32) (S : tS), κ18 uc us a3 S → TJ Γ N0 uc us 18 [(0, .ref b), (1, .ref (xad Γ 1025)), (2, .ref (xad Γ 0)), (3, .int a3)] [] S) : ∀ (N0 : Nat → Nat) (hx : tExt Nb N0) (hw : tWf N0) (hM : N0 0 ≠ 0) (hX : N0 1025 ≠ 0) (uc : Nat) (us : Nat) (a3 : Int32) (S : tS), Lw_law_b984 sl sc mc ms K κ18 uc us a3 S → TJ Γ N0 uc us 984 [(0, .ref b), (1, .ref (xad Γ 1025)), (2, .ref (xad Γ 0)), (3, .int a3)] [] S := by
  intro N0 hx hw hM hX uc us a3 S hf
  unfold Lw_law_b984 at hf
  refine tj_aload_n C 1 rfl rfl dL_law_984 ?_
  refine tj_callVi C (k := 1) [] [] (fun hN => c_X_night (by rw [hN]; exact hX) hf) lk_L_109 ty_X0_night rfl (Nat.le_of_ble_eq_true rfl) (Nat.le_of_ble_eq_true rfl) (Nat.le_of_ble_eq_true rfl) hX rfl (by decide) rfl rfl dL_law_985 (fun r94 S93 hf => ?_)
  refine tj_aload_n C 2 rfl rfl dL_law_988 ?_
  refine tj_callVi C (k := 0) [] [.int r94] (fun hN => c_M_night (by rw [hN]; exact hM) hf) lk_L_112 ty_X6_night rfl (Nat.le_of_ble_eq_true rfl) (Nat.le_of_ble_eq_true rfl) (Nat.le_of_ble_eq_true rfl) hM rfl (by decide) rfl rfl dL_law_989 (fun r96 S95 hf => ?_)
  refine tj_icmp_eq C 2010 (by decide) dL_law_992 (fun hc => ?_) (fun hc => ?_)
  · replace hf := hf.1 hc
    exact w_Lw_law_b2010 C hE hB hR r hst hG hκ18 _ hx hw hM hX _ _ _ _ hf
  · replace hf := hf.2 hc
    refine tj_iconst C kc_0 dL_law_995 ?_
    exact tj_up mc ms hB hf.1 (r _ _ _ _ _ hx dL_law_996 zb0 hf.2)
theorem w_Lw_law_b976 {Γ : tX} {Nb : Nat → Nat} {K : Int32 → tS → Prop} {mc ms b sl : Nat} {sc : Nat → Int32} (C : TC Γ cL_law RL 79 10311) (hE : tDyn (xad Γ)) (hB : mc ≤ (xR Γ).cells ∧ ms ≤ (xR Γ).slots) (hR : xnL Γ = 4) (r : TEz Γ Nb mc ms cL_law K) (hst : (xl Γ).stackTraces = false) (hG : lawG Γ b sl sc) {κ18 : Nat → Nat → Int32 → tS → Prop} (hκ18 : ∀ (N0 : Nat → Nat) (hx : tExt Nb N0) (hw : tWf N0) (hM : N0 0 ≠ 0) (hX : N0 1025 ≠ 0) (uc : Nat) (us : Nat) (a3 : Int32) (S : tS), κ18 uc us a3 S → TJ Γ N0 uc us 18 [(0, .ref b), (1, .ref (xad Γ 1025)), (2, .ref (xad Γ 0)), (3, .int a3)] [] S) : ∀ (N0 : Nat → Nat) (hx : tExt Nb N0) (hw : tWf N0) (hM : N0 0 ≠ 0) (hX : N0 1025 ≠ 0) (uc : Nat) (us : Nat) (a3 : Int32) (s0 : Int32) (s2 : Int32) (s3 : Int32) (s4 : Int32) (S : tS), Lw_law_b976 sl sc mc ms K κ18 uc us a3 s0 s2 s3 s4 S → TJ Γ N0 uc us 976 [(0, .ref b), (1, .ref (xad Γ 1025)), (2, .ref (xad Γ 0)), (3, .int a3)] [.int s4, .int s3, .int s2, .ref (xad Γ 0), .int s0] S := by
  intro N0 hx hw hM hX uc us a3 s0 s2 s3 s4 S hf
  unfold Lw_law_b976 at hf
  refine tj_callVz C (k := 0) [.int s2, .int s3, .int s4] [.int s0] (fun hN => c_M_scent (by rw [hN]; exact hM) hf) lk_L_108 ty_X6_scent rfl (Nat.le_of_ble_eq_true rfl) (Nat.le_of_ble_eq_true rfl) (Nat.le_of_ble_eq_true rfl) hM rfl (by decide) rfl rfl dL_law_976 (fun r263 S262 hf => ?_)
  have hz_r263 := hf.1
  replace hf := hf.2
  refine tj_icmp_eq C 2010 (by decide) dL_law_979 (fun hc => ?_) (fun hc => ?_)
  · replace hf := hf.1 hc
    exact w_Lw_law_b2010 C hE hB hR r hst hG hκ18 _ hx hw hM hX _ _ _ _ hf
  · replace hf := hf.2 hc
    refine tj_iconst C kc_0 dL_law_982 ?_
    exact tj_up mc ms hB hf.1 (r _ _ _ _ _ hx dL_law_983 zb0 hf.2)
theorem w_Lw_law_b949 {Γ : tX} {Nb : Nat → Nat} {K : Int32 → tS → Prop} {mc ms b sl : Nat} {sc : Nat → Int32} (C : TC Γ cL_law RL 79 10311) (hE : tDyn (xad Γ)) (hB : mc ≤ (xR Γ).cells ∧ ms ≤ (xR Γ).slots) (hR : xnL Γ = 4) (r : TEz Γ Nb mc ms cL_law K) (hst : (xl Γ).stackTraces = false) (hG : lawG Γ b sl sc) {κ18 : Nat → Nat → Int32 → tS → Prop} (hκ18 : ∀ (N0 : Nat → Nat) (hx : tExt Nb N0) (hw : tWf N0) (hM : N0 0 ≠ 0) (hX : N0 1025 ≠ 0) (uc : Nat) (us : Nat) (a3 : Int32) (S : tS), κ18 uc us a3 S → TJ Γ N0 uc us 18 [(0, .ref b), (1, .ref (xad Γ 1025)), (2, .ref (xad Γ 0)), (3, .int a3)] [] S) : ∀ (N0 : Nat → Nat) (hx : tExt Nb N0) (hw : tWf N0) (hM : N0 0 ≠ 0) (hX : N0 1025 ≠ 0) (uc : Nat) (us : Nat) (a3 : Int32) (s1 : Int32) (s2 : Int32) (s3 : Int32) (S : tS), Lw_law_b949 sl sc mc ms K κ18 uc us a3 s1 s2 s3 S → TJ Γ N0 uc us 949 [(0, .ref b), (1, .ref (xad Γ 1025)), (2, .ref (xad Γ 0)), (3, .int a3)] [.int s3, .int s2, .int s1, .ref (xad Γ 1025)] S := by
  intro N0 hx hw hM hX uc us a3 s1 s2 s3 S hf
  unfold Lw_law_b949 at hf
  refine tj_callVz C (k := 1) [.int s1, .int s2, .int s3] [] (fun hN => c_X_scent (by rw [hN]; exact hX) hf) lk_L_104 ty_X0_scent rfl (Nat.le_of_ble_eq_true rfl) (Nat.le_of_ble_eq_true rfl) (Nat.le_of_ble_eq_true rfl) hX rfl (by decide) rfl rfl dL_law_949 (fun r259 S258 hf => ?_)
  have hz_r259 := hf.1
  replace hf := hf.2
  refine tj_aload_n C 2 rfl rfl dL_law_952 ?_
  refine tj_aload_n C 0 rfl rfl dL_law_953 ?_
  refine tj_iload_n C 3 rfl rfl dL_law_954 ?_
  refine tj_iconst C kc_1 dL_law_955 ?_
  refine tj_iadd C dL_law_956 ?_
  refine tj_sld C hG hf.1 dL_law_957 ?_
  replace hf := hf.2
  refine tj_aload_n C 0 rfl rfl dL_law_958 ?_
  refine tj_iload_n C 3 rfl rfl dL_law_959 ?_
  refine tj_iconst C kc_2 dL_law_960 ?_
  refine tj_iadd C dL_law_961 ?_
  refine tj_sld C hG hf.1 dL_law_962 ?_
  replace hf := hf.2
  refine tj_aload_n C 0 rfl rfl dL_law_963 ?_
  refine tj_iload_n C 3 rfl rfl dL_law_964 ?_
  refine tj_iconst C kc_3 dL_law_965 ?_
  refine tj_iadd C dL_law_966 ?_
  refine tj_sld C hG hf.1 dL_law_967 ?_
  replace hf := hf.2
  refine tj_if_eq C 975 (by decide) dL_law_968 (fun hc => ?_) (fun hc => ?_)
  · replace hf := hf.1 hc
    refine tj_iconst C kc_0 dL_law_975 ?_
    exact w_Lw_law_b976 C hE hB hR r hst hG hκ18 _ hx hw hM hX _ _ _ _ _ _ _ _ hf
  · replace hf := hf.2 hc
    refine tj_iconst C kc_1 dL_law_971 ?_
    refine tj_goto C 976 (by decide) dL_law_972 ?_
    exact w_Lw_law_b976 C hE hB hR r hst hG hκ18 _ hx hw hM hX _ _ _ _ _ _ _ _ hf
theorem w_Lw_law_b925 {Γ : tX} {Nb : Nat → Nat} {K : Int32 → tS → Prop} {mc ms b sl : Nat} {sc : Nat → Int32} (C : TC Γ cL_law RL 79 10311) (hE : tDyn (xad Γ)) (hB : mc ≤ (xR Γ).cells ∧ ms ≤ (xR Γ).slots) (hR : xnL Γ = 4) (r : TEz Γ Nb mc ms cL_law K) (hst : (xl Γ).stackTraces = false) (hG : lawG Γ b sl sc) {κ18 : Nat → Nat → Int32 → tS → Prop} (hκ18 : ∀ (N0 : Nat → Nat) (hx : tExt Nb N0) (hw : tWf N0) (hM : N0 0 ≠ 0) (hX : N0 1025 ≠ 0) (uc : Nat) (us : Nat) (a3 : Int32) (S : tS), κ18 uc us a3 S → TJ Γ N0 uc us 18 [(0, .ref b), (1, .ref (xad Γ 1025)), (2, .ref (xad Γ 0)), (3, .int a3)] [] S) : ∀ (N0 : Nat → Nat) (hx : tExt Nb N0) (hw : tWf N0) (hM : N0 0 ≠ 0) (hX : N0 1025 ≠ 0) (uc : Nat) (us : Nat) (a3 : Int32) (S : tS), Lw_law_b925 sl sc mc ms K κ18 uc us a3 S → TJ Γ N0 uc us 925 [(0, .ref b), (1, .ref (xad Γ 1025)), (2, .ref (xad Γ 0)), (3, .int a3)] [] S := by
  intro N0 hx hw hM hX uc us a3 S hf
  unfold Lw_law_b925 at hf
  refine tj_aload_n C 1 rfl rfl dL_law_925 ?_
  refine tj_aload_n C 0 rfl rfl dL_law_926 ?_
  refine tj_iload_n C 3 rfl rfl dL_law_927 ?_
  refine tj_iconst C kc_1 dL_law_928 ?_
  refine tj_iadd C dL_law_929 ?_
  refine tj_sld C hG hf.1 dL_law_930 ?_
  replace hf := hf.2
  refine tj_aload_n C 0 rfl rfl dL_law_931 ?_
  refine tj_iload_n C 3 rfl rfl dL_law_932 ?_
  refine tj_iconst C kc_2 dL_law_933 ?_
  refine tj_iadd C dL_law_934 ?_
  refine tj_sld C hG hf.1 dL_law_935 ?_
  replace hf := hf.2
  refine tj_aload_n C 0 rfl rfl dL_law_936 ?_
  refine tj_iload_n C 3 rfl rfl dL_law_937 ?_
  refine tj_iconst C kc_3 dL_law_938 ?_
  refine tj_iadd C dL_law_939 ?_
  refine tj_sld C hG hf.1 dL_law_940 ?_
  replace hf := hf.2
  refine tj_if_eq C 948 (by decide) dL_law_941 (fun hc => ?_) (fun hc => ?_)
  · replace hf := hf.1 hc
    refine tj_iconst C kc_0 dL_law_948 ?_
    exact w_Lw_law_b949 C hE hB hR r hst hG hκ18 _ hx hw hM hX _ _ _ _ _ _ _ hf
  · replace hf := hf.2 hc
    refine tj_iconst C kc_1 dL_law_944 ?_
    refine tj_goto C 949 (by decide) dL_law_945 ?_
    exact w_Lw_law_b949 C hE hB hR r hst hG hκ18 _ hx hw hM hX _ _ _ _ _ _ _ hf
theorem w_Lw_law_b892 {Γ : tX} {Nb : Nat → Nat} {K : Int32 → tS → Prop} {mc ms b sl : Nat} {sc : Nat → Int32} (C : TC Γ cL_law RL 79 10311) (hE : tDyn (xad Γ)) (hB : mc ≤ (xR Γ).cells ∧ ms ≤ (xR Γ).slots) (hR : xnL Γ = 4) (r : TEz Γ Nb mc ms cL_law K) (hst : (xl Γ).stackTraces = false) (hG : lawG Γ b sl sc) {κ18 : Nat → Nat → Int32 → tS → Prop} (hκ18 : ∀ (N0 : Nat → Nat) (hx : tExt Nb N0) (hw : tWf N0) (hM : N0 0 ≠ 0) (hX : N0 1025 ≠ 0) (uc : Nat) (us : Nat) (a3 : Int32) (S : tS), κ18 uc us a3 S → TJ Γ N0 uc us 18 [(0, .ref b), (1, .ref (xad Γ 1025)), (2, .ref (xad Γ 0)), (3, .int a3)] [] S) : ∀ (N0 : Nat → Nat) (hx : tExt Nb N0) (hw : tWf N0) (hM : N0 0 ≠ 0) (hX : N0 1025 ≠ 0) (uc : Nat) (us : Nat) (a3 : Int32) (S : tS), Lw_law_b892 sl sc mc ms K κ18 uc us a3 S → TJ Γ N0 uc us 892 [(0, .ref b), (1, .ref (xad Γ 1025)), (2, .ref (xad Γ 0)), (3, .int a3)] [] S := by
  intro N0 hx hw hM hX uc us a3 S hf
  unfold Lw_law_b892 at hf
  refine tj_aload_n C 1 rfl rfl dL_law_892 ?_
  refine tj_aload_n C 0 rfl rfl dL_law_893 ?_
  refine tj_iload_n C 3 rfl rfl dL_law_894 ?_
  refine tj_iconst C kc_1 dL_law_895 ?_
  refine tj_iadd C dL_law_896 ?_
  refine tj_sld C hG hf.1 dL_law_897 ?_
  replace hf := hf.2
  refine tj_aload_n C 0 rfl rfl dL_law_898 ?_
  refine tj_iload_n C 3 rfl rfl dL_law_899 ?_
  refine tj_iconst C kc_2 dL_law_900 ?_
  refine tj_iadd C dL_law_901 ?_
  refine tj_sld C hG hf.1 dL_law_902 ?_
  replace hf := hf.2
  refine tj_callVi C (k := 1) [.int (sc (a3 + (nI 1)).toNatClampNeg), .int (sc (a3 + (nI 2)).toNatClampNeg)] [] (fun hN => c_X_meal (by rw [hN]; exact hX) hf) lk_L_100 ty_X0_meal rfl (Nat.le_of_ble_eq_true rfl) (Nat.le_of_ble_eq_true rfl) (Nat.le_of_ble_eq_true rfl) hX rfl (by decide) rfl rfl dL_law_903 (fun r90 S89 hf => ?_)
  refine tj_aload_n C 2 rfl rfl dL_law_906 ?_
  refine tj_aload_n C 0 rfl rfl dL_law_907 ?_
  refine tj_iload_n C 3 rfl rfl dL_law_908 ?_
  refine tj_iconst C kc_1 dL_law_909 ?_
  refine tj_iadd C dL_law_910 ?_
  refine tj_sld C hG hf.1 dL_law_911 ?_
  replace hf := hf.2
  refine tj_aload_n C 0 rfl rfl dL_law_912 ?_
  refine tj_iload_n C 3 rfl rfl dL_law_913 ?_
  refine tj_iconst C kc_2 dL_law_914 ?_
  refine tj_iadd C dL_law_915 ?_
  refine tj_sld C hG hf.1 dL_law_916 ?_
  replace hf := hf.2
  refine tj_callVi C (k := 0) [.int (sc (a3 + (nI 1)).toNatClampNeg), .int (sc (a3 + (nI 2)).toNatClampNeg)] [.int r90] (fun hN => c_M_meal (by rw [hN]; exact hM) hf) lk_L_103 ty_X6_meal rfl (Nat.le_of_ble_eq_true rfl) (Nat.le_of_ble_eq_true rfl) (Nat.le_of_ble_eq_true rfl) hM rfl (by decide) rfl rfl dL_law_917 (fun r92 S91 hf => ?_)
  refine tj_icmp_eq C 2010 (by decide) dL_law_920 (fun hc => ?_) (fun hc => ?_)
  · replace hf := hf.1 hc
    exact w_Lw_law_b2010 C hE hB hR r hst hG hκ18 _ hx hw hM hX _ _ _ _ hf
  · replace hf := hf.2 hc
    refine tj_iconst C kc_0 dL_law_923 ?_
    exact tj_up mc ms hB hf.1 (r _ _ _ _ _ hx dL_law_924 zb0 hf.2)
theorem w_Lw_law_b879 {Γ : tX} {Nb : Nat → Nat} {K : Int32 → tS → Prop} {mc ms b sl : Nat} {sc : Nat → Int32} (C : TC Γ cL_law RL 79 10311) (hE : tDyn (xad Γ)) (hB : mc ≤ (xR Γ).cells ∧ ms ≤ (xR Γ).slots) (hR : xnL Γ = 4) (r : TEz Γ Nb mc ms cL_law K) (hst : (xl Γ).stackTraces = false) (hG : lawG Γ b sl sc) {κ18 : Nat → Nat → Int32 → tS → Prop} (hκ18 : ∀ (N0 : Nat → Nat) (hx : tExt Nb N0) (hw : tWf N0) (hM : N0 0 ≠ 0) (hX : N0 1025 ≠ 0) (uc : Nat) (us : Nat) (a3 : Int32) (S : tS), κ18 uc us a3 S → TJ Γ N0 uc us 18 [(0, .ref b), (1, .ref (xad Γ 1025)), (2, .ref (xad Γ 0)), (3, .int a3)] [] S) : ∀ (N0 : Nat → Nat) (hx : tExt Nb N0) (hw : tWf N0) (hM : N0 0 ≠ 0) (hX : N0 1025 ≠ 0) (uc : Nat) (us : Nat) (a3 : Int32) (S : tS), Lw_law_b879 sl sc mc ms K κ18 uc us a3 S → TJ Γ N0 uc us 879 [(0, .ref b), (1, .ref (xad Γ 1025)), (2, .ref (xad Γ 0)), (3, .int a3)] [] S := by
  intro N0 hx hw hM hX uc us a3 S hf
  unfold Lw_law_b879 at hf
  refine tj_aload_n C 1 rfl rfl dL_law_879 ?_
  refine tj_callVi C (k := 1) [] [] (fun hN => c_X_term (by rw [hN]; exact hX) hf) lk_L_96 ty_X0_term rfl (Nat.le_of_ble_eq_true rfl) (Nat.le_of_ble_eq_true rfl) (Nat.le_of_ble_eq_true rfl) hX rfl (by decide) rfl rfl dL_law_880 (fun r86 S85 hf => ?_)
  refine tj_aload_n C 2 rfl rfl dL_law_883 ?_
  refine tj_callVi C (k := 0) [] [.int r86] (fun hN => c_M_term (by rw [hN]; exact hM) hf) lk_L_99 ty_X6_term rfl (Nat.le_of_ble_eq_true rfl) (Nat.le_of_ble_eq_true rfl) (Nat.le_of_ble_eq_true rfl) hM rfl (by decide) rfl rfl dL_law_884 (fun r88 S87 hf => ?_)
  refine tj_icmp_eq C 2010 (by decide) dL_law_887 (fun hc => ?_) (fun hc => ?_)
  · replace hf := hf.1 hc
    exact w_Lw_law_b2010 C hE hB hR r hst hG hκ18 _ hx hw hM hX _ _ _ _ hf
  · replace hf := hf.2 hc
    refine tj_iconst C kc_0 dL_law_890 ?_
    exact tj_up mc ms hB hf.1 (r _ _ _ _ _ hx dL_law_891 zb0 hf.2)
