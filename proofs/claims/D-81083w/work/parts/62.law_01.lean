set_option maxRecDepth 100000
theorem cB_L_law_1436 {X : x_Ctx} {M0 : Mem} {L : Nat} {xs : Nat → Int32} {cb sb : Nat} (C : x_CC X 108 3296 yL_law cL_law 7 (some .boolean) []) {k23 : Nat → Nat → Nat → Nat → Int → Mem → Option (Int × Mem)} (hk23 : ∀ (v0 : Nat) (v1 : Nat) (v2 : Nat) (v3 : Nat) (v4 : Int) (M : Mem) (r : Int) (M' : Mem), (va_X v0 L xs (XS X) (XS X).heap ∧ L < 2 ^ 31) → m_kd M v1 = 1 → m_kd M v2 = 5 → m_kd M v3 = 19000 → k23 v0 v1 v2 v3 v4 M = some (r, M') → cb + 14 ≤ (XR X).cells ∧ sb + 3829 ≤ (XR X).slots → x_Z X (cb + 14) (sb + 3829) (x_QF X M0 (.returned (some (vI r))) M' (XR X).cells (XR X).slots) M0 M 7 [(0, .ref v0), (1, .ref v1), (2, .ref v2), (3, .ref v3), (4, vI v4)] 23 []) (v0 : Nat) (v1 : Nat) (v2 : Nat) (v3 : Nat) (v4 : Int) (M : Mem) (r : Int) (M' : Mem) (hv0 : (va_X v0 L xs (XS X) (XS X).heap ∧ L < 2 ^ 31)) (hv1 : m_kd M v1 = 1) (hv2 : m_kd M v2 = 5) (hv3 : m_kd M v3 = 19000) (h : B_L_law_1436 L xs k23 v0 v1 v2 v3 v4 M = some (r, M')) (hR : cb + 14 ≤ (XR X).cells ∧ sb + 3829 ≤ (XR X).slots) : x_Z X (cb + 0) (sb + 0) (x_QF X M0 (.returned (some (vI r))) M' (XR X).cells (XR X).slots) M0 M 7 [(0, .ref v0), (1, .ref v1), (2, .ref v2), (3, .ref v3), (4, vI v4)] 1436 [] := by
  unfold B_L_law_1436 at h
  refine z_aload_n (pc := 1436) C 1 rfl dL_law_1436 ?_
  refine z_aload_n (pc := 1437) C 0 rfl dL_law_1437 ?_
  refine z_iload (pc := 1438) C 4 rfl dL_law_1438 ?_
  refine z_iconst (pc := 1440) C dL_law_1440 ?_
  refine z_iadd (pc := 1441) C dL_law_1441 ?_
  obtain ⟨c406, h⟩ := ifn h
  refine z_sld (pc := 1442) C hv0.1 c406 dL_law_1442 ?_
  refine z_aload_n (pc := 1443) C 0 rfl dL_law_1443 ?_
  refine z_iload (pc := 1444) C 4 rfl dL_law_1444 ?_
  refine z_iconst (pc := 1446) C dL_law_1446 ?_
  refine z_iadd (pc := 1447) C dL_law_1447 ?_
  obtain ⟨c407, h⟩ := ifn h
  refine z_sld (pc := 1448) C hv0.1 c407 dL_law_1448 ?_
  refine z_aload_n (pc := 1449) C 0 rfl dL_law_1449 ?_
  refine z_iload (pc := 1450) C 4 rfl dL_law_1450 ?_
  refine z_iconst (pc := 1452) C dL_law_1452 ?_
  refine z_iadd (pc := 1453) C dL_law_1453 ?_
  obtain ⟨c408, h⟩ := ifn h
  refine z_sld (pc := 1454) C hv0.1 c408 dL_law_1454 ?_
  refine z_aload_n (pc := 1455) C 0 rfl dL_law_1455 ?_
  refine z_iload (pc := 1456) C 4 rfl dL_law_1456 ?_
  refine z_iconst (pc := 1458) C dL_law_1458 ?_
  refine z_iadd (pc := 1459) C dL_law_1459 ?_
  obtain ⟨c409, h⟩ := ifn h
  refine z_sld (pc := 1460) C hv0.1 c409 dL_law_1460 ?_
  refine z_aload_n (pc := 1461) C 3 rfl dL_law_1461 ?_
  obtain ⟨r410, M411, e412, h⟩ := bNs h
  refine cX0_211 (pc := 1462) (st := []) (st1 := [vI r410]) C rfl (rm := { frames := 9, cells := 1, slots := 6, locals := 168 }) (ct_X0_rule C.2.1 v1 ((xs (ixn (v4 + 1))).toInt) ((xs (ixn (v4 + 2))).toInt) ((xs (ixn (v4 + 3))).toInt) ((xs (ixn (v4 + 4))).toInt) v3 M _ _ hv1 hv3 e412) ⟨by decide, by decide, Nat.le_trans (show cb + 1 ≤ cb + 14 from by omega) hR.1, Nat.le_trans (show sb + 6 ≤ sb + 3829 from by omega) hR.2⟩ rfl (Nat.le_of_ble_eq_true rfl) dL_law_1462 (c2 := cb + 1) (s2 := sb + 6) rfl rfl (fun x413 => ?_)
  have k414 := x413 _ 1 (by decide) (Or.inl (by decide)) hv1
  have k415 := x413 _ 5 (by decide) (Or.inl (by decide)) hv2
  have k416 := x413 _ 19000 (by decide) (Or.inr (by decide)) hv3
  refine z_istore (pc := 1465) C (lv' := [(0, .ref v0), (1, .ref v1), (2, .ref v2), (3, .ref v3), (4, vI v4), (5, vI r410)]) (by decide) rfl dL_law_1465 ?_
  refine z_aload_n (pc := 1467) C 2 rfl dL_law_1467 ?_
  refine z_aload_n (pc := 1468) C 0 rfl dL_law_1468 ?_
  refine z_iload (pc := 1469) C 4 rfl dL_law_1469 ?_
  refine z_iconst (pc := 1471) C dL_law_1471 ?_
  refine z_iadd (pc := 1472) C dL_law_1472 ?_
  refine z_sld (pc := 1473) C hv0.1 c406 dL_law_1473 ?_
  refine z_aload_n (pc := 1474) C 0 rfl dL_law_1474 ?_
  refine z_iload (pc := 1475) C 4 rfl dL_law_1475 ?_
  refine z_iconst (pc := 1477) C dL_law_1477 ?_
  refine z_iadd (pc := 1478) C dL_law_1478 ?_
  refine z_sld (pc := 1479) C hv0.1 c407 dL_law_1479 ?_
  refine z_aload_n (pc := 1480) C 0 rfl dL_law_1480 ?_
  refine z_iload (pc := 1481) C 4 rfl dL_law_1481 ?_
  refine z_iconst (pc := 1483) C dL_law_1483 ?_
  refine z_iadd (pc := 1484) C dL_law_1484 ?_
  refine z_sld (pc := 1485) C hv0.1 c408 dL_law_1485 ?_
  refine z_aload_n (pc := 1486) C 0 rfl dL_law_1486 ?_
  refine z_iload (pc := 1487) C 4 rfl dL_law_1487 ?_
  refine z_iconst (pc := 1489) C dL_law_1489 ?_
  refine z_iadd (pc := 1490) C dL_law_1490 ?_
  refine z_sld (pc := 1491) C hv0.1 c409 dL_law_1491 ?_
  obtain ⟨r417, M418, e419, h⟩ := bNs h
  refine cX0_213 (pc := 1492) (st := []) (st1 := [vI r417]) C rfl (rm := { frames := 4, cells := 0, slots := 0, locals := 104 }) (ct_X5_rule C.2.1 v2 ((xs (ixn (v4 + 1))).toInt) ((xs (ixn (v4 + 2))).toInt) ((xs (ixn (v4 + 3))).toInt) ((xs (ixn (v4 + 4))).toInt) M411 _ _ k415 e419) ⟨by decide, by decide, Nat.le_trans (show cb + 1 ≤ cb + 14 from by omega) hR.1, Nat.le_trans (show sb + 6 ≤ sb + 3829 from by omega) hR.2⟩ (Or.inl k415) rfl (Nat.le_of_ble_eq_true rfl) dL_law_1492 (c2 := cb + 1) (s2 := sb + 6) rfl rfl (fun x420 => ?_)
  have k421 := x420 _ 1 (by decide) (Or.inl (by decide)) k414
  have k422 := x420 _ 5 (by decide) (Or.inl (by decide)) k415
  have k423 := x420 _ 19000 (by decide) (Or.inr (by decide)) k416
  refine z_istore (pc := 1495) C (lv' := [(0, .ref v0), (1, .ref v1), (2, .ref v2), (3, .ref v3), (4, vI v4), (5, vI r410), (6, vI r417)]) (by decide) rfl dL_law_1495 ?_
  refine z_aload_n (pc := 1497) C 2 rfl dL_law_1497 ?_
  refine cX0_151 (pc := 1498) (st := []) (st1 := [vI (d_X5_thrown v2 M418)]) C rfl (rm := { frames := 1, cells := 0, slots := 0, locals := 24 }) (ct_X5_thrown C.2.1 v2 M418 _ k422 rfl) ⟨by decide, by decide, Nat.le_trans (show cb + 1 ≤ cb + 14 from by omega) hR.1, Nat.le_trans (show sb + 6 ≤ sb + 3829 from by omega) hR.2⟩ (Or.inl k422) rfl (Nat.le_of_ble_eq_true rfl) dL_law_1498 (c2 := cb + 1) (s2 := sb + 6) rfl rfl (fun _ => ?_)
  refine z_iload (pc := 1501) C 5 rfl dL_law_1501 ?_
  refine z_ic_eq (pc := 1503) C dL_law_1503 (tgt := 1508) (by decide) (fun c425 => ?_) (fun c425 => ?_)
  · have h := itt c425 h
    refine z_iload (pc := 1508) C 5 rfl dL_law_1508 ?_
    refine z_if_ne (pc := 1510) C dL_law_1510 (tgt := 1525) (by decide) (fun c426 => ?_) (fun c426 => ?_)
    · have h := itf c426 h
      refine z_goto (pc := 1525) C dL_law_1525 (tgt := 3074) (by decide) ?_
      exact z_wide (show cb + 1 ≤ cb + 14 from by omega) (show sb + 6 ≤ sb + 3829 from by omega) <| z_lv [0, 1, 2, 3, 4] rfl <| cB_L_law_3074 C hk23 v0 v1 v2 v3 v4 M418 _ _ hv0 k421 k422 k423 h hR
    · have h := itt c426 h
      refine z_aload_n (pc := 1513) C 3 rfl dL_law_1513 ?_
      refine z_iconst (pc := 1514) C dL_law_1514 ?_
      refine z_law (pc := 1515) C k423 (by decide +kernel) dL_law_1515 ?_
      refine z_iload (pc := 1516) C 6 rfl dL_law_1516 ?_
      refine z_i2l (pc := 1518) C dL_law_1518 ?_
      refine z_lc_eq (pc := 1519) C dL_law_1519 dL_law_1520 (tgt := 1525) (by decide) (fun c427 => ?_) (fun c427 => ?_)
      · have h := itt c427 h
        refine z_goto (pc := 1525) C dL_law_1525 (tgt := 3074) (by decide) ?_
        exact z_wide (show cb + 1 ≤ cb + 14 from by omega) (show sb + 6 ≤ sb + 3829 from by omega) <| z_lv [0, 1, 2, 3, 4] rfl <| cB_L_law_3074 C hk23 v0 v1 v2 v3 v4 M418 _ _ hv0 k421 k422 k423 h hR
      · have h := itf c427 h
        refine z_iconst (pc := 1523) C dL_law_1523 ?_
        cases h
        exact z_zret (pc := 1524) C rfl (Or.inl rfl) (Nat.le_trans (show cb + 1 ≤ cb + 14 from by omega) hR.1) (Nat.le_trans (show sb + 6 ≤ sb + 3829 from by omega) hR.2) dL_law_1524
  · have h := itf c425 h
    refine z_iconst (pc := 1506) C dL_law_1506 ?_
    cases h
    exact z_zret (pc := 1507) C rfl (Or.inl rfl) (Nat.le_trans (show cb + 1 ≤ cb + 14 from by omega) hR.1) (Nat.le_trans (show sb + 6 ≤ sb + 3829 from by omega) hR.2) dL_law_1507
theorem cB_L_law_1528 {X : x_Ctx} {M0 : Mem} {L : Nat} {xs : Nat → Int32} {cb sb : Nat} (C : x_CC X 108 3296 yL_law cL_law 7 (some .boolean) []) {k23 : Nat → Nat → Nat → Nat → Int → Mem → Option (Int × Mem)} (hk23 : ∀ (v0 : Nat) (v1 : Nat) (v2 : Nat) (v3 : Nat) (v4 : Int) (M : Mem) (r : Int) (M' : Mem), (va_X v0 L xs (XS X) (XS X).heap ∧ L < 2 ^ 31) → m_kd M v1 = 1 → m_kd M v2 = 5 → m_kd M v3 = 19000 → k23 v0 v1 v2 v3 v4 M = some (r, M') → cb + 14 ≤ (XR X).cells ∧ sb + 3829 ≤ (XR X).slots → x_Z X (cb + 14) (sb + 3829) (x_QF X M0 (.returned (some (vI r))) M' (XR X).cells (XR X).slots) M0 M 7 [(0, .ref v0), (1, .ref v1), (2, .ref v2), (3, .ref v3), (4, vI v4)] 23 []) (v0 : Nat) (v1 : Nat) (v2 : Nat) (v3 : Nat) (v4 : Int) (M : Mem) (r : Int) (M' : Mem) (hv0 : (va_X v0 L xs (XS X) (XS X).heap ∧ L < 2 ^ 31)) (hv1 : m_kd M v1 = 1) (hv2 : m_kd M v2 = 5) (hv3 : m_kd M v3 = 19000) (h : B_L_law_1528 L xs k23 v0 v1 v2 v3 v4 M = some (r, M')) (hR : cb + 14 ≤ (XR X).cells ∧ sb + 3829 ≤ (XR X).slots) : x_Z X (cb + 0) (sb + 0) (x_QF X M0 (.returned (some (vI r))) M' (XR X).cells (XR X).slots) M0 M 7 [(0, .ref v0), (1, .ref v1), (2, .ref v2), (3, .ref v3), (4, vI v4)] 1528 [] := by
  unfold B_L_law_1528 at h
  refine z_aload_n (pc := 1528) C 1 rfl dL_law_1528 ?_
  refine z_aload_n (pc := 1529) C 0 rfl dL_law_1529 ?_
  refine z_iload (pc := 1530) C 4 rfl dL_law_1530 ?_
  refine z_iconst (pc := 1532) C dL_law_1532 ?_
  refine z_iadd (pc := 1533) C dL_law_1533 ?_
  obtain ⟨c429, h⟩ := ifn h
  refine z_sld (pc := 1534) C hv0.1 c429 dL_law_1534 ?_
  refine z_aload_n (pc := 1535) C 0 rfl dL_law_1535 ?_
  refine z_iload (pc := 1536) C 4 rfl dL_law_1536 ?_
  refine z_iconst (pc := 1538) C dL_law_1538 ?_
  refine z_iadd (pc := 1539) C dL_law_1539 ?_
  obtain ⟨c430, h⟩ := ifn h
  refine z_sld (pc := 1540) C hv0.1 c430 dL_law_1540 ?_
  refine z_aload_n (pc := 1541) C 0 rfl dL_law_1541 ?_
  refine z_iload (pc := 1542) C 4 rfl dL_law_1542 ?_
  refine z_iconst (pc := 1544) C dL_law_1544 ?_
  refine z_iadd (pc := 1545) C dL_law_1545 ?_
  obtain ⟨c431, h⟩ := ifn h
  refine z_sld (pc := 1546) C hv0.1 c431 dL_law_1546 ?_
  refine z_aload_n (pc := 1547) C 3 rfl dL_law_1547 ?_
  obtain ⟨r432, M433, e434, h⟩ := bNs h
  refine cX0_214 (pc := 1548) (st := []) (st1 := [vI r432]) C rfl (rm := { frames := 9, cells := 1, slots := 6, locals := 168 }) (ct_X0_cost C.2.1 v1 ((xs (ixn (v4 + 1))).toInt) ((xs (ixn (v4 + 2))).toInt) ((xs (ixn (v4 + 3))).toInt) v3 M _ _ hv1 hv3 e434) ⟨by decide, by decide, Nat.le_trans (show cb + 1 ≤ cb + 14 from by omega) hR.1, Nat.le_trans (show sb + 6 ≤ sb + 3829 from by omega) hR.2⟩ rfl (Nat.le_of_ble_eq_true rfl) dL_law_1548 (c2 := cb + 1) (s2 := sb + 6) rfl rfl (fun x435 => ?_)
  have k436 := x435 _ 1 (by decide) (Or.inl (by decide)) hv1
  have k437 := x435 _ 5 (by decide) (Or.inl (by decide)) hv2
  have k438 := x435 _ 19000 (by decide) (Or.inr (by decide)) hv3
  refine z_istore (pc := 1551) C (lv' := [(0, .ref v0), (1, .ref v1), (2, .ref v2), (3, .ref v3), (4, vI v4), (5, vI r432)]) (by decide) rfl dL_law_1551 ?_
  refine z_aload_n (pc := 1553) C 2 rfl dL_law_1553 ?_
  refine z_aload_n (pc := 1554) C 0 rfl dL_law_1554 ?_
  refine z_iload (pc := 1555) C 4 rfl dL_law_1555 ?_
  refine z_iconst (pc := 1557) C dL_law_1557 ?_
  refine z_iadd (pc := 1558) C dL_law_1558 ?_
  refine z_sld (pc := 1559) C hv0.1 c429 dL_law_1559 ?_
  refine z_aload_n (pc := 1560) C 0 rfl dL_law_1560 ?_
  refine z_iload (pc := 1561) C 4 rfl dL_law_1561 ?_
  refine z_iconst (pc := 1563) C dL_law_1563 ?_
  refine z_iadd (pc := 1564) C dL_law_1564 ?_
  refine z_sld (pc := 1565) C hv0.1 c430 dL_law_1565 ?_
  refine z_aload_n (pc := 1566) C 0 rfl dL_law_1566 ?_
  refine z_iload (pc := 1567) C 4 rfl dL_law_1567 ?_
  refine z_iconst (pc := 1569) C dL_law_1569 ?_
  refine z_iadd (pc := 1570) C dL_law_1570 ?_
  refine z_sld (pc := 1571) C hv0.1 c431 dL_law_1571 ?_
  obtain ⟨r439, M440, e441, h⟩ := bNs h
  refine cX0_216 (pc := 1572) (st := []) (st1 := [vI r439]) C rfl (rm := { frames := 4, cells := 0, slots := 0, locals := 104 }) (ct_X5_cost C.2.1 v2 ((xs (ixn (v4 + 1))).toInt) ((xs (ixn (v4 + 2))).toInt) ((xs (ixn (v4 + 3))).toInt) M433 _ _ k437 e441) ⟨by decide, by decide, Nat.le_trans (show cb + 1 ≤ cb + 14 from by omega) hR.1, Nat.le_trans (show sb + 6 ≤ sb + 3829 from by omega) hR.2⟩ (Or.inl k437) rfl (Nat.le_of_ble_eq_true rfl) dL_law_1572 (c2 := cb + 1) (s2 := sb + 6) rfl rfl (fun x442 => ?_)
  have k443 := x442 _ 1 (by decide) (Or.inl (by decide)) k436
  have k444 := x442 _ 5 (by decide) (Or.inl (by decide)) k437
  have k445 := x442 _ 19000 (by decide) (Or.inr (by decide)) k438
  refine z_istore (pc := 1575) C (lv' := [(0, .ref v0), (1, .ref v1), (2, .ref v2), (3, .ref v3), (4, vI v4), (5, vI r432), (6, vI r439)]) (by decide) rfl dL_law_1575 ?_
  refine z_aload_n (pc := 1577) C 2 rfl dL_law_1577 ?_
  refine cX0_151 (pc := 1578) (st := []) (st1 := [vI (d_X5_thrown v2 M440)]) C rfl (rm := { frames := 1, cells := 0, slots := 0, locals := 24 }) (ct_X5_thrown C.2.1 v2 M440 _ k444 rfl) ⟨by decide, by decide, Nat.le_trans (show cb + 1 ≤ cb + 14 from by omega) hR.1, Nat.le_trans (show sb + 6 ≤ sb + 3829 from by omega) hR.2⟩ (Or.inl k444) rfl (Nat.le_of_ble_eq_true rfl) dL_law_1578 (c2 := cb + 1) (s2 := sb + 6) rfl rfl (fun _ => ?_)
  refine z_iload (pc := 1581) C 5 rfl dL_law_1581 ?_
  refine z_ic_eq (pc := 1583) C dL_law_1583 (tgt := 1588) (by decide) (fun c447 => ?_) (fun c447 => ?_)
  · have h := itt c447 h
    refine z_iload (pc := 1588) C 5 rfl dL_law_1588 ?_
    refine z_if_ne (pc := 1590) C dL_law_1590 (tgt := 1605) (by decide) (fun c448 => ?_) (fun c448 => ?_)
    · have h := itf c448 h
      refine z_goto (pc := 1605) C dL_law_1605 (tgt := 3074) (by decide) ?_
      exact z_wide (show cb + 1 ≤ cb + 14 from by omega) (show sb + 6 ≤ sb + 3829 from by omega) <| z_lv [0, 1, 2, 3, 4] rfl <| cB_L_law_3074 C hk23 v0 v1 v2 v3 v4 M440 _ _ hv0 k443 k444 k445 h hR
    · have h := itt c448 h
      refine z_aload_n (pc := 1593) C 3 rfl dL_law_1593 ?_
      refine z_iconst (pc := 1594) C dL_law_1594 ?_
      refine z_law (pc := 1595) C k445 (by decide +kernel) dL_law_1595 ?_
      refine z_iload (pc := 1596) C 6 rfl dL_law_1596 ?_
      refine z_i2l (pc := 1598) C dL_law_1598 ?_
      refine z_lc_eq (pc := 1599) C dL_law_1599 dL_law_1600 (tgt := 1605) (by decide) (fun c449 => ?_) (fun c449 => ?_)
      · have h := itt c449 h
        refine z_goto (pc := 1605) C dL_law_1605 (tgt := 3074) (by decide) ?_
        exact z_wide (show cb + 1 ≤ cb + 14 from by omega) (show sb + 6 ≤ sb + 3829 from by omega) <| z_lv [0, 1, 2, 3, 4] rfl <| cB_L_law_3074 C hk23 v0 v1 v2 v3 v4 M440 _ _ hv0 k443 k444 k445 h hR
      · have h := itf c449 h
        refine z_iconst (pc := 1603) C dL_law_1603 ?_
        cases h
        exact z_zret (pc := 1604) C rfl (Or.inl rfl) (Nat.le_trans (show cb + 1 ≤ cb + 14 from by omega) hR.1) (Nat.le_trans (show sb + 6 ≤ sb + 3829 from by omega) hR.2) dL_law_1604
  · have h := itf c447 h
    refine z_iconst (pc := 1586) C dL_law_1586 ?_
    cases h
    exact z_zret (pc := 1587) C rfl (Or.inl rfl) (Nat.le_trans (show cb + 1 ≤ cb + 14 from by omega) hR.1) (Nat.le_trans (show sb + 6 ≤ sb + 3829 from by omega) hR.2) dL_law_1587
theorem cB_L_law_1608 {X : x_Ctx} {M0 : Mem} {L : Nat} {xs : Nat → Int32} {cb sb : Nat} (C : x_CC X 108 3296 yL_law cL_law 7 (some .boolean) []) {k23 : Nat → Nat → Nat → Nat → Int → Mem → Option (Int × Mem)} (hk23 : ∀ (v0 : Nat) (v1 : Nat) (v2 : Nat) (v3 : Nat) (v4 : Int) (M : Mem) (r : Int) (M' : Mem), (va_X v0 L xs (XS X) (XS X).heap ∧ L < 2 ^ 31) → m_kd M v1 = 1 → m_kd M v2 = 5 → m_kd M v3 = 19000 → k23 v0 v1 v2 v3 v4 M = some (r, M') → cb + 14 ≤ (XR X).cells ∧ sb + 3829 ≤ (XR X).slots → x_Z X (cb + 14) (sb + 3829) (x_QF X M0 (.returned (some (vI r))) M' (XR X).cells (XR X).slots) M0 M 7 [(0, .ref v0), (1, .ref v1), (2, .ref v2), (3, .ref v3), (4, vI v4)] 23 []) (v0 : Nat) (v1 : Nat) (v2 : Nat) (v3 : Nat) (v4 : Int) (M : Mem) (r : Int) (M' : Mem) (hv0 : (va_X v0 L xs (XS X) (XS X).heap ∧ L < 2 ^ 31)) (hv1 : m_kd M v1 = 1) (hv2 : m_kd M v2 = 5) (hv3 : m_kd M v3 = 19000) (h : B_L_law_1608 L xs k23 v0 v1 v2 v3 v4 M = some (r, M')) (hR : cb + 14 ≤ (XR X).cells ∧ sb + 3829 ≤ (XR X).slots) : x_Z X (cb + 0) (sb + 0) (x_QF X M0 (.returned (some (vI r))) M' (XR X).cells (XR X).slots) M0 M 7 [(0, .ref v0), (1, .ref v1), (2, .ref v2), (3, .ref v3), (4, vI v4)] 1608 [] := by
  unfold B_L_law_1608 at h
  refine z_aload_n (pc := 1608) C 1 rfl dL_law_1608 ?_
  refine z_aload_n (pc := 1609) C 0 rfl dL_law_1609 ?_
  refine z_iload (pc := 1610) C 4 rfl dL_law_1610 ?_
  refine z_iconst (pc := 1612) C dL_law_1612 ?_
  refine z_iadd (pc := 1613) C dL_law_1613 ?_
  obtain ⟨c451, h⟩ := ifn h
  refine z_sld (pc := 1614) C hv0.1 c451 dL_law_1614 ?_
  refine z_aload_n (pc := 1615) C 0 rfl dL_law_1615 ?_
  refine z_iload (pc := 1616) C 4 rfl dL_law_1616 ?_
  refine z_iconst (pc := 1618) C dL_law_1618 ?_
  refine z_iadd (pc := 1619) C dL_law_1619 ?_
  obtain ⟨c452, h⟩ := ifn h
  refine z_sld (pc := 1620) C hv0.1 c452 dL_law_1620 ?_
  refine z_aload_n (pc := 1621) C 3 rfl dL_law_1621 ?_
  obtain ⟨r453, M454, e455, h⟩ := bNs h
  refine cX0_217 (pc := 1622) (st := []) (st1 := [vI r453]) C rfl (rm := { frames := 9, cells := 1, slots := 6, locals := 168 }) (ct_X0_broken C.2.1 v1 ((xs (ixn (v4 + 1))).toInt) ((xs (ixn (v4 + 2))).toInt) v3 M _ _ hv1 hv3 e455) ⟨by decide, by decide, Nat.le_trans (show cb + 1 ≤ cb + 14 from by omega) hR.1, Nat.le_trans (show sb + 6 ≤ sb + 3829 from by omega) hR.2⟩ rfl (Nat.le_of_ble_eq_true rfl) dL_law_1622 (c2 := cb + 1) (s2 := sb + 6) rfl rfl (fun x456 => ?_)
  have k457 := x456 _ 1 (by decide) (Or.inl (by decide)) hv1
  have k458 := x456 _ 5 (by decide) (Or.inl (by decide)) hv2
  have k459 := x456 _ 19000 (by decide) (Or.inr (by decide)) hv3
  refine z_istore (pc := 1625) C (lv' := [(0, .ref v0), (1, .ref v1), (2, .ref v2), (3, .ref v3), (4, vI v4), (5, vI r453)]) (by decide) rfl dL_law_1625 ?_
  refine z_aload_n (pc := 1627) C 2 rfl dL_law_1627 ?_
  refine z_aload_n (pc := 1628) C 0 rfl dL_law_1628 ?_
  refine z_iload (pc := 1629) C 4 rfl dL_law_1629 ?_
  refine z_iconst (pc := 1631) C dL_law_1631 ?_
  refine z_iadd (pc := 1632) C dL_law_1632 ?_
  refine z_sld (pc := 1633) C hv0.1 c451 dL_law_1633 ?_
  refine z_aload_n (pc := 1634) C 0 rfl dL_law_1634 ?_
  refine z_iload (pc := 1635) C 4 rfl dL_law_1635 ?_
  refine z_iconst (pc := 1637) C dL_law_1637 ?_
  refine z_iadd (pc := 1638) C dL_law_1638 ?_
  refine z_sld (pc := 1639) C hv0.1 c452 dL_law_1639 ?_
  obtain ⟨r460, M461, e462, h⟩ := bNs h
  refine cX0_219 (pc := 1640) (st := []) (st1 := [vI r460]) C rfl (rm := { frames := 2, cells := 0, slots := 0, locals := 53 }) (ct_X5_broken C.2.1 v2 ((xs (ixn (v4 + 1))).toInt) ((xs (ixn (v4 + 2))).toInt) M454 _ _ k458 e462) ⟨by decide, by decide, Nat.le_trans (show cb + 1 ≤ cb + 14 from by omega) hR.1, Nat.le_trans (show sb + 6 ≤ sb + 3829 from by omega) hR.2⟩ (Or.inl k458) rfl (Nat.le_of_ble_eq_true rfl) dL_law_1640 (c2 := cb + 1) (s2 := sb + 6) rfl rfl (fun x463 => ?_)
  have k464 := x463 _ 1 (by decide) (Or.inl (by decide)) k457
  have k465 := x463 _ 5 (by decide) (Or.inl (by decide)) k458
  have k466 := x463 _ 19000 (by decide) (Or.inr (by decide)) k459
  refine z_istore (pc := 1643) C (lv' := [(0, .ref v0), (1, .ref v1), (2, .ref v2), (3, .ref v3), (4, vI v4), (5, vI r453), (6, vI r460)]) (by decide) rfl dL_law_1643 ?_
  refine z_aload_n (pc := 1645) C 2 rfl dL_law_1645 ?_
  refine cX0_151 (pc := 1646) (st := []) (st1 := [vI (d_X5_thrown v2 M461)]) C rfl (rm := { frames := 1, cells := 0, slots := 0, locals := 24 }) (ct_X5_thrown C.2.1 v2 M461 _ k465 rfl) ⟨by decide, by decide, Nat.le_trans (show cb + 1 ≤ cb + 14 from by omega) hR.1, Nat.le_trans (show sb + 6 ≤ sb + 3829 from by omega) hR.2⟩ (Or.inl k465) rfl (Nat.le_of_ble_eq_true rfl) dL_law_1646 (c2 := cb + 1) (s2 := sb + 6) rfl rfl (fun _ => ?_)
  refine z_iload (pc := 1649) C 5 rfl dL_law_1649 ?_
  refine z_ic_eq (pc := 1651) C dL_law_1651 (tgt := 1656) (by decide) (fun c468 => ?_) (fun c468 => ?_)
  · have h := itt c468 h
    refine z_iload (pc := 1656) C 5 rfl dL_law_1656 ?_
    refine z_if_ne (pc := 1658) C dL_law_1658 (tgt := 1673) (by decide) (fun c469 => ?_) (fun c469 => ?_)
    · have h := itf c469 h
      refine z_goto (pc := 1673) C dL_law_1673 (tgt := 3074) (by decide) ?_
      exact z_wide (show cb + 1 ≤ cb + 14 from by omega) (show sb + 6 ≤ sb + 3829 from by omega) <| z_lv [0, 1, 2, 3, 4] rfl <| cB_L_law_3074 C hk23 v0 v1 v2 v3 v4 M461 _ _ hv0 k464 k465 k466 h hR
    · have h := itt c469 h
      refine z_aload_n (pc := 1661) C 3 rfl dL_law_1661 ?_
      refine z_iconst (pc := 1662) C dL_law_1662 ?_
      refine z_law (pc := 1663) C k466 (by decide +kernel) dL_law_1663 ?_
      refine z_iload (pc := 1664) C 6 rfl dL_law_1664 ?_
      refine z_i2l (pc := 1666) C dL_law_1666 ?_
      refine z_lc_eq (pc := 1667) C dL_law_1667 dL_law_1668 (tgt := 1673) (by decide) (fun c470 => ?_) (fun c470 => ?_)
      · have h := itt c470 h
        refine z_goto (pc := 1673) C dL_law_1673 (tgt := 3074) (by decide) ?_
        exact z_wide (show cb + 1 ≤ cb + 14 from by omega) (show sb + 6 ≤ sb + 3829 from by omega) <| z_lv [0, 1, 2, 3, 4] rfl <| cB_L_law_3074 C hk23 v0 v1 v2 v3 v4 M461 _ _ hv0 k464 k465 k466 h hR
      · have h := itf c470 h
        refine z_iconst (pc := 1671) C dL_law_1671 ?_
        cases h
        exact z_zret (pc := 1672) C rfl (Or.inl rfl) (Nat.le_trans (show cb + 1 ≤ cb + 14 from by omega) hR.1) (Nat.le_trans (show sb + 6 ≤ sb + 3829 from by omega) hR.2) dL_law_1672
  · have h := itf c468 h
    refine z_iconst (pc := 1654) C dL_law_1654 ?_
    cases h
    exact z_zret (pc := 1655) C rfl (Or.inl rfl) (Nat.le_trans (show cb + 1 ≤ cb + 14 from by omega) hR.1) (Nat.le_trans (show sb + 6 ≤ sb + 3829 from by omega) hR.2) dL_law_1655
theorem cB_L_law_1724 {X : x_Ctx} {M0 : Mem} {L : Nat} {xs : Nat → Int32} {cb sb : Nat} (C : x_CC X 108 3296 yL_law cL_law 7 (some .boolean) []) {k23 : Nat → Nat → Nat → Nat → Int → Mem → Option (Int × Mem)} (hk23 : ∀ (v0 : Nat) (v1 : Nat) (v2 : Nat) (v3 : Nat) (v4 : Int) (M : Mem) (r : Int) (M' : Mem), (va_X v0 L xs (XS X) (XS X).heap ∧ L < 2 ^ 31) → m_kd M v1 = 1 → m_kd M v2 = 5 → m_kd M v3 = 19000 → k23 v0 v1 v2 v3 v4 M = some (r, M') → cb + 14 ≤ (XR X).cells ∧ sb + 3829 ≤ (XR X).slots → x_Z X (cb + 14) (sb + 3829) (x_QF X M0 (.returned (some (vI r))) M' (XR X).cells (XR X).slots) M0 M 7 [(0, .ref v0), (1, .ref v1), (2, .ref v2), (3, .ref v3), (4, vI v4)] 23 []) (v0 : Nat) (v1 : Nat) (v2 : Nat) (v3 : Nat) (v4 : Int) (v5 : Int) (s0 : Nat) (s1 : Int) (s2 : Int) (M : Mem) (r : Int) (M' : Mem) (hv0 : (va_X v0 L xs (XS X) (XS X).heap ∧ L < 2 ^ 31)) (hv1 : m_kd M v1 = 1) (hv2 : m_kd M v2 = 5) (hv3 : m_kd M v3 = 19000) (hs0 : m_kd M s0 = 5) (h : B_L_law_1724 L xs k23 v0 v1 v2 v3 v4 v5 s0 s1 s2 M = some (r, M')) (hR : cb + 14 ≤ (XR X).cells ∧ sb + 3829 ≤ (XR X).slots) : x_Z X (cb + 1) (sb + 6) (x_QF X M0 (.returned (some (vI r))) M' (XR X).cells (XR X).slots) M0 M 7 [(0, .ref v0), (1, .ref v1), (2, .ref v2), (3, .ref v3), (4, vI v4), (5, vI v5)] 1724 [vI s2, vI s1, .ref s0] := by
  unfold B_L_law_1724 at h
  obtain ⟨r485, M486, e487, h⟩ := bNs h
  refine cX0_223 (pc := 1724) (st := []) (st1 := [vI r485]) C rfl (rm := { frames := 4, cells := 0, slots := 0, locals := 116 }) (ct_X5_least C.2.1 s0 s1 s2 M _ _ hs0 e487) ⟨by decide, by decide, Nat.le_trans (show cb + 1 ≤ cb + 14 from by omega) hR.1, Nat.le_trans (show sb + 6 ≤ sb + 3829 from by omega) hR.2⟩ (Or.inl hs0) rfl (Nat.le_of_ble_eq_true rfl) dL_law_1724 (c2 := cb + 1) (s2 := sb + 6) rfl rfl (fun x488 => ?_)
  have k489 := x488 _ 1 (by decide) (Or.inl (by decide)) hv1
  have k490 := x488 _ 5 (by decide) (Or.inl (by decide)) hv2
  have k491 := x488 _ 19000 (by decide) (Or.inr (by decide)) hv3
  refine z_istore (pc := 1727) C (lv' := [(0, .ref v0), (1, .ref v1), (2, .ref v2), (3, .ref v3), (4, vI v4), (5, vI v5), (6, vI r485)]) (by decide) rfl dL_law_1727 ?_
  refine z_aload_n (pc := 1729) C 2 rfl dL_law_1729 ?_
  refine cX0_151 (pc := 1730) (st := []) (st1 := [vI (d_X5_thrown v2 M486)]) C rfl (rm := { frames := 1, cells := 0, slots := 0, locals := 24 }) (ct_X5_thrown C.2.1 v2 M486 _ k490 rfl) ⟨by decide, by decide, Nat.le_trans (show cb + 1 ≤ cb + 14 from by omega) hR.1, Nat.le_trans (show sb + 6 ≤ sb + 3829 from by omega) hR.2⟩ (Or.inl k490) rfl (Nat.le_of_ble_eq_true rfl) dL_law_1730 (c2 := cb + 1) (s2 := sb + 6) rfl rfl (fun _ => ?_)
  refine z_iload (pc := 1733) C 5 rfl dL_law_1733 ?_
  refine z_ic_eq (pc := 1735) C dL_law_1735 (tgt := 1740) (by decide) (fun c493 => ?_) (fun c493 => ?_)
  · have h := itt c493 h
    refine z_iload (pc := 1740) C 5 rfl dL_law_1740 ?_
    refine z_if_ne (pc := 1742) C dL_law_1742 (tgt := 1757) (by decide) (fun c494 => ?_) (fun c494 => ?_)
    · have h := itf c494 h
      refine z_goto (pc := 1757) C dL_law_1757 (tgt := 3074) (by decide) ?_
      exact z_wide (show cb + 1 ≤ cb + 14 from by omega) (show sb + 6 ≤ sb + 3829 from by omega) <| z_lv [0, 1, 2, 3, 4] rfl <| cB_L_law_3074 C hk23 v0 v1 v2 v3 v4 M486 _ _ hv0 k489 k490 k491 h hR
    · have h := itt c494 h
      refine z_aload_n (pc := 1745) C 3 rfl dL_law_1745 ?_
      refine z_iconst (pc := 1746) C dL_law_1746 ?_
      refine z_law (pc := 1747) C k491 (by decide +kernel) dL_law_1747 ?_
      refine z_iload (pc := 1748) C 6 rfl dL_law_1748 ?_
      refine z_i2l (pc := 1750) C dL_law_1750 ?_
      refine z_lc_eq (pc := 1751) C dL_law_1751 dL_law_1752 (tgt := 1757) (by decide) (fun c495 => ?_) (fun c495 => ?_)
      · have h := itt c495 h
        refine z_goto (pc := 1757) C dL_law_1757 (tgt := 3074) (by decide) ?_
        exact z_wide (show cb + 1 ≤ cb + 14 from by omega) (show sb + 6 ≤ sb + 3829 from by omega) <| z_lv [0, 1, 2, 3, 4] rfl <| cB_L_law_3074 C hk23 v0 v1 v2 v3 v4 M486 _ _ hv0 k489 k490 k491 h hR
      · have h := itf c495 h
        refine z_iconst (pc := 1755) C dL_law_1755 ?_
        cases h
        exact z_zret (pc := 1756) C rfl (Or.inl rfl) (Nat.le_trans (show cb + 1 ≤ cb + 14 from by omega) hR.1) (Nat.le_trans (show sb + 6 ≤ sb + 3829 from by omega) hR.2) dL_law_1756
  · have h := itf c493 h
    refine z_iconst (pc := 1738) C dL_law_1738 ?_
    cases h
    exact z_zret (pc := 1739) C rfl (Or.inl rfl) (Nat.le_trans (show cb + 1 ≤ cb + 14 from by omega) hR.1) (Nat.le_trans (show sb + 6 ≤ sb + 3829 from by omega) hR.2) dL_law_1739
theorem cB_L_law_1697 {X : x_Ctx} {M0 : Mem} {L : Nat} {xs : Nat → Int32} {cb sb : Nat} (C : x_CC X 108 3296 yL_law cL_law 7 (some .boolean) []) {k23 : Nat → Nat → Nat → Nat → Int → Mem → Option (Int × Mem)} (hk23 : ∀ (v0 : Nat) (v1 : Nat) (v2 : Nat) (v3 : Nat) (v4 : Int) (M : Mem) (r : Int) (M' : Mem), (va_X v0 L xs (XS X) (XS X).heap ∧ L < 2 ^ 31) → m_kd M v1 = 1 → m_kd M v2 = 5 → m_kd M v3 = 19000 → k23 v0 v1 v2 v3 v4 M = some (r, M') → cb + 14 ≤ (XR X).cells ∧ sb + 3829 ≤ (XR X).slots → x_Z X (cb + 14) (sb + 3829) (x_QF X M0 (.returned (some (vI r))) M' (XR X).cells (XR X).slots) M0 M 7 [(0, .ref v0), (1, .ref v1), (2, .ref v2), (3, .ref v3), (4, vI v4)] 23 []) (v0 : Nat) (v1 : Nat) (v2 : Nat) (v3 : Nat) (v4 : Int) (s0 : Nat) (s1 : Int) (s2 : Int) (M : Mem) (r : Int) (M' : Mem) (hv0 : (va_X v0 L xs (XS X) (XS X).heap ∧ L < 2 ^ 31)) (hv1 : m_kd M v1 = 1) (hv2 : m_kd M v2 = 5) (hv3 : m_kd M v3 = 19000) (hs0 : m_kd M s0 = 1) (h : B_L_law_1697 L xs k23 v0 v1 v2 v3 v4 s0 s1 s2 M = some (r, M')) (hR : cb + 14 ≤ (XR X).cells ∧ sb + 3829 ≤ (XR X).slots) : x_Z X (cb + 0) (sb + 0) (x_QF X M0 (.returned (some (vI r))) M' (XR X).cells (XR X).slots) M0 M 7 [(0, .ref v0), (1, .ref v1), (2, .ref v2), (3, .ref v3), (4, vI v4)] 1697 [vI s2, vI s1, .ref s0] := by
  unfold B_L_law_1697 at h
  refine z_aload_n (pc := 1697) C 3 rfl dL_law_1697 ?_
  obtain ⟨r475, M476, e477, h⟩ := bNs h
  refine cX0_220 (pc := 1698) (st := []) (st1 := [vI r475]) C rfl (rm := { frames := 106, cells := 1, slots := 6, locals := 3265 }) (ct_X0_least C.2.1 s0 s1 s2 v3 M _ _ hs0 hv3 e477) ⟨by decide, by decide, Nat.le_trans (show cb + 1 ≤ cb + 14 from by omega) hR.1, Nat.le_trans (show sb + 6 ≤ sb + 3829 from by omega) hR.2⟩ rfl (Nat.le_of_ble_eq_true rfl) dL_law_1698 (c2 := cb + 1) (s2 := sb + 6) rfl rfl (fun x478 => ?_)
  have k479 := x478 _ 1 (by decide) (Or.inl (by decide)) hv1
  have k480 := x478 _ 5 (by decide) (Or.inl (by decide)) hv2
  have k481 := x478 _ 19000 (by decide) (Or.inr (by decide)) hv3
  refine z_istore (pc := 1701) C (lv' := [(0, .ref v0), (1, .ref v1), (2, .ref v2), (3, .ref v3), (4, vI v4), (5, vI r475)]) (by decide) rfl dL_law_1701 ?_
  refine z_aload_n (pc := 1703) C 2 rfl dL_law_1703 ?_
  refine z_aload_n (pc := 1704) C 0 rfl dL_law_1704 ?_
  refine z_iload (pc := 1705) C 4 rfl dL_law_1705 ?_
  refine z_iconst (pc := 1707) C dL_law_1707 ?_
  refine z_iadd (pc := 1708) C dL_law_1708 ?_
  obtain ⟨c482, h⟩ := ifn h
  refine z_sld (pc := 1709) C hv0.1 c482 dL_law_1709 ?_
  refine z_aload_n (pc := 1710) C 0 rfl dL_law_1710 ?_
  refine z_iload (pc := 1711) C 4 rfl dL_law_1711 ?_
  refine z_iconst (pc := 1713) C dL_law_1713 ?_
  refine z_iadd (pc := 1714) C dL_law_1714 ?_
  obtain ⟨c483, h⟩ := ifn h
  refine z_sld (pc := 1715) C hv0.1 c483 dL_law_1715 ?_
  refine z_if_eq (pc := 1716) C dL_law_1716 (tgt := 1723) (by decide) (fun c484 => ?_) (fun c484 => ?_)
  · have h := itt c484 h
    refine z_iconst (pc := 1723) C dL_law_1723 ?_
    exact cB_L_law_1724 C hk23 v0 v1 v2 v3 v4 r475 v2 ((xs (ixn (v4 + 1))).toInt) 0 M476 _ _ hv0 k479 k480 k481 k480 h hR
  · have h := itf c484 h
    refine z_iconst (pc := 1719) C dL_law_1719 ?_
    refine z_goto (pc := 1720) C dL_law_1720 (tgt := 1724) (by decide) ?_
    exact cB_L_law_1724 C hk23 v0 v1 v2 v3 v4 r475 v2 ((xs (ixn (v4 + 1))).toInt) 1 M476 _ _ hv0 k479 k480 k481 k480 h hR
theorem cB_L_law_1676 {X : x_Ctx} {M0 : Mem} {L : Nat} {xs : Nat → Int32} {cb sb : Nat} (C : x_CC X 108 3296 yL_law cL_law 7 (some .boolean) []) {k23 : Nat → Nat → Nat → Nat → Int → Mem → Option (Int × Mem)} (hk23 : ∀ (v0 : Nat) (v1 : Nat) (v2 : Nat) (v3 : Nat) (v4 : Int) (M : Mem) (r : Int) (M' : Mem), (va_X v0 L xs (XS X) (XS X).heap ∧ L < 2 ^ 31) → m_kd M v1 = 1 → m_kd M v2 = 5 → m_kd M v3 = 19000 → k23 v0 v1 v2 v3 v4 M = some (r, M') → cb + 14 ≤ (XR X).cells ∧ sb + 3829 ≤ (XR X).slots → x_Z X (cb + 14) (sb + 3829) (x_QF X M0 (.returned (some (vI r))) M' (XR X).cells (XR X).slots) M0 M 7 [(0, .ref v0), (1, .ref v1), (2, .ref v2), (3, .ref v3), (4, vI v4)] 23 []) (v0 : Nat) (v1 : Nat) (v2 : Nat) (v3 : Nat) (v4 : Int) (M : Mem) (r : Int) (M' : Mem) (hv0 : (va_X v0 L xs (XS X) (XS X).heap ∧ L < 2 ^ 31)) (hv1 : m_kd M v1 = 1) (hv2 : m_kd M v2 = 5) (hv3 : m_kd M v3 = 19000) (h : B_L_law_1676 L xs k23 v0 v1 v2 v3 v4 M = some (r, M')) (hR : cb + 14 ≤ (XR X).cells ∧ sb + 3829 ≤ (XR X).slots) : x_Z X (cb + 0) (sb + 0) (x_QF X M0 (.returned (some (vI r))) M' (XR X).cells (XR X).slots) M0 M 7 [(0, .ref v0), (1, .ref v1), (2, .ref v2), (3, .ref v3), (4, vI v4)] 1676 [] := by
  unfold B_L_law_1676 at h
  refine z_aload_n (pc := 1676) C 1 rfl dL_law_1676 ?_
  refine z_aload_n (pc := 1677) C 0 rfl dL_law_1677 ?_
  refine z_iload (pc := 1678) C 4 rfl dL_law_1678 ?_
  refine z_iconst (pc := 1680) C dL_law_1680 ?_
  refine z_iadd (pc := 1681) C dL_law_1681 ?_
  obtain ⟨c472, h⟩ := ifn h
  refine z_sld (pc := 1682) C hv0.1 c472 dL_law_1682 ?_
  refine z_aload_n (pc := 1683) C 0 rfl dL_law_1683 ?_
  refine z_iload (pc := 1684) C 4 rfl dL_law_1684 ?_
  refine z_iconst (pc := 1686) C dL_law_1686 ?_
  refine z_iadd (pc := 1687) C dL_law_1687 ?_
  obtain ⟨c473, h⟩ := ifn h
  refine z_sld (pc := 1688) C hv0.1 c473 dL_law_1688 ?_
  refine z_if_eq (pc := 1689) C dL_law_1689 (tgt := 1696) (by decide) (fun c474 => ?_) (fun c474 => ?_)
  · have h := itt c474 h
    refine z_iconst (pc := 1696) C dL_law_1696 ?_
    exact cB_L_law_1697 C hk23 v0 v1 v2 v3 v4 v1 ((xs (ixn (v4 + 1))).toInt) 0 M _ _ hv0 hv1 hv2 hv3 hv1 h hR
  · have h := itf c474 h
    refine z_iconst (pc := 1692) C dL_law_1692 ?_
    refine z_goto (pc := 1693) C dL_law_1693 (tgt := 1697) (by decide) ?_
    exact cB_L_law_1697 C hk23 v0 v1 v2 v3 v4 v1 ((xs (ixn (v4 + 1))).toInt) 1 M _ _ hv0 hv1 hv2 hv3 hv1 h hR
theorem cB_L_law_1760 {X : x_Ctx} {M0 : Mem} {L : Nat} {xs : Nat → Int32} {cb sb : Nat} (C : x_CC X 108 3296 yL_law cL_law 7 (some .boolean) []) {k23 : Nat → Nat → Nat → Nat → Int → Mem → Option (Int × Mem)} (hk23 : ∀ (v0 : Nat) (v1 : Nat) (v2 : Nat) (v3 : Nat) (v4 : Int) (M : Mem) (r : Int) (M' : Mem), (va_X v0 L xs (XS X) (XS X).heap ∧ L < 2 ^ 31) → m_kd M v1 = 1 → m_kd M v2 = 5 → m_kd M v3 = 19000 → k23 v0 v1 v2 v3 v4 M = some (r, M') → cb + 14 ≤ (XR X).cells ∧ sb + 3829 ≤ (XR X).slots → x_Z X (cb + 14) (sb + 3829) (x_QF X M0 (.returned (some (vI r))) M' (XR X).cells (XR X).slots) M0 M 7 [(0, .ref v0), (1, .ref v1), (2, .ref v2), (3, .ref v3), (4, vI v4)] 23 []) (v0 : Nat) (v1 : Nat) (v2 : Nat) (v3 : Nat) (v4 : Int) (M : Mem) (r : Int) (M' : Mem) (hv0 : (va_X v0 L xs (XS X) (XS X).heap ∧ L < 2 ^ 31)) (hv1 : m_kd M v1 = 1) (hv2 : m_kd M v2 = 5) (hv3 : m_kd M v3 = 19000) (h : B_L_law_1760 L xs k23 v0 v1 v2 v3 v4 M = some (r, M')) (hR : cb + 14 ≤ (XR X).cells ∧ sb + 3829 ≤ (XR X).slots) : x_Z X (cb + 0) (sb + 0) (x_QF X M0 (.returned (some (vI r))) M' (XR X).cells (XR X).slots) M0 M 7 [(0, .ref v0), (1, .ref v1), (2, .ref v2), (3, .ref v3), (4, vI v4)] 1760 [] := by
  unfold B_L_law_1760 at h
  refine z_aload_n (pc := 1760) C 1 rfl dL_law_1760 ?_
  refine z_aload_n (pc := 1761) C 0 rfl dL_law_1761 ?_
  refine z_iload (pc := 1762) C 4 rfl dL_law_1762 ?_
  refine z_iconst (pc := 1764) C dL_law_1764 ?_
  refine z_iadd (pc := 1765) C dL_law_1765 ?_
  obtain ⟨c497, h⟩ := ifn h
  refine z_sld (pc := 1766) C hv0.1 c497 dL_law_1766 ?_
  refine z_aload_n (pc := 1767) C 0 rfl dL_law_1767 ?_
  refine z_iload (pc := 1768) C 4 rfl dL_law_1768 ?_
  refine z_iconst (pc := 1770) C dL_law_1770 ?_
  refine z_iadd (pc := 1771) C dL_law_1771 ?_
  obtain ⟨c498, h⟩ := ifn h
  refine z_sld (pc := 1772) C hv0.1 c498 dL_law_1772 ?_
  refine z_aload_n (pc := 1773) C 3 rfl dL_law_1773 ?_
  obtain ⟨r499, M500, e501, h⟩ := bNs h
  refine cX0_224 (pc := 1774) (st := []) (st1 := [vI r499]) C rfl (rm := { frames := 106, cells := 1, slots := 6, locals := 3268 }) (ct_X0_impute C.2.1 v1 ((xs (ixn (v4 + 1))).toInt) ((xs (ixn (v4 + 2))).toInt) v3 M _ _ hv1 hv3 e501) ⟨by decide, by decide, Nat.le_trans (show cb + 1 ≤ cb + 14 from by omega) hR.1, Nat.le_trans (show sb + 6 ≤ sb + 3829 from by omega) hR.2⟩ rfl (Nat.le_of_ble_eq_true rfl) dL_law_1774 (c2 := cb + 1) (s2 := sb + 6) rfl rfl (fun x502 => ?_)
  have k503 := x502 _ 1 (by decide) (Or.inl (by decide)) hv1
  have k504 := x502 _ 5 (by decide) (Or.inl (by decide)) hv2
  have k505 := x502 _ 19000 (by decide) (Or.inr (by decide)) hv3
  refine z_istore (pc := 1777) C (lv' := [(0, .ref v0), (1, .ref v1), (2, .ref v2), (3, .ref v3), (4, vI v4), (5, vI r499)]) (by decide) rfl dL_law_1777 ?_
  refine z_aload_n (pc := 1779) C 2 rfl dL_law_1779 ?_
  refine z_aload_n (pc := 1780) C 0 rfl dL_law_1780 ?_
  refine z_iload (pc := 1781) C 4 rfl dL_law_1781 ?_
  refine z_iconst (pc := 1783) C dL_law_1783 ?_
  refine z_iadd (pc := 1784) C dL_law_1784 ?_
  refine z_sld (pc := 1785) C hv0.1 c497 dL_law_1785 ?_
  refine z_aload_n (pc := 1786) C 0 rfl dL_law_1786 ?_
  refine z_iload (pc := 1787) C 4 rfl dL_law_1787 ?_
  refine z_iconst (pc := 1789) C dL_law_1789 ?_
  refine z_iadd (pc := 1790) C dL_law_1790 ?_
  refine z_sld (pc := 1791) C hv0.1 c498 dL_law_1791 ?_
  obtain ⟨r506, M507, e508, h⟩ := bNs h
  refine cX0_226 (pc := 1792) (st := []) (st1 := [vI r506]) C rfl (rm := { frames := 5, cells := 0, slots := 0, locals := 146 }) (ct_X5_impute C.2.1 v2 ((xs (ixn (v4 + 1))).toInt) ((xs (ixn (v4 + 2))).toInt) M500 _ _ k504 e508) ⟨by decide, by decide, Nat.le_trans (show cb + 1 ≤ cb + 14 from by omega) hR.1, Nat.le_trans (show sb + 6 ≤ sb + 3829 from by omega) hR.2⟩ (Or.inl k504) rfl (Nat.le_of_ble_eq_true rfl) dL_law_1792 (c2 := cb + 1) (s2 := sb + 6) rfl rfl (fun x509 => ?_)
  have k510 := x509 _ 1 (by decide) (Or.inl (by decide)) k503
  have k511 := x509 _ 5 (by decide) (Or.inl (by decide)) k504
  have k512 := x509 _ 19000 (by decide) (Or.inr (by decide)) k505
  refine z_istore (pc := 1795) C (lv' := [(0, .ref v0), (1, .ref v1), (2, .ref v2), (3, .ref v3), (4, vI v4), (5, vI r499), (6, vI r506)]) (by decide) rfl dL_law_1795 ?_
  refine z_aload_n (pc := 1797) C 2 rfl dL_law_1797 ?_
  refine cX0_151 (pc := 1798) (st := []) (st1 := [vI (d_X5_thrown v2 M507)]) C rfl (rm := { frames := 1, cells := 0, slots := 0, locals := 24 }) (ct_X5_thrown C.2.1 v2 M507 _ k511 rfl) ⟨by decide, by decide, Nat.le_trans (show cb + 1 ≤ cb + 14 from by omega) hR.1, Nat.le_trans (show sb + 6 ≤ sb + 3829 from by omega) hR.2⟩ (Or.inl k511) rfl (Nat.le_of_ble_eq_true rfl) dL_law_1798 (c2 := cb + 1) (s2 := sb + 6) rfl rfl (fun _ => ?_)
  refine z_iload (pc := 1801) C 5 rfl dL_law_1801 ?_
  refine z_ic_eq (pc := 1803) C dL_law_1803 (tgt := 1808) (by decide) (fun c514 => ?_) (fun c514 => ?_)
  · have h := itt c514 h
    refine z_iload (pc := 1808) C 5 rfl dL_law_1808 ?_
    refine z_if_ne (pc := 1810) C dL_law_1810 (tgt := 1825) (by decide) (fun c515 => ?_) (fun c515 => ?_)
    · have h := itf c515 h
      refine z_goto (pc := 1825) C dL_law_1825 (tgt := 3074) (by decide) ?_
      exact z_wide (show cb + 1 ≤ cb + 14 from by omega) (show sb + 6 ≤ sb + 3829 from by omega) <| z_lv [0, 1, 2, 3, 4] rfl <| cB_L_law_3074 C hk23 v0 v1 v2 v3 v4 M507 _ _ hv0 k510 k511 k512 h hR
    · have h := itt c515 h
      refine z_aload_n (pc := 1813) C 3 rfl dL_law_1813 ?_
      refine z_iconst (pc := 1814) C dL_law_1814 ?_
      refine z_law (pc := 1815) C k512 (by decide +kernel) dL_law_1815 ?_
      refine z_iload (pc := 1816) C 6 rfl dL_law_1816 ?_
      refine z_i2l (pc := 1818) C dL_law_1818 ?_
      refine z_lc_eq (pc := 1819) C dL_law_1819 dL_law_1820 (tgt := 1825) (by decide) (fun c516 => ?_) (fun c516 => ?_)
      · have h := itt c516 h
        refine z_goto (pc := 1825) C dL_law_1825 (tgt := 3074) (by decide) ?_
        exact z_wide (show cb + 1 ≤ cb + 14 from by omega) (show sb + 6 ≤ sb + 3829 from by omega) <| z_lv [0, 1, 2, 3, 4] rfl <| cB_L_law_3074 C hk23 v0 v1 v2 v3 v4 M507 _ _ hv0 k510 k511 k512 h hR
      · have h := itf c516 h
        refine z_iconst (pc := 1823) C dL_law_1823 ?_
        cases h
        exact z_zret (pc := 1824) C rfl (Or.inl rfl) (Nat.le_trans (show cb + 1 ≤ cb + 14 from by omega) hR.1) (Nat.le_trans (show sb + 6 ≤ sb + 3829 from by omega) hR.2) dL_law_1824
  · have h := itf c514 h
    refine z_iconst (pc := 1806) C dL_law_1806 ?_
    cases h
    exact z_zret (pc := 1807) C rfl (Or.inl rfl) (Nat.le_trans (show cb + 1 ≤ cb + 14 from by omega) hR.1) (Nat.le_trans (show sb + 6 ≤ sb + 3829 from by omega) hR.2) dL_law_1807
theorem cB_L_law_1828 {X : x_Ctx} {M0 : Mem} {L : Nat} {xs : Nat → Int32} {cb sb : Nat} (C : x_CC X 108 3296 yL_law cL_law 7 (some .boolean) []) {k23 : Nat → Nat → Nat → Nat → Int → Mem → Option (Int × Mem)} (hk23 : ∀ (v0 : Nat) (v1 : Nat) (v2 : Nat) (v3 : Nat) (v4 : Int) (M : Mem) (r : Int) (M' : Mem), (va_X v0 L xs (XS X) (XS X).heap ∧ L < 2 ^ 31) → m_kd M v1 = 1 → m_kd M v2 = 5 → m_kd M v3 = 19000 → k23 v0 v1 v2 v3 v4 M = some (r, M') → cb + 14 ≤ (XR X).cells ∧ sb + 3829 ≤ (XR X).slots → x_Z X (cb + 14) (sb + 3829) (x_QF X M0 (.returned (some (vI r))) M' (XR X).cells (XR X).slots) M0 M 7 [(0, .ref v0), (1, .ref v1), (2, .ref v2), (3, .ref v3), (4, vI v4)] 23 []) (v0 : Nat) (v1 : Nat) (v2 : Nat) (v3 : Nat) (v4 : Int) (M : Mem) (r : Int) (M' : Mem) (hv0 : (va_X v0 L xs (XS X) (XS X).heap ∧ L < 2 ^ 31)) (hv1 : m_kd M v1 = 1) (hv2 : m_kd M v2 = 5) (hv3 : m_kd M v3 = 19000) (h : B_L_law_1828 L xs k23 v0 v1 v2 v3 v4 M = some (r, M')) (hR : cb + 14 ≤ (XR X).cells ∧ sb + 3829 ≤ (XR X).slots) : x_Z X (cb + 0) (sb + 0) (x_QF X M0 (.returned (some (vI r))) M' (XR X).cells (XR X).slots) M0 M 7 [(0, .ref v0), (1, .ref v1), (2, .ref v2), (3, .ref v3), (4, vI v4)] 1828 [] := by
  unfold B_L_law_1828 at h
  refine z_aload_n (pc := 1828) C 1 rfl dL_law_1828 ?_
  refine z_aload_n (pc := 1829) C 0 rfl dL_law_1829 ?_
  refine z_iload (pc := 1830) C 4 rfl dL_law_1830 ?_
  refine z_iconst (pc := 1832) C dL_law_1832 ?_
  refine z_iadd (pc := 1833) C dL_law_1833 ?_
  obtain ⟨c518, h⟩ := ifn h
  refine z_sld (pc := 1834) C hv0.1 c518 dL_law_1834 ?_
  refine z_aload_n (pc := 1835) C 0 rfl dL_law_1835 ?_
  refine z_iload (pc := 1836) C 4 rfl dL_law_1836 ?_
  refine z_iconst (pc := 1838) C dL_law_1838 ?_
  refine z_iadd (pc := 1839) C dL_law_1839 ?_
  obtain ⟨c519, h⟩ := ifn h
  refine z_sld (pc := 1840) C hv0.1 c519 dL_law_1840 ?_
  refine z_aload_n (pc := 1841) C 0 rfl dL_law_1841 ?_
  refine z_iload (pc := 1842) C 4 rfl dL_law_1842 ?_
  refine z_iconst (pc := 1844) C dL_law_1844 ?_
  refine z_iadd (pc := 1845) C dL_law_1845 ?_
  obtain ⟨c520, h⟩ := ifn h
  refine z_sld (pc := 1846) C hv0.1 c520 dL_law_1846 ?_
  refine z_aload_n (pc := 1847) C 0 rfl dL_law_1847 ?_
  refine z_iload (pc := 1848) C 4 rfl dL_law_1848 ?_
  refine z_iconst (pc := 1850) C dL_law_1850 ?_
  refine z_iadd (pc := 1851) C dL_law_1851 ?_
  obtain ⟨c521, h⟩ := ifn h
  refine z_sld (pc := 1852) C hv0.1 c521 dL_law_1852 ?_
  refine z_aload_n (pc := 1853) C 0 rfl dL_law_1853 ?_
  refine z_iload (pc := 1854) C 4 rfl dL_law_1854 ?_
  refine z_iconst (pc := 1856) C dL_law_1856 ?_
  refine z_iadd (pc := 1857) C dL_law_1857 ?_
  obtain ⟨c522, h⟩ := ifn h
  refine z_sld (pc := 1858) C hv0.1 c522 dL_law_1858 ?_
  refine z_aload_n (pc := 1859) C 0 rfl dL_law_1859 ?_
  refine z_iload (pc := 1860) C 4 rfl dL_law_1860 ?_
  refine z_bipush (pc := 1862) C (by decide +kernel) dL_law_1862 ?_
  refine z_iadd (pc := 1864) C dL_law_1864 ?_
  obtain ⟨c523, h⟩ := ifn h
  refine z_sld (pc := 1865) C hv0.1 c523 dL_law_1865 ?_
  refine z_aload_n (pc := 1866) C 3 rfl dL_law_1866 ?_
  obtain ⟨r524, M525, e526, h⟩ := bNs h
  refine cX0_227 (pc := 1867) (st := []) (st1 := [vI r524]) C rfl (rm := { frames := 9, cells := 4, slots := 303, locals := 173 }) (ct_X0_sample C.2.1 v1 ((xs (ixn (v4 + 1))).toInt) ((xs (ixn (v4 + 2))).toInt) ((xs (ixn (v4 + 3))).toInt) ((xs (ixn (v4 + 4))).toInt) ((xs (ixn (v4 + 5))).toInt) ((xs (ixn (v4 + 6))).toInt) v3 M _ _ hv1 hv3 e526) ⟨by decide, by decide, Nat.le_trans (show cb + 4 ≤ cb + 14 from by omega) hR.1, Nat.le_trans (show sb + 303 ≤ sb + 3829 from by omega) hR.2⟩ rfl (Nat.le_of_ble_eq_true rfl) dL_law_1867 (c2 := cb + 4) (s2 := sb + 303) rfl rfl (fun x527 => ?_)
  have k528 := x527 _ 1 (by decide) (Or.inl (by decide)) hv1
  have k529 := x527 _ 5 (by decide) (Or.inl (by decide)) hv2
  have k530 := x527 _ 19000 (by decide) (Or.inr (by decide)) hv3
  refine z_istore (pc := 1870) C (lv' := [(0, .ref v0), (1, .ref v1), (2, .ref v2), (3, .ref v3), (4, vI v4), (5, vI r524)]) (by decide) rfl dL_law_1870 ?_
  refine z_aload_n (pc := 1872) C 2 rfl dL_law_1872 ?_
  refine z_aload_n (pc := 1873) C 0 rfl dL_law_1873 ?_
  refine z_iload (pc := 1874) C 4 rfl dL_law_1874 ?_
  refine z_iconst (pc := 1876) C dL_law_1876 ?_
  refine z_iadd (pc := 1877) C dL_law_1877 ?_
  refine z_sld (pc := 1878) C hv0.1 c518 dL_law_1878 ?_
  refine z_aload_n (pc := 1879) C 0 rfl dL_law_1879 ?_
  refine z_iload (pc := 1880) C 4 rfl dL_law_1880 ?_
  refine z_iconst (pc := 1882) C dL_law_1882 ?_
  refine z_iadd (pc := 1883) C dL_law_1883 ?_
  refine z_sld (pc := 1884) C hv0.1 c519 dL_law_1884 ?_
  refine z_aload_n (pc := 1885) C 0 rfl dL_law_1885 ?_
  refine z_iload (pc := 1886) C 4 rfl dL_law_1886 ?_
  refine z_iconst (pc := 1888) C dL_law_1888 ?_
  refine z_iadd (pc := 1889) C dL_law_1889 ?_
  refine z_sld (pc := 1890) C hv0.1 c520 dL_law_1890 ?_
  refine z_aload_n (pc := 1891) C 0 rfl dL_law_1891 ?_
  refine z_iload (pc := 1892) C 4 rfl dL_law_1892 ?_
  refine z_iconst (pc := 1894) C dL_law_1894 ?_
  refine z_iadd (pc := 1895) C dL_law_1895 ?_
  refine z_sld (pc := 1896) C hv0.1 c521 dL_law_1896 ?_
  refine z_aload_n (pc := 1897) C 0 rfl dL_law_1897 ?_
  refine z_iload (pc := 1898) C 4 rfl dL_law_1898 ?_
  refine z_iconst (pc := 1900) C dL_law_1900 ?_
  refine z_iadd (pc := 1901) C dL_law_1901 ?_
  refine z_sld (pc := 1902) C hv0.1 c522 dL_law_1902 ?_
  refine z_aload_n (pc := 1903) C 0 rfl dL_law_1903 ?_
  refine z_iload (pc := 1904) C 4 rfl dL_law_1904 ?_
  refine z_bipush (pc := 1906) C (by decide +kernel) dL_law_1906 ?_
  refine z_iadd (pc := 1908) C dL_law_1908 ?_
  refine z_sld (pc := 1909) C hv0.1 c523 dL_law_1909 ?_
  obtain ⟨r531, M532, e533, h⟩ := bNs h
  refine cX0_230 (pc := 1910) (st := []) (st1 := [vI r531]) C rfl (rm := { frames := 3, cells := 0, slots := 0, locals := 82 }) (ct_X5_sample C.2.1 v2 ((xs (ixn (v4 + 1))).toInt) ((xs (ixn (v4 + 2))).toInt) ((xs (ixn (v4 + 3))).toInt) ((xs (ixn (v4 + 4))).toInt) ((xs (ixn (v4 + 5))).toInt) ((xs (ixn (v4 + 6))).toInt) M525 _ _ k529 e533) ⟨by decide, by decide, Nat.le_trans (show cb + 4 ≤ cb + 14 from by omega) hR.1, Nat.le_trans (show sb + 303 ≤ sb + 3829 from by omega) hR.2⟩ (Or.inl k529) rfl (Nat.le_of_ble_eq_true rfl) dL_law_1910 (c2 := cb + 4) (s2 := sb + 303) rfl rfl (fun x534 => ?_)
  have k535 := x534 _ 1 (by decide) (Or.inl (by decide)) k528
  have k536 := x534 _ 5 (by decide) (Or.inl (by decide)) k529
  have k537 := x534 _ 19000 (by decide) (Or.inr (by decide)) k530
  refine z_istore (pc := 1913) C (lv' := [(0, .ref v0), (1, .ref v1), (2, .ref v2), (3, .ref v3), (4, vI v4), (5, vI r524), (6, vI r531)]) (by decide) rfl dL_law_1913 ?_
  refine z_aload_n (pc := 1915) C 2 rfl dL_law_1915 ?_
  refine cX0_151 (pc := 1916) (st := []) (st1 := [vI (d_X5_thrown v2 M532)]) C rfl (rm := { frames := 1, cells := 0, slots := 0, locals := 24 }) (ct_X5_thrown C.2.1 v2 M532 _ k536 rfl) ⟨by decide, by decide, Nat.le_trans (show cb + 4 ≤ cb + 14 from by omega) hR.1, Nat.le_trans (show sb + 303 ≤ sb + 3829 from by omega) hR.2⟩ (Or.inl k536) rfl (Nat.le_of_ble_eq_true rfl) dL_law_1916 (c2 := cb + 4) (s2 := sb + 303) rfl rfl (fun _ => ?_)
  refine z_iload (pc := 1919) C 5 rfl dL_law_1919 ?_
  refine z_ic_eq (pc := 1921) C dL_law_1921 (tgt := 1926) (by decide) (fun c539 => ?_) (fun c539 => ?_)
  · have h := itt c539 h
    refine z_iload (pc := 1926) C 5 rfl dL_law_1926 ?_
    refine z_if_ne (pc := 1928) C dL_law_1928 (tgt := 1943) (by decide) (fun c540 => ?_) (fun c540 => ?_)
    · have h := itf c540 h
      refine z_goto (pc := 1943) C dL_law_1943 (tgt := 3074) (by decide) ?_
      exact z_wide (show cb + 4 ≤ cb + 14 from by omega) (show sb + 303 ≤ sb + 3829 from by omega) <| z_lv [0, 1, 2, 3, 4] rfl <| cB_L_law_3074 C hk23 v0 v1 v2 v3 v4 M532 _ _ hv0 k535 k536 k537 h hR
    · have h := itt c540 h
      refine z_aload_n (pc := 1931) C 3 rfl dL_law_1931 ?_
      refine z_iconst (pc := 1932) C dL_law_1932 ?_
      refine z_law (pc := 1933) C k537 (by decide +kernel) dL_law_1933 ?_
      refine z_iload (pc := 1934) C 6 rfl dL_law_1934 ?_
      refine z_i2l (pc := 1936) C dL_law_1936 ?_
      refine z_lc_eq (pc := 1937) C dL_law_1937 dL_law_1938 (tgt := 1943) (by decide) (fun c541 => ?_) (fun c541 => ?_)
      · have h := itt c541 h
        refine z_goto (pc := 1943) C dL_law_1943 (tgt := 3074) (by decide) ?_
        exact z_wide (show cb + 4 ≤ cb + 14 from by omega) (show sb + 303 ≤ sb + 3829 from by omega) <| z_lv [0, 1, 2, 3, 4] rfl <| cB_L_law_3074 C hk23 v0 v1 v2 v3 v4 M532 _ _ hv0 k535 k536 k537 h hR
      · have h := itf c541 h
        refine z_iconst (pc := 1941) C dL_law_1941 ?_
        cases h
        exact z_zret (pc := 1942) C rfl (Or.inl rfl) (Nat.le_trans (show cb + 4 ≤ cb + 14 from by omega) hR.1) (Nat.le_trans (show sb + 303 ≤ sb + 3829 from by omega) hR.2) dL_law_1942
  · have h := itf c539 h
    refine z_iconst (pc := 1924) C dL_law_1924 ?_
    cases h
    exact z_zret (pc := 1925) C rfl (Or.inl rfl) (Nat.le_trans (show cb + 4 ≤ cb + 14 from by omega) hR.1) (Nat.le_trans (show sb + 303 ≤ sb + 3829 from by omega) hR.2) dL_law_1925
theorem cB_L_law_1946 {X : x_Ctx} {M0 : Mem} {L : Nat} {xs : Nat → Int32} {cb sb : Nat} (C : x_CC X 108 3296 yL_law cL_law 7 (some .boolean) []) {k23 : Nat → Nat → Nat → Nat → Int → Mem → Option (Int × Mem)} (hk23 : ∀ (v0 : Nat) (v1 : Nat) (v2 : Nat) (v3 : Nat) (v4 : Int) (M : Mem) (r : Int) (M' : Mem), (va_X v0 L xs (XS X) (XS X).heap ∧ L < 2 ^ 31) → m_kd M v1 = 1 → m_kd M v2 = 5 → m_kd M v3 = 19000 → k23 v0 v1 v2 v3 v4 M = some (r, M') → cb + 14 ≤ (XR X).cells ∧ sb + 3829 ≤ (XR X).slots → x_Z X (cb + 14) (sb + 3829) (x_QF X M0 (.returned (some (vI r))) M' (XR X).cells (XR X).slots) M0 M 7 [(0, .ref v0), (1, .ref v1), (2, .ref v2), (3, .ref v3), (4, vI v4)] 23 []) (v0 : Nat) (v1 : Nat) (v2 : Nat) (v3 : Nat) (v4 : Int) (M : Mem) (r : Int) (M' : Mem) (hv0 : (va_X v0 L xs (XS X) (XS X).heap ∧ L < 2 ^ 31)) (hv1 : m_kd M v1 = 1) (hv2 : m_kd M v2 = 5) (hv3 : m_kd M v3 = 19000) (h : B_L_law_1946 L xs k23 v0 v1 v2 v3 v4 M = some (r, M')) (hR : cb + 14 ≤ (XR X).cells ∧ sb + 3829 ≤ (XR X).slots) : x_Z X (cb + 0) (sb + 0) (x_QF X M0 (.returned (some (vI r))) M' (XR X).cells (XR X).slots) M0 M 7 [(0, .ref v0), (1, .ref v1), (2, .ref v2), (3, .ref v3), (4, vI v4)] 1946 [] := by
  unfold B_L_law_1946 at h
  refine z_aload_n (pc := 1946) C 1 rfl dL_law_1946 ?_
  refine z_aload_n (pc := 1947) C 0 rfl dL_law_1947 ?_
  refine z_iload (pc := 1948) C 4 rfl dL_law_1948 ?_
  refine z_iconst (pc := 1950) C dL_law_1950 ?_
  refine z_iadd (pc := 1951) C dL_law_1951 ?_
  obtain ⟨c543, h⟩ := ifn h
  refine z_sld (pc := 1952) C hv0.1 c543 dL_law_1952 ?_
  refine z_aload_n (pc := 1953) C 0 rfl dL_law_1953 ?_
  refine z_iload (pc := 1954) C 4 rfl dL_law_1954 ?_
  refine z_iconst (pc := 1956) C dL_law_1956 ?_
  refine z_iadd (pc := 1957) C dL_law_1957 ?_
  obtain ⟨c544, h⟩ := ifn h
  refine z_sld (pc := 1958) C hv0.1 c544 dL_law_1958 ?_
  refine z_aload_n (pc := 1959) C 3 rfl dL_law_1959 ?_
  obtain ⟨r545, M546, e547, h⟩ := bNs h
  refine cX0_231 (pc := 1960) (st := []) (st1 := [vI r545]) C rfl (rm := { frames := 9, cells := 1, slots := 6, locals := 168 }) (ct_X0_drawn C.2.1 v1 ((xs (ixn (v4 + 1))).toInt) ((xs (ixn (v4 + 2))).toInt) v3 M _ _ hv1 hv3 e547) ⟨by decide, by decide, Nat.le_trans (show cb + 1 ≤ cb + 14 from by omega) hR.1, Nat.le_trans (show sb + 6 ≤ sb + 3829 from by omega) hR.2⟩ rfl (Nat.le_of_ble_eq_true rfl) dL_law_1960 (c2 := cb + 1) (s2 := sb + 6) rfl rfl (fun x548 => ?_)
  have k549 := x548 _ 1 (by decide) (Or.inl (by decide)) hv1
  have k550 := x548 _ 5 (by decide) (Or.inl (by decide)) hv2
  have k551 := x548 _ 19000 (by decide) (Or.inr (by decide)) hv3
  refine z_istore (pc := 1963) C (lv' := [(0, .ref v0), (1, .ref v1), (2, .ref v2), (3, .ref v3), (4, vI v4), (5, vI r545)]) (by decide) rfl dL_law_1963 ?_
  refine z_aload_n (pc := 1965) C 2 rfl dL_law_1965 ?_
  refine z_aload_n (pc := 1966) C 0 rfl dL_law_1966 ?_
  refine z_iload (pc := 1967) C 4 rfl dL_law_1967 ?_
  refine z_iconst (pc := 1969) C dL_law_1969 ?_
  refine z_iadd (pc := 1970) C dL_law_1970 ?_
  refine z_sld (pc := 1971) C hv0.1 c543 dL_law_1971 ?_
  refine z_aload_n (pc := 1972) C 0 rfl dL_law_1972 ?_
  refine z_iload (pc := 1973) C 4 rfl dL_law_1973 ?_
  refine z_iconst (pc := 1975) C dL_law_1975 ?_
  refine z_iadd (pc := 1976) C dL_law_1976 ?_
  refine z_sld (pc := 1977) C hv0.1 c544 dL_law_1977 ?_
  obtain ⟨r552, M553, e554, h⟩ := bNs h
  refine cX0_233 (pc := 1978) (st := []) (st1 := [vI r552]) C rfl (rm := { frames := 3, cells := 0, slots := 0, locals := 78 }) (ct_X5_drawn C.2.1 v2 ((xs (ixn (v4 + 1))).toInt) ((xs (ixn (v4 + 2))).toInt) M546 _ _ k550 e554) ⟨by decide, by decide, Nat.le_trans (show cb + 1 ≤ cb + 14 from by omega) hR.1, Nat.le_trans (show sb + 6 ≤ sb + 3829 from by omega) hR.2⟩ (Or.inl k550) rfl (Nat.le_of_ble_eq_true rfl) dL_law_1978 (c2 := cb + 1) (s2 := sb + 6) rfl rfl (fun x555 => ?_)
  have k556 := x555 _ 1 (by decide) (Or.inl (by decide)) k549
  have k557 := x555 _ 5 (by decide) (Or.inl (by decide)) k550
  have k558 := x555 _ 19000 (by decide) (Or.inr (by decide)) k551
  refine z_istore (pc := 1981) C (lv' := [(0, .ref v0), (1, .ref v1), (2, .ref v2), (3, .ref v3), (4, vI v4), (5, vI r545), (6, vI r552)]) (by decide) rfl dL_law_1981 ?_
  refine z_aload_n (pc := 1983) C 2 rfl dL_law_1983 ?_
  refine cX0_151 (pc := 1984) (st := []) (st1 := [vI (d_X5_thrown v2 M553)]) C rfl (rm := { frames := 1, cells := 0, slots := 0, locals := 24 }) (ct_X5_thrown C.2.1 v2 M553 _ k557 rfl) ⟨by decide, by decide, Nat.le_trans (show cb + 1 ≤ cb + 14 from by omega) hR.1, Nat.le_trans (show sb + 6 ≤ sb + 3829 from by omega) hR.2⟩ (Or.inl k557) rfl (Nat.le_of_ble_eq_true rfl) dL_law_1984 (c2 := cb + 1) (s2 := sb + 6) rfl rfl (fun _ => ?_)
  refine z_iload (pc := 1987) C 5 rfl dL_law_1987 ?_
  refine z_ic_eq (pc := 1989) C dL_law_1989 (tgt := 1994) (by decide) (fun c560 => ?_) (fun c560 => ?_)
  · have h := itt c560 h
    refine z_iload (pc := 1994) C 5 rfl dL_law_1994 ?_
    refine z_if_ne (pc := 1996) C dL_law_1996 (tgt := 2011) (by decide) (fun c561 => ?_) (fun c561 => ?_)
    · have h := itf c561 h
      refine z_goto (pc := 2011) C dL_law_2011 (tgt := 3074) (by decide) ?_
      exact z_wide (show cb + 1 ≤ cb + 14 from by omega) (show sb + 6 ≤ sb + 3829 from by omega) <| z_lv [0, 1, 2, 3, 4] rfl <| cB_L_law_3074 C hk23 v0 v1 v2 v3 v4 M553 _ _ hv0 k556 k557 k558 h hR
    · have h := itt c561 h
      refine z_aload_n (pc := 1999) C 3 rfl dL_law_1999 ?_
      refine z_iconst (pc := 2000) C dL_law_2000 ?_
      refine z_law (pc := 2001) C k558 (by decide +kernel) dL_law_2001 ?_
      refine z_iload (pc := 2002) C 6 rfl dL_law_2002 ?_
      refine z_i2l (pc := 2004) C dL_law_2004 ?_
      refine z_lc_eq (pc := 2005) C dL_law_2005 dL_law_2006 (tgt := 2011) (by decide) (fun c562 => ?_) (fun c562 => ?_)
      · have h := itt c562 h
        refine z_goto (pc := 2011) C dL_law_2011 (tgt := 3074) (by decide) ?_
        exact z_wide (show cb + 1 ≤ cb + 14 from by omega) (show sb + 6 ≤ sb + 3829 from by omega) <| z_lv [0, 1, 2, 3, 4] rfl <| cB_L_law_3074 C hk23 v0 v1 v2 v3 v4 M553 _ _ hv0 k556 k557 k558 h hR
      · have h := itf c562 h
        refine z_iconst (pc := 2009) C dL_law_2009 ?_
        cases h
        exact z_zret (pc := 2010) C rfl (Or.inl rfl) (Nat.le_trans (show cb + 1 ≤ cb + 14 from by omega) hR.1) (Nat.le_trans (show sb + 6 ≤ sb + 3829 from by omega) hR.2) dL_law_2010
  · have h := itf c560 h
    refine z_iconst (pc := 1992) C dL_law_1992 ?_
    cases h
    exact z_zret (pc := 1993) C rfl (Or.inl rfl) (Nat.le_trans (show cb + 1 ≤ cb + 14 from by omega) hR.1) (Nat.le_trans (show sb + 6 ≤ sb + 3829 from by omega) hR.2) dL_law_1993
theorem cB_L_law_2074 {X : x_Ctx} {M0 : Mem} {L : Nat} {xs : Nat → Int32} {cb sb : Nat} (C : x_CC X 108 3296 yL_law cL_law 7 (some .boolean) []) {k23 : Nat → Nat → Nat → Nat → Int → Mem → Option (Int × Mem)} (hk23 : ∀ (v0 : Nat) (v1 : Nat) (v2 : Nat) (v3 : Nat) (v4 : Int) (M : Mem) (r : Int) (M' : Mem), (va_X v0 L xs (XS X) (XS X).heap ∧ L < 2 ^ 31) → m_kd M v1 = 1 → m_kd M v2 = 5 → m_kd M v3 = 19000 → k23 v0 v1 v2 v3 v4 M = some (r, M') → cb + 14 ≤ (XR X).cells ∧ sb + 3829 ≤ (XR X).slots → x_Z X (cb + 14) (sb + 3829) (x_QF X M0 (.returned (some (vI r))) M' (XR X).cells (XR X).slots) M0 M 7 [(0, .ref v0), (1, .ref v1), (2, .ref v2), (3, .ref v3), (4, vI v4)] 23 []) (v0 : Nat) (v1 : Nat) (v2 : Nat) (v3 : Nat) (v4 : Int) (v5 : Int) (s0 : Nat) (s1 : Int) (s2 : Int) (s3 : Int) (M : Mem) (r : Int) (M' : Mem) (hv0 : (va_X v0 L xs (XS X) (XS X).heap ∧ L < 2 ^ 31)) (hv1 : m_kd M v1 = 1) (hv2 : m_kd M v2 = 5) (hv3 : m_kd M v3 = 19000) (hs0 : m_kd M s0 = 5) (h : B_L_law_2074 L xs k23 v0 v1 v2 v3 v4 v5 s0 s1 s2 s3 M = some (r, M')) (hR : cb + 14 ≤ (XR X).cells ∧ sb + 3829 ≤ (XR X).slots) : x_Z X (cb + 1) (sb + 6) (x_QF X M0 (.returned (some (vI r))) M' (XR X).cells (XR X).slots) M0 M 7 [(0, .ref v0), (1, .ref v1), (2, .ref v2), (3, .ref v3), (4, vI v4), (5, vI v5)] 2074 [vI s3, vI s2, vI s1, .ref s0] := by
  unfold B_L_law_2074 at h
  obtain ⟨r579, M580, e581, h⟩ := bNs h
  refine cX0_236 (pc := 2074) (st := []) (st1 := [vI r579]) C rfl (rm := { frames := 3, cells := 0, slots := 0, locals := 78 }) (ct_X5_chance C.2.1 s0 s1 s2 s3 M _ _ hs0 e581) ⟨by decide, by decide, Nat.le_trans (show cb + 1 ≤ cb + 14 from by omega) hR.1, Nat.le_trans (show sb + 6 ≤ sb + 3829 from by omega) hR.2⟩ (Or.inl hs0) rfl (Nat.le_of_ble_eq_true rfl) dL_law_2074 (c2 := cb + 1) (s2 := sb + 6) rfl rfl (fun x582 => ?_)
  have k583 := x582 _ 1 (by decide) (Or.inl (by decide)) hv1
  have k584 := x582 _ 5 (by decide) (Or.inl (by decide)) hv2
  have k585 := x582 _ 19000 (by decide) (Or.inr (by decide)) hv3
  refine z_istore (pc := 2077) C (lv' := [(0, .ref v0), (1, .ref v1), (2, .ref v2), (3, .ref v3), (4, vI v4), (5, vI v5), (6, vI r579)]) (by decide) rfl dL_law_2077 ?_
  refine z_aload_n (pc := 2079) C 2 rfl dL_law_2079 ?_
  refine cX0_151 (pc := 2080) (st := []) (st1 := [vI (d_X5_thrown v2 M580)]) C rfl (rm := { frames := 1, cells := 0, slots := 0, locals := 24 }) (ct_X5_thrown C.2.1 v2 M580 _ k584 rfl) ⟨by decide, by decide, Nat.le_trans (show cb + 1 ≤ cb + 14 from by omega) hR.1, Nat.le_trans (show sb + 6 ≤ sb + 3829 from by omega) hR.2⟩ (Or.inl k584) rfl (Nat.le_of_ble_eq_true rfl) dL_law_2080 (c2 := cb + 1) (s2 := sb + 6) rfl rfl (fun _ => ?_)
  refine z_iload (pc := 2083) C 5 rfl dL_law_2083 ?_
  refine z_ic_eq (pc := 2085) C dL_law_2085 (tgt := 2090) (by decide) (fun c587 => ?_) (fun c587 => ?_)
  · have h := itt c587 h
    refine z_iload (pc := 2090) C 5 rfl dL_law_2090 ?_
    refine z_if_ne (pc := 2092) C dL_law_2092 (tgt := 2107) (by decide) (fun c588 => ?_) (fun c588 => ?_)
    · have h := itf c588 h
      refine z_goto (pc := 2107) C dL_law_2107 (tgt := 3074) (by decide) ?_
      exact z_wide (show cb + 1 ≤ cb + 14 from by omega) (show sb + 6 ≤ sb + 3829 from by omega) <| z_lv [0, 1, 2, 3, 4] rfl <| cB_L_law_3074 C hk23 v0 v1 v2 v3 v4 M580 _ _ hv0 k583 k584 k585 h hR
    · have h := itt c588 h
      refine z_aload_n (pc := 2095) C 3 rfl dL_law_2095 ?_
      refine z_iconst (pc := 2096) C dL_law_2096 ?_
      refine z_law (pc := 2097) C k585 (by decide +kernel) dL_law_2097 ?_
      refine z_iload (pc := 2098) C 6 rfl dL_law_2098 ?_
      refine z_i2l (pc := 2100) C dL_law_2100 ?_
      refine z_lc_eq (pc := 2101) C dL_law_2101 dL_law_2102 (tgt := 2107) (by decide) (fun c589 => ?_) (fun c589 => ?_)
      · have h := itt c589 h
        refine z_goto (pc := 2107) C dL_law_2107 (tgt := 3074) (by decide) ?_
        exact z_wide (show cb + 1 ≤ cb + 14 from by omega) (show sb + 6 ≤ sb + 3829 from by omega) <| z_lv [0, 1, 2, 3, 4] rfl <| cB_L_law_3074 C hk23 v0 v1 v2 v3 v4 M580 _ _ hv0 k583 k584 k585 h hR
      · have h := itf c589 h
        refine z_iconst (pc := 2105) C dL_law_2105 ?_
        cases h
        exact z_zret (pc := 2106) C rfl (Or.inl rfl) (Nat.le_trans (show cb + 1 ≤ cb + 14 from by omega) hR.1) (Nat.le_trans (show sb + 6 ≤ sb + 3829 from by omega) hR.2) dL_law_2106
  · have h := itf c587 h
    refine z_iconst (pc := 2088) C dL_law_2088 ?_
    cases h
    exact z_zret (pc := 2089) C rfl (Or.inl rfl) (Nat.le_trans (show cb + 1 ≤ cb + 14 from by omega) hR.1) (Nat.le_trans (show sb + 6 ≤ sb + 3829 from by omega) hR.2) dL_law_2089
theorem cB_L_law_2041 {X : x_Ctx} {M0 : Mem} {L : Nat} {xs : Nat → Int32} {cb sb : Nat} (C : x_CC X 108 3296 yL_law cL_law 7 (some .boolean) []) {k23 : Nat → Nat → Nat → Nat → Int → Mem → Option (Int × Mem)} (hk23 : ∀ (v0 : Nat) (v1 : Nat) (v2 : Nat) (v3 : Nat) (v4 : Int) (M : Mem) (r : Int) (M' : Mem), (va_X v0 L xs (XS X) (XS X).heap ∧ L < 2 ^ 31) → m_kd M v1 = 1 → m_kd M v2 = 5 → m_kd M v3 = 19000 → k23 v0 v1 v2 v3 v4 M = some (r, M') → cb + 14 ≤ (XR X).cells ∧ sb + 3829 ≤ (XR X).slots → x_Z X (cb + 14) (sb + 3829) (x_QF X M0 (.returned (some (vI r))) M' (XR X).cells (XR X).slots) M0 M 7 [(0, .ref v0), (1, .ref v1), (2, .ref v2), (3, .ref v3), (4, vI v4)] 23 []) (v0 : Nat) (v1 : Nat) (v2 : Nat) (v3 : Nat) (v4 : Int) (s0 : Nat) (s1 : Int) (s2 : Int) (s3 : Int) (M : Mem) (r : Int) (M' : Mem) (hv0 : (va_X v0 L xs (XS X) (XS X).heap ∧ L < 2 ^ 31)) (hv1 : m_kd M v1 = 1) (hv2 : m_kd M v2 = 5) (hv3 : m_kd M v3 = 19000) (hs0 : m_kd M s0 = 1) (h : B_L_law_2041 L xs k23 v0 v1 v2 v3 v4 s0 s1 s2 s3 M = some (r, M')) (hR : cb + 14 ≤ (XR X).cells ∧ sb + 3829 ≤ (XR X).slots) : x_Z X (cb + 0) (sb + 0) (x_QF X M0 (.returned (some (vI r))) M' (XR X).cells (XR X).slots) M0 M 7 [(0, .ref v0), (1, .ref v1), (2, .ref v2), (3, .ref v3), (4, vI v4)] 2041 [vI s3, vI s2, vI s1, .ref s0] := by
  unfold B_L_law_2041 at h
  refine z_aload_n (pc := 2041) C 3 rfl dL_law_2041 ?_
  obtain ⟨r568, M569, e570, h⟩ := bNs h
  refine cX0_234 (pc := 2042) (st := []) (st1 := [vI r568]) C rfl (rm := { frames := 9, cells := 1, slots := 6, locals := 167 }) (ct_X0_chance C.2.1 s0 s1 s2 s3 v3 M _ _ hs0 hv3 e570) ⟨by decide, by decide, Nat.le_trans (show cb + 1 ≤ cb + 14 from by omega) hR.1, Nat.le_trans (show sb + 6 ≤ sb + 3829 from by omega) hR.2⟩ rfl (Nat.le_of_ble_eq_true rfl) dL_law_2042 (c2 := cb + 1) (s2 := sb + 6) rfl rfl (fun x571 => ?_)
  have k572 := x571 _ 1 (by decide) (Or.inl (by decide)) hv1
  have k573 := x571 _ 5 (by decide) (Or.inl (by decide)) hv2
  have k574 := x571 _ 19000 (by decide) (Or.inr (by decide)) hv3
  refine z_istore (pc := 2045) C (lv' := [(0, .ref v0), (1, .ref v1), (2, .ref v2), (3, .ref v3), (4, vI v4), (5, vI r568)]) (by decide) rfl dL_law_2045 ?_
  refine z_aload_n (pc := 2047) C 2 rfl dL_law_2047 ?_
  refine z_aload_n (pc := 2048) C 0 rfl dL_law_2048 ?_
  refine z_iload (pc := 2049) C 4 rfl dL_law_2049 ?_
  refine z_iconst (pc := 2051) C dL_law_2051 ?_
  refine z_iadd (pc := 2052) C dL_law_2052 ?_
  obtain ⟨c575, h⟩ := ifn h
  refine z_sld (pc := 2053) C hv0.1 c575 dL_law_2053 ?_
  refine z_aload_n (pc := 2054) C 0 rfl dL_law_2054 ?_
  refine z_iload (pc := 2055) C 4 rfl dL_law_2055 ?_
  refine z_iconst (pc := 2057) C dL_law_2057 ?_
  refine z_iadd (pc := 2058) C dL_law_2058 ?_
  obtain ⟨c576, h⟩ := ifn h
  refine z_sld (pc := 2059) C hv0.1 c576 dL_law_2059 ?_
  refine z_aload_n (pc := 2060) C 0 rfl dL_law_2060 ?_
  refine z_iload (pc := 2061) C 4 rfl dL_law_2061 ?_
  refine z_iconst (pc := 2063) C dL_law_2063 ?_
  refine z_iadd (pc := 2064) C dL_law_2064 ?_
  obtain ⟨c577, h⟩ := ifn h
  refine z_sld (pc := 2065) C hv0.1 c577 dL_law_2065 ?_
  refine z_if_eq (pc := 2066) C dL_law_2066 (tgt := 2073) (by decide) (fun c578 => ?_) (fun c578 => ?_)
  · have h := itt c578 h
    refine z_iconst (pc := 2073) C dL_law_2073 ?_
    exact cB_L_law_2074 C hk23 v0 v1 v2 v3 v4 r568 v2 ((xs (ixn (v4 + 1))).toInt) ((xs (ixn (v4 + 2))).toInt) 0 M569 _ _ hv0 k572 k573 k574 k573 h hR
  · have h := itf c578 h
    refine z_iconst (pc := 2069) C dL_law_2069 ?_
    refine z_goto (pc := 2070) C dL_law_2070 (tgt := 2074) (by decide) ?_
    exact cB_L_law_2074 C hk23 v0 v1 v2 v3 v4 r568 v2 ((xs (ixn (v4 + 1))).toInt) ((xs (ixn (v4 + 2))).toInt) 1 M569 _ _ hv0 k572 k573 k574 k573 h hR
theorem cB_L_law_2014 {X : x_Ctx} {M0 : Mem} {L : Nat} {xs : Nat → Int32} {cb sb : Nat} (C : x_CC X 108 3296 yL_law cL_law 7 (some .boolean) []) {k23 : Nat → Nat → Nat → Nat → Int → Mem → Option (Int × Mem)} (hk23 : ∀ (v0 : Nat) (v1 : Nat) (v2 : Nat) (v3 : Nat) (v4 : Int) (M : Mem) (r : Int) (M' : Mem), (va_X v0 L xs (XS X) (XS X).heap ∧ L < 2 ^ 31) → m_kd M v1 = 1 → m_kd M v2 = 5 → m_kd M v3 = 19000 → k23 v0 v1 v2 v3 v4 M = some (r, M') → cb + 14 ≤ (XR X).cells ∧ sb + 3829 ≤ (XR X).slots → x_Z X (cb + 14) (sb + 3829) (x_QF X M0 (.returned (some (vI r))) M' (XR X).cells (XR X).slots) M0 M 7 [(0, .ref v0), (1, .ref v1), (2, .ref v2), (3, .ref v3), (4, vI v4)] 23 []) (v0 : Nat) (v1 : Nat) (v2 : Nat) (v3 : Nat) (v4 : Int) (M : Mem) (r : Int) (M' : Mem) (hv0 : (va_X v0 L xs (XS X) (XS X).heap ∧ L < 2 ^ 31)) (hv1 : m_kd M v1 = 1) (hv2 : m_kd M v2 = 5) (hv3 : m_kd M v3 = 19000) (h : B_L_law_2014 L xs k23 v0 v1 v2 v3 v4 M = some (r, M')) (hR : cb + 14 ≤ (XR X).cells ∧ sb + 3829 ≤ (XR X).slots) : x_Z X (cb + 0) (sb + 0) (x_QF X M0 (.returned (some (vI r))) M' (XR X).cells (XR X).slots) M0 M 7 [(0, .ref v0), (1, .ref v1), (2, .ref v2), (3, .ref v3), (4, vI v4)] 2014 [] := by
  unfold B_L_law_2014 at h
  refine z_aload_n (pc := 2014) C 1 rfl dL_law_2014 ?_
  refine z_aload_n (pc := 2015) C 0 rfl dL_law_2015 ?_
  refine z_iload (pc := 2016) C 4 rfl dL_law_2016 ?_
  refine z_iconst (pc := 2018) C dL_law_2018 ?_
  refine z_iadd (pc := 2019) C dL_law_2019 ?_
  obtain ⟨c564, h⟩ := ifn h
  refine z_sld (pc := 2020) C hv0.1 c564 dL_law_2020 ?_
  refine z_aload_n (pc := 2021) C 0 rfl dL_law_2021 ?_
  refine z_iload (pc := 2022) C 4 rfl dL_law_2022 ?_
  refine z_iconst (pc := 2024) C dL_law_2024 ?_
  refine z_iadd (pc := 2025) C dL_law_2025 ?_
  obtain ⟨c565, h⟩ := ifn h
  refine z_sld (pc := 2026) C hv0.1 c565 dL_law_2026 ?_
  refine z_aload_n (pc := 2027) C 0 rfl dL_law_2027 ?_
  refine z_iload (pc := 2028) C 4 rfl dL_law_2028 ?_
  refine z_iconst (pc := 2030) C dL_law_2030 ?_
  refine z_iadd (pc := 2031) C dL_law_2031 ?_
  obtain ⟨c566, h⟩ := ifn h
  refine z_sld (pc := 2032) C hv0.1 c566 dL_law_2032 ?_
  refine z_if_eq (pc := 2033) C dL_law_2033 (tgt := 2040) (by decide) (fun c567 => ?_) (fun c567 => ?_)
  · have h := itt c567 h
    refine z_iconst (pc := 2040) C dL_law_2040 ?_
    exact cB_L_law_2041 C hk23 v0 v1 v2 v3 v4 v1 ((xs (ixn (v4 + 1))).toInt) ((xs (ixn (v4 + 2))).toInt) 0 M _ _ hv0 hv1 hv2 hv3 hv1 h hR
  · have h := itf c567 h
    refine z_iconst (pc := 2036) C dL_law_2036 ?_
    refine z_goto (pc := 2037) C dL_law_2037 (tgt := 2041) (by decide) ?_
    exact cB_L_law_2041 C hk23 v0 v1 v2 v3 v4 v1 ((xs (ixn (v4 + 1))).toInt) ((xs (ixn (v4 + 2))).toInt) 1 M _ _ hv0 hv1 hv2 hv3 hv1 h hR
theorem cB_L_law_2110 {X : x_Ctx} {M0 : Mem} {L : Nat} {xs : Nat → Int32} {cb sb : Nat} (C : x_CC X 108 3296 yL_law cL_law 7 (some .boolean) []) {k23 : Nat → Nat → Nat → Nat → Int → Mem → Option (Int × Mem)} (hk23 : ∀ (v0 : Nat) (v1 : Nat) (v2 : Nat) (v3 : Nat) (v4 : Int) (M : Mem) (r : Int) (M' : Mem), (va_X v0 L xs (XS X) (XS X).heap ∧ L < 2 ^ 31) → m_kd M v1 = 1 → m_kd M v2 = 5 → m_kd M v3 = 19000 → k23 v0 v1 v2 v3 v4 M = some (r, M') → cb + 14 ≤ (XR X).cells ∧ sb + 3829 ≤ (XR X).slots → x_Z X (cb + 14) (sb + 3829) (x_QF X M0 (.returned (some (vI r))) M' (XR X).cells (XR X).slots) M0 M 7 [(0, .ref v0), (1, .ref v1), (2, .ref v2), (3, .ref v3), (4, vI v4)] 23 []) (v0 : Nat) (v1 : Nat) (v2 : Nat) (v3 : Nat) (v4 : Int) (M : Mem) (r : Int) (M' : Mem) (hv0 : (va_X v0 L xs (XS X) (XS X).heap ∧ L < 2 ^ 31)) (hv1 : m_kd M v1 = 1) (hv2 : m_kd M v2 = 5) (hv3 : m_kd M v3 = 19000) (h : B_L_law_2110 L xs k23 v0 v1 v2 v3 v4 M = some (r, M')) (hR : cb + 14 ≤ (XR X).cells ∧ sb + 3829 ≤ (XR X).slots) : x_Z X (cb + 0) (sb + 0) (x_QF X M0 (.returned (some (vI r))) M' (XR X).cells (XR X).slots) M0 M 7 [(0, .ref v0), (1, .ref v1), (2, .ref v2), (3, .ref v3), (4, vI v4)] 2110 [] := by
  unfold B_L_law_2110 at h
  refine z_aload_n (pc := 2110) C 1 rfl dL_law_2110 ?_
  refine z_aload_n (pc := 2111) C 0 rfl dL_law_2111 ?_
  refine z_iload (pc := 2112) C 4 rfl dL_law_2112 ?_
  refine z_iconst (pc := 2114) C dL_law_2114 ?_
  refine z_iadd (pc := 2115) C dL_law_2115 ?_
  obtain ⟨c591, h⟩ := ifn h
  refine z_sld (pc := 2116) C hv0.1 c591 dL_law_2116 ?_
  refine z_aload_n (pc := 2117) C 0 rfl dL_law_2117 ?_
  refine z_iload (pc := 2118) C 4 rfl dL_law_2118 ?_
  refine z_iconst (pc := 2120) C dL_law_2120 ?_
  refine z_iadd (pc := 2121) C dL_law_2121 ?_
  obtain ⟨c592, h⟩ := ifn h
  refine z_sld (pc := 2122) C hv0.1 c592 dL_law_2122 ?_
  refine z_aload_n (pc := 2123) C 3 rfl dL_law_2123 ?_
  obtain ⟨r593, M594, e595, h⟩ := bNs h
  refine cX0_237 (pc := 2124) (st := []) (st1 := [vI r593]) C rfl (rm := { frames := 9, cells := 1, slots := 6, locals := 169 }) (ct_X0_overlap C.2.1 v1 ((xs (ixn (v4 + 1))).toInt) ((xs (ixn (v4 + 2))).toInt) v3 M _ _ hv1 hv3 e595) ⟨by decide, by decide, Nat.le_trans (show cb + 1 ≤ cb + 14 from by omega) hR.1, Nat.le_trans (show sb + 6 ≤ sb + 3829 from by omega) hR.2⟩ rfl (Nat.le_of_ble_eq_true rfl) dL_law_2124 (c2 := cb + 1) (s2 := sb + 6) rfl rfl (fun x596 => ?_)
  have k597 := x596 _ 1 (by decide) (Or.inl (by decide)) hv1
  have k598 := x596 _ 5 (by decide) (Or.inl (by decide)) hv2
  have k599 := x596 _ 19000 (by decide) (Or.inr (by decide)) hv3
  refine z_istore (pc := 2127) C (lv' := [(0, .ref v0), (1, .ref v1), (2, .ref v2), (3, .ref v3), (4, vI v4), (5, vI r593)]) (by decide) rfl dL_law_2127 ?_
  refine z_aload_n (pc := 2129) C 2 rfl dL_law_2129 ?_
  refine z_aload_n (pc := 2130) C 0 rfl dL_law_2130 ?_
  refine z_iload (pc := 2131) C 4 rfl dL_law_2131 ?_
  refine z_iconst (pc := 2133) C dL_law_2133 ?_
  refine z_iadd (pc := 2134) C dL_law_2134 ?_
  refine z_sld (pc := 2135) C hv0.1 c591 dL_law_2135 ?_
  refine z_aload_n (pc := 2136) C 0 rfl dL_law_2136 ?_
  refine z_iload (pc := 2137) C 4 rfl dL_law_2137 ?_
  refine z_iconst (pc := 2139) C dL_law_2139 ?_
  refine z_iadd (pc := 2140) C dL_law_2140 ?_
  refine z_sld (pc := 2141) C hv0.1 c592 dL_law_2141 ?_
  obtain ⟨r600, M601, e602, h⟩ := bNs h
  refine cX0_239 (pc := 2142) (st := []) (st1 := [vI r600]) C rfl (rm := { frames := 3, cells := 0, slots := 0, locals := 78 }) (ct_X5_overlap C.2.1 v2 ((xs (ixn (v4 + 1))).toInt) ((xs (ixn (v4 + 2))).toInt) M594 _ _ k598 e602) ⟨by decide, by decide, Nat.le_trans (show cb + 1 ≤ cb + 14 from by omega) hR.1, Nat.le_trans (show sb + 6 ≤ sb + 3829 from by omega) hR.2⟩ (Or.inl k598) rfl (Nat.le_of_ble_eq_true rfl) dL_law_2142 (c2 := cb + 1) (s2 := sb + 6) rfl rfl (fun x603 => ?_)
  have k604 := x603 _ 1 (by decide) (Or.inl (by decide)) k597
  have k605 := x603 _ 5 (by decide) (Or.inl (by decide)) k598
  have k606 := x603 _ 19000 (by decide) (Or.inr (by decide)) k599
  refine z_istore (pc := 2145) C (lv' := [(0, .ref v0), (1, .ref v1), (2, .ref v2), (3, .ref v3), (4, vI v4), (5, vI r593), (6, vI r600)]) (by decide) rfl dL_law_2145 ?_
  refine z_aload_n (pc := 2147) C 2 rfl dL_law_2147 ?_
  refine cX0_151 (pc := 2148) (st := []) (st1 := [vI (d_X5_thrown v2 M601)]) C rfl (rm := { frames := 1, cells := 0, slots := 0, locals := 24 }) (ct_X5_thrown C.2.1 v2 M601 _ k605 rfl) ⟨by decide, by decide, Nat.le_trans (show cb + 1 ≤ cb + 14 from by omega) hR.1, Nat.le_trans (show sb + 6 ≤ sb + 3829 from by omega) hR.2⟩ (Or.inl k605) rfl (Nat.le_of_ble_eq_true rfl) dL_law_2148 (c2 := cb + 1) (s2 := sb + 6) rfl rfl (fun _ => ?_)
  refine z_iload (pc := 2151) C 5 rfl dL_law_2151 ?_
  refine z_ic_eq (pc := 2153) C dL_law_2153 (tgt := 2158) (by decide) (fun c608 => ?_) (fun c608 => ?_)
  · have h := itt c608 h
    refine z_iload (pc := 2158) C 5 rfl dL_law_2158 ?_
    refine z_if_ne (pc := 2160) C dL_law_2160 (tgt := 2175) (by decide) (fun c609 => ?_) (fun c609 => ?_)
    · have h := itf c609 h
      refine z_goto (pc := 2175) C dL_law_2175 (tgt := 3074) (by decide) ?_
      exact z_wide (show cb + 1 ≤ cb + 14 from by omega) (show sb + 6 ≤ sb + 3829 from by omega) <| z_lv [0, 1, 2, 3, 4] rfl <| cB_L_law_3074 C hk23 v0 v1 v2 v3 v4 M601 _ _ hv0 k604 k605 k606 h hR
    · have h := itt c609 h
      refine z_aload_n (pc := 2163) C 3 rfl dL_law_2163 ?_
      refine z_iconst (pc := 2164) C dL_law_2164 ?_
      refine z_law (pc := 2165) C k606 (by decide +kernel) dL_law_2165 ?_
      refine z_iload (pc := 2166) C 6 rfl dL_law_2166 ?_
      refine z_i2l (pc := 2168) C dL_law_2168 ?_
      refine z_lc_eq (pc := 2169) C dL_law_2169 dL_law_2170 (tgt := 2175) (by decide) (fun c610 => ?_) (fun c610 => ?_)
      · have h := itt c610 h
        refine z_goto (pc := 2175) C dL_law_2175 (tgt := 3074) (by decide) ?_
        exact z_wide (show cb + 1 ≤ cb + 14 from by omega) (show sb + 6 ≤ sb + 3829 from by omega) <| z_lv [0, 1, 2, 3, 4] rfl <| cB_L_law_3074 C hk23 v0 v1 v2 v3 v4 M601 _ _ hv0 k604 k605 k606 h hR
      · have h := itf c610 h
        refine z_iconst (pc := 2173) C dL_law_2173 ?_
        cases h
        exact z_zret (pc := 2174) C rfl (Or.inl rfl) (Nat.le_trans (show cb + 1 ≤ cb + 14 from by omega) hR.1) (Nat.le_trans (show sb + 6 ≤ sb + 3829 from by omega) hR.2) dL_law_2174
  · have h := itf c608 h
    refine z_iconst (pc := 2156) C dL_law_2156 ?_
    cases h
    exact z_zret (pc := 2157) C rfl (Or.inl rfl) (Nat.le_trans (show cb + 1 ≤ cb + 14 from by omega) hR.1) (Nat.le_trans (show sb + 6 ≤ sb + 3829 from by omega) hR.2) dL_law_2157
theorem cB_L_law_2178 {X : x_Ctx} {M0 : Mem} {L : Nat} {xs : Nat → Int32} {cb sb : Nat} (C : x_CC X 108 3296 yL_law cL_law 7 (some .boolean) []) {k23 : Nat → Nat → Nat → Nat → Int → Mem → Option (Int × Mem)} (hk23 : ∀ (v0 : Nat) (v1 : Nat) (v2 : Nat) (v3 : Nat) (v4 : Int) (M : Mem) (r : Int) (M' : Mem), (va_X v0 L xs (XS X) (XS X).heap ∧ L < 2 ^ 31) → m_kd M v1 = 1 → m_kd M v2 = 5 → m_kd M v3 = 19000 → k23 v0 v1 v2 v3 v4 M = some (r, M') → cb + 14 ≤ (XR X).cells ∧ sb + 3829 ≤ (XR X).slots → x_Z X (cb + 14) (sb + 3829) (x_QF X M0 (.returned (some (vI r))) M' (XR X).cells (XR X).slots) M0 M 7 [(0, .ref v0), (1, .ref v1), (2, .ref v2), (3, .ref v3), (4, vI v4)] 23 []) (v0 : Nat) (v1 : Nat) (v2 : Nat) (v3 : Nat) (v4 : Int) (M : Mem) (r : Int) (M' : Mem) (hv0 : (va_X v0 L xs (XS X) (XS X).heap ∧ L < 2 ^ 31)) (hv1 : m_kd M v1 = 1) (hv2 : m_kd M v2 = 5) (hv3 : m_kd M v3 = 19000) (h : B_L_law_2178 L xs k23 v0 v1 v2 v3 v4 M = some (r, M')) (hR : cb + 14 ≤ (XR X).cells ∧ sb + 3829 ≤ (XR X).slots) : x_Z X (cb + 0) (sb + 0) (x_QF X M0 (.returned (some (vI r))) M' (XR X).cells (XR X).slots) M0 M 7 [(0, .ref v0), (1, .ref v1), (2, .ref v2), (3, .ref v3), (4, vI v4)] 2178 [] := by
  unfold B_L_law_2178 at h
  refine z_aload_n (pc := 2178) C 1 rfl dL_law_2178 ?_
  refine z_aload_n (pc := 2179) C 0 rfl dL_law_2179 ?_
  refine z_iload (pc := 2180) C 4 rfl dL_law_2180 ?_
  refine z_iconst (pc := 2182) C dL_law_2182 ?_
  refine z_iadd (pc := 2183) C dL_law_2183 ?_
  obtain ⟨c612, h⟩ := ifn h
  refine z_sld (pc := 2184) C hv0.1 c612 dL_law_2184 ?_
  refine z_aload_n (pc := 2185) C 0 rfl dL_law_2185 ?_
  refine z_iload (pc := 2186) C 4 rfl dL_law_2186 ?_
  refine z_iconst (pc := 2188) C dL_law_2188 ?_
  refine z_iadd (pc := 2189) C dL_law_2189 ?_
  obtain ⟨c613, h⟩ := ifn h
  refine z_sld (pc := 2190) C hv0.1 c613 dL_law_2190 ?_
  refine z_aload_n (pc := 2191) C 0 rfl dL_law_2191 ?_
  refine z_iload (pc := 2192) C 4 rfl dL_law_2192 ?_
  refine z_iconst (pc := 2194) C dL_law_2194 ?_
  refine z_iadd (pc := 2195) C dL_law_2195 ?_
  obtain ⟨c614, h⟩ := ifn h
  refine z_sld (pc := 2196) C hv0.1 c614 dL_law_2196 ?_
  refine z_aload_n (pc := 2197) C 0 rfl dL_law_2197 ?_
  refine z_iload (pc := 2198) C 4 rfl dL_law_2198 ?_
  refine z_iconst (pc := 2200) C dL_law_2200 ?_
  refine z_iadd (pc := 2201) C dL_law_2201 ?_
  obtain ⟨c615, h⟩ := ifn h
  refine z_sld (pc := 2202) C hv0.1 c615 dL_law_2202 ?_
  refine z_aload_n (pc := 2203) C 0 rfl dL_law_2203 ?_
  refine z_iload (pc := 2204) C 4 rfl dL_law_2204 ?_
  refine z_iconst (pc := 2206) C dL_law_2206 ?_
  refine z_iadd (pc := 2207) C dL_law_2207 ?_
  obtain ⟨c616, h⟩ := ifn h
  refine z_sld (pc := 2208) C hv0.1 c616 dL_law_2208 ?_
  refine z_aload_n (pc := 2209) C 3 rfl dL_law_2209 ?_
  obtain ⟨r617, M618, e619, h⟩ := bNs h
  refine cX0_240 (pc := 2210) (st := []) (st1 := [vI r617]) C rfl (rm := { frames := 9, cells := 5, slots := 56, locals := 174 }) (ct_X0_table C.2.1 v1 ((xs (ixn (v4 + 1))).toInt) ((xs (ixn (v4 + 2))).toInt) ((xs (ixn (v4 + 3))).toInt) ((xs (ixn (v4 + 4))).toInt) ((xs (ixn (v4 + 5))).toInt) v3 M _ _ hv1 hv3 e619) ⟨by decide, by decide, Nat.le_trans (show cb + 5 ≤ cb + 14 from by omega) hR.1, Nat.le_trans (show sb + 56 ≤ sb + 3829 from by omega) hR.2⟩ rfl (Nat.le_of_ble_eq_true rfl) dL_law_2210 (c2 := cb + 5) (s2 := sb + 56) rfl rfl (fun x620 => ?_)
  have k621 := x620 _ 1 (by decide) (Or.inl (by decide)) hv1
  have k622 := x620 _ 5 (by decide) (Or.inl (by decide)) hv2
  have k623 := x620 _ 19000 (by decide) (Or.inr (by decide)) hv3
  refine z_istore (pc := 2213) C (lv' := [(0, .ref v0), (1, .ref v1), (2, .ref v2), (3, .ref v3), (4, vI v4), (5, vI r617)]) (by decide) rfl dL_law_2213 ?_
  refine z_aload_n (pc := 2215) C 2 rfl dL_law_2215 ?_
  refine z_aload_n (pc := 2216) C 0 rfl dL_law_2216 ?_
  refine z_iload (pc := 2217) C 4 rfl dL_law_2217 ?_
  refine z_iconst (pc := 2219) C dL_law_2219 ?_
  refine z_iadd (pc := 2220) C dL_law_2220 ?_
  refine z_sld (pc := 2221) C hv0.1 c612 dL_law_2221 ?_
  refine z_aload_n (pc := 2222) C 0 rfl dL_law_2222 ?_
  refine z_iload (pc := 2223) C 4 rfl dL_law_2223 ?_
  refine z_iconst (pc := 2225) C dL_law_2225 ?_
  refine z_iadd (pc := 2226) C dL_law_2226 ?_
  refine z_sld (pc := 2227) C hv0.1 c613 dL_law_2227 ?_
  refine z_aload_n (pc := 2228) C 0 rfl dL_law_2228 ?_
  refine z_iload (pc := 2229) C 4 rfl dL_law_2229 ?_
  refine z_iconst (pc := 2231) C dL_law_2231 ?_
  refine z_iadd (pc := 2232) C dL_law_2232 ?_
  refine z_sld (pc := 2233) C hv0.1 c614 dL_law_2233 ?_
  refine z_aload_n (pc := 2234) C 0 rfl dL_law_2234 ?_
  refine z_iload (pc := 2235) C 4 rfl dL_law_2235 ?_
  refine z_iconst (pc := 2237) C dL_law_2237 ?_
  refine z_iadd (pc := 2238) C dL_law_2238 ?_
  refine z_sld (pc := 2239) C hv0.1 c615 dL_law_2239 ?_
  refine z_aload_n (pc := 2240) C 0 rfl dL_law_2240 ?_
  refine z_iload (pc := 2241) C 4 rfl dL_law_2241 ?_
  refine z_iconst (pc := 2243) C dL_law_2243 ?_
  refine z_iadd (pc := 2244) C dL_law_2244 ?_
  refine z_sld (pc := 2245) C hv0.1 c616 dL_law_2245 ?_
  obtain ⟨r624, M625, e626, h⟩ := bNs h
  refine cX0_242 (pc := 2246) (st := []) (st1 := [vI r624]) C rfl (rm := { frames := 4, cells := 0, slots := 0, locals := 104 }) (ct_X5_table C.2.1 v2 ((xs (ixn (v4 + 1))).toInt) ((xs (ixn (v4 + 2))).toInt) ((xs (ixn (v4 + 3))).toInt) ((xs (ixn (v4 + 4))).toInt) ((xs (ixn (v4 + 5))).toInt) M618 _ _ k622 e626) ⟨by decide, by decide, Nat.le_trans (show cb + 5 ≤ cb + 14 from by omega) hR.1, Nat.le_trans (show sb + 56 ≤ sb + 3829 from by omega) hR.2⟩ (Or.inl k622) rfl (Nat.le_of_ble_eq_true rfl) dL_law_2246 (c2 := cb + 5) (s2 := sb + 56) rfl rfl (fun x627 => ?_)
  have k628 := x627 _ 1 (by decide) (Or.inl (by decide)) k621
  have k629 := x627 _ 5 (by decide) (Or.inl (by decide)) k622
  have k630 := x627 _ 19000 (by decide) (Or.inr (by decide)) k623
  refine z_istore (pc := 2249) C (lv' := [(0, .ref v0), (1, .ref v1), (2, .ref v2), (3, .ref v3), (4, vI v4), (5, vI r617), (6, vI r624)]) (by decide) rfl dL_law_2249 ?_
  refine z_aload_n (pc := 2251) C 2 rfl dL_law_2251 ?_
  refine cX0_151 (pc := 2252) (st := []) (st1 := [vI (d_X5_thrown v2 M625)]) C rfl (rm := { frames := 1, cells := 0, slots := 0, locals := 24 }) (ct_X5_thrown C.2.1 v2 M625 _ k629 rfl) ⟨by decide, by decide, Nat.le_trans (show cb + 5 ≤ cb + 14 from by omega) hR.1, Nat.le_trans (show sb + 56 ≤ sb + 3829 from by omega) hR.2⟩ (Or.inl k629) rfl (Nat.le_of_ble_eq_true rfl) dL_law_2252 (c2 := cb + 5) (s2 := sb + 56) rfl rfl (fun _ => ?_)
  refine z_iload (pc := 2255) C 5 rfl dL_law_2255 ?_
  refine z_ic_eq (pc := 2257) C dL_law_2257 (tgt := 2262) (by decide) (fun c632 => ?_) (fun c632 => ?_)
  · have h := itt c632 h
    refine z_iload (pc := 2262) C 5 rfl dL_law_2262 ?_
    refine z_if_ne (pc := 2264) C dL_law_2264 (tgt := 2279) (by decide) (fun c633 => ?_) (fun c633 => ?_)
    · have h := itf c633 h
      refine z_goto (pc := 2279) C dL_law_2279 (tgt := 3074) (by decide) ?_
      exact z_wide (show cb + 5 ≤ cb + 14 from by omega) (show sb + 56 ≤ sb + 3829 from by omega) <| z_lv [0, 1, 2, 3, 4] rfl <| cB_L_law_3074 C hk23 v0 v1 v2 v3 v4 M625 _ _ hv0 k628 k629 k630 h hR
    · have h := itt c633 h
      refine z_aload_n (pc := 2267) C 3 rfl dL_law_2267 ?_
      refine z_iconst (pc := 2268) C dL_law_2268 ?_
      refine z_law (pc := 2269) C k630 (by decide +kernel) dL_law_2269 ?_
      refine z_iload (pc := 2270) C 6 rfl dL_law_2270 ?_
      refine z_i2l (pc := 2272) C dL_law_2272 ?_
      refine z_lc_eq (pc := 2273) C dL_law_2273 dL_law_2274 (tgt := 2279) (by decide) (fun c634 => ?_) (fun c634 => ?_)
      · have h := itt c634 h
        refine z_goto (pc := 2279) C dL_law_2279 (tgt := 3074) (by decide) ?_
        exact z_wide (show cb + 5 ≤ cb + 14 from by omega) (show sb + 56 ≤ sb + 3829 from by omega) <| z_lv [0, 1, 2, 3, 4] rfl <| cB_L_law_3074 C hk23 v0 v1 v2 v3 v4 M625 _ _ hv0 k628 k629 k630 h hR
      · have h := itf c634 h
        refine z_iconst (pc := 2277) C dL_law_2277 ?_
        cases h
        exact z_zret (pc := 2278) C rfl (Or.inl rfl) (Nat.le_trans (show cb + 5 ≤ cb + 14 from by omega) hR.1) (Nat.le_trans (show sb + 56 ≤ sb + 3829 from by omega) hR.2) dL_law_2278
  · have h := itf c632 h
    refine z_iconst (pc := 2260) C dL_law_2260 ?_
    cases h
    exact z_zret (pc := 2261) C rfl (Or.inl rfl) (Nat.le_trans (show cb + 5 ≤ cb + 14 from by omega) hR.1) (Nat.le_trans (show sb + 56 ≤ sb + 3829 from by omega) hR.2) dL_law_2261
theorem cB_L_law_2282 {X : x_Ctx} {M0 : Mem} {L : Nat} {xs : Nat → Int32} {cb sb : Nat} (C : x_CC X 108 3296 yL_law cL_law 7 (some .boolean) []) {k23 : Nat → Nat → Nat → Nat → Int → Mem → Option (Int × Mem)} (hk23 : ∀ (v0 : Nat) (v1 : Nat) (v2 : Nat) (v3 : Nat) (v4 : Int) (M : Mem) (r : Int) (M' : Mem), (va_X v0 L xs (XS X) (XS X).heap ∧ L < 2 ^ 31) → m_kd M v1 = 1 → m_kd M v2 = 5 → m_kd M v3 = 19000 → k23 v0 v1 v2 v3 v4 M = some (r, M') → cb + 14 ≤ (XR X).cells ∧ sb + 3829 ≤ (XR X).slots → x_Z X (cb + 14) (sb + 3829) (x_QF X M0 (.returned (some (vI r))) M' (XR X).cells (XR X).slots) M0 M 7 [(0, .ref v0), (1, .ref v1), (2, .ref v2), (3, .ref v3), (4, vI v4)] 23 []) (v0 : Nat) (v1 : Nat) (v2 : Nat) (v3 : Nat) (v4 : Int) (M : Mem) (r : Int) (M' : Mem) (hv0 : (va_X v0 L xs (XS X) (XS X).heap ∧ L < 2 ^ 31)) (hv1 : m_kd M v1 = 1) (hv2 : m_kd M v2 = 5) (hv3 : m_kd M v3 = 19000) (h : B_L_law_2282 L xs k23 v0 v1 v2 v3 v4 M = some (r, M')) (hR : cb + 14 ≤ (XR X).cells ∧ sb + 3829 ≤ (XR X).slots) : x_Z X (cb + 0) (sb + 0) (x_QF X M0 (.returned (some (vI r))) M' (XR X).cells (XR X).slots) M0 M 7 [(0, .ref v0), (1, .ref v1), (2, .ref v2), (3, .ref v3), (4, vI v4)] 2282 [] := by
  unfold B_L_law_2282 at h
  refine z_aload_n (pc := 2282) C 1 rfl dL_law_2282 ?_
  refine z_aload_n (pc := 2283) C 0 rfl dL_law_2283 ?_
  refine z_iload (pc := 2284) C 4 rfl dL_law_2284 ?_
  refine z_iconst (pc := 2286) C dL_law_2286 ?_
  refine z_iadd (pc := 2287) C dL_law_2287 ?_
  obtain ⟨c636, h⟩ := ifn h
  refine z_sld (pc := 2288) C hv0.1 c636 dL_law_2288 ?_
  refine z_aload_n (pc := 2289) C 0 rfl dL_law_2289 ?_
  refine z_iload (pc := 2290) C 4 rfl dL_law_2290 ?_
  refine z_iconst (pc := 2292) C dL_law_2292 ?_
  refine z_iadd (pc := 2293) C dL_law_2293 ?_
  obtain ⟨c637, h⟩ := ifn h
  refine z_sld (pc := 2294) C hv0.1 c637 dL_law_2294 ?_
  refine z_aload_n (pc := 2295) C 0 rfl dL_law_2295 ?_
  refine z_iload (pc := 2296) C 4 rfl dL_law_2296 ?_
  refine z_iconst (pc := 2298) C dL_law_2298 ?_
  refine z_iadd (pc := 2299) C dL_law_2299 ?_
  obtain ⟨c638, h⟩ := ifn h
  refine z_sld (pc := 2300) C hv0.1 c638 dL_law_2300 ?_
  refine z_aload_n (pc := 2301) C 0 rfl dL_law_2301 ?_
  refine z_iload (pc := 2302) C 4 rfl dL_law_2302 ?_
  refine z_iconst (pc := 2304) C dL_law_2304 ?_
  refine z_iadd (pc := 2305) C dL_law_2305 ?_
  obtain ⟨c639, h⟩ := ifn h
  refine z_sld (pc := 2306) C hv0.1 c639 dL_law_2306 ?_
  refine z_aload_n (pc := 2307) C 3 rfl dL_law_2307 ?_
  obtain ⟨r640, M641, e642, h⟩ := bNs h
  refine cX0_243 (pc := 2308) (st := []) (st1 := [vI r640]) C rfl (rm := { frames := 9, cells := 1, slots := 6, locals := 168 }) (ct_X0_cell C.2.1 v1 ((xs (ixn (v4 + 1))).toInt) ((xs (ixn (v4 + 2))).toInt) ((xs (ixn (v4 + 3))).toInt) ((xs (ixn (v4 + 4))).toInt) v3 M _ _ hv1 hv3 e642) ⟨by decide, by decide, Nat.le_trans (show cb + 1 ≤ cb + 14 from by omega) hR.1, Nat.le_trans (show sb + 6 ≤ sb + 3829 from by omega) hR.2⟩ rfl (Nat.le_of_ble_eq_true rfl) dL_law_2308 (c2 := cb + 1) (s2 := sb + 6) rfl rfl (fun x643 => ?_)
  have k644 := x643 _ 1 (by decide) (Or.inl (by decide)) hv1
  have k645 := x643 _ 5 (by decide) (Or.inl (by decide)) hv2
  have k646 := x643 _ 19000 (by decide) (Or.inr (by decide)) hv3
  refine z_istore (pc := 2311) C (lv' := [(0, .ref v0), (1, .ref v1), (2, .ref v2), (3, .ref v3), (4, vI v4), (5, vI r640)]) (by decide) rfl dL_law_2311 ?_
  refine z_aload_n (pc := 2313) C 2 rfl dL_law_2313 ?_
  refine z_aload_n (pc := 2314) C 0 rfl dL_law_2314 ?_
  refine z_iload (pc := 2315) C 4 rfl dL_law_2315 ?_
  refine z_iconst (pc := 2317) C dL_law_2317 ?_
  refine z_iadd (pc := 2318) C dL_law_2318 ?_
  refine z_sld (pc := 2319) C hv0.1 c636 dL_law_2319 ?_
  refine z_aload_n (pc := 2320) C 0 rfl dL_law_2320 ?_
  refine z_iload (pc := 2321) C 4 rfl dL_law_2321 ?_
  refine z_iconst (pc := 2323) C dL_law_2323 ?_
  refine z_iadd (pc := 2324) C dL_law_2324 ?_
  refine z_sld (pc := 2325) C hv0.1 c637 dL_law_2325 ?_
  refine z_aload_n (pc := 2326) C 0 rfl dL_law_2326 ?_
  refine z_iload (pc := 2327) C 4 rfl dL_law_2327 ?_
  refine z_iconst (pc := 2329) C dL_law_2329 ?_
  refine z_iadd (pc := 2330) C dL_law_2330 ?_
  refine z_sld (pc := 2331) C hv0.1 c638 dL_law_2331 ?_
  refine z_aload_n (pc := 2332) C 0 rfl dL_law_2332 ?_
  refine z_iload (pc := 2333) C 4 rfl dL_law_2333 ?_
  refine z_iconst (pc := 2335) C dL_law_2335 ?_
  refine z_iadd (pc := 2336) C dL_law_2336 ?_
  refine z_sld (pc := 2337) C hv0.1 c639 dL_law_2337 ?_
  obtain ⟨r647, M648, e649, h⟩ := bNs h
  refine cX0_245 (pc := 2338) (st := []) (st1 := [vI r647]) C rfl (rm := { frames := 3, cells := 0, slots := 0, locals := 78 }) (ct_X5_cell C.2.1 v2 ((xs (ixn (v4 + 1))).toInt) ((xs (ixn (v4 + 2))).toInt) ((xs (ixn (v4 + 3))).toInt) ((xs (ixn (v4 + 4))).toInt) M641 _ _ k645 e649) ⟨by decide, by decide, Nat.le_trans (show cb + 1 ≤ cb + 14 from by omega) hR.1, Nat.le_trans (show sb + 6 ≤ sb + 3829 from by omega) hR.2⟩ (Or.inl k645) rfl (Nat.le_of_ble_eq_true rfl) dL_law_2338 (c2 := cb + 1) (s2 := sb + 6) rfl rfl (fun x650 => ?_)
  have k651 := x650 _ 1 (by decide) (Or.inl (by decide)) k644
  have k652 := x650 _ 5 (by decide) (Or.inl (by decide)) k645
  have k653 := x650 _ 19000 (by decide) (Or.inr (by decide)) k646
  refine z_istore (pc := 2341) C (lv' := [(0, .ref v0), (1, .ref v1), (2, .ref v2), (3, .ref v3), (4, vI v4), (5, vI r640), (6, vI r647)]) (by decide) rfl dL_law_2341 ?_
  refine z_aload_n (pc := 2343) C 2 rfl dL_law_2343 ?_
  refine cX0_151 (pc := 2344) (st := []) (st1 := [vI (d_X5_thrown v2 M648)]) C rfl (rm := { frames := 1, cells := 0, slots := 0, locals := 24 }) (ct_X5_thrown C.2.1 v2 M648 _ k652 rfl) ⟨by decide, by decide, Nat.le_trans (show cb + 1 ≤ cb + 14 from by omega) hR.1, Nat.le_trans (show sb + 6 ≤ sb + 3829 from by omega) hR.2⟩ (Or.inl k652) rfl (Nat.le_of_ble_eq_true rfl) dL_law_2344 (c2 := cb + 1) (s2 := sb + 6) rfl rfl (fun _ => ?_)
  refine z_iload (pc := 2347) C 5 rfl dL_law_2347 ?_
  refine z_ic_eq (pc := 2349) C dL_law_2349 (tgt := 2354) (by decide) (fun c655 => ?_) (fun c655 => ?_)
  · have h := itt c655 h
    refine z_iload (pc := 2354) C 5 rfl dL_law_2354 ?_
    refine z_if_ne (pc := 2356) C dL_law_2356 (tgt := 2371) (by decide) (fun c656 => ?_) (fun c656 => ?_)
    · have h := itf c656 h
      refine z_goto (pc := 2371) C dL_law_2371 (tgt := 3074) (by decide) ?_
      exact z_wide (show cb + 1 ≤ cb + 14 from by omega) (show sb + 6 ≤ sb + 3829 from by omega) <| z_lv [0, 1, 2, 3, 4] rfl <| cB_L_law_3074 C hk23 v0 v1 v2 v3 v4 M648 _ _ hv0 k651 k652 k653 h hR
    · have h := itt c656 h
      refine z_aload_n (pc := 2359) C 3 rfl dL_law_2359 ?_
      refine z_iconst (pc := 2360) C dL_law_2360 ?_
      refine z_law (pc := 2361) C k653 (by decide +kernel) dL_law_2361 ?_
      refine z_iload (pc := 2362) C 6 rfl dL_law_2362 ?_
      refine z_i2l (pc := 2364) C dL_law_2364 ?_
      refine z_lc_eq (pc := 2365) C dL_law_2365 dL_law_2366 (tgt := 2371) (by decide) (fun c657 => ?_) (fun c657 => ?_)
      · have h := itt c657 h
        refine z_goto (pc := 2371) C dL_law_2371 (tgt := 3074) (by decide) ?_
        exact z_wide (show cb + 1 ≤ cb + 14 from by omega) (show sb + 6 ≤ sb + 3829 from by omega) <| z_lv [0, 1, 2, 3, 4] rfl <| cB_L_law_3074 C hk23 v0 v1 v2 v3 v4 M648 _ _ hv0 k651 k652 k653 h hR
      · have h := itf c657 h
        refine z_iconst (pc := 2369) C dL_law_2369 ?_
        cases h
        exact z_zret (pc := 2370) C rfl (Or.inl rfl) (Nat.le_trans (show cb + 1 ≤ cb + 14 from by omega) hR.1) (Nat.le_trans (show sb + 6 ≤ sb + 3829 from by omega) hR.2) dL_law_2370
  · have h := itf c655 h
    refine z_iconst (pc := 2352) C dL_law_2352 ?_
    cases h
    exact z_zret (pc := 2353) C rfl (Or.inl rfl) (Nat.le_trans (show cb + 1 ≤ cb + 14 from by omega) hR.1) (Nat.le_trans (show sb + 6 ≤ sb + 3829 from by omega) hR.2) dL_law_2353
theorem cB_L_law_2374 {X : x_Ctx} {M0 : Mem} {L : Nat} {xs : Nat → Int32} {cb sb : Nat} (C : x_CC X 108 3296 yL_law cL_law 7 (some .boolean) []) {k23 : Nat → Nat → Nat → Nat → Int → Mem → Option (Int × Mem)} (hk23 : ∀ (v0 : Nat) (v1 : Nat) (v2 : Nat) (v3 : Nat) (v4 : Int) (M : Mem) (r : Int) (M' : Mem), (va_X v0 L xs (XS X) (XS X).heap ∧ L < 2 ^ 31) → m_kd M v1 = 1 → m_kd M v2 = 5 → m_kd M v3 = 19000 → k23 v0 v1 v2 v3 v4 M = some (r, M') → cb + 14 ≤ (XR X).cells ∧ sb + 3829 ≤ (XR X).slots → x_Z X (cb + 14) (sb + 3829) (x_QF X M0 (.returned (some (vI r))) M' (XR X).cells (XR X).slots) M0 M 7 [(0, .ref v0), (1, .ref v1), (2, .ref v2), (3, .ref v3), (4, vI v4)] 23 []) (v0 : Nat) (v1 : Nat) (v2 : Nat) (v3 : Nat) (v4 : Int) (M : Mem) (r : Int) (M' : Mem) (hv0 : (va_X v0 L xs (XS X) (XS X).heap ∧ L < 2 ^ 31)) (hv1 : m_kd M v1 = 1) (hv2 : m_kd M v2 = 5) (hv3 : m_kd M v3 = 19000) (h : B_L_law_2374 L xs k23 v0 v1 v2 v3 v4 M = some (r, M')) (hR : cb + 14 ≤ (XR X).cells ∧ sb + 3829 ≤ (XR X).slots) : x_Z X (cb + 0) (sb + 0) (x_QF X M0 (.returned (some (vI r))) M' (XR X).cells (XR X).slots) M0 M 7 [(0, .ref v0), (1, .ref v1), (2, .ref v2), (3, .ref v3), (4, vI v4)] 2374 [] := by
  unfold B_L_law_2374 at h
  refine z_aload_n (pc := 2374) C 1 rfl dL_law_2374 ?_
  refine z_aload_n (pc := 2375) C 0 rfl dL_law_2375 ?_
  refine z_iload (pc := 2376) C 4 rfl dL_law_2376 ?_
  refine z_iconst (pc := 2378) C dL_law_2378 ?_
  refine z_iadd (pc := 2379) C dL_law_2379 ?_
  obtain ⟨c659, h⟩ := ifn h
  refine z_sld (pc := 2380) C hv0.1 c659 dL_law_2380 ?_
  refine z_aload_n (pc := 2381) C 0 rfl dL_law_2381 ?_
  refine z_iload (pc := 2382) C 4 rfl dL_law_2382 ?_
  refine z_iconst (pc := 2384) C dL_law_2384 ?_
  refine z_iadd (pc := 2385) C dL_law_2385 ?_
  obtain ⟨c660, h⟩ := ifn h
  refine z_sld (pc := 2386) C hv0.1 c660 dL_law_2386 ?_
  refine z_aload_n (pc := 2387) C 0 rfl dL_law_2387 ?_
  refine z_iload (pc := 2388) C 4 rfl dL_law_2388 ?_
  refine z_iconst (pc := 2390) C dL_law_2390 ?_
  refine z_iadd (pc := 2391) C dL_law_2391 ?_
  obtain ⟨c661, h⟩ := ifn h
  refine z_sld (pc := 2392) C hv0.1 c661 dL_law_2392 ?_
  refine z_aload_n (pc := 2393) C 0 rfl dL_law_2393 ?_
  refine z_iload (pc := 2394) C 4 rfl dL_law_2394 ?_
  refine z_iconst (pc := 2396) C dL_law_2396 ?_
  refine z_iadd (pc := 2397) C dL_law_2397 ?_
  obtain ⟨c662, h⟩ := ifn h
  refine z_sld (pc := 2398) C hv0.1 c662 dL_law_2398 ?_
  refine z_aload_n (pc := 2399) C 3 rfl dL_law_2399 ?_
  obtain ⟨r663, M664, e665, h⟩ := bNs h
  refine cX0_246 (pc := 2400) (st := []) (st1 := [vI r663]) C rfl (rm := { frames := 107, cells := 1, slots := 6, locals := 3206 }) (ct_X0_secrecy C.2.1 v1 ((xs (ixn (v4 + 1))).toInt) ((xs (ixn (v4 + 2))).toInt) ((xs (ixn (v4 + 3))).toInt) ((xs (ixn (v4 + 4))).toInt) v3 M _ _ hv1 hv3 e665) ⟨by decide, by decide, Nat.le_trans (show cb + 1 ≤ cb + 14 from by omega) hR.1, Nat.le_trans (show sb + 6 ≤ sb + 3829 from by omega) hR.2⟩ rfl (Nat.le_of_ble_eq_true rfl) dL_law_2400 (c2 := cb + 1) (s2 := sb + 6) rfl rfl (fun x666 => ?_)
  have k667 := x666 _ 1 (by decide) (Or.inl (by decide)) hv1
  have k668 := x666 _ 5 (by decide) (Or.inl (by decide)) hv2
  have k669 := x666 _ 19000 (by decide) (Or.inr (by decide)) hv3
  refine z_istore (pc := 2403) C (lv' := [(0, .ref v0), (1, .ref v1), (2, .ref v2), (3, .ref v3), (4, vI v4), (5, vI r663)]) (by decide) rfl dL_law_2403 ?_
  refine z_aload_n (pc := 2405) C 2 rfl dL_law_2405 ?_
  refine z_aload_n (pc := 2406) C 0 rfl dL_law_2406 ?_
  refine z_iload (pc := 2407) C 4 rfl dL_law_2407 ?_
  refine z_iconst (pc := 2409) C dL_law_2409 ?_
  refine z_iadd (pc := 2410) C dL_law_2410 ?_
  refine z_sld (pc := 2411) C hv0.1 c659 dL_law_2411 ?_
  refine z_aload_n (pc := 2412) C 0 rfl dL_law_2412 ?_
  refine z_iload (pc := 2413) C 4 rfl dL_law_2413 ?_
  refine z_iconst (pc := 2415) C dL_law_2415 ?_
  refine z_iadd (pc := 2416) C dL_law_2416 ?_
  refine z_sld (pc := 2417) C hv0.1 c660 dL_law_2417 ?_
  refine z_aload_n (pc := 2418) C 0 rfl dL_law_2418 ?_
  refine z_iload (pc := 2419) C 4 rfl dL_law_2419 ?_
  refine z_iconst (pc := 2421) C dL_law_2421 ?_
  refine z_iadd (pc := 2422) C dL_law_2422 ?_
  refine z_sld (pc := 2423) C hv0.1 c661 dL_law_2423 ?_
  refine z_aload_n (pc := 2424) C 0 rfl dL_law_2424 ?_
  refine z_iload (pc := 2425) C 4 rfl dL_law_2425 ?_
  refine z_iconst (pc := 2427) C dL_law_2427 ?_
  refine z_iadd (pc := 2428) C dL_law_2428 ?_
  refine z_sld (pc := 2429) C hv0.1 c662 dL_law_2429 ?_
  obtain ⟨r670, M671, e672, h⟩ := bNs h
  refine cX0_248 (pc := 2430) (st := []) (st1 := [vI r670]) C rfl (rm := { frames := 3, cells := 0, slots := 0, locals := 97 }) (ct_X5_secrecy C.2.1 v2 ((xs (ixn (v4 + 1))).toInt) ((xs (ixn (v4 + 2))).toInt) ((xs (ixn (v4 + 3))).toInt) ((xs (ixn (v4 + 4))).toInt) M664 _ _ k668 e672) ⟨by decide, by decide, Nat.le_trans (show cb + 1 ≤ cb + 14 from by omega) hR.1, Nat.le_trans (show sb + 6 ≤ sb + 3829 from by omega) hR.2⟩ (Or.inl k668) rfl (Nat.le_of_ble_eq_true rfl) dL_law_2430 (c2 := cb + 1) (s2 := sb + 6) rfl rfl (fun x673 => ?_)
  have k674 := x673 _ 1 (by decide) (Or.inl (by decide)) k667
  have k675 := x673 _ 5 (by decide) (Or.inl (by decide)) k668
  have k676 := x673 _ 19000 (by decide) (Or.inr (by decide)) k669
  refine z_istore (pc := 2433) C (lv' := [(0, .ref v0), (1, .ref v1), (2, .ref v2), (3, .ref v3), (4, vI v4), (5, vI r663), (6, vI r670)]) (by decide) rfl dL_law_2433 ?_
  refine z_aload_n (pc := 2435) C 2 rfl dL_law_2435 ?_
  refine cX0_151 (pc := 2436) (st := []) (st1 := [vI (d_X5_thrown v2 M671)]) C rfl (rm := { frames := 1, cells := 0, slots := 0, locals := 24 }) (ct_X5_thrown C.2.1 v2 M671 _ k675 rfl) ⟨by decide, by decide, Nat.le_trans (show cb + 1 ≤ cb + 14 from by omega) hR.1, Nat.le_trans (show sb + 6 ≤ sb + 3829 from by omega) hR.2⟩ (Or.inl k675) rfl (Nat.le_of_ble_eq_true rfl) dL_law_2436 (c2 := cb + 1) (s2 := sb + 6) rfl rfl (fun _ => ?_)
  refine z_iload (pc := 2439) C 5 rfl dL_law_2439 ?_
  refine z_ic_eq (pc := 2441) C dL_law_2441 (tgt := 2446) (by decide) (fun c678 => ?_) (fun c678 => ?_)
  · have h := itt c678 h
    refine z_iload (pc := 2446) C 5 rfl dL_law_2446 ?_
    refine z_if_ne (pc := 2448) C dL_law_2448 (tgt := 2463) (by decide) (fun c679 => ?_) (fun c679 => ?_)
    · have h := itf c679 h
      refine z_goto (pc := 2463) C dL_law_2463 (tgt := 3074) (by decide) ?_
      exact z_wide (show cb + 1 ≤ cb + 14 from by omega) (show sb + 6 ≤ sb + 3829 from by omega) <| z_lv [0, 1, 2, 3, 4] rfl <| cB_L_law_3074 C hk23 v0 v1 v2 v3 v4 M671 _ _ hv0 k674 k675 k676 h hR
    · have h := itt c679 h
      refine z_aload_n (pc := 2451) C 3 rfl dL_law_2451 ?_
      refine z_iconst (pc := 2452) C dL_law_2452 ?_
      refine z_law (pc := 2453) C k676 (by decide +kernel) dL_law_2453 ?_
      refine z_iload (pc := 2454) C 6 rfl dL_law_2454 ?_
      refine z_i2l (pc := 2456) C dL_law_2456 ?_
      refine z_lc_eq (pc := 2457) C dL_law_2457 dL_law_2458 (tgt := 2463) (by decide) (fun c680 => ?_) (fun c680 => ?_)
      · have h := itt c680 h
        refine z_goto (pc := 2463) C dL_law_2463 (tgt := 3074) (by decide) ?_
        exact z_wide (show cb + 1 ≤ cb + 14 from by omega) (show sb + 6 ≤ sb + 3829 from by omega) <| z_lv [0, 1, 2, 3, 4] rfl <| cB_L_law_3074 C hk23 v0 v1 v2 v3 v4 M671 _ _ hv0 k674 k675 k676 h hR
      · have h := itf c680 h
        refine z_iconst (pc := 2461) C dL_law_2461 ?_
        cases h
        exact z_zret (pc := 2462) C rfl (Or.inl rfl) (Nat.le_trans (show cb + 1 ≤ cb + 14 from by omega) hR.1) (Nat.le_trans (show sb + 6 ≤ sb + 3829 from by omega) hR.2) dL_law_2462
  · have h := itf c678 h
    refine z_iconst (pc := 2444) C dL_law_2444 ?_
    cases h
    exact z_zret (pc := 2445) C rfl (Or.inl rfl) (Nat.le_trans (show cb + 1 ≤ cb + 14 from by omega) hR.1) (Nat.le_trans (show sb + 6 ≤ sb + 3829 from by omega) hR.2) dL_law_2445
theorem cB_L_law_2466 {X : x_Ctx} {M0 : Mem} {L : Nat} {xs : Nat → Int32} {cb sb : Nat} (C : x_CC X 108 3296 yL_law cL_law 7 (some .boolean) []) {k23 : Nat → Nat → Nat → Nat → Int → Mem → Option (Int × Mem)} (hk23 : ∀ (v0 : Nat) (v1 : Nat) (v2 : Nat) (v3 : Nat) (v4 : Int) (M : Mem) (r : Int) (M' : Mem), (va_X v0 L xs (XS X) (XS X).heap ∧ L < 2 ^ 31) → m_kd M v1 = 1 → m_kd M v2 = 5 → m_kd M v3 = 19000 → k23 v0 v1 v2 v3 v4 M = some (r, M') → cb + 14 ≤ (XR X).cells ∧ sb + 3829 ≤ (XR X).slots → x_Z X (cb + 14) (sb + 3829) (x_QF X M0 (.returned (some (vI r))) M' (XR X).cells (XR X).slots) M0 M 7 [(0, .ref v0), (1, .ref v1), (2, .ref v2), (3, .ref v3), (4, vI v4)] 23 []) (v0 : Nat) (v1 : Nat) (v2 : Nat) (v3 : Nat) (v4 : Int) (M : Mem) (r : Int) (M' : Mem) (hv0 : (va_X v0 L xs (XS X) (XS X).heap ∧ L < 2 ^ 31)) (hv1 : m_kd M v1 = 1) (hv2 : m_kd M v2 = 5) (hv3 : m_kd M v3 = 19000) (h : B_L_law_2466 L xs k23 v0 v1 v2 v3 v4 M = some (r, M')) (hR : cb + 14 ≤ (XR X).cells ∧ sb + 3829 ≤ (XR X).slots) : x_Z X (cb + 0) (sb + 0) (x_QF X M0 (.returned (some (vI r))) M' (XR X).cells (XR X).slots) M0 M 7 [(0, .ref v0), (1, .ref v1), (2, .ref v2), (3, .ref v3), (4, vI v4)] 2466 [] := by
  unfold B_L_law_2466 at h
  refine z_aload_n (pc := 2466) C 1 rfl dL_law_2466 ?_
  refine z_aload_n (pc := 2467) C 0 rfl dL_law_2467 ?_
  refine z_iload (pc := 2468) C 4 rfl dL_law_2468 ?_
  refine z_iconst (pc := 2470) C dL_law_2470 ?_
  refine z_iadd (pc := 2471) C dL_law_2471 ?_
  obtain ⟨c682, h⟩ := ifn h
  refine z_sld (pc := 2472) C hv0.1 c682 dL_law_2472 ?_
  refine z_aload_n (pc := 2473) C 0 rfl dL_law_2473 ?_
  refine z_iload (pc := 2474) C 4 rfl dL_law_2474 ?_
  refine z_iconst (pc := 2476) C dL_law_2476 ?_
  refine z_iadd (pc := 2477) C dL_law_2477 ?_
  obtain ⟨c683, h⟩ := ifn h
  refine z_sld (pc := 2478) C hv0.1 c683 dL_law_2478 ?_
  refine z_aload_n (pc := 2479) C 0 rfl dL_law_2479 ?_
  refine z_iload (pc := 2480) C 4 rfl dL_law_2480 ?_
  refine z_iconst (pc := 2482) C dL_law_2482 ?_
  refine z_iadd (pc := 2483) C dL_law_2483 ?_
  obtain ⟨c684, h⟩ := ifn h
  refine z_sld (pc := 2484) C hv0.1 c684 dL_law_2484 ?_
  refine z_aload_n (pc := 2485) C 3 rfl dL_law_2485 ?_
  obtain ⟨r685, M686, e687, h⟩ := bNs h
  refine cX0_249 (pc := 2486) (st := []) (st1 := [vI r685]) C rfl (rm := { frames := 10, cells := 1, slots := 6, locals := 196 }) (ct_X0_secret C.2.1 v1 ((xs (ixn (v4 + 1))).toInt) ((xs (ixn (v4 + 2))).toInt) ((xs (ixn (v4 + 3))).toInt) v3 M _ _ hv1 hv3 e687) ⟨by decide, by decide, Nat.le_trans (show cb + 1 ≤ cb + 14 from by omega) hR.1, Nat.le_trans (show sb + 6 ≤ sb + 3829 from by omega) hR.2⟩ rfl (Nat.le_of_ble_eq_true rfl) dL_law_2486 (c2 := cb + 1) (s2 := sb + 6) rfl rfl (fun x688 => ?_)
  have k689 := x688 _ 1 (by decide) (Or.inl (by decide)) hv1
  have k690 := x688 _ 5 (by decide) (Or.inl (by decide)) hv2
  have k691 := x688 _ 19000 (by decide) (Or.inr (by decide)) hv3
  refine z_istore (pc := 2489) C (lv' := [(0, .ref v0), (1, .ref v1), (2, .ref v2), (3, .ref v3), (4, vI v4), (5, vI r685)]) (by decide) rfl dL_law_2489 ?_
  refine z_aload_n (pc := 2491) C 2 rfl dL_law_2491 ?_
  refine z_aload_n (pc := 2492) C 0 rfl dL_law_2492 ?_
  refine z_iload (pc := 2493) C 4 rfl dL_law_2493 ?_
  refine z_iconst (pc := 2495) C dL_law_2495 ?_
  refine z_iadd (pc := 2496) C dL_law_2496 ?_
  refine z_sld (pc := 2497) C hv0.1 c682 dL_law_2497 ?_
  refine z_aload_n (pc := 2498) C 0 rfl dL_law_2498 ?_
  refine z_iload (pc := 2499) C 4 rfl dL_law_2499 ?_
  refine z_iconst (pc := 2501) C dL_law_2501 ?_
  refine z_iadd (pc := 2502) C dL_law_2502 ?_
  refine z_sld (pc := 2503) C hv0.1 c683 dL_law_2503 ?_
  refine z_aload_n (pc := 2504) C 0 rfl dL_law_2504 ?_
  refine z_iload (pc := 2505) C 4 rfl dL_law_2505 ?_
  refine z_iconst (pc := 2507) C dL_law_2507 ?_
  refine z_iadd (pc := 2508) C dL_law_2508 ?_
  refine z_sld (pc := 2509) C hv0.1 c684 dL_law_2509 ?_
  obtain ⟨r692, M693, e694, h⟩ := bNs h
  refine cX0_251 (pc := 2510) (st := []) (st1 := [vI r692]) C rfl (rm := { frames := 4, cells := 0, slots := 0, locals := 105 }) (ct_X5_secret C.2.1 v2 ((xs (ixn (v4 + 1))).toInt) ((xs (ixn (v4 + 2))).toInt) ((xs (ixn (v4 + 3))).toInt) M686 _ _ k690 e694) ⟨by decide, by decide, Nat.le_trans (show cb + 1 ≤ cb + 14 from by omega) hR.1, Nat.le_trans (show sb + 6 ≤ sb + 3829 from by omega) hR.2⟩ (Or.inl k690) rfl (Nat.le_of_ble_eq_true rfl) dL_law_2510 (c2 := cb + 1) (s2 := sb + 6) rfl rfl (fun x695 => ?_)
  have k696 := x695 _ 1 (by decide) (Or.inl (by decide)) k689
  have k697 := x695 _ 5 (by decide) (Or.inl (by decide)) k690
  have k698 := x695 _ 19000 (by decide) (Or.inr (by decide)) k691
  refine z_istore (pc := 2513) C (lv' := [(0, .ref v0), (1, .ref v1), (2, .ref v2), (3, .ref v3), (4, vI v4), (5, vI r685), (6, vI r692)]) (by decide) rfl dL_law_2513 ?_
  refine z_aload_n (pc := 2515) C 2 rfl dL_law_2515 ?_
  refine cX0_151 (pc := 2516) (st := []) (st1 := [vI (d_X5_thrown v2 M693)]) C rfl (rm := { frames := 1, cells := 0, slots := 0, locals := 24 }) (ct_X5_thrown C.2.1 v2 M693 _ k697 rfl) ⟨by decide, by decide, Nat.le_trans (show cb + 1 ≤ cb + 14 from by omega) hR.1, Nat.le_trans (show sb + 6 ≤ sb + 3829 from by omega) hR.2⟩ (Or.inl k697) rfl (Nat.le_of_ble_eq_true rfl) dL_law_2516 (c2 := cb + 1) (s2 := sb + 6) rfl rfl (fun _ => ?_)
  refine z_iload (pc := 2519) C 5 rfl dL_law_2519 ?_
  refine z_ic_eq (pc := 2521) C dL_law_2521 (tgt := 2526) (by decide) (fun c700 => ?_) (fun c700 => ?_)
  · have h := itt c700 h
    refine z_iload (pc := 2526) C 5 rfl dL_law_2526 ?_
    refine z_if_ne (pc := 2528) C dL_law_2528 (tgt := 2543) (by decide) (fun c701 => ?_) (fun c701 => ?_)
    · have h := itf c701 h
      refine z_goto (pc := 2543) C dL_law_2543 (tgt := 3074) (by decide) ?_
      exact z_wide (show cb + 1 ≤ cb + 14 from by omega) (show sb + 6 ≤ sb + 3829 from by omega) <| z_lv [0, 1, 2, 3, 4] rfl <| cB_L_law_3074 C hk23 v0 v1 v2 v3 v4 M693 _ _ hv0 k696 k697 k698 h hR
    · have h := itt c701 h
      refine z_aload_n (pc := 2531) C 3 rfl dL_law_2531 ?_
      refine z_iconst (pc := 2532) C dL_law_2532 ?_
      refine z_law (pc := 2533) C k698 (by decide +kernel) dL_law_2533 ?_
      refine z_iload (pc := 2534) C 6 rfl dL_law_2534 ?_
      refine z_i2l (pc := 2536) C dL_law_2536 ?_
      refine z_lc_eq (pc := 2537) C dL_law_2537 dL_law_2538 (tgt := 2543) (by decide) (fun c702 => ?_) (fun c702 => ?_)
      · have h := itt c702 h
        refine z_goto (pc := 2543) C dL_law_2543 (tgt := 3074) (by decide) ?_
        exact z_wide (show cb + 1 ≤ cb + 14 from by omega) (show sb + 6 ≤ sb + 3829 from by omega) <| z_lv [0, 1, 2, 3, 4] rfl <| cB_L_law_3074 C hk23 v0 v1 v2 v3 v4 M693 _ _ hv0 k696 k697 k698 h hR
      · have h := itf c702 h
        refine z_iconst (pc := 2541) C dL_law_2541 ?_
        cases h
        exact z_zret (pc := 2542) C rfl (Or.inl rfl) (Nat.le_trans (show cb + 1 ≤ cb + 14 from by omega) hR.1) (Nat.le_trans (show sb + 6 ≤ sb + 3829 from by omega) hR.2) dL_law_2542
  · have h := itf c700 h
    refine z_iconst (pc := 2524) C dL_law_2524 ?_
    cases h
    exact z_zret (pc := 2525) C rfl (Or.inl rfl) (Nat.le_trans (show cb + 1 ≤ cb + 14 from by omega) hR.1) (Nat.le_trans (show sb + 6 ≤ sb + 3829 from by omega) hR.2) dL_law_2525
theorem cB_L_law_2618 {X : x_Ctx} {M0 : Mem} {L : Nat} {xs : Nat → Int32} {cb sb : Nat} (C : x_CC X 108 3296 yL_law cL_law 7 (some .boolean) []) {k23 : Nat → Nat → Nat → Nat → Int → Mem → Option (Int × Mem)} (hk23 : ∀ (v0 : Nat) (v1 : Nat) (v2 : Nat) (v3 : Nat) (v4 : Int) (M : Mem) (r : Int) (M' : Mem), (va_X v0 L xs (XS X) (XS X).heap ∧ L < 2 ^ 31) → m_kd M v1 = 1 → m_kd M v2 = 5 → m_kd M v3 = 19000 → k23 v0 v1 v2 v3 v4 M = some (r, M') → cb + 14 ≤ (XR X).cells ∧ sb + 3829 ≤ (XR X).slots → x_Z X (cb + 14) (sb + 3829) (x_QF X M0 (.returned (some (vI r))) M' (XR X).cells (XR X).slots) M0 M 7 [(0, .ref v0), (1, .ref v1), (2, .ref v2), (3, .ref v3), (4, vI v4)] 23 []) (v0 : Nat) (v1 : Nat) (v2 : Nat) (v3 : Nat) (v4 : Int) (v5 : Int) (s0 : Nat) (s1 : Int) (s2 : Int) (s3 : Int) (s4 : Int) (M : Mem) (r : Int) (M' : Mem) (hv0 : (va_X v0 L xs (XS X) (XS X).heap ∧ L < 2 ^ 31)) (hv1 : m_kd M v1 = 1) (hv2 : m_kd M v2 = 5) (hv3 : m_kd M v3 = 19000) (hs0 : m_kd M s0 = 5) (h : B_L_law_2618 L xs k23 v0 v1 v2 v3 v4 v5 s0 s1 s2 s3 s4 M = some (r, M')) (hR : cb + 14 ≤ (XR X).cells ∧ sb + 3829 ≤ (XR X).slots) : x_Z X (cb + 1) (sb + 6) (x_QF X M0 (.returned (some (vI r))) M' (XR X).cells (XR X).slots) M0 M 7 [(0, .ref v0), (1, .ref v1), (2, .ref v2), (3, .ref v3), (4, vI v4), (5, vI v5)] 2618 [vI s4, vI s3, vI s2, vI s1, .ref s0] := by
  unfold B_L_law_2618 at h
  obtain ⟨r721, M722, e723, h⟩ := bNs h
  refine cX0_255 (pc := 2618) (st := []) (st1 := [vI r721]) C rfl (rm := { frames := 4, cells := 0, slots := 0, locals := 105 }) (ct_X5_interval C.2.1 s0 s1 s2 s3 s4 M _ _ hs0 e723) ⟨by decide, by decide, Nat.le_trans (show cb + 1 ≤ cb + 14 from by omega) hR.1, Nat.le_trans (show sb + 6 ≤ sb + 3829 from by omega) hR.2⟩ (Or.inl hs0) rfl (Nat.le_of_ble_eq_true rfl) dL_law_2618 (c2 := cb + 1) (s2 := sb + 6) rfl rfl (fun x724 => ?_)
  have k725 := x724 _ 1 (by decide) (Or.inl (by decide)) hv1
  have k726 := x724 _ 5 (by decide) (Or.inl (by decide)) hv2
  have k727 := x724 _ 19000 (by decide) (Or.inr (by decide)) hv3
  refine z_istore (pc := 2621) C (lv' := [(0, .ref v0), (1, .ref v1), (2, .ref v2), (3, .ref v3), (4, vI v4), (5, vI v5), (6, vI r721)]) (by decide) rfl dL_law_2621 ?_
  refine z_aload_n (pc := 2623) C 2 rfl dL_law_2623 ?_
  refine cX0_151 (pc := 2624) (st := []) (st1 := [vI (d_X5_thrown v2 M722)]) C rfl (rm := { frames := 1, cells := 0, slots := 0, locals := 24 }) (ct_X5_thrown C.2.1 v2 M722 _ k726 rfl) ⟨by decide, by decide, Nat.le_trans (show cb + 1 ≤ cb + 14 from by omega) hR.1, Nat.le_trans (show sb + 6 ≤ sb + 3829 from by omega) hR.2⟩ (Or.inl k726) rfl (Nat.le_of_ble_eq_true rfl) dL_law_2624 (c2 := cb + 1) (s2 := sb + 6) rfl rfl (fun _ => ?_)
  refine z_iload (pc := 2627) C 5 rfl dL_law_2627 ?_
  refine z_ic_eq (pc := 2629) C dL_law_2629 (tgt := 2634) (by decide) (fun c729 => ?_) (fun c729 => ?_)
  · have h := itt c729 h
    refine z_iload (pc := 2634) C 5 rfl dL_law_2634 ?_
    refine z_if_ne (pc := 2636) C dL_law_2636 (tgt := 2651) (by decide) (fun c730 => ?_) (fun c730 => ?_)
    · have h := itf c730 h
      refine z_goto (pc := 2651) C dL_law_2651 (tgt := 3074) (by decide) ?_
      exact z_wide (show cb + 1 ≤ cb + 14 from by omega) (show sb + 6 ≤ sb + 3829 from by omega) <| z_lv [0, 1, 2, 3, 4] rfl <| cB_L_law_3074 C hk23 v0 v1 v2 v3 v4 M722 _ _ hv0 k725 k726 k727 h hR
    · have h := itt c730 h
      refine z_aload_n (pc := 2639) C 3 rfl dL_law_2639 ?_
      refine z_iconst (pc := 2640) C dL_law_2640 ?_
      refine z_law (pc := 2641) C k727 (by decide +kernel) dL_law_2641 ?_
      refine z_iload (pc := 2642) C 6 rfl dL_law_2642 ?_
      refine z_i2l (pc := 2644) C dL_law_2644 ?_
      refine z_lc_eq (pc := 2645) C dL_law_2645 dL_law_2646 (tgt := 2651) (by decide) (fun c731 => ?_) (fun c731 => ?_)
      · have h := itt c731 h
        refine z_goto (pc := 2651) C dL_law_2651 (tgt := 3074) (by decide) ?_
        exact z_wide (show cb + 1 ≤ cb + 14 from by omega) (show sb + 6 ≤ sb + 3829 from by omega) <| z_lv [0, 1, 2, 3, 4] rfl <| cB_L_law_3074 C hk23 v0 v1 v2 v3 v4 M722 _ _ hv0 k725 k726 k727 h hR
      · have h := itf c731 h
        refine z_iconst (pc := 2649) C dL_law_2649 ?_
        cases h
        exact z_zret (pc := 2650) C rfl (Or.inl rfl) (Nat.le_trans (show cb + 1 ≤ cb + 14 from by omega) hR.1) (Nat.le_trans (show sb + 6 ≤ sb + 3829 from by omega) hR.2) dL_law_2650
  · have h := itf c729 h
    refine z_iconst (pc := 2632) C dL_law_2632 ?_
    cases h
    exact z_zret (pc := 2633) C rfl (Or.inl rfl) (Nat.le_trans (show cb + 1 ≤ cb + 14 from by omega) hR.1) (Nat.le_trans (show sb + 6 ≤ sb + 3829 from by omega) hR.2) dL_law_2633
theorem cB_L_law_2579 {X : x_Ctx} {M0 : Mem} {L : Nat} {xs : Nat → Int32} {cb sb : Nat} (C : x_CC X 108 3296 yL_law cL_law 7 (some .boolean) []) {k23 : Nat → Nat → Nat → Nat → Int → Mem → Option (Int × Mem)} (hk23 : ∀ (v0 : Nat) (v1 : Nat) (v2 : Nat) (v3 : Nat) (v4 : Int) (M : Mem) (r : Int) (M' : Mem), (va_X v0 L xs (XS X) (XS X).heap ∧ L < 2 ^ 31) → m_kd M v1 = 1 → m_kd M v2 = 5 → m_kd M v3 = 19000 → k23 v0 v1 v2 v3 v4 M = some (r, M') → cb + 14 ≤ (XR X).cells ∧ sb + 3829 ≤ (XR X).slots → x_Z X (cb + 14) (sb + 3829) (x_QF X M0 (.returned (some (vI r))) M' (XR X).cells (XR X).slots) M0 M 7 [(0, .ref v0), (1, .ref v1), (2, .ref v2), (3, .ref v3), (4, vI v4)] 23 []) (v0 : Nat) (v1 : Nat) (v2 : Nat) (v3 : Nat) (v4 : Int) (s0 : Nat) (s1 : Int) (s2 : Int) (s3 : Int) (s4 : Int) (M : Mem) (r : Int) (M' : Mem) (hv0 : (va_X v0 L xs (XS X) (XS X).heap ∧ L < 2 ^ 31)) (hv1 : m_kd M v1 = 1) (hv2 : m_kd M v2 = 5) (hv3 : m_kd M v3 = 19000) (hs0 : m_kd M s0 = 1) (h : B_L_law_2579 L xs k23 v0 v1 v2 v3 v4 s0 s1 s2 s3 s4 M = some (r, M')) (hR : cb + 14 ≤ (XR X).cells ∧ sb + 3829 ≤ (XR X).slots) : x_Z X (cb + 0) (sb + 0) (x_QF X M0 (.returned (some (vI r))) M' (XR X).cells (XR X).slots) M0 M 7 [(0, .ref v0), (1, .ref v1), (2, .ref v2), (3, .ref v3), (4, vI v4)] 2579 [vI s4, vI s3, vI s2, vI s1, .ref s0] := by
  unfold B_L_law_2579 at h
  refine z_aload_n (pc := 2579) C 3 rfl dL_law_2579 ?_
  obtain ⟨r709, M710, e711, h⟩ := bNs h
  refine cX0_252 (pc := 2580) (st := []) (st1 := [vI r709]) C rfl (rm := { frames := 10, cells := 1, slots := 6, locals := 196 }) (ct_X0_interval C.2.1 s0 s1 s2 s3 s4 v3 M _ _ hs0 hv3 e711) ⟨by decide, by decide, Nat.le_trans (show cb + 1 ≤ cb + 14 from by omega) hR.1, Nat.le_trans (show sb + 6 ≤ sb + 3829 from by omega) hR.2⟩ rfl (Nat.le_of_ble_eq_true rfl) dL_law_2580 (c2 := cb + 1) (s2 := sb + 6) rfl rfl (fun x712 => ?_)
  have k713 := x712 _ 1 (by decide) (Or.inl (by decide)) hv1
  have k714 := x712 _ 5 (by decide) (Or.inl (by decide)) hv2
  have k715 := x712 _ 19000 (by decide) (Or.inr (by decide)) hv3
  refine z_istore (pc := 2583) C (lv' := [(0, .ref v0), (1, .ref v1), (2, .ref v2), (3, .ref v3), (4, vI v4), (5, vI r709)]) (by decide) rfl dL_law_2583 ?_
  refine z_aload_n (pc := 2585) C 2 rfl dL_law_2585 ?_
  refine z_aload_n (pc := 2586) C 0 rfl dL_law_2586 ?_
  refine z_iload (pc := 2587) C 4 rfl dL_law_2587 ?_
  refine z_iconst (pc := 2589) C dL_law_2589 ?_
  refine z_iadd (pc := 2590) C dL_law_2590 ?_
  obtain ⟨c716, h⟩ := ifn h
  refine z_sld (pc := 2591) C hv0.1 c716 dL_law_2591 ?_
  refine z_aload_n (pc := 2592) C 0 rfl dL_law_2592 ?_
  refine z_iload (pc := 2593) C 4 rfl dL_law_2593 ?_
  refine z_iconst (pc := 2595) C dL_law_2595 ?_
  refine z_iadd (pc := 2596) C dL_law_2596 ?_
  obtain ⟨c717, h⟩ := ifn h
  refine z_sld (pc := 2597) C hv0.1 c717 dL_law_2597 ?_
  refine z_aload_n (pc := 2598) C 0 rfl dL_law_2598 ?_
  refine z_iload (pc := 2599) C 4 rfl dL_law_2599 ?_
  refine z_iconst (pc := 2601) C dL_law_2601 ?_
  refine z_iadd (pc := 2602) C dL_law_2602 ?_
  obtain ⟨c718, h⟩ := ifn h
  refine z_sld (pc := 2603) C hv0.1 c718 dL_law_2603 ?_
  refine z_aload_n (pc := 2604) C 0 rfl dL_law_2604 ?_
  refine z_iload (pc := 2605) C 4 rfl dL_law_2605 ?_
  refine z_iconst (pc := 2607) C dL_law_2607 ?_
  refine z_iadd (pc := 2608) C dL_law_2608 ?_
  obtain ⟨c719, h⟩ := ifn h
  refine z_sld (pc := 2609) C hv0.1 c719 dL_law_2609 ?_
  refine z_if_eq (pc := 2610) C dL_law_2610 (tgt := 2617) (by decide) (fun c720 => ?_) (fun c720 => ?_)
  · have h := itt c720 h
    refine z_iconst (pc := 2617) C dL_law_2617 ?_
    exact cB_L_law_2618 C hk23 v0 v1 v2 v3 v4 r709 v2 ((xs (ixn (v4 + 1))).toInt) ((xs (ixn (v4 + 2))).toInt) ((xs (ixn (v4 + 3))).toInt) 0 M710 _ _ hv0 k713 k714 k715 k714 h hR
  · have h := itf c720 h
    refine z_iconst (pc := 2613) C dL_law_2613 ?_
    refine z_goto (pc := 2614) C dL_law_2614 (tgt := 2618) (by decide) ?_
    exact cB_L_law_2618 C hk23 v0 v1 v2 v3 v4 r709 v2 ((xs (ixn (v4 + 1))).toInt) ((xs (ixn (v4 + 2))).toInt) ((xs (ixn (v4 + 3))).toInt) 1 M710 _ _ hv0 k713 k714 k715 k714 h hR
theorem cB_L_law_2546 {X : x_Ctx} {M0 : Mem} {L : Nat} {xs : Nat → Int32} {cb sb : Nat} (C : x_CC X 108 3296 yL_law cL_law 7 (some .boolean) []) {k23 : Nat → Nat → Nat → Nat → Int → Mem → Option (Int × Mem)} (hk23 : ∀ (v0 : Nat) (v1 : Nat) (v2 : Nat) (v3 : Nat) (v4 : Int) (M : Mem) (r : Int) (M' : Mem), (va_X v0 L xs (XS X) (XS X).heap ∧ L < 2 ^ 31) → m_kd M v1 = 1 → m_kd M v2 = 5 → m_kd M v3 = 19000 → k23 v0 v1 v2 v3 v4 M = some (r, M') → cb + 14 ≤ (XR X).cells ∧ sb + 3829 ≤ (XR X).slots → x_Z X (cb + 14) (sb + 3829) (x_QF X M0 (.returned (some (vI r))) M' (XR X).cells (XR X).slots) M0 M 7 [(0, .ref v0), (1, .ref v1), (2, .ref v2), (3, .ref v3), (4, vI v4)] 23 []) (v0 : Nat) (v1 : Nat) (v2 : Nat) (v3 : Nat) (v4 : Int) (M : Mem) (r : Int) (M' : Mem) (hv0 : (va_X v0 L xs (XS X) (XS X).heap ∧ L < 2 ^ 31)) (hv1 : m_kd M v1 = 1) (hv2 : m_kd M v2 = 5) (hv3 : m_kd M v3 = 19000) (h : B_L_law_2546 L xs k23 v0 v1 v2 v3 v4 M = some (r, M')) (hR : cb + 14 ≤ (XR X).cells ∧ sb + 3829 ≤ (XR X).slots) : x_Z X (cb + 0) (sb + 0) (x_QF X M0 (.returned (some (vI r))) M' (XR X).cells (XR X).slots) M0 M 7 [(0, .ref v0), (1, .ref v1), (2, .ref v2), (3, .ref v3), (4, vI v4)] 2546 [] := by
  unfold B_L_law_2546 at h
  refine z_aload_n (pc := 2546) C 1 rfl dL_law_2546 ?_
  refine z_aload_n (pc := 2547) C 0 rfl dL_law_2547 ?_
  refine z_iload (pc := 2548) C 4 rfl dL_law_2548 ?_
  refine z_iconst (pc := 2550) C dL_law_2550 ?_
  refine z_iadd (pc := 2551) C dL_law_2551 ?_
  obtain ⟨c704, h⟩ := ifn h
  refine z_sld (pc := 2552) C hv0.1 c704 dL_law_2552 ?_
  refine z_aload_n (pc := 2553) C 0 rfl dL_law_2553 ?_
  refine z_iload (pc := 2554) C 4 rfl dL_law_2554 ?_
  refine z_iconst (pc := 2556) C dL_law_2556 ?_
  refine z_iadd (pc := 2557) C dL_law_2557 ?_
  obtain ⟨c705, h⟩ := ifn h
  refine z_sld (pc := 2558) C hv0.1 c705 dL_law_2558 ?_
  refine z_aload_n (pc := 2559) C 0 rfl dL_law_2559 ?_
  refine z_iload (pc := 2560) C 4 rfl dL_law_2560 ?_
  refine z_iconst (pc := 2562) C dL_law_2562 ?_
  refine z_iadd (pc := 2563) C dL_law_2563 ?_
  obtain ⟨c706, h⟩ := ifn h
  refine z_sld (pc := 2564) C hv0.1 c706 dL_law_2564 ?_
  refine z_aload_n (pc := 2565) C 0 rfl dL_law_2565 ?_
  refine z_iload (pc := 2566) C 4 rfl dL_law_2566 ?_
  refine z_iconst (pc := 2568) C dL_law_2568 ?_
  refine z_iadd (pc := 2569) C dL_law_2569 ?_
  obtain ⟨c707, h⟩ := ifn h
  refine z_sld (pc := 2570) C hv0.1 c707 dL_law_2570 ?_
  refine z_if_eq (pc := 2571) C dL_law_2571 (tgt := 2578) (by decide) (fun c708 => ?_) (fun c708 => ?_)
  · have h := itt c708 h
    refine z_iconst (pc := 2578) C dL_law_2578 ?_
    exact cB_L_law_2579 C hk23 v0 v1 v2 v3 v4 v1 ((xs (ixn (v4 + 1))).toInt) ((xs (ixn (v4 + 2))).toInt) ((xs (ixn (v4 + 3))).toInt) 0 M _ _ hv0 hv1 hv2 hv3 hv1 h hR
  · have h := itf c708 h
    refine z_iconst (pc := 2574) C dL_law_2574 ?_
    refine z_goto (pc := 2575) C dL_law_2575 (tgt := 2579) (by decide) ?_
    exact cB_L_law_2579 C hk23 v0 v1 v2 v3 v4 v1 ((xs (ixn (v4 + 1))).toInt) ((xs (ixn (v4 + 2))).toInt) ((xs (ixn (v4 + 3))).toInt) 1 M _ _ hv0 hv1 hv2 hv3 hv1 h hR
theorem cB_L_law_2654 {X : x_Ctx} {M0 : Mem} {L : Nat} {xs : Nat → Int32} {cb sb : Nat} (C : x_CC X 108 3296 yL_law cL_law 7 (some .boolean) []) {k23 : Nat → Nat → Nat → Nat → Int → Mem → Option (Int × Mem)} (hk23 : ∀ (v0 : Nat) (v1 : Nat) (v2 : Nat) (v3 : Nat) (v4 : Int) (M : Mem) (r : Int) (M' : Mem), (va_X v0 L xs (XS X) (XS X).heap ∧ L < 2 ^ 31) → m_kd M v1 = 1 → m_kd M v2 = 5 → m_kd M v3 = 19000 → k23 v0 v1 v2 v3 v4 M = some (r, M') → cb + 14 ≤ (XR X).cells ∧ sb + 3829 ≤ (XR X).slots → x_Z X (cb + 14) (sb + 3829) (x_QF X M0 (.returned (some (vI r))) M' (XR X).cells (XR X).slots) M0 M 7 [(0, .ref v0), (1, .ref v1), (2, .ref v2), (3, .ref v3), (4, vI v4)] 23 []) (v0 : Nat) (v1 : Nat) (v2 : Nat) (v3 : Nat) (v4 : Int) (M : Mem) (r : Int) (M' : Mem) (hv0 : (va_X v0 L xs (XS X) (XS X).heap ∧ L < 2 ^ 31)) (hv1 : m_kd M v1 = 1) (hv2 : m_kd M v2 = 5) (hv3 : m_kd M v3 = 19000) (h : B_L_law_2654 L xs k23 v0 v1 v2 v3 v4 M = some (r, M')) (hR : cb + 14 ≤ (XR X).cells ∧ sb + 3829 ≤ (XR X).slots) : x_Z X (cb + 0) (sb + 0) (x_QF X M0 (.returned (some (vI r))) M' (XR X).cells (XR X).slots) M0 M 7 [(0, .ref v0), (1, .ref v1), (2, .ref v2), (3, .ref v3), (4, vI v4)] 2654 [] := by
  unfold B_L_law_2654 at h
  refine z_aload_n (pc := 2654) C 1 rfl dL_law_2654 ?_
  refine z_aload_n (pc := 2655) C 0 rfl dL_law_2655 ?_
  refine z_iload (pc := 2656) C 4 rfl dL_law_2656 ?_
  refine z_iconst (pc := 2658) C dL_law_2658 ?_
  refine z_iadd (pc := 2659) C dL_law_2659 ?_
  obtain ⟨c733, h⟩ := ifn h
  refine z_sld (pc := 2660) C hv0.1 c733 dL_law_2660 ?_
  refine z_aload_n (pc := 2661) C 0 rfl dL_law_2661 ?_
  refine z_iload (pc := 2662) C 4 rfl dL_law_2662 ?_
  refine z_iconst (pc := 2664) C dL_law_2664 ?_
  refine z_iadd (pc := 2665) C dL_law_2665 ?_
  obtain ⟨c734, h⟩ := ifn h
  refine z_sld (pc := 2666) C hv0.1 c734 dL_law_2666 ?_
  refine z_aload_n (pc := 2667) C 3 rfl dL_law_2667 ?_
  obtain ⟨r735, M736, e737, h⟩ := bNs h
  refine cX0_256 (pc := 2668) (st := []) (st1 := [vI r735]) C rfl (rm := { frames := 9, cells := 1, slots := 6, locals := 168 }) (ct_X0_round C.2.1 v1 ((xs (ixn (v4 + 1))).toInt) ((xs (ixn (v4 + 2))).toInt) v3 M _ _ hv1 hv3 e737) ⟨by decide, by decide, Nat.le_trans (show cb + 1 ≤ cb + 14 from by omega) hR.1, Nat.le_trans (show sb + 6 ≤ sb + 3829 from by omega) hR.2⟩ rfl (Nat.le_of_ble_eq_true rfl) dL_law_2668 (c2 := cb + 1) (s2 := sb + 6) rfl rfl (fun x738 => ?_)
  have k739 := x738 _ 1 (by decide) (Or.inl (by decide)) hv1
  have k740 := x738 _ 5 (by decide) (Or.inl (by decide)) hv2
  have k741 := x738 _ 19000 (by decide) (Or.inr (by decide)) hv3
  refine z_istore (pc := 2671) C (lv' := [(0, .ref v0), (1, .ref v1), (2, .ref v2), (3, .ref v3), (4, vI v4), (5, vI r735)]) (by decide) rfl dL_law_2671 ?_
  refine z_aload_n (pc := 2673) C 2 rfl dL_law_2673 ?_
  refine z_aload_n (pc := 2674) C 0 rfl dL_law_2674 ?_
  refine z_iload (pc := 2675) C 4 rfl dL_law_2675 ?_
  refine z_iconst (pc := 2677) C dL_law_2677 ?_
  refine z_iadd (pc := 2678) C dL_law_2678 ?_
  refine z_sld (pc := 2679) C hv0.1 c733 dL_law_2679 ?_
  refine z_aload_n (pc := 2680) C 0 rfl dL_law_2680 ?_
  refine z_iload (pc := 2681) C 4 rfl dL_law_2681 ?_
  refine z_iconst (pc := 2683) C dL_law_2683 ?_
  refine z_iadd (pc := 2684) C dL_law_2684 ?_
  refine z_sld (pc := 2685) C hv0.1 c734 dL_law_2685 ?_
  obtain ⟨r742, M743, e744, h⟩ := bNs h
  refine cX0_258 (pc := 2686) (st := []) (st1 := [vI r742]) C rfl (rm := { frames := 3, cells := 0, slots := 0, locals := 88 }) (ct_X5_round C.2.1 v2 ((xs (ixn (v4 + 1))).toInt) ((xs (ixn (v4 + 2))).toInt) M736 _ _ k740 e744) ⟨by decide, by decide, Nat.le_trans (show cb + 1 ≤ cb + 14 from by omega) hR.1, Nat.le_trans (show sb + 6 ≤ sb + 3829 from by omega) hR.2⟩ (Or.inl k740) rfl (Nat.le_of_ble_eq_true rfl) dL_law_2686 (c2 := cb + 1) (s2 := sb + 6) rfl rfl (fun x745 => ?_)
  have k746 := x745 _ 1 (by decide) (Or.inl (by decide)) k739
  have k747 := x745 _ 5 (by decide) (Or.inl (by decide)) k740
  have k748 := x745 _ 19000 (by decide) (Or.inr (by decide)) k741
  refine z_istore (pc := 2689) C (lv' := [(0, .ref v0), (1, .ref v1), (2, .ref v2), (3, .ref v3), (4, vI v4), (5, vI r735), (6, vI r742)]) (by decide) rfl dL_law_2689 ?_
  refine z_aload_n (pc := 2691) C 2 rfl dL_law_2691 ?_
  refine cX0_151 (pc := 2692) (st := []) (st1 := [vI (d_X5_thrown v2 M743)]) C rfl (rm := { frames := 1, cells := 0, slots := 0, locals := 24 }) (ct_X5_thrown C.2.1 v2 M743 _ k747 rfl) ⟨by decide, by decide, Nat.le_trans (show cb + 1 ≤ cb + 14 from by omega) hR.1, Nat.le_trans (show sb + 6 ≤ sb + 3829 from by omega) hR.2⟩ (Or.inl k747) rfl (Nat.le_of_ble_eq_true rfl) dL_law_2692 (c2 := cb + 1) (s2 := sb + 6) rfl rfl (fun _ => ?_)
  refine z_iload (pc := 2695) C 5 rfl dL_law_2695 ?_
  refine z_ic_eq (pc := 2697) C dL_law_2697 (tgt := 2702) (by decide) (fun c750 => ?_) (fun c750 => ?_)
  · have h := itt c750 h
    refine z_iload (pc := 2702) C 5 rfl dL_law_2702 ?_
    refine z_if_ne (pc := 2704) C dL_law_2704 (tgt := 2719) (by decide) (fun c751 => ?_) (fun c751 => ?_)
    · have h := itf c751 h
      refine z_goto (pc := 2719) C dL_law_2719 (tgt := 3074) (by decide) ?_
      exact z_wide (show cb + 1 ≤ cb + 14 from by omega) (show sb + 6 ≤ sb + 3829 from by omega) <| z_lv [0, 1, 2, 3, 4] rfl <| cB_L_law_3074 C hk23 v0 v1 v2 v3 v4 M743 _ _ hv0 k746 k747 k748 h hR
    · have h := itt c751 h
      refine z_aload_n (pc := 2707) C 3 rfl dL_law_2707 ?_
      refine z_iconst (pc := 2708) C dL_law_2708 ?_
      refine z_law (pc := 2709) C k748 (by decide +kernel) dL_law_2709 ?_
      refine z_iload (pc := 2710) C 6 rfl dL_law_2710 ?_
      refine z_i2l (pc := 2712) C dL_law_2712 ?_
      refine z_lc_eq (pc := 2713) C dL_law_2713 dL_law_2714 (tgt := 2719) (by decide) (fun c752 => ?_) (fun c752 => ?_)
      · have h := itt c752 h
        refine z_goto (pc := 2719) C dL_law_2719 (tgt := 3074) (by decide) ?_
        exact z_wide (show cb + 1 ≤ cb + 14 from by omega) (show sb + 6 ≤ sb + 3829 from by omega) <| z_lv [0, 1, 2, 3, 4] rfl <| cB_L_law_3074 C hk23 v0 v1 v2 v3 v4 M743 _ _ hv0 k746 k747 k748 h hR
      · have h := itf c752 h
        refine z_iconst (pc := 2717) C dL_law_2717 ?_
        cases h
        exact z_zret (pc := 2718) C rfl (Or.inl rfl) (Nat.le_trans (show cb + 1 ≤ cb + 14 from by omega) hR.1) (Nat.le_trans (show sb + 6 ≤ sb + 3829 from by omega) hR.2) dL_law_2718
  · have h := itf c750 h
    refine z_iconst (pc := 2700) C dL_law_2700 ?_
    cases h
    exact z_zret (pc := 2701) C rfl (Or.inl rfl) (Nat.le_trans (show cb + 1 ≤ cb + 14 from by omega) hR.1) (Nat.le_trans (show sb + 6 ≤ sb + 3829 from by omega) hR.2) dL_law_2701
