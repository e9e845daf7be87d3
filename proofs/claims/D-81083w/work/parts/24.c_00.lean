set_option maxRecDepth 100000
def d_J13_bitCount (v0 : Int) : Int :=
  a32 (((a32 (((a32 (v0 - (a32 (u32 v0 1) 1431655765)) 858993459) + (a32 (u32 (v0 - (a32 (u32 v0 1) 1431655765)) 2) 858993459)) + (u32 ((a32 (v0 - (a32 (u32 v0 1) 1431655765)) 858993459) + (a32 (u32 (v0 - (a32 (u32 v0 1) 1431655765)) 2) 858993459)) 4)) 252645135) + (u32 (a32 (((a32 (v0 - (a32 (u32 v0 1) 1431655765)) 858993459) + (a32 (u32 (v0 - (a32 (u32 v0 1) 1431655765)) 2) 858993459)) + (u32 ((a32 (v0 - (a32 (u32 v0 1) 1431655765)) 858993459) + (a32 (u32 (v0 - (a32 (u32 v0 1) 1431655765)) 2) 858993459)) 4)) 252645135) 8)) + (u32 ((a32 (((a32 (v0 - (a32 (u32 v0 1) 1431655765)) 858993459) + (a32 (u32 (v0 - (a32 (u32 v0 1) 1431655765)) 2) 858993459)) + (u32 ((a32 (v0 - (a32 (u32 v0 1) 1431655765)) 858993459) + (a32 (u32 (v0 - (a32 (u32 v0 1) 1431655765)) 2) 858993459)) 4)) 252645135) + (u32 (a32 (((a32 (v0 - (a32 (u32 v0 1) 1431655765)) 858993459) + (a32 (u32 (v0 - (a32 (u32 v0 1) 1431655765)) 2) 858993459)) + (u32 ((a32 (v0 - (a32 (u32 v0 1) 1431655765)) 858993459) + (a32 (u32 (v0 - (a32 (u32 v0 1) 1431655765)) 2) 858993459)) 4)) 252645135) 8)) 16)) 63
theorem ct_J13_bitCount {l : Launch} {S0 : State} {D : va_G} {cA : Nat → ClassId} (hG : x_G l S0 D cA) (v0 : Int) (M : Mem) (r : Int)  (h : d_J13_bitCount v0 = r) : x_Me l S0 D cA yJ13_bitCount cJ13_bitCount 1 (some .int) [] ({ frames := 1, cells := 0, slots := 0, locals := 24 }) [vI v0] M (.returned (some (vI r))) M := by
  refine x_begin (F := 1) (Lo := 24) (mc := 0) (ms := 0) hG (Nat.le_of_ble_eq_true rfl) (lv := [(0, vI v0)]) rfl rfl rfl rfl rfl (fun X e1 e2 e3 e4 e5 C => ?_)
  unfold d_J13_bitCount at h
  refine z_iload_n (pc := 0) C 0 rfl dJ13_bitCount_0 ?_
  refine z_iload_n (pc := 1) C 0 rfl dJ13_bitCount_1 ?_
  refine z_iconst (pc := 2) C dJ13_bitCount_2 ?_
  refine z_iushr (pc := 3) C dJ13_bitCount_3 ?_
  refine z_ldcw (pc := 4) C (x := 1431655765) q1204 (by decide +kernel) dJ13_bitCount_4 ?_
  refine z_iand (pc := 7) C dJ13_bitCount_7 ?_
  refine z_isub (pc := 8) C dJ13_bitCount_8 ?_
  refine z_istore_n (pc := 9) C (lv' := [(0, vI (v0 - (a32 (u32 v0 1) 1431655765)))]) (by decide) rfl dJ13_bitCount_9 ?_
  refine z_iload_n (pc := 10) C 0 rfl dJ13_bitCount_10 ?_
  refine z_ldcw (pc := 11) C (x := 858993459) q1205 (by decide +kernel) dJ13_bitCount_11 ?_
  refine z_iand (pc := 14) C dJ13_bitCount_14 ?_
  refine z_iload_n (pc := 15) C 0 rfl dJ13_bitCount_15 ?_
  refine z_iconst (pc := 16) C dJ13_bitCount_16 ?_
  refine z_iushr (pc := 17) C dJ13_bitCount_17 ?_
  refine z_ldcw (pc := 18) C (x := 858993459) q1205 (by decide +kernel) dJ13_bitCount_18 ?_
  refine z_iand (pc := 21) C dJ13_bitCount_21 ?_
  refine z_iadd (pc := 22) C dJ13_bitCount_22 ?_
  refine z_istore_n (pc := 23) C (lv' := [(0, vI ((a32 (v0 - (a32 (u32 v0 1) 1431655765)) 858993459) + (a32 (u32 (v0 - (a32 (u32 v0 1) 1431655765)) 2) 858993459)))]) (by decide) rfl dJ13_bitCount_23 ?_
  refine z_iload_n (pc := 24) C 0 rfl dJ13_bitCount_24 ?_
  refine z_iload_n (pc := 25) C 0 rfl dJ13_bitCount_25 ?_
  refine z_iconst (pc := 26) C dJ13_bitCount_26 ?_
  refine z_iushr (pc := 27) C dJ13_bitCount_27 ?_
  refine z_iadd (pc := 28) C dJ13_bitCount_28 ?_
  refine z_ldcw (pc := 29) C (x := 252645135) q1206 (by decide +kernel) dJ13_bitCount_29 ?_
  refine z_iand (pc := 32) C dJ13_bitCount_32 ?_
  refine z_istore_n (pc := 33) C (lv' := [(0, vI (a32 (((a32 (v0 - (a32 (u32 v0 1) 1431655765)) 858993459) + (a32 (u32 (v0 - (a32 (u32 v0 1) 1431655765)) 2) 858993459)) + (u32 ((a32 (v0 - (a32 (u32 v0 1) 1431655765)) 858993459) + (a32 (u32 (v0 - (a32 (u32 v0 1) 1431655765)) 2) 858993459)) 4)) 252645135))]) (by decide) rfl dJ13_bitCount_33 ?_
  refine z_iload_n (pc := 34) C 0 rfl dJ13_bitCount_34 ?_
  refine z_iload_n (pc := 35) C 0 rfl dJ13_bitCount_35 ?_
  refine z_bipush (pc := 36) C (by decide +kernel) dJ13_bitCount_36 ?_
  refine z_iushr (pc := 38) C dJ13_bitCount_38 ?_
  refine z_iadd (pc := 39) C dJ13_bitCount_39 ?_
  refine z_istore_n (pc := 40) C (lv' := [(0, vI ((a32 (((a32 (v0 - (a32 (u32 v0 1) 1431655765)) 858993459) + (a32 (u32 (v0 - (a32 (u32 v0 1) 1431655765)) 2) 858993459)) + (u32 ((a32 (v0 - (a32 (u32 v0 1) 1431655765)) 858993459) + (a32 (u32 (v0 - (a32 (u32 v0 1) 1431655765)) 2) 858993459)) 4)) 252645135) + (u32 (a32 (((a32 (v0 - (a32 (u32 v0 1) 1431655765)) 858993459) + (a32 (u32 (v0 - (a32 (u32 v0 1) 1431655765)) 2) 858993459)) + (u32 ((a32 (v0 - (a32 (u32 v0 1) 1431655765)) 858993459) + (a32 (u32 (v0 - (a32 (u32 v0 1) 1431655765)) 2) 858993459)) 4)) 252645135) 8)))]) (by decide) rfl dJ13_bitCount_40 ?_
  refine z_iload_n (pc := 41) C 0 rfl dJ13_bitCount_41 ?_
  refine z_iload_n (pc := 42) C 0 rfl dJ13_bitCount_42 ?_
  refine z_bipush (pc := 43) C (by decide +kernel) dJ13_bitCount_43 ?_
  refine z_iushr (pc := 45) C dJ13_bitCount_45 ?_
  refine z_iadd (pc := 46) C dJ13_bitCount_46 ?_
  refine z_istore_n (pc := 47) C (lv' := [(0, vI (((a32 (((a32 (v0 - (a32 (u32 v0 1) 1431655765)) 858993459) + (a32 (u32 (v0 - (a32 (u32 v0 1) 1431655765)) 2) 858993459)) + (u32 ((a32 (v0 - (a32 (u32 v0 1) 1431655765)) 858993459) + (a32 (u32 (v0 - (a32 (u32 v0 1) 1431655765)) 2) 858993459)) 4)) 252645135) + (u32 (a32 (((a32 (v0 - (a32 (u32 v0 1) 1431655765)) 858993459) + (a32 (u32 (v0 - (a32 (u32 v0 1) 1431655765)) 2) 858993459)) + (u32 ((a32 (v0 - (a32 (u32 v0 1) 1431655765)) 858993459) + (a32 (u32 (v0 - (a32 (u32 v0 1) 1431655765)) 2) 858993459)) 4)) 252645135) 8)) + (u32 ((a32 (((a32 (v0 - (a32 (u32 v0 1) 1431655765)) 858993459) + (a32 (u32 (v0 - (a32 (u32 v0 1) 1431655765)) 2) 858993459)) + (u32 ((a32 (v0 - (a32 (u32 v0 1) 1431655765)) 858993459) + (a32 (u32 (v0 - (a32 (u32 v0 1) 1431655765)) 2) 858993459)) 4)) 252645135) + (u32 (a32 (((a32 (v0 - (a32 (u32 v0 1) 1431655765)) 858993459) + (a32 (u32 (v0 - (a32 (u32 v0 1) 1431655765)) 2) 858993459)) + (u32 ((a32 (v0 - (a32 (u32 v0 1) 1431655765)) 858993459) + (a32 (u32 (v0 - (a32 (u32 v0 1) 1431655765)) 2) 858993459)) 4)) 252645135) 8)) 16)))]) (by decide) rfl dJ13_bitCount_47 ?_
  refine z_iload_n (pc := 48) C 0 rfl dJ13_bitCount_48 ?_
  refine z_bipush (pc := 49) C (by decide +kernel) dJ13_bitCount_49 ?_
  refine z_iand (pc := 51) C dJ13_bitCount_51 ?_
  subst h
  exact z_iret (pc := 52) C rfl (show 0 ≤ 0 from by decide) (show 0 ≤ 0 from by decide) dJ13_bitCount_52
def d_X1_isIn (v0 : Int) (v2 : Int) (v4 : Int) : Int :=
  if w64 v0 < w64 v2 then
    0
  else
    if w64 v4 < w64 v0 then
      0
    else
      1
theorem ct_X1_isIn {l : Launch} {S0 : State} {D : va_G} {cA : Nat → ClassId} (hG : x_G l S0 D cA) (v0 : Int) (v2 : Int) (v4 : Int) (M : Mem) (r : Int)  (h : d_X1_isIn v0 v2 v4 = r) : x_Me l S0 D cA yX1_isIn cX1_isIn 6 (some .boolean) [] ({ frames := 1, cells := 0, slots := 0, locals := 24 }) [vL v0, vL v2, vL v4] M (.returned (some (vI r))) M := by
  refine x_begin (F := 1) (Lo := 24) (mc := 0) (ms := 0) hG (Nat.le_of_ble_eq_true rfl) (lv := [(0, vL v0), (2, vL v2), (4, vL v4)]) rfl rfl rfl rfl rfl (fun X e1 e2 e3 e4 e5 C => ?_)
  unfold d_X1_isIn at h
  refine z_lload_n (pc := 0) C 0 rfl dX1_isIn_0 ?_
  refine z_lload_n (pc := 1) C 1 rfl dX1_isIn_1 ?_
  refine z_lc_lt (pc := 2) C dX1_isIn_2 dX1_isIn_3 (tgt := 17) (by decide) (fun c1 => ?_) (fun c1 => ?_)
  · have h := itt c1 h
    refine z_iconst (pc := 17) C dX1_isIn_17 ?_
    subst h
    exact z_zret (pc := 18) C rfl (Or.inl rfl) (show 0 ≤ 0 from by decide) (show 0 ≤ 0 from by decide) dX1_isIn_18
  · have h := itf c1 h
    refine z_lload_n (pc := 6) C 0 rfl dX1_isIn_6 ?_
    refine z_lload (pc := 7) C 2 rfl dX1_isIn_7 ?_
    refine z_lc_gt (pc := 9) C dX1_isIn_9 dX1_isIn_10 (tgt := 17) (by decide) (fun c2 => ?_) (fun c2 => ?_)
    · have h := itt c2 h
      refine z_iconst (pc := 17) C dX1_isIn_17 ?_
      subst h
      exact z_zret (pc := 18) C rfl (Or.inl rfl) (show 0 ≤ 0 from by decide) (show 0 ≤ 0 from by decide) dX1_isIn_18
    · have h := itf c2 h
      refine z_iconst (pc := 13) C dX1_isIn_13 ?_
      refine z_goto (pc := 14) C dX1_isIn_14 (tgt := 18) (by decide) ?_
      subst h
      exact z_zret (pc := 18) C rfl (Or.inr rfl) (show 0 ≤ 0 from by decide) (show 0 ≤ 0 from by decide) dX1_isIn_18
def B_X1_tick_28  (v0 : Nat) (v1 : Int) (s0 : Int) (M : Mem) : Option ((Int ⊕ Nat) × Mem) :=
  bT (d_X1_need s0 M) fun r3 M4 => 
  some (.inl ((m_i M4 100 v0 0) + v1), (m_si M4 100 v0 0 ((m_i M4 100 v0 0) + v1)))
def B_X1_tick_27  (v0 : Nat) (v1 : Int) (M : Mem) : Option ((Int ⊕ Nat) × Mem) :=
  B_X1_tick_28 v0 v1 0 M
def d_X1_tick (v0 : Nat) (v1 : Int) (M : Mem) : Option ((Int ⊕ Nat) × Mem) :=
  if w32 (d_X1_isIn (w32 v1) 0 1000000) = 0 then
    B_X1_tick_27 v0 v1 M
  else
    if w32 100000000 < w32 ((m_i M 100 v0 0) + v1) then
      B_X1_tick_27 v0 v1 M
    else
      B_X1_tick_28 v0 v1 1 M
theorem cB_X1_tick_28 {X : x_Ctx} {M0 : Mem} (C : x_CC X 7 114 yX1_tick cX1_tick 2 (some .int) [])  (v0 : Nat) (v1 : Int) (s0 : Int) (M : Mem) (r : Int ⊕ Nat) (M' : Mem) (hv0 : m_kd M v0 = 1) (h : B_X1_tick_28  v0 v1 s0 M = some (r, M')) (hR : ocN r 0 1 ≤ (XR X).cells ∧ ocN r 0 6 ≤ (XR X).slots) : x_Z X 0 0 (x_QF X M0 (ocI r) M' (ocN r 0 1) (ocN r 0 6)) M0 M 2 [(0, .ref v0), (1, vI v1)] 28 [vI s0] := by
  unfold B_X1_tick_28 at h
  rcases bTs h with ⟨x7, e5, er⟩ | ⟨r3, M4, e5, h⟩
  · subst er; exact tX1_164 (pc := 28) C rfl (rm := { frames := 6, cells := 1, slots := 6, locals := 90 }) (ct_X1_need C.2.1 s0 M _ _  e5) ⟨by decide, by decide, Nat.le_trans (show 1 ≤ 1 from by decide) hR.1, Nat.le_trans (show 6 ≤ 6 from by decide) hR.2⟩ (Nat.le_of_ble_eq_true rfl) dX1_tick_28 (by decide) (show 1 ≤ 1 from by decide) (show 6 ≤ 6 from by decide)
  refine cX1_164 (pc := 28) (st := []) (st1 := []) C rfl (rm := { frames := 6, cells := 0, slots := 0, locals := 90 }) (ct_X1_need C.2.1 s0 M _ _  e5) ⟨by decide, by decide, Nat.zero_le _, Nat.zero_le _⟩ rfl (Nat.le_of_ble_eq_true rfl) dX1_tick_28 (c2 := 0) (s2 := 0) rfl rfl (fun x6 => ?_)
  have k8 := x6 _ 1 (by decide) (Or.inl (by decide)) hv0
  refine z_aload_n (pc := 31) C 0 rfl dX1_tick_31 ?_
  refine z_dup (pc := 32) C rfl dX1_tick_32 ?_
  refine gX1_100 (pc := 33) C rfl (Or.inl k8) rfl dX1_tick_33 ?_
  refine z_iload_n (pc := 36) C 1 rfl dX1_tick_36 ?_
  refine z_iadd (pc := 37) C dX1_tick_37 ?_
  refine pX1_100 (pc := 38) C rfl (Or.inl k8) dX1_tick_38 ?_
  refine z_aload_n (pc := 41) C 0 rfl dX1_tick_41 ?_
  refine gX1_100 (pc := 42) C rfl (Or.inl k8) (x := (m_i M4 100 v0 0) + v1) (m_i_self _ _ _ _ _) dX1_tick_42 ?_
  cases h
  exact z_iret (pc := 45) C rfl (show 0 ≤ 0 from by decide) (show 0 ≤ 0 from by decide) dX1_tick_45
theorem cB_X1_tick_27 {X : x_Ctx} {M0 : Mem} (C : x_CC X 7 114 yX1_tick cX1_tick 2 (some .int) [])  (v0 : Nat) (v1 : Int) (M : Mem) (r : Int ⊕ Nat) (M' : Mem) (hv0 : m_kd M v0 = 1) (h : B_X1_tick_27  v0 v1 M = some (r, M')) (hR : ocN r 0 1 ≤ (XR X).cells ∧ ocN r 0 6 ≤ (XR X).slots) : x_Z X 0 0 (x_QF X M0 (ocI r) M' (ocN r 0 1) (ocN r 0 6)) M0 M 2 [(0, .ref v0), (1, vI v1)] 27 [] := by
  unfold B_X1_tick_27 at h
  refine z_iconst (pc := 27) C dX1_tick_27 ?_
  exact cB_X1_tick_28 C v0 v1 0 M _ _ hv0 h hR
theorem ct_X1_tick {l : Launch} {S0 : State} {D : va_G} {cA : Nat → ClassId} (hG : x_G l S0 D cA) (v0 : Nat) (v1 : Int) (M : Mem) (r : Int ⊕ Nat) (M' : Mem) (hv0 : m_kd M v0 = 1) (h : d_X1_tick v0 v1 M = some (r, M')) : x_Me l S0 D cA yX1_tick cX1_tick 2 (some .int) [] ({ frames := 7, cells := (ocN r 0 1), slots := (ocN r 0 6), locals := 114 }) [.ref v0, vI v1] M (ocI r) M' := by
  refine x_begin (F := 7) (Lo := 114) (mc := (ocN r 0 1)) (ms := (ocN r 0 6)) hG (Nat.le_of_ble_eq_true rfl) (lv := [(0, .ref v0), (1, vI v1)]) rfl rfl rfl rfl rfl (fun X e1 e2 e3 e4 e5 C => ?_)
  have hR : _ ∧ _ := ⟨Nat.le_of_eq (congrArg Room.cells e5).symm, Nat.le_of_eq (congrArg Room.slots e5).symm⟩
  unfold d_X1_tick at h
  refine z_iload_n (pc := 0) C 1 rfl dX1_tick_0 ?_
  refine z_i2l (pc := 1) C dX1_tick_1 ?_
  refine z_lconst (pc := 2) C (x := 0) (by decide +kernel) dX1_tick_2 ?_
  refine z_ldc2 (pc := 3) C (x := 1000000) q452 (by decide +kernel) dX1_tick_3 ?_
  refine cX1_159 (pc := 6) (st := []) (st1 := [vI (d_X1_isIn (w32 v1) 0 1000000)]) C rfl (rm := { frames := 1, cells := 0, slots := 0, locals := 24 }) (ct_X1_isIn C.2.1 (w32 v1) 0 1000000 M _  rfl) ⟨by decide, by decide, Nat.zero_le _, Nat.zero_le _⟩ rfl (Nat.le_of_ble_eq_true rfl) dX1_tick_6 (c2 := 0) (s2 := 0) rfl rfl (fun _ => ?_)
  refine z_if_eq (pc := 9) C dX1_tick_9 (tgt := 27) (by decide) (fun c2 => ?_) (fun c2 => ?_)
  · have h := itt c2 h
    exact cB_X1_tick_27 C v0 v1 M _ _ hv0 h hR
  · have h := itf c2 h
    refine z_aload_n (pc := 12) C 0 rfl dX1_tick_12 ?_
    refine gX1_100 (pc := 13) C rfl (Or.inl hv0) rfl dX1_tick_13 ?_
    refine z_iload_n (pc := 16) C 1 rfl dX1_tick_16 ?_
    refine z_iadd (pc := 17) C dX1_tick_17 ?_
    refine z_ldc (pc := 18) C (x := 100000000) q456 (by decide +kernel) dX1_tick_18 ?_
    refine z_ic_gt (pc := 20) C dX1_tick_20 (tgt := 27) (by decide) (fun c9 => ?_) (fun c9 => ?_)
    · have h := itt c9 h
      exact cB_X1_tick_27 C v0 v1 M _ _ hv0 h hR
    · have h := itf c9 h
      refine z_iconst (pc := 23) C dX1_tick_23 ?_
      refine z_goto (pc := 24) C dX1_tick_24 (tgt := 28) (by decide) ?_
      exact cB_X1_tick_28 C v0 v1 1 M _ _ hv0 h hR
def d_X0_tick (v0 : Nat) (v1 : Int) (v2 : Nat) (M : Mem) : Option (Int × Mem) :=
  bC (d_X1_tick v0 v1 M) (fun r1 M3 =>
    some (0, (m_si M3 9000 v2 (ixn 0) (w32 r1)))) (fun q2 M3 =>
    if m_kd M3 q2 = 113 then
      some (1, M3)
    else
      none)
theorem ct_X0_tick {l : Launch} {S0 : State} {D : va_G} {cA : Nat → ClassId} (hG : x_G l S0 D cA) (v0 : Nat) (v1 : Int) (v2 : Nat) (M : Mem) (r : Int) (M' : Mem) (hv0 : m_kd M v0 = 1) (hv2 : m_kd M v2 = 19000) (h : d_X0_tick v0 v1 v2 M = some (r, M')) : x_Me l S0 D cA yX0_tick cX0_tick 4 (some .int) [(0, 9, 12, 13)] ({ frames := 8, cells := 1, slots := 6, locals := 139 }) [.ref v0, vI v1, .ref v2] M (.returned (some (vI r))) M' := by
  refine x_begin (F := 8) (Lo := 139) (mc := 1) (ms := 6) hG (Nat.le_of_ble_eq_true rfl) (lv := [(0, .ref v0), (1, vI v1), (2, .ref v2)]) rfl rfl rfl rfl rfl (fun X e1 e2 e3 e4 e5 C => ?_)
  have hR : _ ∧ _ := ⟨Nat.le_of_eq (congrArg Room.cells e5).symm, Nat.le_of_eq (congrArg Room.slots e5).symm⟩
  unfold d_X0_tick at h
  refine z_aload_n (pc := 0) C 2 rfl dX0_tick_0 ?_
  refine z_iconst (pc := 1) C dX0_tick_1 ?_
  refine z_aload_n (pc := 2) C 0 rfl dX0_tick_2 ?_
  refine z_iload_n (pc := 3) C 1 rfl dX0_tick_3 ?_
  rcases bCs h with ⟨r1, M3, e4, h⟩ | ⟨q2, M3, e4, h⟩
  · refine cX0_7 (pc := 4) (st := [vI 0, .ref v2]) (st1 := [vI r1, vI 0, .ref v2]) C rfl (rm := { frames := 7, cells := 0, slots := 0, locals := 114 }) (ct_X1_tick C.2.1 v0 v1 M _ _ hv0 e4) ⟨by decide, by decide, Nat.zero_le _, Nat.zero_le _⟩ (Or.inl hv0) rfl (Nat.le_of_ble_eq_true rfl) dX0_tick_4 (c2 := 0) (s2 := 0) rfl rfl (fun x5 => ?_)
    have k6 := x5 _ 19000 (by decide) (Or.inr (by decide)) hv2
    refine z_i2l (pc := 7) C dX0_tick_7 ?_
    refine z_lsw (pc := 8) C k6 (by decide +kernel) dX0_tick_8 ?_
    refine z_goto (pc := 9) C dX0_tick_9 (tgt := 15) (by decide) ?_
    refine z_iconst (pc := 15) C dX0_tick_15 ?_
    cases h
    exact z_iret (pc := 16) C rfl (show 0 ≤ 1 from by decide) (show 0 ≤ 6 from by decide) dX0_tick_16
  · by_cases c7 : m_kd M3 q2 = 113
    · have h := itt c7 h
      refine kX0_7 (pc := 4) (st := [vI 0, .ref v2]) C rfl (rm := { frames := 7, cells := 1, slots := 6, locals := 114 }) (r := q2) (ct_X1_tick C.2.1 v0 v1 M _ _ hv0 e4) ⟨by decide, by decide, Nat.le_trans (show 1 ≤ 1 from by decide) hR.1, Nat.le_trans (show 6 ≤ 6 from by decide) hR.2⟩ (Or.inl hv0) (Nat.le_of_ble_eq_true rfl) dX0_tick_4 (e := 13) (hpc := 12) (by decide) (Or.inr c7) (Or.inr ⟨by decide, by decide, 13, by decide, q447, Or.inl ⟨rfl, rfl⟩⟩) (c2 := 1) (s2 := 6) rfl rfl (fun x8 => ?_)
      refine z_astore_n (pc := 12) C (lv' := [(0, .ref v0), (1, vI v1), (2, .ref v2), (3, .ref q2)]) (by decide) rfl dX0_tick_12 ?_
      refine z_iconst (pc := 13) C dX0_tick_13 ?_
      cases h
      exact z_iret (pc := 14) C rfl (show 1 ≤ 1 from by decide) (show 6 ≤ 6 from by decide) dX0_tick_14
    · have h := itf c7 h
      cases h
def B_X1_unit_14  (v0 : Nat) (s0 : Int) (M : Mem) : Option ((Int ⊕ Nat) × Mem) :=
  bT (d_X1_room s0 M) fun r2 M3 => 
  if inb (m_i M3 101 v0 0) 100 then 
  some (.inl (m_i M3 101 v0 0), (m_si (m_si M3 104 v0 (ixn (m_i M3 101 v0 0)) (-1)) 101 v0 0 ((m_i M3 101 v0 0) + 1))) else none
def d_X1_unit (v0 : Nat) (M : Mem) : Option ((Int ⊕ Nat) × Mem) :=
  if w32 100 ≤ w32 (m_i M 101 v0 0) then
    B_X1_unit_14 v0 0 M
  else
    B_X1_unit_14 v0 1 M
theorem cB_X1_unit_14 {X : x_Ctx} {M0 : Mem} (C : x_CC X 7 114 yX1_unit cX1_unit 1 (some .int) [])  (v0 : Nat) (s0 : Int) (M : Mem) (r : Int ⊕ Nat) (M' : Mem) (hv0 : m_kd M v0 = 1) (h : B_X1_unit_14  v0 s0 M = some (r, M')) (hR : ocN r 0 1 ≤ (XR X).cells ∧ ocN r 0 6 ≤ (XR X).slots) : x_Z X 0 0 (x_QF X M0 (ocI r) M' (ocN r 0 1) (ocN r 0 6)) M0 M 1 [(0, .ref v0)] 14 [vI s0] := by
  unfold B_X1_unit_14 at h
  rcases bTs h with ⟨x6, e4, er⟩ | ⟨r2, M3, e4, h⟩
  · subst er; exact tX1_176 (pc := 14) C rfl (rm := { frames := 6, cells := 1, slots := 6, locals := 90 }) (ct_X1_room C.2.1 s0 M _ _  e4) ⟨by decide, by decide, Nat.le_trans (show 1 ≤ 1 from by decide) hR.1, Nat.le_trans (show 6 ≤ 6 from by decide) hR.2⟩ (Nat.le_of_ble_eq_true rfl) dX1_unit_14 (by decide) (show 1 ≤ 1 from by decide) (show 6 ≤ 6 from by decide)
  refine cX1_176 (pc := 14) (st := []) (st1 := []) C rfl (rm := { frames := 6, cells := 0, slots := 0, locals := 90 }) (ct_X1_room C.2.1 s0 M _ _  e4) ⟨by decide, by decide, Nat.zero_le _, Nat.zero_le _⟩ rfl (Nat.le_of_ble_eq_true rfl) dX1_unit_14 (c2 := 0) (s2 := 0) rfl rfl (fun x5 => ?_)
  have k7 := x5 _ 1 (by decide) (Or.inl (by decide)) hv0
  refine z_aload_n (pc := 17) C 0 rfl dX1_unit_17 ?_
  refine gX1_104 (pc := 18) C rfl k7 dX1_unit_18 ?_
  refine z_aload_n (pc := 21) C 0 rfl dX1_unit_21 ?_
  refine gX1_101 (pc := 22) C rfl (Or.inl k7) rfl dX1_unit_22 ?_
  refine z_iconst (pc := 25) C dX1_unit_25 ?_
  obtain ⟨c8, h⟩ := ifn h
  refine z_isO (pc := 26) (k := 1) (j := 4) C 104 rfl (by decide) (by decide) (by decide) rfl rfl rfl rfl k7 c8 dX1_unit_26 ?_
  refine z_aload_n (pc := 27) C 0 rfl dX1_unit_27 ?_
  refine z_dup (pc := 28) C rfl dX1_unit_28 ?_
  refine gX1_101 (pc := 29) C rfl (Or.inl k7) (x := m_i M3 101 v0 0) ((m_i_ne (by decide)).trans rfl) dX1_unit_29 ?_
  refine z_dupx1 (pc := 32) C rfl rfl dX1_unit_32 ?_
  refine z_iconst (pc := 33) C dX1_unit_33 ?_
  refine z_iadd (pc := 34) C dX1_unit_34 ?_
  refine pX1_101 (pc := 35) C rfl (Or.inl k7) dX1_unit_35 ?_
  cases h
  exact z_iret (pc := 38) C rfl (show 0 ≤ 0 from by decide) (show 0 ≤ 0 from by decide) dX1_unit_38
theorem ct_X1_unit {l : Launch} {S0 : State} {D : va_G} {cA : Nat → ClassId} (hG : x_G l S0 D cA) (v0 : Nat) (M : Mem) (r : Int ⊕ Nat) (M' : Mem) (hv0 : m_kd M v0 = 1) (h : d_X1_unit v0 M = some (r, M')) : x_Me l S0 D cA yX1_unit cX1_unit 1 (some .int) [] ({ frames := 7, cells := (ocN r 0 1), slots := (ocN r 0 6), locals := 114 }) [.ref v0] M (ocI r) M' := by
  refine x_begin (F := 7) (Lo := 114) (mc := (ocN r 0 1)) (ms := (ocN r 0 6)) hG (Nat.le_of_ble_eq_true rfl) (lv := [(0, .ref v0)]) rfl rfl rfl rfl rfl (fun X e1 e2 e3 e4 e5 C => ?_)
  have hR : _ ∧ _ := ⟨Nat.le_of_eq (congrArg Room.cells e5).symm, Nat.le_of_eq (congrArg Room.slots e5).symm⟩
  unfold d_X1_unit at h
  refine z_aload_n (pc := 0) C 0 rfl dX1_unit_0 ?_
  refine gX1_101 (pc := 1) C rfl (Or.inl hv0) rfl dX1_unit_1 ?_
  refine z_bipush (pc := 4) C (by decide +kernel) dX1_unit_4 ?_
  refine z_ic_ge (pc := 6) C dX1_unit_6 (tgt := 13) (by decide) (fun c1 => ?_) (fun c1 => ?_)
  · have h := itt c1 h
    refine z_iconst (pc := 13) C dX1_unit_13 ?_
    exact cB_X1_unit_14 C v0 0 M _ _ hv0 h hR
  · have h := itf c1 h
    refine z_iconst (pc := 9) C dX1_unit_9 ?_
    refine z_goto (pc := 10) C dX1_unit_10 (tgt := 14) (by decide) ?_
    exact cB_X1_unit_14 C v0 1 M _ _ hv0 h hR
def d_X0_unit (v0 : Nat) (v1 : Nat) (M : Mem) : Option (Int × Mem) :=
  bC (d_X1_unit v0 M) (fun r1 M3 =>
    some (0, (m_si M3 9000 v1 (ixn 0) (w32 r1)))) (fun q2 M3 =>
    if m_kd M3 q2 = 114 then
      some (1, M3)
    else
      none)
theorem ct_X0_unit {l : Launch} {S0 : State} {D : va_G} {cA : Nat → ClassId} (hG : x_G l S0 D cA) (v0 : Nat) (v1 : Nat) (M : Mem) (r : Int) (M' : Mem) (hv0 : m_kd M v0 = 1) (hv1 : m_kd M v1 = 19000) (h : d_X0_unit v0 v1 M = some (r, M')) : x_Me l S0 D cA yX0_unit cX0_unit 3 (some .int) [(0, 8, 11, 19)] ({ frames := 8, cells := 1, slots := 6, locals := 138 }) [.ref v0, .ref v1] M (.returned (some (vI r))) M' := by
  refine x_begin (F := 8) (Lo := 138) (mc := 1) (ms := 6) hG (Nat.le_of_ble_eq_true rfl) (lv := [(0, .ref v0), (1, .ref v1)]) rfl rfl rfl rfl rfl (fun X e1 e2 e3 e4 e5 C => ?_)
  have hR : _ ∧ _ := ⟨Nat.le_of_eq (congrArg Room.cells e5).symm, Nat.le_of_eq (congrArg Room.slots e5).symm⟩
  unfold d_X0_unit at h
  refine z_aload_n (pc := 0) C 1 rfl dX0_unit_0 ?_
  refine z_iconst (pc := 1) C dX0_unit_1 ?_
  refine z_aload_n (pc := 2) C 0 rfl dX0_unit_2 ?_
  rcases bCs h with ⟨r1, M3, e4, h⟩ | ⟨q2, M3, e4, h⟩
  · refine cX0_15 (pc := 3) (st := [vI 0, .ref v1]) (st1 := [vI r1, vI 0, .ref v1]) C rfl (rm := { frames := 7, cells := 0, slots := 0, locals := 114 }) (ct_X1_unit C.2.1 v0 M _ _ hv0 e4) ⟨by decide, by decide, Nat.zero_le _, Nat.zero_le _⟩ (Or.inl hv0) rfl (Nat.le_of_ble_eq_true rfl) dX0_unit_3 (c2 := 0) (s2 := 0) rfl rfl (fun x5 => ?_)
    have k6 := x5 _ 19000 (by decide) (Or.inr (by decide)) hv1
    refine z_i2l (pc := 6) C dX0_unit_6 ?_
    refine z_lsw (pc := 7) C k6 (by decide +kernel) dX0_unit_7 ?_
    refine z_goto (pc := 8) C dX0_unit_8 (tgt := 14) (by decide) ?_
    refine z_iconst (pc := 14) C dX0_unit_14 ?_
    cases h
    exact z_iret (pc := 15) C rfl (show 0 ≤ 1 from by decide) (show 0 ≤ 6 from by decide) dX0_unit_15
  · by_cases c7 : m_kd M3 q2 = 114
    · have h := itt c7 h
      refine kX0_15 (pc := 3) (st := [vI 0, .ref v1]) C rfl (rm := { frames := 7, cells := 1, slots := 6, locals := 114 }) (r := q2) (ct_X1_unit C.2.1 v0 M _ _ hv0 e4) ⟨by decide, by decide, Nat.le_trans (show 1 ≤ 1 from by decide) hR.1, Nat.le_trans (show 6 ≤ 6 from by decide) hR.2⟩ (Or.inl hv0) (Nat.le_of_ble_eq_true rfl) dX0_unit_3 (e := 14) (hpc := 11) (by decide) (Or.inr c7) (Or.inr ⟨by decide, by decide, 14, by decide, q533, Or.inl ⟨rfl, rfl⟩⟩) (c2 := 1) (s2 := 6) rfl rfl (fun x8 => ?_)
      refine z_astore_n (pc := 11) C (lv' := [(0, .ref v0), (1, .ref v1), (2, .ref q2)]) (by decide) rfl dX0_unit_11 ?_
      refine z_iconst (pc := 12) C dX0_unit_12 ?_
      cases h
      exact z_iret (pc := 13) C rfl (show 1 ≤ 1 from by decide) (show 6 ≤ 6 from by decide) dX0_unit_13
    · have h := itf c7 h
      cases h
def d_X1_unitIn (v0 : Nat) (v1 : Int) (M : Mem) : Option ((Int ⊕ Nat) × Mem) :=
  bT (d_X1_inside (d_X1_isIn (w32 v1) 0 (w32 ((m_i M 101 v0 0) - 1))) M) fun r2 M3 => 
  some (.inl 0, M3)
theorem ct_X1_unitIn {l : Launch} {S0 : State} {D : va_G} {cA : Nat → ClassId} (hG : x_G l S0 D cA) (v0 : Nat) (v1 : Int) (M : Mem) (r : Int ⊕ Nat) (M' : Mem) (hv0 : m_kd M v0 = 1) (h : d_X1_unitIn v0 v1 M = some (r, M')) : x_Me l S0 D cA yX1_unitIn cX1_unitIn 2 none [] ({ frames := 7, cells := (ocN r 0 1), slots := (ocN r 0 6), locals := 114 }) [.ref v0, vI v1] M (ocV r) M' := by
  refine x_begin (F := 7) (Lo := 114) (mc := (ocN r 0 1)) (ms := (ocN r 0 6)) hG (Nat.le_of_ble_eq_true rfl) (lv := [(0, .ref v0), (1, vI v1)]) rfl rfl rfl rfl rfl (fun X e1 e2 e3 e4 e5 C => ?_)
  have hR : _ ∧ _ := ⟨Nat.le_of_eq (congrArg Room.cells e5).symm, Nat.le_of_eq (congrArg Room.slots e5).symm⟩
  unfold d_X1_unitIn at h
  refine z_iload_n (pc := 0) C 1 rfl dX1_unitIn_0 ?_
  refine z_i2l (pc := 1) C dX1_unitIn_1 ?_
  refine z_lconst (pc := 2) C (x := 0) (by decide +kernel) dX1_unitIn_2 ?_
  refine z_aload_n (pc := 3) C 0 rfl dX1_unitIn_3 ?_
  refine gX1_101 (pc := 4) C rfl (Or.inl hv0) rfl dX1_unitIn_4 ?_
  refine z_iconst (pc := 7) C dX1_unitIn_7 ?_
  refine z_isub (pc := 8) C dX1_unitIn_8 ?_
  refine z_i2l (pc := 9) C dX1_unitIn_9 ?_
  refine cX1_159 (pc := 10) (st := []) (st1 := [vI (d_X1_isIn (w32 v1) 0 (w32 ((m_i M 101 v0 0) - 1)))]) C rfl (rm := { frames := 1, cells := 0, slots := 0, locals := 24 }) (ct_X1_isIn C.2.1 (w32 v1) 0 (w32 ((m_i M 101 v0 0) - 1)) M _  rfl) ⟨by decide, by decide, Nat.zero_le _, Nat.zero_le _⟩ rfl (Nat.le_of_ble_eq_true rfl) dX1_unitIn_10 (c2 := 0) (s2 := 0) rfl rfl (fun _ => ?_)
  rcases bTs h with ⟨x6, e4, er⟩ | ⟨r2, M3, e4, h⟩
  · subst er; exact tX1_171 (pc := 13) C rfl (rm := { frames := 6, cells := 1, slots := 6, locals := 90 }) (ct_X1_inside C.2.1 (d_X1_isIn (w32 v1) 0 (w32 ((m_i M 101 v0 0) - 1))) M _ _  e4) ⟨by decide, by decide, Nat.le_trans (show 1 ≤ 1 from by decide) hR.1, Nat.le_trans (show 6 ≤ 6 from by decide) hR.2⟩ (Nat.le_of_ble_eq_true rfl) dX1_unitIn_13 (by decide) (show 1 ≤ 1 from by decide) (show 6 ≤ 6 from by decide)
  refine cX1_171 (pc := 13) (st := []) (st1 := []) C rfl (rm := { frames := 6, cells := 0, slots := 0, locals := 90 }) (ct_X1_inside C.2.1 (d_X1_isIn (w32 v1) 0 (w32 ((m_i M 101 v0 0) - 1))) M _ _  e4) ⟨by decide, by decide, Nat.zero_le _, Nat.zero_le _⟩ rfl (Nat.le_of_ble_eq_true rfl) dX1_unitIn_13 (c2 := 0) (s2 := 0) rfl rfl (fun x5 => ?_)
  cases h
  exact z_vret (pc := 16) C rfl (show 0 ≤ 0 from by decide) (show 0 ≤ 0 from by decide) dX1_unitIn_16
def d_X1_fieldIn (v0 : Int) (M : Mem) : Option ((Int ⊕ Nat) × Mem) :=
  bT (d_X1_inside (d_X1_isIn (w32 v0) 0 5) M) fun r2 M3 => 
  some (.inl 0, M3)
theorem ct_X1_fieldIn {l : Launch} {S0 : State} {D : va_G} {cA : Nat → ClassId} (hG : x_G l S0 D cA) (v0 : Int) (M : Mem) (r : Int ⊕ Nat) (M' : Mem)  (h : d_X1_fieldIn v0 M = some (r, M')) : x_Me l S0 D cA yX1_fieldIn cX1_fieldIn 1 none [] ({ frames := 7, cells := (ocN r 0 1), slots := (ocN r 0 6), locals := 114 }) [vI v0] M (ocV r) M' := by
  refine x_begin (F := 7) (Lo := 114) (mc := (ocN r 0 1)) (ms := (ocN r 0 6)) hG (Nat.le_of_ble_eq_true rfl) (lv := [(0, vI v0)]) rfl rfl rfl rfl rfl (fun X e1 e2 e3 e4 e5 C => ?_)
  have hR : _ ∧ _ := ⟨Nat.le_of_eq (congrArg Room.cells e5).symm, Nat.le_of_eq (congrArg Room.slots e5).symm⟩
  unfold d_X1_fieldIn at h
  refine z_iload_n (pc := 0) C 0 rfl dX1_fieldIn_0 ?_
  refine z_i2l (pc := 1) C dX1_fieldIn_1 ?_
  refine z_lconst (pc := 2) C (x := 0) (by decide +kernel) dX1_fieldIn_2 ?_
  refine z_ldc2 (pc := 3) C (x := 5) q612 (by decide +kernel) dX1_fieldIn_3 ?_
  refine cX1_159 (pc := 6) (st := []) (st1 := [vI (d_X1_isIn (w32 v0) 0 5)]) C rfl (rm := { frames := 1, cells := 0, slots := 0, locals := 24 }) (ct_X1_isIn C.2.1 (w32 v0) 0 5 M _  rfl) ⟨by decide, by decide, Nat.zero_le _, Nat.zero_le _⟩ rfl (Nat.le_of_ble_eq_true rfl) dX1_fieldIn_6 (c2 := 0) (s2 := 0) rfl rfl (fun _ => ?_)
  rcases bTs h with ⟨x6, e4, er⟩ | ⟨r2, M3, e4, h⟩
  · subst er; exact tX1_171 (pc := 9) C rfl (rm := { frames := 6, cells := 1, slots := 6, locals := 90 }) (ct_X1_inside C.2.1 (d_X1_isIn (w32 v0) 0 5) M _ _  e4) ⟨by decide, by decide, Nat.le_trans (show 1 ≤ 1 from by decide) hR.1, Nat.le_trans (show 6 ≤ 6 from by decide) hR.2⟩ (Nat.le_of_ble_eq_true rfl) dX1_fieldIn_9 (by decide) (show 1 ≤ 1 from by decide) (show 6 ≤ 6 from by decide)
  refine cX1_171 (pc := 9) (st := []) (st1 := []) C rfl (rm := { frames := 6, cells := 0, slots := 0, locals := 90 }) (ct_X1_inside C.2.1 (d_X1_isIn (w32 v0) 0 5) M _ _  e4) ⟨by decide, by decide, Nat.zero_le _, Nat.zero_le _⟩ rfl (Nat.le_of_ble_eq_true rfl) dX1_fieldIn_9 (c2 := 0) (s2 := 0) rfl rfl (fun x5 => ?_)
  cases h
  exact z_vret (pc := 12) C rfl (show 0 ≤ 0 from by decide) (show 0 ≤ 0 from by decide) dX1_fieldIn_12
def d_X1_day (v0 : Nat) (M : Mem) : Int :=
  d32 (m_i M 100 v0 0) 1440
theorem ct_X1_day {l : Launch} {S0 : State} {D : va_G} {cA : Nat → ClassId} (hG : x_G l S0 D cA) (v0 : Nat) (M : Mem) (r : Int) (hv0 : m_kd M v0 = 1) (h : d_X1_day v0 M = r) : x_Me l S0 D cA yX1_day cX1_day 1 (some .int) [] ({ frames := 1, cells := 0, slots := 0, locals := 24 }) [.ref v0] M (.returned (some (vI r))) M := by
  refine x_begin (F := 1) (Lo := 24) (mc := 0) (ms := 0) hG (Nat.le_of_ble_eq_true rfl) (lv := [(0, .ref v0)]) rfl rfl rfl rfl rfl (fun X e1 e2 e3 e4 e5 C => ?_)
  unfold d_X1_day at h
  refine z_aload_n (pc := 0) C 0 rfl dX1_day_0 ?_
  refine gX1_100 (pc := 1) C rfl (Or.inl hv0) rfl dX1_day_1 ?_
  refine z_sipush (pc := 4) C (by decide +kernel) dX1_day_4 ?_
  refine z_idiv (pc := 7) C (by decide +kernel) dX1_day_7 ?_
  subst h
  exact z_iret (pc := 8) C rfl (show 0 ≤ 0 from by decide) (show 0 ≤ 0 from by decide) dX1_day_8
def B_X1_tell_77  (v0 : Nat) (v1 : Int) (v2 : Int) (v3 : Int) (v4 : Int) (s0 : Int) (M : Mem) : Option ((Int ⊕ Nat) × Mem) :=
  bT (d_X1_room s0 M) fun r30 M31 => 
  if inb ((6 * v1) + v2) 600 then 
  if inb (m_i M31 103 v0 0) 1500 then 
  some (.inl ((m_i M31 103 v0 0) + 1), (m_si (m_si (m_si (m_si (m_si (m_si M31 107 v0 (ixn (m_i M31 103 v0 0)) (m_i M31 106 v0 (ixn ((6 * v1) + v2)))) 106 v0 (ixn ((6 * v1) + v2)) (m_i M31 103 v0 0)) 108 v0 (ixn (m_i M31 103 v0 0)) v3) 109 v0 (ixn (m_i M31 103 v0 0)) v4) 110 v0 (ixn (m_i M31 103 v0 0)) (d_X1_day v0 (m_si (m_si (m_si (m_si M31 107 v0 (ixn (m_i M31 103 v0 0)) (m_i M31 106 v0 (ixn ((6 * v1) + v2)))) 106 v0 (ixn ((6 * v1) + v2)) (m_i M31 103 v0 0)) 108 v0 (ixn (m_i M31 103 v0 0)) v3) 109 v0 (ixn (m_i M31 103 v0 0)) v4))) 103 v0 0 ((m_i M31 103 v0 0) + 1))) else none else none
def B_X1_tell_59  (v0 : Nat) (v1 : Int) (v2 : Int) (v3 : Int) (v4 : Int) (s0 : Int) (M : Mem) : Option ((Int ⊕ Nat) × Mem) :=
  bT (d_X1_may s0 M) fun r23 M24 => 
  if w32 1500 ≤ w32 (m_i M24 103 v0 0) then
    B_X1_tell_77 v0 v1 v2 v3 v4 0 M24
  else
    B_X1_tell_77 v0 v1 v2 v3 v4 1 M24
def B_X1_tell_41  (v0 : Nat) (v1 : Int) (v2 : Int) (v3 : Int) (v4 : Int) (s0 : Int) (M : Mem) : Option ((Int ⊕ Nat) × Mem) :=
  bT (d_X1_need s0 M) fun r15 M16 => 
  if inb v1 100 then 
  if w32 (m_i M16 104 v0 (ixn v1)) = w32 (-1) then
    B_X1_tell_59 v0 v1 v2 v3 v4 1 M16
  else
    B_X1_tell_59 v0 v1 v2 v3 v4 0 M16 else none
def B_X1_tell_40  (v0 : Nat) (v1 : Int) (v2 : Int) (v3 : Int) (v4 : Int) (M : Mem) : Option ((Int ⊕ Nat) × Mem) :=
  B_X1_tell_41 v0 v1 v2 v3 v4 0 M
def d_X1_tell (v0 : Nat) (v1 : Int) (v2 : Int) (v3 : Int) (v4 : Int) (M : Mem) : Option ((Int ⊕ Nat) × Mem) :=
  bT (d_X1_unitIn v0 v1 M) fun r1 M2 => 
  bT (d_X1_fieldIn v2 M2) fun r7 M8 => 
  if w32 (d_X1_isIn (w32 v3) 0 100000) = 0 then
    B_X1_tell_40 v0 v1 v2 v3 v4 M8
  else
    if w32 (d_X1_isIn (w32 v4) (-1000000) 1000000) = 0 then
      B_X1_tell_40 v0 v1 v2 v3 v4 M8
    else
      B_X1_tell_41 v0 v1 v2 v3 v4 1 M8
theorem cB_X1_tell_77 {X : x_Ctx} {M0 : Mem} (C : x_CC X 8 139 yX1_tell cX1_tell 6 (some .int) [])  (v0 : Nat) (v1 : Int) (v2 : Int) (v3 : Int) (v4 : Int) (s0 : Int) (M : Mem) (r : Int ⊕ Nat) (M' : Mem) (hv0 : m_kd M v0 = 1) (h : B_X1_tell_77  v0 v1 v2 v3 v4 s0 M = some (r, M')) (hR : ocN r 0 1 ≤ (XR X).cells ∧ ocN r 0 6 ≤ (XR X).slots) : x_Z X 0 0 (x_QF X M0 (ocI r) M' (ocN r 0 1) (ocN r 0 6)) M0 M 6 [(0, .ref v0), (1, vI v1), (2, vI v2), (3, vI v3), (4, vI v4)] 77 [vI s0] := by
  unfold B_X1_tell_77 at h
  rcases bTs h with ⟨x34, e32, er⟩ | ⟨r30, M31, e32, h⟩
  · subst er; exact tX1_176 (pc := 77) C rfl (rm := { frames := 6, cells := 1, slots := 6, locals := 90 }) (ct_X1_room C.2.1 s0 M _ _  e32) ⟨by decide, by decide, Nat.le_trans (show 1 ≤ 1 from by decide) hR.1, Nat.le_trans (show 6 ≤ 6 from by decide) hR.2⟩ (Nat.le_of_ble_eq_true rfl) dX1_tell_77 (by decide) (show 1 ≤ 1 from by decide) (show 6 ≤ 6 from by decide)
  refine cX1_176 (pc := 77) (st := []) (st1 := []) C rfl (rm := { frames := 6, cells := 0, slots := 0, locals := 90 }) (ct_X1_room C.2.1 s0 M _ _  e32) ⟨by decide, by decide, Nat.zero_le _, Nat.zero_le _⟩ rfl (Nat.le_of_ble_eq_true rfl) dX1_tell_77 (c2 := 0) (s2 := 0) rfl rfl (fun x33 => ?_)
  have k35 := x33 _ 1 (by decide) (Or.inl (by decide)) hv0
  refine z_bipush (pc := 80) C (by decide +kernel) dX1_tell_80 ?_
  refine z_iload_n (pc := 82) C 1 rfl dX1_tell_82 ?_
  refine z_imul (pc := 83) C dX1_tell_83 ?_
  refine z_iload_n (pc := 84) C 2 rfl dX1_tell_84 ?_
  refine z_iadd (pc := 85) C dX1_tell_85 ?_
  refine z_istore (pc := 86) C (lv' := [(0, .ref v0), (1, vI v1), (2, vI v2), (3, vI v3), (4, vI v4), (5, vI ((6 * v1) + v2))]) (by decide) rfl dX1_tell_86 ?_
  refine z_aload_n (pc := 88) C 0 rfl dX1_tell_88 ?_
  refine gX1_107 (pc := 89) C rfl k35 dX1_tell_89 ?_
  refine z_aload_n (pc := 92) C 0 rfl dX1_tell_92 ?_
  refine gX1_103 (pc := 93) C rfl (Or.inl k35) rfl dX1_tell_93 ?_
  refine z_aload_n (pc := 96) C 0 rfl dX1_tell_96 ?_
  refine gX1_106 (pc := 97) C rfl k35 dX1_tell_97 ?_
  refine z_iload (pc := 100) C 5 rfl dX1_tell_100 ?_
  obtain ⟨c36, h⟩ := ifn h
  refine z_iaO (pc := 102) (k := 1) (j := 6) C 106 rfl (by decide) (by decide) (by decide) rfl rfl rfl rfl k35 c36 rfl dX1_tell_102 ?_
  obtain ⟨c37, h⟩ := ifn h
  refine z_isO (pc := 103) (k := 1) (j := 7) C 107 rfl (by decide) (by decide) (by decide) rfl rfl rfl rfl k35 c37 dX1_tell_103 ?_
  refine z_aload_n (pc := 104) C 0 rfl dX1_tell_104 ?_
  refine gX1_106 (pc := 105) C rfl k35 dX1_tell_105 ?_
  refine z_iload (pc := 108) C 5 rfl dX1_tell_108 ?_
  refine z_aload_n (pc := 110) C 0 rfl dX1_tell_110 ?_
  refine gX1_103 (pc := 111) C rfl (Or.inl k35) (x := m_i M31 103 v0 0) ((m_i_ne (by decide)).trans rfl) dX1_tell_111 ?_
  refine z_isO (pc := 114) (k := 1) (j := 6) C 106 rfl (by decide) (by decide) (by decide) rfl rfl rfl rfl k35 c36 dX1_tell_114 ?_
  refine z_aload_n (pc := 115) C 0 rfl dX1_tell_115 ?_
  refine gX1_108 (pc := 116) C rfl k35 dX1_tell_116 ?_
  refine z_aload_n (pc := 119) C 0 rfl dX1_tell_119 ?_
  refine gX1_103 (pc := 120) C rfl (Or.inl k35) (x := m_i M31 103 v0 0) ((m_i_ne (by decide)).trans ((m_i_ne (by decide)).trans rfl)) dX1_tell_120 ?_
  refine z_iload_n (pc := 123) C 3 rfl dX1_tell_123 ?_
  refine z_isO (pc := 124) (k := 1) (j := 8) C 108 rfl (by decide) (by decide) (by decide) rfl rfl rfl rfl k35 c37 dX1_tell_124 ?_
  refine z_aload_n (pc := 125) C 0 rfl dX1_tell_125 ?_
  refine gX1_109 (pc := 126) C rfl k35 dX1_tell_126 ?_
  refine z_aload_n (pc := 129) C 0 rfl dX1_tell_129 ?_
  refine gX1_103 (pc := 130) C rfl (Or.inl k35) (x := m_i M31 103 v0 0) ((m_i_ne (by decide)).trans ((m_i_ne (by decide)).trans ((m_i_ne (by decide)).trans rfl))) dX1_tell_130 ?_
  refine z_iload (pc := 133) C 4 rfl dX1_tell_133 ?_
  refine z_isO (pc := 135) (k := 1) (j := 9) C 109 rfl (by decide) (by decide) (by decide) rfl rfl rfl rfl k35 c37 dX1_tell_135 ?_
  refine z_aload_n (pc := 136) C 0 rfl dX1_tell_136 ?_
  refine gX1_110 (pc := 137) C rfl k35 dX1_tell_137 ?_
  refine z_aload_n (pc := 140) C 0 rfl dX1_tell_140 ?_
  refine gX1_103 (pc := 141) C rfl (Or.inl k35) (x := m_i M31 103 v0 0) ((m_i_ne (by decide)).trans ((m_i_ne (by decide)).trans ((m_i_ne (by decide)).trans ((m_i_ne (by decide)).trans rfl)))) dX1_tell_141 ?_
  refine z_aload_n (pc := 144) C 0 rfl dX1_tell_144 ?_
  refine cX1_196 (pc := 145) (st := [vI (m_i M31 103 v0 0), .ref (v0 + 7)]) (st1 := [vI (d_X1_day v0 (m_si (m_si (m_si (m_si M31 107 v0 (ixn (m_i M31 103 v0 0)) (m_i M31 106 v0 (ixn ((6 * v1) + v2)))) 106 v0 (ixn ((6 * v1) + v2)) (m_i M31 103 v0 0)) 108 v0 (ixn (m_i M31 103 v0 0)) v3) 109 v0 (ixn (m_i M31 103 v0 0)) v4)), vI (m_i M31 103 v0 0), .ref (v0 + 7)]) C rfl (rm := { frames := 1, cells := 0, slots := 0, locals := 24 }) (ct_X1_day C.2.1 v0 (m_si (m_si (m_si (m_si M31 107 v0 (ixn (m_i M31 103 v0 0)) (m_i M31 106 v0 (ixn ((6 * v1) + v2)))) 106 v0 (ixn ((6 * v1) + v2)) (m_i M31 103 v0 0)) 108 v0 (ixn (m_i M31 103 v0 0)) v3) 109 v0 (ixn (m_i M31 103 v0 0)) v4) _ k35 rfl) ⟨by decide, by decide, Nat.zero_le _, Nat.zero_le _⟩ (Or.inl k35) rfl (Nat.le_of_ble_eq_true rfl) dX1_tell_145 (c2 := 0) (s2 := 0) rfl rfl (fun _ => ?_)
  refine z_isO (pc := 148) (k := 1) (j := 10) C 110 rfl (by decide) (by decide) (by decide) rfl rfl rfl rfl k35 c37 dX1_tell_148 ?_
  refine z_aload_n (pc := 149) C 0 rfl dX1_tell_149 ?_
  refine z_dup (pc := 150) C rfl dX1_tell_150 ?_
  refine gX1_103 (pc := 151) C rfl (Or.inl k35) (x := m_i M31 103 v0 0) ((m_i_ne (by decide)).trans ((m_i_ne (by decide)).trans ((m_i_ne (by decide)).trans ((m_i_ne (by decide)).trans ((m_i_ne (by decide)).trans rfl))))) dX1_tell_151 ?_
  refine z_iconst (pc := 154) C dX1_tell_154 ?_
  refine z_iadd (pc := 155) C dX1_tell_155 ?_
  refine z_dupx1 (pc := 156) C rfl rfl dX1_tell_156 ?_
  refine pX1_103 (pc := 157) C rfl (Or.inl k35) dX1_tell_157 ?_
  cases h
  exact z_iret (pc := 160) C rfl (show 0 ≤ 0 from by decide) (show 0 ≤ 0 from by decide) dX1_tell_160
theorem cB_X1_tell_59 {X : x_Ctx} {M0 : Mem} (C : x_CC X 8 139 yX1_tell cX1_tell 6 (some .int) [])  (v0 : Nat) (v1 : Int) (v2 : Int) (v3 : Int) (v4 : Int) (s0 : Int) (M : Mem) (r : Int ⊕ Nat) (M' : Mem) (hv0 : m_kd M v0 = 1) (h : B_X1_tell_59  v0 v1 v2 v3 v4 s0 M = some (r, M')) (hR : ocN r 0 1 ≤ (XR X).cells ∧ ocN r 0 6 ≤ (XR X).slots) : x_Z X 0 0 (x_QF X M0 (ocI r) M' (ocN r 0 1) (ocN r 0 6)) M0 M 6 [(0, .ref v0), (1, vI v1), (2, vI v2), (3, vI v3), (4, vI v4)] 59 [vI s0] := by
  unfold B_X1_tell_59 at h
  rcases bTs h with ⟨x27, e25, er⟩ | ⟨r23, M24, e25, h⟩
  · subst er; exact tX1_190 (pc := 59) C rfl (rm := { frames := 6, cells := 1, slots := 6, locals := 90 }) (ct_X1_may C.2.1 s0 M _ _  e25) ⟨by decide, by decide, Nat.le_trans (show 1 ≤ 1 from by decide) hR.1, Nat.le_trans (show 6 ≤ 6 from by decide) hR.2⟩ (Nat.le_of_ble_eq_true rfl) dX1_tell_59 (by decide) (show 1 ≤ 1 from by decide) (show 6 ≤ 6 from by decide)
  refine cX1_190 (pc := 59) (st := []) (st1 := []) C rfl (rm := { frames := 6, cells := 0, slots := 0, locals := 90 }) (ct_X1_may C.2.1 s0 M _ _  e25) ⟨by decide, by decide, Nat.zero_le _, Nat.zero_le _⟩ rfl (Nat.le_of_ble_eq_true rfl) dX1_tell_59 (c2 := 0) (s2 := 0) rfl rfl (fun x26 => ?_)
  have k28 := x26 _ 1 (by decide) (Or.inl (by decide)) hv0
  refine z_aload_n (pc := 62) C 0 rfl dX1_tell_62 ?_
  refine gX1_103 (pc := 63) C rfl (Or.inl k28) rfl dX1_tell_63 ?_
  refine z_sipush (pc := 66) C (by decide +kernel) dX1_tell_66 ?_
  refine z_ic_ge (pc := 69) C dX1_tell_69 (tgt := 76) (by decide) (fun c29 => ?_) (fun c29 => ?_)
  · have h := itt c29 h
    refine z_iconst (pc := 76) C dX1_tell_76 ?_
    exact cB_X1_tell_77 C v0 v1 v2 v3 v4 0 M24 _ _ k28 h hR
  · have h := itf c29 h
    refine z_iconst (pc := 72) C dX1_tell_72 ?_
    refine z_goto (pc := 73) C dX1_tell_73 (tgt := 77) (by decide) ?_
    exact cB_X1_tell_77 C v0 v1 v2 v3 v4 1 M24 _ _ k28 h hR
theorem cB_X1_tell_41 {X : x_Ctx} {M0 : Mem} (C : x_CC X 8 139 yX1_tell cX1_tell 6 (some .int) [])  (v0 : Nat) (v1 : Int) (v2 : Int) (v3 : Int) (v4 : Int) (s0 : Int) (M : Mem) (r : Int ⊕ Nat) (M' : Mem) (hv0 : m_kd M v0 = 1) (h : B_X1_tell_41  v0 v1 v2 v3 v4 s0 M = some (r, M')) (hR : ocN r 0 1 ≤ (XR X).cells ∧ ocN r 0 6 ≤ (XR X).slots) : x_Z X 0 0 (x_QF X M0 (ocI r) M' (ocN r 0 1) (ocN r 0 6)) M0 M 6 [(0, .ref v0), (1, vI v1), (2, vI v2), (3, vI v3), (4, vI v4)] 41 [vI s0] := by
  unfold B_X1_tell_41 at h
  rcases bTs h with ⟨x19, e17, er⟩ | ⟨r15, M16, e17, h⟩
  · subst er; exact tX1_164 (pc := 41) C rfl (rm := { frames := 6, cells := 1, slots := 6, locals := 90 }) (ct_X1_need C.2.1 s0 M _ _  e17) ⟨by decide, by decide, Nat.le_trans (show 1 ≤ 1 from by decide) hR.1, Nat.le_trans (show 6 ≤ 6 from by decide) hR.2⟩ (Nat.le_of_ble_eq_true rfl) dX1_tell_41 (by decide) (show 1 ≤ 1 from by decide) (show 6 ≤ 6 from by decide)
  refine cX1_164 (pc := 41) (st := []) (st1 := []) C rfl (rm := { frames := 6, cells := 0, slots := 0, locals := 90 }) (ct_X1_need C.2.1 s0 M _ _  e17) ⟨by decide, by decide, Nat.zero_le _, Nat.zero_le _⟩ rfl (Nat.le_of_ble_eq_true rfl) dX1_tell_41 (c2 := 0) (s2 := 0) rfl rfl (fun x18 => ?_)
  have k20 := x18 _ 1 (by decide) (Or.inl (by decide)) hv0
  refine z_aload_n (pc := 44) C 0 rfl dX1_tell_44 ?_
  refine gX1_104 (pc := 45) C rfl k20 dX1_tell_45 ?_
  refine z_iload_n (pc := 48) C 1 rfl dX1_tell_48 ?_
  obtain ⟨c21, h⟩ := ifn h
  refine z_iaO (pc := 49) (k := 1) (j := 4) C 104 rfl (by decide) (by decide) (by decide) rfl rfl rfl rfl k20 c21 rfl dX1_tell_49 ?_
  refine z_iconst (pc := 50) C dX1_tell_50 ?_
  refine z_ic_ne (pc := 51) C dX1_tell_51 (tgt := 58) (by decide) (fun c22 => ?_) (fun c22 => ?_)
  · have h := itf c22 h
    refine z_iconst (pc := 58) C dX1_tell_58 ?_
    exact cB_X1_tell_59 C v0 v1 v2 v3 v4 0 M16 _ _ k20 h hR
  · have h := itt c22 h
    refine z_iconst (pc := 54) C dX1_tell_54 ?_
    refine z_goto (pc := 55) C dX1_tell_55 (tgt := 59) (by decide) ?_
    exact cB_X1_tell_59 C v0 v1 v2 v3 v4 1 M16 _ _ k20 h hR
theorem cB_X1_tell_40 {X : x_Ctx} {M0 : Mem} (C : x_CC X 8 139 yX1_tell cX1_tell 6 (some .int) [])  (v0 : Nat) (v1 : Int) (v2 : Int) (v3 : Int) (v4 : Int) (M : Mem) (r : Int ⊕ Nat) (M' : Mem) (hv0 : m_kd M v0 = 1) (h : B_X1_tell_40  v0 v1 v2 v3 v4 M = some (r, M')) (hR : ocN r 0 1 ≤ (XR X).cells ∧ ocN r 0 6 ≤ (XR X).slots) : x_Z X 0 0 (x_QF X M0 (ocI r) M' (ocN r 0 1) (ocN r 0 6)) M0 M 6 [(0, .ref v0), (1, vI v1), (2, vI v2), (3, vI v3), (4, vI v4)] 40 [] := by
  unfold B_X1_tell_40 at h
  refine z_iconst (pc := 40) C dX1_tell_40 ?_
  exact cB_X1_tell_41 C v0 v1 v2 v3 v4 0 M _ _ hv0 h hR
theorem ct_X1_tell {l : Launch} {S0 : State} {D : va_G} {cA : Nat → ClassId} (hG : x_G l S0 D cA) (v0 : Nat) (v1 : Int) (v2 : Int) (v3 : Int) (v4 : Int) (M : Mem) (r : Int ⊕ Nat) (M' : Mem) (hv0 : m_kd M v0 = 1) (h : d_X1_tell v0 v1 v2 v3 v4 M = some (r, M')) : x_Me l S0 D cA yX1_tell cX1_tell 6 (some .int) [] ({ frames := 8, cells := (ocN r 0 1), slots := (ocN r 0 6), locals := 139 }) [.ref v0, vI v1, vI v2, vI v3, vI v4] M (ocI r) M' := by
  refine x_begin (F := 8) (Lo := 139) (mc := (ocN r 0 1)) (ms := (ocN r 0 6)) hG (Nat.le_of_ble_eq_true rfl) (lv := [(0, .ref v0), (1, vI v1), (2, vI v2), (3, vI v3), (4, vI v4)]) rfl rfl rfl rfl rfl (fun X e1 e2 e3 e4 e5 C => ?_)
  have hR : _ ∧ _ := ⟨Nat.le_of_eq (congrArg Room.cells e5).symm, Nat.le_of_eq (congrArg Room.slots e5).symm⟩
  unfold d_X1_tell at h
  refine z_aload_n (pc := 0) C 0 rfl dX1_tell_0 ?_
  refine z_iload_n (pc := 1) C 1 rfl dX1_tell_1 ?_
  rcases bTs h with ⟨x5, e3, er⟩ | ⟨r1, M2, e3, h⟩
  · subst er; exact tX1_179 (pc := 2) C rfl (rm := { frames := 7, cells := 1, slots := 6, locals := 114 }) (ct_X1_unitIn C.2.1 v0 v1 M _ _ hv0 e3) ⟨by decide, by decide, Nat.le_trans (show 1 ≤ 1 from by decide) hR.1, Nat.le_trans (show 6 ≤ 6 from by decide) hR.2⟩ (Or.inl hv0) (Nat.le_of_ble_eq_true rfl) dX1_tell_2 (by decide) (show 1 ≤ 1 from by decide) (show 6 ≤ 6 from by decide)
  refine cX1_179 (pc := 2) (st := []) (st1 := []) C rfl (rm := { frames := 7, cells := 0, slots := 0, locals := 114 }) (ct_X1_unitIn C.2.1 v0 v1 M _ _ hv0 e3) ⟨by decide, by decide, Nat.zero_le _, Nat.zero_le _⟩ (Or.inl hv0) rfl (Nat.le_of_ble_eq_true rfl) dX1_tell_2 (c2 := 0) (s2 := 0) rfl rfl (fun x4 => ?_)
  have k6 := x4 _ 1 (by decide) (Or.inl (by decide)) hv0
  refine z_iload_n (pc := 5) C 2 rfl dX1_tell_5 ?_
  rcases bTs h with ⟨x11, e9, er⟩ | ⟨r7, M8, e9, h⟩
  · subst er; exact tX1_183 (pc := 6) C rfl (rm := { frames := 7, cells := 1, slots := 6, locals := 114 }) (ct_X1_fieldIn C.2.1 v2 M2 _ _  e9) ⟨by decide, by decide, Nat.le_trans (show 1 ≤ 1 from by decide) hR.1, Nat.le_trans (show 6 ≤ 6 from by decide) hR.2⟩ (Nat.le_of_ble_eq_true rfl) dX1_tell_6 (by decide) (show 1 ≤ 1 from by decide) (show 6 ≤ 6 from by decide)
  refine cX1_183 (pc := 6) (st := []) (st1 := []) C rfl (rm := { frames := 7, cells := 0, slots := 0, locals := 114 }) (ct_X1_fieldIn C.2.1 v2 M2 _ _  e9) ⟨by decide, by decide, Nat.zero_le _, Nat.zero_le _⟩ rfl (Nat.le_of_ble_eq_true rfl) dX1_tell_6 (c2 := 0) (s2 := 0) rfl rfl (fun x10 => ?_)
  have k12 := x10 _ 1 (by decide) (Or.inl (by decide)) k6
  refine z_iload_n (pc := 9) C 3 rfl dX1_tell_9 ?_
  refine z_i2l (pc := 10) C dX1_tell_10 ?_
  refine z_lconst (pc := 11) C (x := 0) (by decide +kernel) dX1_tell_11 ?_
  refine z_ldc2 (pc := 12) C (x := 100000) q613 (by decide +kernel) dX1_tell_12 ?_
  refine cX1_159 (pc := 15) (st := []) (st1 := [vI (d_X1_isIn (w32 v3) 0 100000)]) C rfl (rm := { frames := 1, cells := 0, slots := 0, locals := 24 }) (ct_X1_isIn C.2.1 (w32 v3) 0 100000 M8 _  rfl) ⟨by decide, by decide, Nat.zero_le _, Nat.zero_le _⟩ rfl (Nat.le_of_ble_eq_true rfl) dX1_tell_15 (c2 := 0) (s2 := 0) rfl rfl (fun _ => ?_)
  refine z_if_eq (pc := 18) C dX1_tell_18 (tgt := 40) (by decide) (fun c14 => ?_) (fun c14 => ?_)
  · have h := itt c14 h
    exact cB_X1_tell_40 C v0 v1 v2 v3 v4 M8 _ _ k12 h hR
  · have h := itf c14 h
    refine z_iload (pc := 21) C 4 rfl dX1_tell_21 ?_
    refine z_i2l (pc := 23) C dX1_tell_23 ?_
    refine z_ldc2 (pc := 24) C (x := -1000000) q614 (by decide +kernel) dX1_tell_24 ?_
    refine z_ldc2 (pc := 27) C (x := 1000000) q452 (by decide +kernel) dX1_tell_27 ?_
    refine cX1_159 (pc := 30) (st := []) (st1 := [vI (d_X1_isIn (w32 v4) (-1000000) 1000000)]) C rfl (rm := { frames := 1, cells := 0, slots := 0, locals := 24 }) (ct_X1_isIn C.2.1 (w32 v4) (-1000000) 1000000 M8 _  rfl) ⟨by decide, by decide, Nat.zero_le _, Nat.zero_le _⟩ rfl (Nat.le_of_ble_eq_true rfl) dX1_tell_30 (c2 := 0) (s2 := 0) rfl rfl (fun _ => ?_)
    refine z_if_eq (pc := 33) C dX1_tell_33 (tgt := 40) (by decide) (fun c40 => ?_) (fun c40 => ?_)
    · have h := itt c40 h
      exact cB_X1_tell_40 C v0 v1 v2 v3 v4 M8 _ _ k12 h hR
    · have h := itf c40 h
      refine z_iconst (pc := 36) C dX1_tell_36 ?_
      refine z_goto (pc := 37) C dX1_tell_37 (tgt := 41) (by decide) ?_
      exact cB_X1_tell_41 C v0 v1 v2 v3 v4 1 M8 _ _ k12 h hR
def d_X0_tell (v0 : Nat) (v1 : Int) (v2 : Int) (v3 : Int) (v4 : Int) (v5 : Nat) (M : Mem) : Option (Int × Mem) :=
  bC (d_X1_tell v0 v1 v2 v3 v4 M) (fun r1 M3 =>
    some (0, (m_si M3 9000 v5 (ixn 0) (w32 r1)))) (fun q2 M3 =>
    if m_kd M3 q2 = 115 then
      some (1, M3)
    else
      if m_kd M3 q2 = 113 then
        some (2, M3)
      else
        if m_kd M3 q2 = 116 then
          some (3, M3)
        else
          if m_kd M3 q2 = 114 then
            some (4, M3)
          else
            none)
theorem ct_X0_tell {l : Launch} {S0 : State} {D : va_G} {cA : Nat → ClassId} (hG : x_G l S0 D cA) (v0 : Nat) (v1 : Int) (v2 : Int) (v3 : Int) (v4 : Int) (v5 : Nat) (M : Mem) (r : Int) (M' : Mem) (hv0 : m_kd M v0 = 1) (hv5 : m_kd M v5 = 19000) (h : d_X0_tell v0 v1 v2 v3 v4 v5 M = some (r, M')) : x_Me l S0 D cA yX0_tell cX0_tell 7 (some .int) [(0, 14, 17, 25), (0, 14, 21, 13), (0, 14, 25, 27), (0, 14, 29, 19)] ({ frames := 9, cells := 1, slots := 6, locals := 168 }) [.ref v0, vI v1, vI v2, vI v3, vI v4, .ref v5] M (.returned (some (vI r))) M' := by
  refine x_begin (F := 9) (Lo := 168) (mc := 1) (ms := 6) hG (Nat.le_of_ble_eq_true rfl) (lv := [(0, .ref v0), (1, vI v1), (2, vI v2), (3, vI v3), (4, vI v4), (5, .ref v5)]) rfl rfl rfl rfl rfl (fun X e1 e2 e3 e4 e5 C => ?_)
  have hR : _ ∧ _ := ⟨Nat.le_of_eq (congrArg Room.cells e5).symm, Nat.le_of_eq (congrArg Room.slots e5).symm⟩
  unfold d_X0_tell at h
  refine z_aload (pc := 0) C 5 rfl dX0_tell_0 ?_
  refine z_iconst (pc := 2) C dX0_tell_2 ?_
  refine z_aload_n (pc := 3) C 0 rfl dX0_tell_3 ?_
  refine z_iload_n (pc := 4) C 1 rfl dX0_tell_4 ?_
  refine z_iload_n (pc := 5) C 2 rfl dX0_tell_5 ?_
  refine z_iload_n (pc := 6) C 3 rfl dX0_tell_6 ?_
  refine z_iload (pc := 7) C 4 rfl dX0_tell_7 ?_
  rcases bCs h with ⟨r1, M3, e4, h⟩ | ⟨q2, M3, e4, h⟩
  · refine cX0_21 (pc := 9) (st := [vI 0, .ref v5]) (st1 := [vI r1, vI 0, .ref v5]) C rfl (rm := { frames := 8, cells := 0, slots := 0, locals := 139 }) (ct_X1_tell C.2.1 v0 v1 v2 v3 v4 M _ _ hv0 e4) ⟨by decide, by decide, Nat.zero_le _, Nat.zero_le _⟩ (Or.inl hv0) rfl (Nat.le_of_ble_eq_true rfl) dX0_tell_9 (c2 := 0) (s2 := 0) rfl rfl (fun x5 => ?_)
    have k6 := x5 _ 19000 (by decide) (Or.inr (by decide)) hv5
    refine z_i2l (pc := 12) C dX0_tell_12 ?_
    refine z_lsw (pc := 13) C k6 (by decide +kernel) dX0_tell_13 ?_
    refine z_goto (pc := 14) C dX0_tell_14 (tgt := 33) (by decide) ?_
    refine z_iconst (pc := 33) C dX0_tell_33 ?_
    cases h
    exact z_iret (pc := 34) C rfl (show 0 ≤ 1 from by decide) (show 0 ≤ 6 from by decide) dX0_tell_34
  · by_cases c7 : m_kd M3 q2 = 115
    · have h := itt c7 h
      refine kX0_21 (pc := 9) (st := [vI 0, .ref v5]) C rfl (rm := { frames := 8, cells := 1, slots := 6, locals := 139 }) (r := q2) (ct_X1_tell C.2.1 v0 v1 v2 v3 v4 M _ _ hv0 e4) ⟨by decide, by decide, Nat.le_trans (show 1 ≤ 1 from by decide) hR.1, Nat.le_trans (show 6 ≤ 6 from by decide) hR.2⟩ (Or.inl hv0) (Nat.le_of_ble_eq_true rfl) dX0_tell_9 (e := 15) (hpc := 17) (by decide) (Or.inr c7) (Or.inr ⟨by decide, by decide, 15, by decide, q560, Or.inl ⟨rfl, rfl⟩⟩) (c2 := 1) (s2 := 6) rfl rfl (fun x8 => ?_)
      refine z_astore (pc := 17) C (lv' := [(0, .ref v0), (1, vI v1), (2, vI v2), (3, vI v3), (4, vI v4), (5, .ref v5), (6, .ref q2)]) (by decide) rfl dX0_tell_17 ?_
      refine z_iconst (pc := 19) C dX0_tell_19 ?_
      cases h
      exact z_iret (pc := 20) C rfl (show 1 ≤ 1 from by decide) (show 6 ≤ 6 from by decide) dX0_tell_20
    · have h := itf c7 h
      by_cases c9 : m_kd M3 q2 = 113
      · have h := itt c9 h
        refine kX0_21 (pc := 9) (st := [vI 0, .ref v5]) C rfl (rm := { frames := 8, cells := 1, slots := 6, locals := 139 }) (r := q2) (ct_X1_tell C.2.1 v0 v1 v2 v3 v4 M _ _ hv0 e4) ⟨by decide, by decide, Nat.le_trans (show 1 ≤ 1 from by decide) hR.1, Nat.le_trans (show 6 ≤ 6 from by decide) hR.2⟩ (Or.inl hv0) (Nat.le_of_ble_eq_true rfl) dX0_tell_9 (e := 13) (hpc := 21) (by decide) (Or.inr c9) (Or.inr ⟨by decide, by decide, 15, by decide, q560, Or.inr ⟨by decide, Or.inr ⟨by decide, by decide, 13, by decide, q447, Or.inl ⟨rfl, rfl⟩⟩⟩⟩) (c2 := 1) (s2 := 6) rfl rfl (fun x10 => ?_)
        refine z_astore (pc := 21) C (lv' := [(0, .ref v0), (1, vI v1), (2, vI v2), (3, vI v3), (4, vI v4), (5, .ref v5), (6, .ref q2)]) (by decide) rfl dX0_tell_21 ?_
        refine z_iconst (pc := 23) C dX0_tell_23 ?_
        cases h
        exact z_iret (pc := 24) C rfl (show 1 ≤ 1 from by decide) (show 6 ≤ 6 from by decide) dX0_tell_24
      · have h := itf c9 h
        by_cases c11 : m_kd M3 q2 = 116
        · have h := itt c11 h
          refine kX0_21 (pc := 9) (st := [vI 0, .ref v5]) C rfl (rm := { frames := 8, cells := 1, slots := 6, locals := 139 }) (r := q2) (ct_X1_tell C.2.1 v0 v1 v2 v3 v4 M _ _ hv0 e4) ⟨by decide, by decide, Nat.le_trans (show 1 ≤ 1 from by decide) hR.1, Nat.le_trans (show 6 ≤ 6 from by decide) hR.2⟩ (Or.inl hv0) (Nat.le_of_ble_eq_true rfl) dX0_tell_9 (e := 16) (hpc := 25) (by decide) (Or.inr c11) (Or.inr ⟨by decide, by decide, 15, by decide, q560, Or.inr ⟨by decide, Or.inr ⟨by decide, by decide, 13, by decide, q447, Or.inr ⟨by decide, Or.inr ⟨by decide, by decide, 16, by decide, q584, Or.inl ⟨rfl, rfl⟩⟩⟩⟩⟩⟩) (c2 := 1) (s2 := 6) rfl rfl (fun x12 => ?_)
          refine z_astore (pc := 25) C (lv' := [(0, .ref v0), (1, vI v1), (2, vI v2), (3, vI v3), (4, vI v4), (5, .ref v5), (6, .ref q2)]) (by decide) rfl dX0_tell_25 ?_
          refine z_iconst (pc := 27) C dX0_tell_27 ?_
          cases h
          exact z_iret (pc := 28) C rfl (show 1 ≤ 1 from by decide) (show 6 ≤ 6 from by decide) dX0_tell_28
        · have h := itf c11 h
          by_cases c13 : m_kd M3 q2 = 114
          · have h := itt c13 h
            refine kX0_21 (pc := 9) (st := [vI 0, .ref v5]) C rfl (rm := { frames := 8, cells := 1, slots := 6, locals := 139 }) (r := q2) (ct_X1_tell C.2.1 v0 v1 v2 v3 v4 M _ _ hv0 e4) ⟨by decide, by decide, Nat.le_trans (show 1 ≤ 1 from by decide) hR.1, Nat.le_trans (show 6 ≤ 6 from by decide) hR.2⟩ (Or.inl hv0) (Nat.le_of_ble_eq_true rfl) dX0_tell_9 (e := 14) (hpc := 29) (by decide) (Or.inr c13) (Or.inr ⟨by decide, by decide, 15, by decide, q560, Or.inr ⟨by decide, Or.inr ⟨by decide, by decide, 13, by decide, q447, Or.inr ⟨by decide, Or.inr ⟨by decide, by decide, 16, by decide, q584, Or.inr ⟨by decide, Or.inr ⟨by decide, by decide, 14, by decide, q533, Or.inl ⟨rfl, rfl⟩⟩⟩⟩⟩⟩⟩⟩) (c2 := 1) (s2 := 6) rfl rfl (fun x14 => ?_)
            refine z_astore (pc := 29) C (lv' := [(0, .ref v0), (1, vI v1), (2, vI v2), (3, vI v3), (4, vI v4), (5, .ref v5), (6, .ref q2)]) (by decide) rfl dX0_tell_29 ?_
            refine z_iconst (pc := 31) C dX0_tell_31 ?_
            cases h
            exact z_iret (pc := 32) C rfl (show 1 ≤ 1 from by decide) (show 6 ≤ 6 from by decide) dX0_tell_32
          · have h := itf c13 h
            cases h
def B_X1_lastOf_2 (k2 : Nat → Int → Int → Mem → Option Int) (v0 : Nat) (v2 : Int) (v3 : Int) (M : Mem) : Option Int :=
  if inb v3 100 then 
  if w32 (m_i M 104 v0 (ixn v3)) = w32 (-1) then
    some v3
  else
    if w32 v2 < w32 (m_i M 105 v0 (ixn v3)) then
      some v3
    else
      k2 v0 v2 (m_i M 104 v0 (ixn v3)) M else none
def L_X1_lastOf_2  : Nat → Nat → Int → Int → Mem → Option Int
  | 0, _, _, _, _ => none
  | n + 1, v0, v2, v3, M => B_X1_lastOf_2 (L_X1_lastOf_2  n) v0 v2 v3 M
def d_X1_lastOf (v0 : Nat) (v1 : Int) (v2 : Int) (M : Mem) : Option Int :=
  L_X1_lastOf_2 FU v0 v2 v1 M
theorem cB_X1_lastOf_2 {X : x_Ctx} {M0 : Mem} (C : x_CC X 1 24 yX1_lastOf cX1_lastOf 4 (some .int) []) {k2 : Nat → Int → Int → Mem → Option Int} (hk2 : ∀ (v0 : Nat) (v2 : Int) (v3 : Int) (M : Mem) (r : Int), m_kd M v0 = 1 → k2 v0 v2 v3 M = some r → x_Z X 0 0 (x_QF X M0 (.returned (some (vI r))) M 0 0) M0 M 4 [(0, .ref v0), (2, vI v2), (3, vI v3)] 2 []) (v0 : Nat) (v2 : Int) (v3 : Int) (M : Mem) (r : Int) (hv0 : m_kd M v0 = 1) (h : B_X1_lastOf_2 k2 v0 v2 v3 M = some r)  : x_Z X 0 0 (x_QF X M0 (.returned (some (vI r))) M 0 0) M0 M 4 [(0, .ref v0), (2, vI v2), (3, vI v3)] 2 [] := by
  unfold B_X1_lastOf_2 at h
  refine z_aload_n (pc := 2) C 0 rfl dX1_lastOf_2 ?_
  refine gX1_104 (pc := 3) C rfl hv0 dX1_lastOf_3 ?_
  refine z_iload_n (pc := 6) C 2 rfl dX1_lastOf_6 ?_
  obtain ⟨c1, h⟩ := ifn h
  refine z_iaO (pc := 7) (k := 1) (j := 4) C 104 rfl (by decide) (by decide) (by decide) rfl rfl rfl rfl hv0 c1 rfl dX1_lastOf_7 ?_
  refine z_iconst (pc := 8) C dX1_lastOf_8 ?_
  refine z_ic_eq (pc := 9) C dX1_lastOf_9 (tgt := 32) (by decide) (fun c2 => ?_) (fun c2 => ?_)
  · have h := itt c2 h
    refine z_iload_n (pc := 32) C 2 rfl dX1_lastOf_32 ?_
    cases h
    exact z_iret (pc := 33) C rfl (show 0 ≤ 0 from by decide) (show 0 ≤ 0 from by decide) dX1_lastOf_33
  · have h := itf c2 h
    refine z_aload_n (pc := 12) C 0 rfl dX1_lastOf_12 ?_
    refine gX1_105 (pc := 13) C rfl hv0 dX1_lastOf_13 ?_
    refine z_iload_n (pc := 16) C 2 rfl dX1_lastOf_16 ?_
    refine z_iaO (pc := 17) (k := 1) (j := 5) C 105 rfl (by decide) (by decide) (by decide) rfl rfl rfl rfl hv0 c1 rfl dX1_lastOf_17 ?_
    refine z_iload_n (pc := 18) C 1 rfl dX1_lastOf_18 ?_
    refine z_ic_gt (pc := 19) C dX1_lastOf_19 (tgt := 32) (by decide) (fun c3 => ?_) (fun c3 => ?_)
    · have h := itt c3 h
      refine z_iload_n (pc := 32) C 2 rfl dX1_lastOf_32 ?_
      cases h
      exact z_iret (pc := 33) C rfl (show 0 ≤ 0 from by decide) (show 0 ≤ 0 from by decide) dX1_lastOf_33
    · have h := itf c3 h
      refine z_aload_n (pc := 22) C 0 rfl dX1_lastOf_22 ?_
      refine gX1_104 (pc := 23) C rfl hv0 dX1_lastOf_23 ?_
      refine z_iload_n (pc := 26) C 2 rfl dX1_lastOf_26 ?_
      refine z_iaO (pc := 27) (k := 1) (j := 4) C 104 rfl (by decide) (by decide) (by decide) rfl rfl rfl rfl hv0 c1 rfl dX1_lastOf_27 ?_
      refine z_istore_n (pc := 28) C (lv' := [(0, .ref v0), (2, vI v2), (3, vI (m_i M 104 v0 (ixn v3)))]) (by decide) rfl dX1_lastOf_28 ?_
      refine z_goto (pc := 29) C dX1_lastOf_29 (tgt := 2) (by decide) ?_
      exact hk2 v0 v2 (m_i M 104 v0 (ixn v3)) M _ hv0 h
theorem cL_X1_lastOf_2 {X : x_Ctx} {M0 : Mem} (C : x_CC X 1 24 yX1_lastOf cX1_lastOf 4 (some .int) [])  : ∀ (n : Nat) (v0 : Nat) (v2 : Int) (v3 : Int) (M : Mem) (r : Int) (hv0 : m_kd M v0 = 1) (h : L_X1_lastOf_2  n v0 v2 v3 M = some r) , x_Z X 0 0 (x_QF X M0 (.returned (some (vI r))) M 0 0) M0 M 4 [(0, .ref v0), (2, vI v2), (3, vI v3)] 2 [] := by
  intro n
  induction n with
  | zero => intro v0 v2 v3 M r hv0 h ; cases h
  | succ n ih => intro v0 v2 v3 M r hv0 h ; exact cB_X1_lastOf_2 C (fun v0 v2 v3 M r hv0 h  => ih v0 v2 v3 M r hv0 h ) v0 v2 v3 M r hv0 h 
theorem ct_X1_lastOf {l : Launch} {S0 : State} {D : va_G} {cA : Nat → ClassId} (hG : x_G l S0 D cA) (v0 : Nat) (v1 : Int) (v2 : Int) (M : Mem) (r : Int) (hv0 : m_kd M v0 = 1) (h : d_X1_lastOf v0 v1 v2 M = some r) : x_Me l S0 D cA yX1_lastOf cX1_lastOf 4 (some .int) [] ({ frames := 1, cells := 0, slots := 0, locals := 24 }) [.ref v0, vI v1, vI v2] M (.returned (some (vI r))) M := by
  refine x_begin (F := 1) (Lo := 24) (mc := 0) (ms := 0) hG (Nat.le_of_ble_eq_true rfl) (lv := [(0, .ref v0), (1, vI v1), (2, vI v2)]) rfl rfl rfl rfl rfl (fun X e1 e2 e3 e4 e5 C => ?_)
  unfold d_X1_lastOf at h
  refine z_iload_n (pc := 0) C 1 rfl dX1_lastOf_0 ?_
  refine z_istore_n (pc := 1) C (lv' := [(0, .ref v0), (1, vI v1), (2, vI v2), (3, vI v1)]) (by decide) rfl dX1_lastOf_1 ?_
  exact z_lv [0, 2, 3] rfl <| cL_X1_lastOf_2 C FU v0 v2 v1 M _ hv0 h
def B_X1_merge_38  (v0 : Nat) (v1 : Int) (v2 : Int) (v3 : Int) (s0 : Int) (M : Mem) : Option ((Int ⊕ Nat) × Mem) :=
  bT (d_X1_may s0 M) fun r17 M18 => 
  if inb v1 100 then 
  some (.inl v3, (m_si (m_si (m_si M18 104 v0 (ixn v1) v2) 105 v0 (ixn v1) (d_X1_day v0 (m_si M18 104 v0 (ixn v1) v2))) 102 v0 0 ((m_i M18 102 v0 0) + 1))) else none
def B_X1_merge_37  (v0 : Nat) (v1 : Int) (v2 : Int) (v3 : Int) (M : Mem) : Option ((Int ⊕ Nat) × Mem) :=
  B_X1_merge_38 v0 v1 v2 v3 0 M
def d_X1_merge (v0 : Nat) (v1 : Int) (v2 : Int) (M : Mem) : Option ((Int ⊕ Nat) × Mem) :=
  bT (d_X1_unitIn v0 v1 M) fun r1 M2 => 
  bT (d_X1_unitIn v0 v2 M2) fun r7 M8 => 
  bR (d_X1_lastOf v0 v2 2147483647 M8) fun r13 => 
  if inb v1 100 then 
  if w32 (m_i M8 104 v0 (ixn v1)) = w32 (-1) then
    if w32 r13 = w32 v1 then
      B_X1_merge_37 v0 v1 v2 r13 M8
    else
      B_X1_merge_38 v0 v1 v2 r13 1 M8
  else
    B_X1_merge_37 v0 v1 v2 r13 M8 else none
theorem cB_X1_merge_38 {X : x_Ctx} {M0 : Mem} (C : x_CC X 8 139 yX1_merge cX1_merge 4 (some .int) [])  (v0 : Nat) (v1 : Int) (v2 : Int) (v3 : Int) (s0 : Int) (M : Mem) (r : Int ⊕ Nat) (M' : Mem) (hv0 : m_kd M v0 = 1) (h : B_X1_merge_38  v0 v1 v2 v3 s0 M = some (r, M')) (hR : ocN r 0 1 ≤ (XR X).cells ∧ ocN r 0 6 ≤ (XR X).slots) : x_Z X 0 0 (x_QF X M0 (ocI r) M' (ocN r 0 1) (ocN r 0 6)) M0 M 4 [(0, .ref v0), (1, vI v1), (2, vI v2), (3, vI v3)] 38 [vI s0] := by
  unfold B_X1_merge_38 at h
  rcases bTs h with ⟨x21, e19, er⟩ | ⟨r17, M18, e19, h⟩
  · subst er; exact tX1_190 (pc := 38) C rfl (rm := { frames := 6, cells := 1, slots := 6, locals := 90 }) (ct_X1_may C.2.1 s0 M _ _  e19) ⟨by decide, by decide, Nat.le_trans (show 1 ≤ 1 from by decide) hR.1, Nat.le_trans (show 6 ≤ 6 from by decide) hR.2⟩ (Nat.le_of_ble_eq_true rfl) dX1_merge_38 (by decide) (show 1 ≤ 1 from by decide) (show 6 ≤ 6 from by decide)
  refine cX1_190 (pc := 38) (st := []) (st1 := []) C rfl (rm := { frames := 6, cells := 0, slots := 0, locals := 90 }) (ct_X1_may C.2.1 s0 M _ _  e19) ⟨by decide, by decide, Nat.zero_le _, Nat.zero_le _⟩ rfl (Nat.le_of_ble_eq_true rfl) dX1_merge_38 (c2 := 0) (s2 := 0) rfl rfl (fun x20 => ?_)
  have k22 := x20 _ 1 (by decide) (Or.inl (by decide)) hv0
  refine z_aload_n (pc := 41) C 0 rfl dX1_merge_41 ?_
  refine gX1_104 (pc := 42) C rfl k22 dX1_merge_42 ?_
  refine z_iload_n (pc := 45) C 1 rfl dX1_merge_45 ?_
  refine z_iload_n (pc := 46) C 2 rfl dX1_merge_46 ?_
  obtain ⟨c23, h⟩ := ifn h
  refine z_isO (pc := 47) (k := 1) (j := 4) C 104 rfl (by decide) (by decide) (by decide) rfl rfl rfl rfl k22 c23 dX1_merge_47 ?_
  refine z_aload_n (pc := 48) C 0 rfl dX1_merge_48 ?_
  refine gX1_105 (pc := 49) C rfl k22 dX1_merge_49 ?_
  refine z_iload_n (pc := 52) C 1 rfl dX1_merge_52 ?_
  refine z_aload_n (pc := 53) C 0 rfl dX1_merge_53 ?_
  refine cX1_196 (pc := 54) (st := [vI v1, .ref (v0 + 2)]) (st1 := [vI (d_X1_day v0 (m_si M18 104 v0 (ixn v1) v2)), vI v1, .ref (v0 + 2)]) C rfl (rm := { frames := 1, cells := 0, slots := 0, locals := 24 }) (ct_X1_day C.2.1 v0 (m_si M18 104 v0 (ixn v1) v2) _ k22 rfl) ⟨by decide, by decide, Nat.zero_le _, Nat.zero_le _⟩ (Or.inl k22) rfl (Nat.le_of_ble_eq_true rfl) dX1_merge_54 (c2 := 0) (s2 := 0) rfl rfl (fun _ => ?_)
  refine z_isO (pc := 57) (k := 1) (j := 5) C 105 rfl (by decide) (by decide) (by decide) rfl rfl rfl rfl k22 c23 dX1_merge_57 ?_
  refine z_aload_n (pc := 58) C 0 rfl dX1_merge_58 ?_
  refine z_dup (pc := 59) C rfl dX1_merge_59 ?_
  refine gX1_102 (pc := 60) C rfl (Or.inl k22) (x := m_i M18 102 v0 0) ((m_i_ne (by decide)).trans ((m_i_ne (by decide)).trans rfl)) dX1_merge_60 ?_
  refine z_iconst (pc := 63) C dX1_merge_63 ?_
  refine z_iadd (pc := 64) C dX1_merge_64 ?_
  refine pX1_102 (pc := 65) C rfl (Or.inl k22) dX1_merge_65 ?_
  refine z_iload_n (pc := 68) C 3 rfl dX1_merge_68 ?_
  cases h
  exact z_iret (pc := 69) C rfl (show 0 ≤ 0 from by decide) (show 0 ≤ 0 from by decide) dX1_merge_69
theorem cB_X1_merge_37 {X : x_Ctx} {M0 : Mem} (C : x_CC X 8 139 yX1_merge cX1_merge 4 (some .int) [])  (v0 : Nat) (v1 : Int) (v2 : Int) (v3 : Int) (M : Mem) (r : Int ⊕ Nat) (M' : Mem) (hv0 : m_kd M v0 = 1) (h : B_X1_merge_37  v0 v1 v2 v3 M = some (r, M')) (hR : ocN r 0 1 ≤ (XR X).cells ∧ ocN r 0 6 ≤ (XR X).slots) : x_Z X 0 0 (x_QF X M0 (ocI r) M' (ocN r 0 1) (ocN r 0 6)) M0 M 4 [(0, .ref v0), (1, vI v1), (2, vI v2), (3, vI v3)] 37 [] := by
  unfold B_X1_merge_37 at h
  refine z_iconst (pc := 37) C dX1_merge_37 ?_
  exact cB_X1_merge_38 C v0 v1 v2 v3 0 M _ _ hv0 h hR
theorem ct_X1_merge {l : Launch} {S0 : State} {D : va_G} {cA : Nat → ClassId} (hG : x_G l S0 D cA) (v0 : Nat) (v1 : Int) (v2 : Int) (M : Mem) (r : Int ⊕ Nat) (M' : Mem) (hv0 : m_kd M v0 = 1) (h : d_X1_merge v0 v1 v2 M = some (r, M')) : x_Me l S0 D cA yX1_merge cX1_merge 4 (some .int) [] ({ frames := 8, cells := (ocN r 0 1), slots := (ocN r 0 6), locals := 139 }) [.ref v0, vI v1, vI v2] M (ocI r) M' := by
  refine x_begin (F := 8) (Lo := 139) (mc := (ocN r 0 1)) (ms := (ocN r 0 6)) hG (Nat.le_of_ble_eq_true rfl) (lv := [(0, .ref v0), (1, vI v1), (2, vI v2)]) rfl rfl rfl rfl rfl (fun X e1 e2 e3 e4 e5 C => ?_)
  have hR : _ ∧ _ := ⟨Nat.le_of_eq (congrArg Room.cells e5).symm, Nat.le_of_eq (congrArg Room.slots e5).symm⟩
  unfold d_X1_merge at h
  refine z_aload_n (pc := 0) C 0 rfl dX1_merge_0 ?_
  refine z_iload_n (pc := 1) C 1 rfl dX1_merge_1 ?_
  rcases bTs h with ⟨x5, e3, er⟩ | ⟨r1, M2, e3, h⟩
  · subst er; exact tX1_179 (pc := 2) C rfl (rm := { frames := 7, cells := 1, slots := 6, locals := 114 }) (ct_X1_unitIn C.2.1 v0 v1 M _ _ hv0 e3) ⟨by decide, by decide, Nat.le_trans (show 1 ≤ 1 from by decide) hR.1, Nat.le_trans (show 6 ≤ 6 from by decide) hR.2⟩ (Or.inl hv0) (Nat.le_of_ble_eq_true rfl) dX1_merge_2 (by decide) (show 1 ≤ 1 from by decide) (show 6 ≤ 6 from by decide)
  refine cX1_179 (pc := 2) (st := []) (st1 := []) C rfl (rm := { frames := 7, cells := 0, slots := 0, locals := 114 }) (ct_X1_unitIn C.2.1 v0 v1 M _ _ hv0 e3) ⟨by decide, by decide, Nat.zero_le _, Nat.zero_le _⟩ (Or.inl hv0) rfl (Nat.le_of_ble_eq_true rfl) dX1_merge_2 (c2 := 0) (s2 := 0) rfl rfl (fun x4 => ?_)
  have k6 := x4 _ 1 (by decide) (Or.inl (by decide)) hv0
  refine z_aload_n (pc := 5) C 0 rfl dX1_merge_5 ?_
  refine z_iload_n (pc := 6) C 2 rfl dX1_merge_6 ?_
  rcases bTs h with ⟨x11, e9, er⟩ | ⟨r7, M8, e9, h⟩
  · subst er; exact tX1_179 (pc := 7) C rfl (rm := { frames := 7, cells := 1, slots := 6, locals := 114 }) (ct_X1_unitIn C.2.1 v0 v2 M2 _ _ k6 e9) ⟨by decide, by decide, Nat.le_trans (show 1 ≤ 1 from by decide) hR.1, Nat.le_trans (show 6 ≤ 6 from by decide) hR.2⟩ (Or.inl k6) (Nat.le_of_ble_eq_true rfl) dX1_merge_7 (by decide) (show 1 ≤ 1 from by decide) (show 6 ≤ 6 from by decide)
  refine cX1_179 (pc := 7) (st := []) (st1 := []) C rfl (rm := { frames := 7, cells := 0, slots := 0, locals := 114 }) (ct_X1_unitIn C.2.1 v0 v2 M2 _ _ k6 e9) ⟨by decide, by decide, Nat.zero_le _, Nat.zero_le _⟩ (Or.inl k6) rfl (Nat.le_of_ble_eq_true rfl) dX1_merge_7 (c2 := 0) (s2 := 0) rfl rfl (fun x10 => ?_)
  have k12 := x10 _ 1 (by decide) (Or.inl (by decide)) k6
  refine z_aload_n (pc := 10) C 0 rfl dX1_merge_10 ?_
  refine z_iload_n (pc := 11) C 2 rfl dX1_merge_11 ?_
  refine z_ldc (pc := 12) C (x := 2147483647) q645 (by decide +kernel) dX1_merge_12 ?_
  obtain ⟨r13, e14, h⟩ := bRs h
  refine cX1_203 (pc := 14) (st := []) (st1 := [vI r13]) C rfl (rm := { frames := 1, cells := 0, slots := 0, locals := 24 }) (ct_X1_lastOf C.2.1 v0 v2 2147483647 M8 _ k12 e14) ⟨by decide, by decide, Nat.zero_le _, Nat.zero_le _⟩ (Or.inl k12) rfl (Nat.le_of_ble_eq_true rfl) dX1_merge_14 (c2 := 0) (s2 := 0) rfl rfl (fun _ => ?_)
  refine z_istore_n (pc := 17) C (lv' := [(0, .ref v0), (1, vI v1), (2, vI v2), (3, vI r13)]) (by decide) rfl dX1_merge_17 ?_
  refine z_aload_n (pc := 18) C 0 rfl dX1_merge_18 ?_
  refine gX1_104 (pc := 19) C rfl k12 dX1_merge_19 ?_
  refine z_iload_n (pc := 22) C 1 rfl dX1_merge_22 ?_
  obtain ⟨c15, h⟩ := ifn h
  refine z_iaO (pc := 23) (k := 1) (j := 4) C 104 rfl (by decide) (by decide) (by decide) rfl rfl rfl rfl k12 c15 rfl dX1_merge_23 ?_
  refine z_iconst (pc := 24) C dX1_merge_24 ?_
  refine z_ic_ne (pc := 25) C dX1_merge_25 (tgt := 37) (by decide) (fun c16 => ?_) (fun c16 => ?_)
  · have h := itf c16 h
    exact cB_X1_merge_37 C v0 v1 v2 r13 M8 _ _ k12 h hR
  · have h := itt c16 h
    refine z_iload_n (pc := 28) C 3 rfl dX1_merge_28 ?_
    refine z_iload_n (pc := 29) C 1 rfl dX1_merge_29 ?_
    refine z_ic_eq (pc := 30) C dX1_merge_30 (tgt := 37) (by decide) (fun c25 => ?_) (fun c25 => ?_)
    · have h := itt c25 h
      exact cB_X1_merge_37 C v0 v1 v2 r13 M8 _ _ k12 h hR
    · have h := itf c25 h
      refine z_iconst (pc := 33) C dX1_merge_33 ?_
      refine z_goto (pc := 34) C dX1_merge_34 (tgt := 38) (by decide) ?_
      exact cB_X1_merge_38 C v0 v1 v2 r13 1 M8 _ _ k12 h hR
def d_X0_merge (v0 : Nat) (v1 : Int) (v2 : Int) (v3 : Nat) (M : Mem) : Option (Int × Mem) :=
  bC (d_X1_merge v0 v1 v2 M) (fun r1 M3 =>
    some (0, (m_si M3 9000 v3 (ixn 0) (w32 r1)))) (fun q2 M3 =>
    if m_kd M3 q2 = 115 then
      some (1, M3)
    else
      if m_kd M3 q2 = 116 then
        some (2, M3)
      else
        none)
theorem ct_X0_merge {l : Launch} {S0 : State} {D : va_G} {cA : Nat → ClassId} (hG : x_G l S0 D cA) (v0 : Nat) (v1 : Int) (v2 : Int) (v3 : Nat) (M : Mem) (r : Int) (M' : Mem) (hv0 : m_kd M v0 = 1) (hv3 : m_kd M v3 = 19000) (h : d_X0_merge v0 v1 v2 v3 M = some (r, M')) : x_Me l S0 D cA yX0_merge cX0_merge 5 (some .int) [(0, 10, 13, 25), (0, 10, 17, 27)] ({ frames := 9, cells := 1, slots := 6, locals := 166 }) [.ref v0, vI v1, vI v2, .ref v3] M (.returned (some (vI r))) M' := by
  refine x_begin (F := 9) (Lo := 166) (mc := 1) (ms := 6) hG (Nat.le_of_ble_eq_true rfl) (lv := [(0, .ref v0), (1, vI v1), (2, vI v2), (3, .ref v3)]) rfl rfl rfl rfl rfl (fun X e1 e2 e3 e4 e5 C => ?_)
  have hR : _ ∧ _ := ⟨Nat.le_of_eq (congrArg Room.cells e5).symm, Nat.le_of_eq (congrArg Room.slots e5).symm⟩
  unfold d_X0_merge at h
  refine z_aload_n (pc := 0) C 3 rfl dX0_merge_0 ?_
  refine z_iconst (pc := 1) C dX0_merge_1 ?_
  refine z_aload_n (pc := 2) C 0 rfl dX0_merge_2 ?_
  refine z_iload_n (pc := 3) C 1 rfl dX0_merge_3 ?_
  refine z_iload_n (pc := 4) C 2 rfl dX0_merge_4 ?_
  rcases bCs h with ⟨r1, M3, e4, h⟩ | ⟨q2, M3, e4, h⟩
  · refine cX0_29 (pc := 5) (st := [vI 0, .ref v3]) (st1 := [vI r1, vI 0, .ref v3]) C rfl (rm := { frames := 8, cells := 0, slots := 0, locals := 139 }) (ct_X1_merge C.2.1 v0 v1 v2 M _ _ hv0 e4) ⟨by decide, by decide, Nat.zero_le _, Nat.zero_le _⟩ (Or.inl hv0) rfl (Nat.le_of_ble_eq_true rfl) dX0_merge_5 (c2 := 0) (s2 := 0) rfl rfl (fun x5 => ?_)
    have k6 := x5 _ 19000 (by decide) (Or.inr (by decide)) hv3
    refine z_i2l (pc := 8) C dX0_merge_8 ?_
    refine z_lsw (pc := 9) C k6 (by decide +kernel) dX0_merge_9 ?_
    refine z_goto (pc := 10) C dX0_merge_10 (tgt := 21) (by decide) ?_
    refine z_iconst (pc := 21) C dX0_merge_21 ?_
    cases h
    exact z_iret (pc := 22) C rfl (show 0 ≤ 1 from by decide) (show 0 ≤ 6 from by decide) dX0_merge_22
  · by_cases c7 : m_kd M3 q2 = 115
    · have h := itt c7 h
      refine kX0_29 (pc := 5) (st := [vI 0, .ref v3]) C rfl (rm := { frames := 8, cells := 1, slots := 6, locals := 139 }) (r := q2) (ct_X1_merge C.2.1 v0 v1 v2 M _ _ hv0 e4) ⟨by decide, by decide, Nat.le_trans (show 1 ≤ 1 from by decide) hR.1, Nat.le_trans (show 6 ≤ 6 from by decide) hR.2⟩ (Or.inl hv0) (Nat.le_of_ble_eq_true rfl) dX0_merge_5 (e := 15) (hpc := 13) (by decide) (Or.inr c7) (Or.inr ⟨by decide, by decide, 15, by decide, q560, Or.inl ⟨rfl, rfl⟩⟩) (c2 := 1) (s2 := 6) rfl rfl (fun x8 => ?_)
      refine z_astore (pc := 13) C (lv' := [(0, .ref v0), (1, vI v1), (2, vI v2), (3, .ref v3), (4, .ref q2)]) (by decide) rfl dX0_merge_13 ?_
      refine z_iconst (pc := 15) C dX0_merge_15 ?_
      cases h
      exact z_iret (pc := 16) C rfl (show 1 ≤ 1 from by decide) (show 6 ≤ 6 from by decide) dX0_merge_16
    · have h := itf c7 h
      by_cases c9 : m_kd M3 q2 = 116
      · have h := itt c9 h
        refine kX0_29 (pc := 5) (st := [vI 0, .ref v3]) C rfl (rm := { frames := 8, cells := 1, slots := 6, locals := 139 }) (r := q2) (ct_X1_merge C.2.1 v0 v1 v2 M _ _ hv0 e4) ⟨by decide, by decide, Nat.le_trans (show 1 ≤ 1 from by decide) hR.1, Nat.le_trans (show 6 ≤ 6 from by decide) hR.2⟩ (Or.inl hv0) (Nat.le_of_ble_eq_true rfl) dX0_merge_5 (e := 16) (hpc := 17) (by decide) (Or.inr c9) (Or.inr ⟨by decide, by decide, 15, by decide, q560, Or.inr ⟨by decide, Or.inr ⟨by decide, by decide, 16, by decide, q584, Or.inl ⟨rfl, rfl⟩⟩⟩⟩) (c2 := 1) (s2 := 6) rfl rfl (fun x10 => ?_)
        refine z_astore (pc := 17) C (lv' := [(0, .ref v0), (1, vI v1), (2, vI v2), (3, .ref v3), (4, .ref q2)]) (by decide) rfl dX0_merge_17 ?_
        refine z_iconst (pc := 19) C dX0_merge_19 ?_
        cases h
        exact z_iret (pc := 20) C rfl (show 1 ≤ 1 from by decide) (show 6 ≤ 6 from by decide) dX0_merge_20
      · have h := itf c9 h
        cases h
def B_X1_valueOf_54 (k15 : Nat → Int → Int → Int → Int → Int → Int → Mem → Option Int) (k54 : Nat → Int → Int → Int → Int → Int → Int → Int → Mem → Option Int) (v0 : Nat) (v2 : Int) (v3 : Int) (v4 : Int) (v5 : Int) (v6 : Int) (v7 : Int) (v8 : Int) (M : Mem) : Option Int :=
  if w32 v8 = w32 (-1) then
    k15 v0 v2 v3 v4 v5 v6 (v7 + 1) M
  else
    if inb v8 1500 then 
    if w32 v4 < w32 (m_i M 110 v0 (ixn v8)) then
      k54 v0 v2 v3 v4 v5 v6 v7 (m_i M 107 v0 (ixn v8)) M
    else
      if w32 (m_i M 108 v0 (ixn v8)) ≤ w32 v3 then
        if w32 v6 = w32 (-1) then
          k54 v0 v2 v3 v4 v5 v8 v7 (m_i M 107 v0 (ixn v8)) M
        else
          if inb v6 1500 then 
          if w32 (m_i M 108 v0 (ixn v6)) < w32 (m_i M 108 v0 (ixn v8)) then
            k54 v0 v2 v3 v4 v5 v8 v7 (m_i M 107 v0 (ixn v8)) M
          else
            if w32 (m_i M 108 v0 (ixn v8)) = w32 (m_i M 108 v0 (ixn v6)) then
              if w32 v8 ≤ w32 v6 then
                k54 v0 v2 v3 v4 v5 v6 v7 (m_i M 107 v0 (ixn v8)) M
              else
                k54 v0 v2 v3 v4 v5 v8 v7 (m_i M 107 v0 (ixn v8)) M
            else
              k54 v0 v2 v3 v4 v5 v6 v7 (m_i M 107 v0 (ixn v8)) M else none
      else
        k54 v0 v2 v3 v4 v5 v6 v7 (m_i M 107 v0 (ixn v8)) M else none
def L_X1_valueOf_54 (k15 : Nat → Int → Int → Int → Int → Int → Int → Mem → Option Int) : Nat → Nat → Int → Int → Int → Int → Int → Int → Int → Mem → Option Int
  | 0, _, _, _, _, _, _, _, _, _ => none
  | n + 1, v0, v2, v3, v4, v5, v6, v7, v8, M => B_X1_valueOf_54 k15 (L_X1_valueOf_54 k15 n) v0 v2 v3 v4 v5 v6 v7 v8 M
def B_X1_valueOf_15 (k15 : Nat → Int → Int → Int → Int → Int → Int → Mem → Option Int) (v0 : Nat) (v2 : Int) (v3 : Int) (v4 : Int) (v5 : Int) (v6 : Int) (v7 : Int) (M : Mem) : Option Int :=
  if w32 (m_i M 101 v0 0) ≤ w32 v7 then
    if w32 v6 = w32 (-1) then
      some (-2000000)
    else
      if inb v6 1500 then 
      some (m_i M 109 v0 (ixn v6)) else none
  else
    bR (d_X1_lastOf v0 v7 v4 M) fun r6 => 
    if w32 r6 = w32 v5 then
      if inb ((6 * v7) + v2) 600 then 
      L_X1_valueOf_54 k15 FU v0 v2 v3 v4 v5 v6 v7 (m_i M 106 v0 (ixn ((6 * v7) + v2))) M else none
    else
      k15 v0 v2 v3 v4 v5 v6 (v7 + 1) M
def L_X1_valueOf_15  : Nat → Nat → Int → Int → Int → Int → Int → Int → Mem → Option Int
  | 0, _, _, _, _, _, _, _, _ => none
  | n + 1, v0, v2, v3, v4, v5, v6, v7, M => B_X1_valueOf_15 (L_X1_valueOf_15  n) v0 v2 v3 v4 v5 v6 v7 M
def d_X1_valueOf (v0 : Nat) (v1 : Int) (v2 : Int) (v3 : Int) (v4 : Int) (M : Mem) : Option Int :=
  bR (d_X1_lastOf v0 v1 v4 M) fun r1 => 
  L_X1_valueOf_15 FU v0 v2 v3 v4 r1 (-1) 0 M
theorem cB_X1_valueOf_54 {X : x_Ctx} {M0 : Mem} (C : x_CC X 2 51 yX1_valueOf cX1_valueOf 9 (some .int) []) {k15 : Nat → Int → Int → Int → Int → Int → Int → Mem → Option Int} (hk15 : ∀ (v0 : Nat) (v2 : Int) (v3 : Int) (v4 : Int) (v5 : Int) (v6 : Int) (v7 : Int) (M : Mem) (r : Int), m_kd M v0 = 1 → k15 v0 v2 v3 v4 v5 v6 v7 M = some r → x_Z X 0 0 (x_QF X M0 (.returned (some (vI r))) M 0 0) M0 M 9 [(0, .ref v0), (2, vI v2), (3, vI v3), (4, vI v4), (5, vI v5), (6, vI v6), (7, vI v7)] 15 []) {k54 : Nat → Int → Int → Int → Int → Int → Int → Int → Mem → Option Int} (hk54 : ∀ (v0 : Nat) (v2 : Int) (v3 : Int) (v4 : Int) (v5 : Int) (v6 : Int) (v7 : Int) (v8 : Int) (M : Mem) (r : Int), m_kd M v0 = 1 → k54 v0 v2 v3 v4 v5 v6 v7 v8 M = some r → x_Z X 0 0 (x_QF X M0 (.returned (some (vI r))) M 0 0) M0 M 9 [(0, .ref v0), (2, vI v2), (3, vI v3), (4, vI v4), (5, vI v5), (6, vI v6), (7, vI v7), (8, vI v8)] 54 []) (v0 : Nat) (v2 : Int) (v3 : Int) (v4 : Int) (v5 : Int) (v6 : Int) (v7 : Int) (v8 : Int) (M : Mem) (r : Int) (hv0 : m_kd M v0 = 1) (h : B_X1_valueOf_54 k15 k54 v0 v2 v3 v4 v5 v6 v7 v8 M = some r)  : x_Z X 0 0 (x_QF X M0 (.returned (some (vI r))) M 0 0) M0 M 9 [(0, .ref v0), (2, vI v2), (3, vI v3), (4, vI v4), (5, vI v5), (6, vI v6), (7, vI v7), (8, vI v8)] 54 [] := by
  unfold B_X1_valueOf_54 at h
  refine z_iload (pc := 54) C 7 rfl dX1_valueOf_54 ?_
  refine z_iconst (pc := 56) C dX1_valueOf_56 ?_
  refine z_ic_eq (pc := 57) C dX1_valueOf_57 (tgt := 149) (by decide) (fun c10 => ?_) (fun c10 => ?_)
  · have h := itt c10 h
    refine z_iinc (pc := 149) C (lv' := [(0, .ref v0), (2, vI v2), (3, vI v3), (4, vI v4), (5, vI v5), (6, vI v6), (7, vI (v7 + 1)), (8, vI v8)]) 6 rfl (by decide) rfl dX1_valueOf_149 ?_
    refine z_goto (pc := 152) C dX1_valueOf_152 (tgt := 15) (by decide) ?_
    exact z_lv [0, 1, 2, 3, 4, 5, 6] rfl <| hk15 v0 v2 v3 v4 v5 v6 (v7 + 1) M _ hv0 h
  · have h := itf c10 h
    refine z_aload_n (pc := 60) C 0 rfl dX1_valueOf_60 ?_
    refine gX1_110 (pc := 61) C rfl hv0 dX1_valueOf_61 ?_
    refine z_iload (pc := 64) C 7 rfl dX1_valueOf_64 ?_
    obtain ⟨c11, h⟩ := ifn h
    refine z_iaO (pc := 66) (k := 1) (j := 10) C 110 rfl (by decide) (by decide) (by decide) rfl rfl rfl rfl hv0 c11 rfl dX1_valueOf_66 ?_
    refine z_iload (pc := 67) C 3 rfl dX1_valueOf_67 ?_
    refine z_ic_gt (pc := 69) C dX1_valueOf_69 (tgt := 137) (by decide) (fun c12 => ?_) (fun c12 => ?_)
    · have h := itt c12 h
      refine z_aload_n (pc := 137) C 0 rfl dX1_valueOf_137 ?_
      refine gX1_107 (pc := 138) C rfl hv0 dX1_valueOf_138 ?_
      refine z_iload (pc := 141) C 7 rfl dX1_valueOf_141 ?_
      refine z_iaO (pc := 143) (k := 1) (j := 7) C 107 rfl (by decide) (by decide) (by decide) rfl rfl rfl rfl hv0 c11 rfl dX1_valueOf_143 ?_
      refine z_istore (pc := 144) C (lv' := [(0, .ref v0), (2, vI v2), (3, vI v3), (4, vI v4), (5, vI v5), (6, vI v6), (7, vI v7), (8, vI (m_i M 107 v0 (ixn v8)))]) (by decide) rfl dX1_valueOf_144 ?_
      refine z_goto (pc := 146) C dX1_valueOf_146 (tgt := 54) (by decide) ?_
      exact hk54 v0 v2 v3 v4 v5 v6 v7 (m_i M 107 v0 (ixn v8)) M _ hv0 h
    · have h := itf c12 h
      refine z_aload_n (pc := 72) C 0 rfl dX1_valueOf_72 ?_
      refine gX1_108 (pc := 73) C rfl hv0 dX1_valueOf_73 ?_
      refine z_iload (pc := 76) C 7 rfl dX1_valueOf_76 ?_
      refine z_iaO (pc := 78) (k := 1) (j := 8) C 108 rfl (by decide) (by decide) (by decide) rfl rfl rfl rfl hv0 c11 rfl dX1_valueOf_78 ?_
      refine z_iload_n (pc := 79) C 2 rfl dX1_valueOf_79 ?_
      refine z_ic_le (pc := 80) C dX1_valueOf_80 (tgt := 86) (by decide) (fun c13 => ?_) (fun c13 => ?_)
      · have h := itt c13 h
        refine z_iload (pc := 86) C 5 rfl dX1_valueOf_86 ?_
        refine z_iconst (pc := 88) C dX1_valueOf_88 ?_
        refine z_ic_eq (pc := 89) C dX1_valueOf_89 (tgt := 133) (by decide) (fun c14 => ?_) (fun c14 => ?_)
        · have h := itt c14 h
          refine z_iload (pc := 133) C 7 rfl dX1_valueOf_133 ?_
          refine z_istore (pc := 135) C (lv' := [(0, .ref v0), (2, vI v2), (3, vI v3), (4, vI v4), (5, vI v5), (6, vI v8), (7, vI v7), (8, vI v8)]) (by decide) rfl dX1_valueOf_135 ?_
          refine z_aload_n (pc := 137) C 0 rfl dX1_valueOf_137 ?_
          refine gX1_107 (pc := 138) C rfl hv0 dX1_valueOf_138 ?_
          refine z_iload (pc := 141) C 7 rfl dX1_valueOf_141 ?_
          refine z_iaO (pc := 143) (k := 1) (j := 7) C 107 rfl (by decide) (by decide) (by decide) rfl rfl rfl rfl hv0 c11 rfl dX1_valueOf_143 ?_
          refine z_istore (pc := 144) C (lv' := [(0, .ref v0), (2, vI v2), (3, vI v3), (4, vI v4), (5, vI v5), (6, vI v8), (7, vI v7), (8, vI (m_i M 107 v0 (ixn v8)))]) (by decide) rfl dX1_valueOf_144 ?_
          refine z_goto (pc := 146) C dX1_valueOf_146 (tgt := 54) (by decide) ?_
          exact hk54 v0 v2 v3 v4 v5 v8 v7 (m_i M 107 v0 (ixn v8)) M _ hv0 h
        · have h := itf c14 h
          refine z_aload_n (pc := 92) C 0 rfl dX1_valueOf_92 ?_
          refine gX1_108 (pc := 93) C rfl hv0 dX1_valueOf_93 ?_
          refine z_iload (pc := 96) C 7 rfl dX1_valueOf_96 ?_
          refine z_iaO (pc := 98) (k := 1) (j := 8) C 108 rfl (by decide) (by decide) (by decide) rfl rfl rfl rfl hv0 c11 rfl dX1_valueOf_98 ?_
          refine z_aload_n (pc := 99) C 0 rfl dX1_valueOf_99 ?_
          refine gX1_108 (pc := 100) C rfl hv0 dX1_valueOf_100 ?_
          refine z_iload (pc := 103) C 5 rfl dX1_valueOf_103 ?_
          obtain ⟨c15, h⟩ := ifn h
          refine z_iaO (pc := 105) (k := 1) (j := 8) C 108 rfl (by decide) (by decide) (by decide) rfl rfl rfl rfl hv0 c15 rfl dX1_valueOf_105 ?_
          refine z_ic_gt (pc := 106) C dX1_valueOf_106 (tgt := 133) (by decide) (fun c16 => ?_) (fun c16 => ?_)
          · have h := itt c16 h
            refine z_iload (pc := 133) C 7 rfl dX1_valueOf_133 ?_
            refine z_istore (pc := 135) C (lv' := [(0, .ref v0), (2, vI v2), (3, vI v3), (4, vI v4), (5, vI v5), (6, vI v8), (7, vI v7), (8, vI v8)]) (by decide) rfl dX1_valueOf_135 ?_
            refine z_aload_n (pc := 137) C 0 rfl dX1_valueOf_137 ?_
            refine gX1_107 (pc := 138) C rfl hv0 dX1_valueOf_138 ?_
            refine z_iload (pc := 141) C 7 rfl dX1_valueOf_141 ?_
            refine z_iaO (pc := 143) (k := 1) (j := 7) C 107 rfl (by decide) (by decide) (by decide) rfl rfl rfl rfl hv0 c11 rfl dX1_valueOf_143 ?_
            refine z_istore (pc := 144) C (lv' := [(0, .ref v0), (2, vI v2), (3, vI v3), (4, vI v4), (5, vI v5), (6, vI v8), (7, vI v7), (8, vI (m_i M 107 v0 (ixn v8)))]) (by decide) rfl dX1_valueOf_144 ?_
            refine z_goto (pc := 146) C dX1_valueOf_146 (tgt := 54) (by decide) ?_
            exact hk54 v0 v2 v3 v4 v5 v8 v7 (m_i M 107 v0 (ixn v8)) M _ hv0 h
          · have h := itf c16 h
            refine z_aload_n (pc := 109) C 0 rfl dX1_valueOf_109 ?_
            refine gX1_108 (pc := 110) C rfl hv0 dX1_valueOf_110 ?_
            refine z_iload (pc := 113) C 7 rfl dX1_valueOf_113 ?_
            refine z_iaO (pc := 115) (k := 1) (j := 8) C 108 rfl (by decide) (by decide) (by decide) rfl rfl rfl rfl hv0 c11 rfl dX1_valueOf_115 ?_
            refine z_aload_n (pc := 116) C 0 rfl dX1_valueOf_116 ?_
            refine gX1_108 (pc := 117) C rfl hv0 dX1_valueOf_117 ?_
            refine z_iload (pc := 120) C 5 rfl dX1_valueOf_120 ?_
            refine z_iaO (pc := 122) (k := 1) (j := 8) C 108 rfl (by decide) (by decide) (by decide) rfl rfl rfl rfl hv0 c15 rfl dX1_valueOf_122 ?_
            refine z_ic_ne (pc := 123) C dX1_valueOf_123 (tgt := 137) (by decide) (fun c17 => ?_) (fun c17 => ?_)
            · have h := itf c17 h
              refine z_aload_n (pc := 137) C 0 rfl dX1_valueOf_137 ?_
              refine gX1_107 (pc := 138) C rfl hv0 dX1_valueOf_138 ?_
              refine z_iload (pc := 141) C 7 rfl dX1_valueOf_141 ?_
              refine z_iaO (pc := 143) (k := 1) (j := 7) C 107 rfl (by decide) (by decide) (by decide) rfl rfl rfl rfl hv0 c11 rfl dX1_valueOf_143 ?_
              refine z_istore (pc := 144) C (lv' := [(0, .ref v0), (2, vI v2), (3, vI v3), (4, vI v4), (5, vI v5), (6, vI v6), (7, vI v7), (8, vI (m_i M 107 v0 (ixn v8)))]) (by decide) rfl dX1_valueOf_144 ?_
              refine z_goto (pc := 146) C dX1_valueOf_146 (tgt := 54) (by decide) ?_
              exact hk54 v0 v2 v3 v4 v5 v6 v7 (m_i M 107 v0 (ixn v8)) M _ hv0 h
            · have h := itt c17 h
              refine z_iload (pc := 126) C 7 rfl dX1_valueOf_126 ?_
              refine z_iload (pc := 128) C 5 rfl dX1_valueOf_128 ?_
              refine z_ic_le (pc := 130) C dX1_valueOf_130 (tgt := 137) (by decide) (fun c18 => ?_) (fun c18 => ?_)
              · have h := itt c18 h
                refine z_aload_n (pc := 137) C 0 rfl dX1_valueOf_137 ?_
                refine gX1_107 (pc := 138) C rfl hv0 dX1_valueOf_138 ?_
                refine z_iload (pc := 141) C 7 rfl dX1_valueOf_141 ?_
                refine z_iaO (pc := 143) (k := 1) (j := 7) C 107 rfl (by decide) (by decide) (by decide) rfl rfl rfl rfl hv0 c11 rfl dX1_valueOf_143 ?_
                refine z_istore (pc := 144) C (lv' := [(0, .ref v0), (2, vI v2), (3, vI v3), (4, vI v4), (5, vI v5), (6, vI v6), (7, vI v7), (8, vI (m_i M 107 v0 (ixn v8)))]) (by decide) rfl dX1_valueOf_144 ?_
                refine z_goto (pc := 146) C dX1_valueOf_146 (tgt := 54) (by decide) ?_
                exact hk54 v0 v2 v3 v4 v5 v6 v7 (m_i M 107 v0 (ixn v8)) M _ hv0 h
              · have h := itf c18 h
                refine z_iload (pc := 133) C 7 rfl dX1_valueOf_133 ?_
                refine z_istore (pc := 135) C (lv' := [(0, .ref v0), (2, vI v2), (3, vI v3), (4, vI v4), (5, vI v5), (6, vI v8), (7, vI v7), (8, vI v8)]) (by decide) rfl dX1_valueOf_135 ?_
                refine z_aload_n (pc := 137) C 0 rfl dX1_valueOf_137 ?_
                refine gX1_107 (pc := 138) C rfl hv0 dX1_valueOf_138 ?_
                refine z_iload (pc := 141) C 7 rfl dX1_valueOf_141 ?_
                refine z_iaO (pc := 143) (k := 1) (j := 7) C 107 rfl (by decide) (by decide) (by decide) rfl rfl rfl rfl hv0 c11 rfl dX1_valueOf_143 ?_
                refine z_istore (pc := 144) C (lv' := [(0, .ref v0), (2, vI v2), (3, vI v3), (4, vI v4), (5, vI v5), (6, vI v8), (7, vI v7), (8, vI (m_i M 107 v0 (ixn v8)))]) (by decide) rfl dX1_valueOf_144 ?_
                refine z_goto (pc := 146) C dX1_valueOf_146 (tgt := 54) (by decide) ?_
                exact hk54 v0 v2 v3 v4 v5 v8 v7 (m_i M 107 v0 (ixn v8)) M _ hv0 h
      · have h := itf c13 h
        refine z_goto (pc := 83) C dX1_valueOf_83 (tgt := 137) (by decide) ?_
        refine z_aload_n (pc := 137) C 0 rfl dX1_valueOf_137 ?_
        refine gX1_107 (pc := 138) C rfl hv0 dX1_valueOf_138 ?_
        refine z_iload (pc := 141) C 7 rfl dX1_valueOf_141 ?_
        refine z_iaO (pc := 143) (k := 1) (j := 7) C 107 rfl (by decide) (by decide) (by decide) rfl rfl rfl rfl hv0 c11 rfl dX1_valueOf_143 ?_
        refine z_istore (pc := 144) C (lv' := [(0, .ref v0), (2, vI v2), (3, vI v3), (4, vI v4), (5, vI v5), (6, vI v6), (7, vI v7), (8, vI (m_i M 107 v0 (ixn v8)))]) (by decide) rfl dX1_valueOf_144 ?_
        refine z_goto (pc := 146) C dX1_valueOf_146 (tgt := 54) (by decide) ?_
        exact hk54 v0 v2 v3 v4 v5 v6 v7 (m_i M 107 v0 (ixn v8)) M _ hv0 h
theorem cL_X1_valueOf_54 {X : x_Ctx} {M0 : Mem} (C : x_CC X 2 51 yX1_valueOf cX1_valueOf 9 (some .int) []) {k15 : Nat → Int → Int → Int → Int → Int → Int → Mem → Option Int} (hk15 : ∀ (v0 : Nat) (v2 : Int) (v3 : Int) (v4 : Int) (v5 : Int) (v6 : Int) (v7 : Int) (M : Mem) (r : Int), m_kd M v0 = 1 → k15 v0 v2 v3 v4 v5 v6 v7 M = some r → x_Z X 0 0 (x_QF X M0 (.returned (some (vI r))) M 0 0) M0 M 9 [(0, .ref v0), (2, vI v2), (3, vI v3), (4, vI v4), (5, vI v5), (6, vI v6), (7, vI v7)] 15 []) : ∀ (n : Nat) (v0 : Nat) (v2 : Int) (v3 : Int) (v4 : Int) (v5 : Int) (v6 : Int) (v7 : Int) (v8 : Int) (M : Mem) (r : Int) (hv0 : m_kd M v0 = 1) (h : L_X1_valueOf_54 k15 n v0 v2 v3 v4 v5 v6 v7 v8 M = some r) , x_Z X 0 0 (x_QF X M0 (.returned (some (vI r))) M 0 0) M0 M 9 [(0, .ref v0), (2, vI v2), (3, vI v3), (4, vI v4), (5, vI v5), (6, vI v6), (7, vI v7), (8, vI v8)] 54 [] := by
  intro n
  induction n with
  | zero => intro v0 v2 v3 v4 v5 v6 v7 v8 M r hv0 h ; cases h
  | succ n ih => intro v0 v2 v3 v4 v5 v6 v7 v8 M r hv0 h ; exact cB_X1_valueOf_54 C hk15 (fun v0 v2 v3 v4 v5 v6 v7 v8 M r hv0 h  => ih v0 v2 v3 v4 v5 v6 v7 v8 M r hv0 h ) v0 v2 v3 v4 v5 v6 v7 v8 M r hv0 h 
theorem cB_X1_valueOf_15 {X : x_Ctx} {M0 : Mem} (C : x_CC X 2 51 yX1_valueOf cX1_valueOf 9 (some .int) []) {k15 : Nat → Int → Int → Int → Int → Int → Int → Mem → Option Int} (hk15 : ∀ (v0 : Nat) (v2 : Int) (v3 : Int) (v4 : Int) (v5 : Int) (v6 : Int) (v7 : Int) (M : Mem) (r : Int), m_kd M v0 = 1 → k15 v0 v2 v3 v4 v5 v6 v7 M = some r → x_Z X 0 0 (x_QF X M0 (.returned (some (vI r))) M 0 0) M0 M 9 [(0, .ref v0), (2, vI v2), (3, vI v3), (4, vI v4), (5, vI v5), (6, vI v6), (7, vI v7)] 15 []) (v0 : Nat) (v2 : Int) (v3 : Int) (v4 : Int) (v5 : Int) (v6 : Int) (v7 : Int) (M : Mem) (r : Int) (hv0 : m_kd M v0 = 1) (h : B_X1_valueOf_15 k15 v0 v2 v3 v4 v5 v6 v7 M = some r)  : x_Z X 0 0 (x_QF X M0 (.returned (some (vI r))) M 0 0) M0 M 9 [(0, .ref v0), (2, vI v2), (3, vI v3), (4, vI v4), (5, vI v5), (6, vI v6), (7, vI v7)] 15 [] := by
  unfold B_X1_valueOf_15 at h
  refine z_iload (pc := 15) C 6 rfl dX1_valueOf_15 ?_
  refine z_aload_n (pc := 17) C 0 rfl dX1_valueOf_17 ?_
  refine gX1_101 (pc := 18) C rfl (Or.inl hv0) rfl dX1_valueOf_18 ?_
  refine z_ic_ge (pc := 21) C dX1_valueOf_21 (tgt := 155) (by decide) (fun c3 => ?_) (fun c3 => ?_)
  · have h := itt c3 h
    refine z_iload (pc := 155) C 5 rfl dX1_valueOf_155 ?_
    refine z_iconst (pc := 157) C dX1_valueOf_157 ?_
    refine z_ic_ne (pc := 158) C dX1_valueOf_158 (tgt := 166) (by decide) (fun c4 => ?_) (fun c4 => ?_)
    · have h := itf c4 h
      refine z_aload_n (pc := 166) C 0 rfl dX1_valueOf_166 ?_
      refine gX1_109 (pc := 167) C rfl hv0 dX1_valueOf_167 ?_
      refine z_iload (pc := 170) C 5 rfl dX1_valueOf_170 ?_
      obtain ⟨c5, h⟩ := ifn h
      refine z_iaO (pc := 172) (k := 1) (j := 9) C 109 rfl (by decide) (by decide) (by decide) rfl rfl rfl rfl hv0 c5 rfl dX1_valueOf_172 ?_
      cases h
      exact z_iret (pc := 173) C rfl (show 0 ≤ 0 from by decide) (show 0 ≤ 0 from by decide) dX1_valueOf_173
    · have h := itt c4 h
      refine z_ldc (pc := 161) C (x := -2000000) q661 (by decide +kernel) dX1_valueOf_161 ?_
      refine z_goto (pc := 163) C dX1_valueOf_163 (tgt := 173) (by decide) ?_
      cases h
      exact z_iret (pc := 173) C rfl (show 0 ≤ 0 from by decide) (show 0 ≤ 0 from by decide) dX1_valueOf_173
  · have h := itf c3 h
    refine z_aload_n (pc := 24) C 0 rfl dX1_valueOf_24 ?_
    refine z_iload (pc := 25) C 6 rfl dX1_valueOf_25 ?_
    refine z_iload (pc := 27) C 3 rfl dX1_valueOf_27 ?_
    obtain ⟨r6, e7, h⟩ := bRs h
    refine cX1_203 (pc := 29) (st := []) (st1 := [vI r6]) C rfl (rm := { frames := 1, cells := 0, slots := 0, locals := 24 }) (ct_X1_lastOf C.2.1 v0 v7 v4 M _ hv0 e7) ⟨by decide, by decide, Nat.zero_le _, Nat.zero_le _⟩ (Or.inl hv0) rfl (Nat.le_of_ble_eq_true rfl) dX1_valueOf_29 (c2 := 0) (s2 := 0) rfl rfl (fun _ => ?_)
    refine z_iload (pc := 32) C 4 rfl dX1_valueOf_32 ?_
    refine z_ic_eq (pc := 34) C dX1_valueOf_34 (tgt := 40) (by decide) (fun c8 => ?_) (fun c8 => ?_)
    · have h := itt c8 h
      refine z_aload_n (pc := 40) C 0 rfl dX1_valueOf_40 ?_
      refine gX1_106 (pc := 41) C rfl hv0 dX1_valueOf_41 ?_
      refine z_bipush (pc := 44) C (by decide +kernel) dX1_valueOf_44 ?_
      refine z_iload (pc := 46) C 6 rfl dX1_valueOf_46 ?_
      refine z_imul (pc := 48) C dX1_valueOf_48 ?_
      refine z_iload_n (pc := 49) C 1 rfl dX1_valueOf_49 ?_
      refine z_iadd (pc := 50) C dX1_valueOf_50 ?_
      obtain ⟨c9, h⟩ := ifn h
      refine z_iaO (pc := 51) (k := 1) (j := 6) C 106 rfl (by decide) (by decide) (by decide) rfl rfl rfl rfl hv0 c9 rfl dX1_valueOf_51 ?_
      refine z_istore (pc := 52) C (lv' := [(0, .ref v0), (2, vI v2), (3, vI v3), (4, vI v4), (5, vI v5), (6, vI v6), (7, vI v7), (8, vI (m_i M 106 v0 (ixn ((6 * v7) + v2))))]) (by decide) rfl dX1_valueOf_52 ?_
      exact cL_X1_valueOf_54 C hk15 FU v0 v2 v3 v4 v5 v6 v7 (m_i M 106 v0 (ixn ((6 * v7) + v2))) M _ hv0 h
    · have h := itf c8 h
      refine z_goto (pc := 37) C dX1_valueOf_37 (tgt := 149) (by decide) ?_
      refine z_iinc (pc := 149) C (lv' := [(0, .ref v0), (2, vI v2), (3, vI v3), (4, vI v4), (5, vI v5), (6, vI v6), (7, vI (v7 + 1))]) 6 rfl (by decide) rfl dX1_valueOf_149 ?_
      refine z_goto (pc := 152) C dX1_valueOf_152 (tgt := 15) (by decide) ?_
      exact hk15 v0 v2 v3 v4 v5 v6 (v7 + 1) M _ hv0 h
theorem cL_X1_valueOf_15 {X : x_Ctx} {M0 : Mem} (C : x_CC X 2 51 yX1_valueOf cX1_valueOf 9 (some .int) [])  : ∀ (n : Nat) (v0 : Nat) (v2 : Int) (v3 : Int) (v4 : Int) (v5 : Int) (v6 : Int) (v7 : Int) (M : Mem) (r : Int) (hv0 : m_kd M v0 = 1) (h : L_X1_valueOf_15  n v0 v2 v3 v4 v5 v6 v7 M = some r) , x_Z X 0 0 (x_QF X M0 (.returned (some (vI r))) M 0 0) M0 M 9 [(0, .ref v0), (2, vI v2), (3, vI v3), (4, vI v4), (5, vI v5), (6, vI v6), (7, vI v7)] 15 [] := by
  intro n
  induction n with
  | zero => intro v0 v2 v3 v4 v5 v6 v7 M r hv0 h ; cases h
  | succ n ih => intro v0 v2 v3 v4 v5 v6 v7 M r hv0 h ; exact cB_X1_valueOf_15 C (fun v0 v2 v3 v4 v5 v6 v7 M r hv0 h  => ih v0 v2 v3 v4 v5 v6 v7 M r hv0 h ) v0 v2 v3 v4 v5 v6 v7 M r hv0 h 
theorem ct_X1_valueOf {l : Launch} {S0 : State} {D : va_G} {cA : Nat → ClassId} (hG : x_G l S0 D cA) (v0 : Nat) (v1 : Int) (v2 : Int) (v3 : Int) (v4 : Int) (M : Mem) (r : Int) (hv0 : m_kd M v0 = 1) (h : d_X1_valueOf v0 v1 v2 v3 v4 M = some r) : x_Me l S0 D cA yX1_valueOf cX1_valueOf 9 (some .int) [] ({ frames := 2, cells := 0, slots := 0, locals := 51 }) [.ref v0, vI v1, vI v2, vI v3, vI v4] M (.returned (some (vI r))) M := by
  refine x_begin (F := 2) (Lo := 51) (mc := 0) (ms := 0) hG (Nat.le_of_ble_eq_true rfl) (lv := [(0, .ref v0), (1, vI v1), (2, vI v2), (3, vI v3), (4, vI v4)]) rfl rfl rfl rfl rfl (fun X e1 e2 e3 e4 e5 C => ?_)
  unfold d_X1_valueOf at h
  refine z_aload_n (pc := 0) C 0 rfl dX1_valueOf_0 ?_
  refine z_iload_n (pc := 1) C 1 rfl dX1_valueOf_1 ?_
  refine z_iload (pc := 2) C 4 rfl dX1_valueOf_2 ?_
  obtain ⟨r1, e2, h⟩ := bRs h
  refine cX1_203 (pc := 4) (st := []) (st1 := [vI r1]) C rfl (rm := { frames := 1, cells := 0, slots := 0, locals := 24 }) (ct_X1_lastOf C.2.1 v0 v1 v4 M _ hv0 e2) ⟨by decide, by decide, Nat.zero_le _, Nat.zero_le _⟩ (Or.inl hv0) rfl (Nat.le_of_ble_eq_true rfl) dX1_valueOf_4 (c2 := 0) (s2 := 0) rfl rfl (fun _ => ?_)
  refine z_istore (pc := 7) C (lv' := [(0, .ref v0), (1, vI v1), (2, vI v2), (3, vI v3), (4, vI v4), (5, vI r1)]) (by decide) rfl dX1_valueOf_7 ?_
  refine z_iconst (pc := 9) C dX1_valueOf_9 ?_
  refine z_istore (pc := 10) C (lv' := [(0, .ref v0), (1, vI v1), (2, vI v2), (3, vI v3), (4, vI v4), (5, vI r1), (6, vI (-1))]) (by decide) rfl dX1_valueOf_10 ?_
  refine z_iconst (pc := 12) C dX1_valueOf_12 ?_
  refine z_istore (pc := 13) C (lv' := [(0, .ref v0), (1, vI v1), (2, vI v2), (3, vI v3), (4, vI v4), (5, vI r1), (6, vI (-1)), (7, vI 0)]) (by decide) rfl dX1_valueOf_13 ?_
  exact z_lv [0, 2, 3, 4, 5, 6, 7] rfl <| cL_X1_valueOf_15 C FU v0 v2 v3 v4 r1 (-1) 0 M _ hv0 h
def B_X1_value_23  (v0 : Nat) (v1 : Int) (v2 : Int) (v3 : Int) (v4 : Int) (s0 : Int) (M : Mem) : Option ((Int ⊕ Nat) × Mem) :=
  bT (d_X1_need s0 M) fun r14 M15 => 
  bR (d_X1_valueOf v0 v1 v2 v3 v4 M15) fun r20 => 
  some (.inl r20, M15)
def B_X1_value_22  (v0 : Nat) (v1 : Int) (v2 : Int) (v3 : Int) (v4 : Int) (M : Mem) : Option ((Int ⊕ Nat) × Mem) :=
  B_X1_value_23 v0 v1 v2 v3 v4 0 M
def d_X1_value (v0 : Nat) (v1 : Int) (v2 : Int) (v3 : Int) (v4 : Int) (M : Mem) : Option ((Int ⊕ Nat) × Mem) :=
  bT (d_X1_unitIn v0 v1 M) fun r1 M2 => 
  bT (d_X1_fieldIn v2 M2) fun r7 M8 => 
  if w32 v3 < 0 then
    B_X1_value_22 v0 v1 v2 v3 v4 M8
  else
    if w32 v4 < 0 then
      B_X1_value_22 v0 v1 v2 v3 v4 M8
    else
      B_X1_value_23 v0 v1 v2 v3 v4 1 M8
theorem cB_X1_value_23 {X : x_Ctx} {M0 : Mem} (C : x_CC X 8 139 yX1_value cX1_value 5 (some .int) [])  (v0 : Nat) (v1 : Int) (v2 : Int) (v3 : Int) (v4 : Int) (s0 : Int) (M : Mem) (r : Int ⊕ Nat) (M' : Mem) (hv0 : m_kd M v0 = 1) (h : B_X1_value_23  v0 v1 v2 v3 v4 s0 M = some (r, M')) (hR : ocN r 0 1 ≤ (XR X).cells ∧ ocN r 0 6 ≤ (XR X).slots) : x_Z X 0 0 (x_QF X M0 (ocI r) M' (ocN r 0 1) (ocN r 0 6)) M0 M 5 [(0, .ref v0), (1, vI v1), (2, vI v2), (3, vI v3), (4, vI v4)] 23 [vI s0] := by
  unfold B_X1_value_23 at h
  rcases bTs h with ⟨x18, e16, er⟩ | ⟨r14, M15, e16, h⟩
  · subst er; exact tX1_164 (pc := 23) C rfl (rm := { frames := 6, cells := 1, slots := 6, locals := 90 }) (ct_X1_need C.2.1 s0 M _ _  e16) ⟨by decide, by decide, Nat.le_trans (show 1 ≤ 1 from by decide) hR.1, Nat.le_trans (show 6 ≤ 6 from by decide) hR.2⟩ (Nat.le_of_ble_eq_true rfl) dX1_value_23 (by decide) (show 1 ≤ 1 from by decide) (show 6 ≤ 6 from by decide)
  refine cX1_164 (pc := 23) (st := []) (st1 := []) C rfl (rm := { frames := 6, cells := 0, slots := 0, locals := 90 }) (ct_X1_need C.2.1 s0 M _ _  e16) ⟨by decide, by decide, Nat.zero_le _, Nat.zero_le _⟩ rfl (Nat.le_of_ble_eq_true rfl) dX1_value_23 (c2 := 0) (s2 := 0) rfl rfl (fun x17 => ?_)
  have k19 := x17 _ 1 (by decide) (Or.inl (by decide)) hv0
  refine z_aload_n (pc := 26) C 0 rfl dX1_value_26 ?_
  refine z_iload_n (pc := 27) C 1 rfl dX1_value_27 ?_
  refine z_iload_n (pc := 28) C 2 rfl dX1_value_28 ?_
  refine z_iload_n (pc := 29) C 3 rfl dX1_value_29 ?_
  refine z_iload (pc := 30) C 4 rfl dX1_value_30 ?_
  obtain ⟨r20, e21, h⟩ := bRs h
  refine cX1_211 (pc := 32) (st := []) (st1 := [vI r20]) C rfl (rm := { frames := 2, cells := 0, slots := 0, locals := 51 }) (ct_X1_valueOf C.2.1 v0 v1 v2 v3 v4 M15 _ k19 e21) ⟨by decide, by decide, Nat.zero_le _, Nat.zero_le _⟩ (Or.inl k19) rfl (Nat.le_of_ble_eq_true rfl) dX1_value_32 (c2 := 0) (s2 := 0) rfl rfl (fun _ => ?_)
  cases h
  exact z_iret (pc := 35) C rfl (show 0 ≤ 0 from by decide) (show 0 ≤ 0 from by decide) dX1_value_35
theorem cB_X1_value_22 {X : x_Ctx} {M0 : Mem} (C : x_CC X 8 139 yX1_value cX1_value 5 (some .int) [])  (v0 : Nat) (v1 : Int) (v2 : Int) (v3 : Int) (v4 : Int) (M : Mem) (r : Int ⊕ Nat) (M' : Mem) (hv0 : m_kd M v0 = 1) (h : B_X1_value_22  v0 v1 v2 v3 v4 M = some (r, M')) (hR : ocN r 0 1 ≤ (XR X).cells ∧ ocN r 0 6 ≤ (XR X).slots) : x_Z X 0 0 (x_QF X M0 (ocI r) M' (ocN r 0 1) (ocN r 0 6)) M0 M 5 [(0, .ref v0), (1, vI v1), (2, vI v2), (3, vI v3), (4, vI v4)] 22 [] := by
  unfold B_X1_value_22 at h
  refine z_iconst (pc := 22) C dX1_value_22 ?_
  exact cB_X1_value_23 C v0 v1 v2 v3 v4 0 M _ _ hv0 h hR
theorem ct_X1_value {l : Launch} {S0 : State} {D : va_G} {cA : Nat → ClassId} (hG : x_G l S0 D cA) (v0 : Nat) (v1 : Int) (v2 : Int) (v3 : Int) (v4 : Int) (M : Mem) (r : Int ⊕ Nat) (M' : Mem) (hv0 : m_kd M v0 = 1) (h : d_X1_value v0 v1 v2 v3 v4 M = some (r, M')) : x_Me l S0 D cA yX1_value cX1_value 5 (some .int) [] ({ frames := 8, cells := (ocN r 0 1), slots := (ocN r 0 6), locals := 139 }) [.ref v0, vI v1, vI v2, vI v3, vI v4] M (ocI r) M' := by
  refine x_begin (F := 8) (Lo := 139) (mc := (ocN r 0 1)) (ms := (ocN r 0 6)) hG (Nat.le_of_ble_eq_true rfl) (lv := [(0, .ref v0), (1, vI v1), (2, vI v2), (3, vI v3), (4, vI v4)]) rfl rfl rfl rfl rfl (fun X e1 e2 e3 e4 e5 C => ?_)
  have hR : _ ∧ _ := ⟨Nat.le_of_eq (congrArg Room.cells e5).symm, Nat.le_of_eq (congrArg Room.slots e5).symm⟩
  unfold d_X1_value at h
  refine z_aload_n (pc := 0) C 0 rfl dX1_value_0 ?_
  refine z_iload_n (pc := 1) C 1 rfl dX1_value_1 ?_
  rcases bTs h with ⟨x5, e3, er⟩ | ⟨r1, M2, e3, h⟩
  · subst er; exact tX1_179 (pc := 2) C rfl (rm := { frames := 7, cells := 1, slots := 6, locals := 114 }) (ct_X1_unitIn C.2.1 v0 v1 M _ _ hv0 e3) ⟨by decide, by decide, Nat.le_trans (show 1 ≤ 1 from by decide) hR.1, Nat.le_trans (show 6 ≤ 6 from by decide) hR.2⟩ (Or.inl hv0) (Nat.le_of_ble_eq_true rfl) dX1_value_2 (by decide) (show 1 ≤ 1 from by decide) (show 6 ≤ 6 from by decide)
  refine cX1_179 (pc := 2) (st := []) (st1 := []) C rfl (rm := { frames := 7, cells := 0, slots := 0, locals := 114 }) (ct_X1_unitIn C.2.1 v0 v1 M _ _ hv0 e3) ⟨by decide, by decide, Nat.zero_le _, Nat.zero_le _⟩ (Or.inl hv0) rfl (Nat.le_of_ble_eq_true rfl) dX1_value_2 (c2 := 0) (s2 := 0) rfl rfl (fun x4 => ?_)
  have k6 := x4 _ 1 (by decide) (Or.inl (by decide)) hv0
  refine z_iload_n (pc := 5) C 2 rfl dX1_value_5 ?_
  rcases bTs h with ⟨x11, e9, er⟩ | ⟨r7, M8, e9, h⟩
  · subst er; exact tX1_183 (pc := 6) C rfl (rm := { frames := 7, cells := 1, slots := 6, locals := 114 }) (ct_X1_fieldIn C.2.1 v2 M2 _ _  e9) ⟨by decide, by decide, Nat.le_trans (show 1 ≤ 1 from by decide) hR.1, Nat.le_trans (show 6 ≤ 6 from by decide) hR.2⟩ (Nat.le_of_ble_eq_true rfl) dX1_value_6 (by decide) (show 1 ≤ 1 from by decide) (show 6 ≤ 6 from by decide)
  refine cX1_183 (pc := 6) (st := []) (st1 := []) C rfl (rm := { frames := 7, cells := 0, slots := 0, locals := 114 }) (ct_X1_fieldIn C.2.1 v2 M2 _ _  e9) ⟨by decide, by decide, Nat.zero_le _, Nat.zero_le _⟩ rfl (Nat.le_of_ble_eq_true rfl) dX1_value_6 (c2 := 0) (s2 := 0) rfl rfl (fun x10 => ?_)
  have k12 := x10 _ 1 (by decide) (Or.inl (by decide)) k6
  refine z_iload_n (pc := 9) C 3 rfl dX1_value_9 ?_
  refine z_if_lt (pc := 10) C dX1_value_10 (tgt := 22) (by decide) (fun c13 => ?_) (fun c13 => ?_)
  · have h := itt c13 h
    exact cB_X1_value_22 C v0 v1 v2 v3 v4 M8 _ _ k12 h hR
  · have h := itf c13 h
    refine z_iload (pc := 13) C 4 rfl dX1_value_13 ?_
    refine z_if_lt (pc := 15) C dX1_value_15 (tgt := 22) (by decide) (fun c22 => ?_) (fun c22 => ?_)
    · have h := itt c22 h
      exact cB_X1_value_22 C v0 v1 v2 v3 v4 M8 _ _ k12 h hR
    · have h := itf c22 h
      refine z_iconst (pc := 18) C dX1_value_18 ?_
      refine z_goto (pc := 19) C dX1_value_19 (tgt := 23) (by decide) ?_
      exact cB_X1_value_23 C v0 v1 v2 v3 v4 1 M8 _ _ k12 h hR
def d_X0_value (v0 : Nat) (v1 : Int) (v2 : Int) (v3 : Int) (v4 : Int) (v5 : Nat) (M : Mem) : Option (Int × Mem) :=
  bC (d_X1_value v0 v1 v2 v3 v4 M) (fun r1 M3 =>
    some (0, (m_si M3 9000 v5 (ixn 0) (w32 r1)))) (fun q2 M3 =>
    if m_kd M3 q2 = 115 then
      some (1, M3)
    else
      if m_kd M3 q2 = 113 then
        some (2, M3)
      else
        none)
theorem ct_X0_value {l : Launch} {S0 : State} {D : va_G} {cA : Nat → ClassId} (hG : x_G l S0 D cA) (v0 : Nat) (v1 : Int) (v2 : Int) (v3 : Int) (v4 : Int) (v5 : Nat) (M : Mem) (r : Int) (M' : Mem) (hv0 : m_kd M v0 = 1) (hv5 : m_kd M v5 = 19000) (h : d_X0_value v0 v1 v2 v3 v4 v5 M = some (r, M')) : x_Me l S0 D cA yX0_value cX0_value 7 (some .int) [(0, 14, 17, 25), (0, 14, 21, 13)] ({ frames := 9, cells := 1, slots := 6, locals := 167 }) [.ref v0, vI v1, vI v2, vI v3, vI v4, .ref v5] M (.returned (some (vI r))) M' := by
  refine x_begin (F := 9) (Lo := 167) (mc := 1) (ms := 6) hG (Nat.le_of_ble_eq_true rfl) (lv := [(0, .ref v0), (1, vI v1), (2, vI v2), (3, vI v3), (4, vI v4), (5, .ref v5)]) rfl rfl rfl rfl rfl (fun X e1 e2 e3 e4 e5 C => ?_)
  have hR : _ ∧ _ := ⟨Nat.le_of_eq (congrArg Room.cells e5).symm, Nat.le_of_eq (congrArg Room.slots e5).symm⟩
  unfold d_X0_value at h
  refine z_aload (pc := 0) C 5 rfl dX0_value_0 ?_
  refine z_iconst (pc := 2) C dX0_value_2 ?_
  refine z_aload_n (pc := 3) C 0 rfl dX0_value_3 ?_
  refine z_iload_n (pc := 4) C 1 rfl dX0_value_4 ?_
  refine z_iload_n (pc := 5) C 2 rfl dX0_value_5 ?_
  refine z_iload_n (pc := 6) C 3 rfl dX0_value_6 ?_
  refine z_iload (pc := 7) C 4 rfl dX0_value_7 ?_
  rcases bCs h with ⟨r1, M3, e4, h⟩ | ⟨q2, M3, e4, h⟩
  · refine cX0_33 (pc := 9) (st := [vI 0, .ref v5]) (st1 := [vI r1, vI 0, .ref v5]) C rfl (rm := { frames := 8, cells := 0, slots := 0, locals := 139 }) (ct_X1_value C.2.1 v0 v1 v2 v3 v4 M _ _ hv0 e4) ⟨by decide, by decide, Nat.zero_le _, Nat.zero_le _⟩ (Or.inl hv0) rfl (Nat.le_of_ble_eq_true rfl) dX0_value_9 (c2 := 0) (s2 := 0) rfl rfl (fun x5 => ?_)
    have k6 := x5 _ 19000 (by decide) (Or.inr (by decide)) hv5
    refine z_i2l (pc := 12) C dX0_value_12 ?_
    refine z_lsw (pc := 13) C k6 (by decide +kernel) dX0_value_13 ?_
    refine z_goto (pc := 14) C dX0_value_14 (tgt := 25) (by decide) ?_
    refine z_iconst (pc := 25) C dX0_value_25 ?_
    cases h
    exact z_iret (pc := 26) C rfl (show 0 ≤ 1 from by decide) (show 0 ≤ 6 from by decide) dX0_value_26
  · by_cases c7 : m_kd M3 q2 = 115
    · have h := itt c7 h
      refine kX0_33 (pc := 9) (st := [vI 0, .ref v5]) C rfl (rm := { frames := 8, cells := 1, slots := 6, locals := 139 }) (r := q2) (ct_X1_value C.2.1 v0 v1 v2 v3 v4 M _ _ hv0 e4) ⟨by decide, by decide, Nat.le_trans (show 1 ≤ 1 from by decide) hR.1, Nat.le_trans (show 6 ≤ 6 from by decide) hR.2⟩ (Or.inl hv0) (Nat.le_of_ble_eq_true rfl) dX0_value_9 (e := 15) (hpc := 17) (by decide) (Or.inr c7) (Or.inr ⟨by decide, by decide, 15, by decide, q560, Or.inl ⟨rfl, rfl⟩⟩) (c2 := 1) (s2 := 6) rfl rfl (fun x8 => ?_)
      refine z_astore (pc := 17) C (lv' := [(0, .ref v0), (1, vI v1), (2, vI v2), (3, vI v3), (4, vI v4), (5, .ref v5), (6, .ref q2)]) (by decide) rfl dX0_value_17 ?_
      refine z_iconst (pc := 19) C dX0_value_19 ?_
      cases h
      exact z_iret (pc := 20) C rfl (show 1 ≤ 1 from by decide) (show 6 ≤ 6 from by decide) dX0_value_20
    · have h := itf c7 h
      by_cases c9 : m_kd M3 q2 = 113
      · have h := itt c9 h
        refine kX0_33 (pc := 9) (st := [vI 0, .ref v5]) C rfl (rm := { frames := 8, cells := 1, slots := 6, locals := 139 }) (r := q2) (ct_X1_value C.2.1 v0 v1 v2 v3 v4 M _ _ hv0 e4) ⟨by decide, by decide, Nat.le_trans (show 1 ≤ 1 from by decide) hR.1, Nat.le_trans (show 6 ≤ 6 from by decide) hR.2⟩ (Or.inl hv0) (Nat.le_of_ble_eq_true rfl) dX0_value_9 (e := 13) (hpc := 21) (by decide) (Or.inr c9) (Or.inr ⟨by decide, by decide, 15, by decide, q560, Or.inr ⟨by decide, Or.inr ⟨by decide, by decide, 13, by decide, q447, Or.inl ⟨rfl, rfl⟩⟩⟩⟩) (c2 := 1) (s2 := 6) rfl rfl (fun x10 => ?_)
        refine z_astore (pc := 21) C (lv' := [(0, .ref v0), (1, vI v1), (2, vI v2), (3, vI v3), (4, vI v4), (5, .ref v5), (6, .ref q2)]) (by decide) rfl dX0_value_21 ?_
        refine z_iconst (pc := 23) C dX0_value_23 ?_
        cases h
        exact z_iret (pc := 24) C rfl (show 1 ≤ 1 from by decide) (show 6 ≤ 6 from by decide) dX0_value_24
      · have h := itf c9 h
        cases h
def d_X1_last (v0 : Nat) (v1 : Int) (M : Mem) : Option ((Int ⊕ Nat) × Mem) :=
  bT (d_X1_unitIn v0 v1 M) fun r1 M2 => 
  bR (d_X1_lastOf v0 v1 2147483647 M2) fun r7 => 
  some (.inl r7, M2)
theorem ct_X1_last {l : Launch} {S0 : State} {D : va_G} {cA : Nat → ClassId} (hG : x_G l S0 D cA) (v0 : Nat) (v1 : Int) (M : Mem) (r : Int ⊕ Nat) (M' : Mem) (hv0 : m_kd M v0 = 1) (h : d_X1_last v0 v1 M = some (r, M')) : x_Me l S0 D cA yX1_last cX1_last 2 (some .int) [] ({ frames := 8, cells := (ocN r 0 1), slots := (ocN r 0 6), locals := 139 }) [.ref v0, vI v1] M (ocI r) M' := by
  refine x_begin (F := 8) (Lo := 139) (mc := (ocN r 0 1)) (ms := (ocN r 0 6)) hG (Nat.le_of_ble_eq_true rfl) (lv := [(0, .ref v0), (1, vI v1)]) rfl rfl rfl rfl rfl (fun X e1 e2 e3 e4 e5 C => ?_)
  have hR : _ ∧ _ := ⟨Nat.le_of_eq (congrArg Room.cells e5).symm, Nat.le_of_eq (congrArg Room.slots e5).symm⟩
  unfold d_X1_last at h
  refine z_aload_n (pc := 0) C 0 rfl dX1_last_0 ?_
  refine z_iload_n (pc := 1) C 1 rfl dX1_last_1 ?_
  rcases bTs h with ⟨x5, e3, er⟩ | ⟨r1, M2, e3, h⟩
  · subst er; exact tX1_179 (pc := 2) C rfl (rm := { frames := 7, cells := 1, slots := 6, locals := 114 }) (ct_X1_unitIn C.2.1 v0 v1 M _ _ hv0 e3) ⟨by decide, by decide, Nat.le_trans (show 1 ≤ 1 from by decide) hR.1, Nat.le_trans (show 6 ≤ 6 from by decide) hR.2⟩ (Or.inl hv0) (Nat.le_of_ble_eq_true rfl) dX1_last_2 (by decide) (show 1 ≤ 1 from by decide) (show 6 ≤ 6 from by decide)
  refine cX1_179 (pc := 2) (st := []) (st1 := []) C rfl (rm := { frames := 7, cells := 0, slots := 0, locals := 114 }) (ct_X1_unitIn C.2.1 v0 v1 M _ _ hv0 e3) ⟨by decide, by decide, Nat.zero_le _, Nat.zero_le _⟩ (Or.inl hv0) rfl (Nat.le_of_ble_eq_true rfl) dX1_last_2 (c2 := 0) (s2 := 0) rfl rfl (fun x4 => ?_)
  have k6 := x4 _ 1 (by decide) (Or.inl (by decide)) hv0
  refine z_aload_n (pc := 5) C 0 rfl dX1_last_5 ?_
  refine z_iload_n (pc := 6) C 1 rfl dX1_last_6 ?_
  refine z_ldc (pc := 7) C (x := 2147483647) q645 (by decide +kernel) dX1_last_7 ?_
  obtain ⟨r7, e8, h⟩ := bRs h
  refine cX1_203 (pc := 9) (st := []) (st1 := [vI r7]) C rfl (rm := { frames := 1, cells := 0, slots := 0, locals := 24 }) (ct_X1_lastOf C.2.1 v0 v1 2147483647 M2 _ k6 e8) ⟨by decide, by decide, Nat.zero_le _, Nat.zero_le _⟩ (Or.inl k6) rfl (Nat.le_of_ble_eq_true rfl) dX1_last_9 (c2 := 0) (s2 := 0) rfl rfl (fun _ => ?_)
  cases h
  exact z_iret (pc := 12) C rfl (show 0 ≤ 0 from by decide) (show 0 ≤ 0 from by decide) dX1_last_12
def d_X0_last (v0 : Nat) (v1 : Int) (v2 : Nat) (M : Mem) : Option (Int × Mem) :=
  bC (d_X1_last v0 v1 M) (fun r1 M3 =>
    some (0, (m_si M3 9000 v2 (ixn 0) (w32 r1)))) (fun q2 M3 =>
    if m_kd M3 q2 = 115 then
      some (1, M3)
    else
      none)
theorem ct_X0_last {l : Launch} {S0 : State} {D : va_G} {cA : Nat → ClassId} (hG : x_G l S0 D cA) (v0 : Nat) (v1 : Int) (v2 : Nat) (M : Mem) (r : Int) (M' : Mem) (hv0 : m_kd M v0 = 1) (hv2 : m_kd M v2 = 19000) (h : d_X0_last v0 v1 v2 M = some (r, M')) : x_Me l S0 D cA yX0_last cX0_last 4 (some .int) [(0, 9, 12, 25)] ({ frames := 9, cells := 1, slots := 6, locals := 164 }) [.ref v0, vI v1, .ref v2] M (.returned (some (vI r))) M' := by
  refine x_begin (F := 9) (Lo := 164) (mc := 1) (ms := 6) hG (Nat.le_of_ble_eq_true rfl) (lv := [(0, .ref v0), (1, vI v1), (2, .ref v2)]) rfl rfl rfl rfl rfl (fun X e1 e2 e3 e4 e5 C => ?_)
  have hR : _ ∧ _ := ⟨Nat.le_of_eq (congrArg Room.cells e5).symm, Nat.le_of_eq (congrArg Room.slots e5).symm⟩
  unfold d_X0_last at h
  refine z_aload_n (pc := 0) C 2 rfl dX0_last_0 ?_
  refine z_iconst (pc := 1) C dX0_last_1 ?_
  refine z_aload_n (pc := 2) C 0 rfl dX0_last_2 ?_
  refine z_iload_n (pc := 3) C 1 rfl dX0_last_3 ?_
  rcases bCs h with ⟨r1, M3, e4, h⟩ | ⟨q2, M3, e4, h⟩
  · refine cX0_36 (pc := 4) (st := [vI 0, .ref v2]) (st1 := [vI r1, vI 0, .ref v2]) C rfl (rm := { frames := 8, cells := 0, slots := 0, locals := 139 }) (ct_X1_last C.2.1 v0 v1 M _ _ hv0 e4) ⟨by decide, by decide, Nat.zero_le _, Nat.zero_le _⟩ (Or.inl hv0) rfl (Nat.le_of_ble_eq_true rfl) dX0_last_4 (c2 := 0) (s2 := 0) rfl rfl (fun x5 => ?_)
    have k6 := x5 _ 19000 (by decide) (Or.inr (by decide)) hv2
    refine z_i2l (pc := 7) C dX0_last_7 ?_
    refine z_lsw (pc := 8) C k6 (by decide +kernel) dX0_last_8 ?_
    refine z_goto (pc := 9) C dX0_last_9 (tgt := 15) (by decide) ?_
    refine z_iconst (pc := 15) C dX0_last_15 ?_
    cases h
    exact z_iret (pc := 16) C rfl (show 0 ≤ 1 from by decide) (show 0 ≤ 6 from by decide) dX0_last_16
  · by_cases c7 : m_kd M3 q2 = 115
    · have h := itt c7 h
      refine kX0_36 (pc := 4) (st := [vI 0, .ref v2]) C rfl (rm := { frames := 8, cells := 1, slots := 6, locals := 139 }) (r := q2) (ct_X1_last C.2.1 v0 v1 M _ _ hv0 e4) ⟨by decide, by decide, Nat.le_trans (show 1 ≤ 1 from by decide) hR.1, Nat.le_trans (show 6 ≤ 6 from by decide) hR.2⟩ (Or.inl hv0) (Nat.le_of_ble_eq_true rfl) dX0_last_4 (e := 15) (hpc := 12) (by decide) (Or.inr c7) (Or.inr ⟨by decide, by decide, 15, by decide, q560, Or.inl ⟨rfl, rfl⟩⟩) (c2 := 1) (s2 := 6) rfl rfl (fun x8 => ?_)
      refine z_astore_n (pc := 12) C (lv' := [(0, .ref v0), (1, vI v1), (2, .ref v2), (3, .ref q2)]) (by decide) rfl dX0_last_12 ?_
      refine z_iconst (pc := 13) C dX0_last_13 ?_
      cases h
      exact z_iret (pc := 14) C rfl (show 1 ≤ 1 from by decide) (show 6 ≤ 6 from by decide) dX0_last_14
    · have h := itf c7 h
      cases h
def B_X1_feed_77 (k24 : Nat → Int → Int → Int → Int → Int → Int → Mem → Option ((Int ⊕ Nat) × Mem)) (v0 : Nat) (v1 : Int) (v2 : Int) (v3 : Int) (v4 : Int) (v5 : Int) (v6 : Int) (s0 : Int) (M : Mem) : Option ((Int ⊕ Nat) × Mem) :=
  if inb (m_i M 115 v0 0) 1200 then 
  k24 v0 v1 v2 v3 v4 v5 (v6 + 1) (m_si (m_si M 115 v0 0 ((m_i M 115 v0 0) + 1)) 114 v0 (ixn (m_i M 115 v0 0)) (b8 (b8 (s32 s0 (24 - (8 * (a32 v6 3))))))) else none
def B_X1_feed_24 (k24 : Nat → Int → Int → Int → Int → Int → Int → Mem → Option ((Int ⊕ Nat) × Mem)) (v0 : Nat) (v1 : Int) (v2 : Int) (v3 : Int) (v4 : Int) (v5 : Int) (v6 : Int) (M : Mem) : Option ((Int ⊕ Nat) × Mem) :=
  if w32 20 ≤ w32 v6 then
    some (.inl (m_i M 115 v0 0), M)
  else
    if w32 4 ≤ w32 v6 then
      if w32 8 ≤ w32 v6 then
        if w32 12 ≤ w32 v6 then
          if w32 16 ≤ w32 v6 then
            B_X1_feed_77 k24 v0 v1 v2 v3 v4 v5 v6 v5 M
          else
            B_X1_feed_77 k24 v0 v1 v2 v3 v4 v5 v6 v4 M
        else
          B_X1_feed_77 k24 v0 v1 v2 v3 v4 v5 v6 v3 M
      else
        B_X1_feed_77 k24 v0 v1 v2 v3 v4 v5 v6 v2 M
    else
      B_X1_feed_77 k24 v0 v1 v2 v3 v4 v5 v6 v1 M
def L_X1_feed_24  : Nat → Nat → Int → Int → Int → Int → Int → Int → Mem → Option ((Int ⊕ Nat) × Mem)
  | 0, _, _, _, _, _, _, _, _ => none
  | n + 1, v0, v1, v2, v3, v4, v5, v6, M => B_X1_feed_24 (L_X1_feed_24  n) v0 v1 v2 v3 v4 v5 v6 M
def d_X1_feed (v0 : Nat) (v1 : Int) (v2 : Int) (v3 : Int) (v4 : Int) (v5 : Int) (M : Mem) : Option ((Int ⊕ Nat) × Mem) :=
  if w32 1200 < w32 ((m_i M 115 v0 0) + 20) then
    bT (d_X1_room 0 M) fun r2 M3 => 
    L_X1_feed_24 FU v0 v1 v2 v3 v4 v5 0 M3
  else
    bT (d_X1_room 1 M) fun r14 M15 => 
    L_X1_feed_24 FU v0 v1 v2 v3 v4 v5 0 M15
theorem cB_X1_feed_77 {X : x_Ctx} {M0 : Mem} (C : x_CC X 7 114 yX1_feed cX1_feed 8 (some .int) []) {k24 : Nat → Int → Int → Int → Int → Int → Int → Mem → Option ((Int ⊕ Nat) × Mem)} (hk24 : ∀ (v0 : Nat) (v1 : Int) (v2 : Int) (v3 : Int) (v4 : Int) (v5 : Int) (v6 : Int) (M : Mem) (r : Int ⊕ Nat) (M' : Mem), m_kd M v0 = 1 → k24 v0 v1 v2 v3 v4 v5 v6 M = some (r, M') → ocN r 0 1 ≤ (XR X).cells ∧ ocN r 0 6 ≤ (XR X).slots → x_Z X 0 0 (x_QF X M0 (ocI r) M' (ocN r 0 1) (ocN r 0 6)) M0 M 8 [(0, .ref v0), (1, vI v1), (2, vI v2), (3, vI v3), (4, vI v4), (5, vI v5), (6, vI v6)] 24 []) (v0 : Nat) (v1 : Int) (v2 : Int) (v3 : Int) (v4 : Int) (v5 : Int) (v6 : Int) (s0 : Int) (M : Mem) (r : Int ⊕ Nat) (M' : Mem) (hv0 : m_kd M v0 = 1) (h : B_X1_feed_77 k24 v0 v1 v2 v3 v4 v5 v6 s0 M = some (r, M')) (hR : ocN r 0 1 ≤ (XR X).cells ∧ ocN r 0 6 ≤ (XR X).slots) : x_Z X 0 0 (x_QF X M0 (ocI r) M' (ocN r 0 1) (ocN r 0 6)) M0 M 8 [(0, .ref v0), (1, vI v1), (2, vI v2), (3, vI v3), (4, vI v4), (5, vI v5), (6, vI v6)] 77 [vI s0] := by
  unfold B_X1_feed_77 at h
  refine z_istore (pc := 77) C (lv' := [(0, .ref v0), (1, vI v1), (2, vI v2), (3, vI v3), (4, vI v4), (5, vI v5), (6, vI v6), (7, vI s0)]) (by decide) rfl dX1_feed_77 ?_
  refine z_aload_n (pc := 79) C 0 rfl dX1_feed_79 ?_
  refine gX1_114 (pc := 80) C rfl hv0 dX1_feed_80 ?_
  refine z_aload_n (pc := 83) C 0 rfl dX1_feed_83 ?_
  refine z_dup (pc := 84) C rfl dX1_feed_84 ?_
  refine gX1_115 (pc := 85) C rfl (Or.inl hv0) rfl dX1_feed_85 ?_
  refine z_dupx1 (pc := 88) C rfl rfl dX1_feed_88 ?_
  refine z_iconst (pc := 89) C dX1_feed_89 ?_
  refine z_iadd (pc := 90) C dX1_feed_90 ?_
  refine pX1_115 (pc := 91) C rfl (Or.inl hv0) dX1_feed_91 ?_
  refine z_iload (pc := 94) C 7 rfl dX1_feed_94 ?_
  refine z_bipush (pc := 96) C (by decide +kernel) dX1_feed_96 ?_
  refine z_bipush (pc := 98) C (by decide +kernel) dX1_feed_98 ?_
  refine z_iload (pc := 100) C 6 rfl dX1_feed_100 ?_
  refine z_iconst (pc := 102) C dX1_feed_102 ?_
  refine z_iand (pc := 103) C dX1_feed_103 ?_
  refine z_imul (pc := 104) C dX1_feed_104 ?_
  refine z_isub (pc := 105) C dX1_feed_105 ?_
  refine z_ishr (pc := 106) C dX1_feed_106 ?_
  refine z_i2b (pc := 107) C dX1_feed_107 ?_
  obtain ⟨c13, h⟩ := ifn h
  refine z_bsO (pc := 108) (k := 1) (j := 14) C 114 rfl (by decide) (by decide) (by decide) rfl rfl rfl rfl hv0 c13 dX1_feed_108 ?_
  refine z_iinc (pc := 109) C (lv' := [(0, .ref v0), (1, vI v1), (2, vI v2), (3, vI v3), (4, vI v4), (5, vI v5), (6, vI (v6 + 1)), (7, vI s0)]) 6 rfl (by decide) rfl dX1_feed_109 ?_
  refine z_goto (pc := 112) C dX1_feed_112 (tgt := 24) (by decide) ?_
  exact z_lv [0, 1, 2, 3, 4, 5, 6] rfl <| hk24 v0 v1 v2 v3 v4 v5 (v6 + 1) (m_si (m_si M 115 v0 0 ((m_i M 115 v0 0) + 1)) 114 v0 (ixn (m_i M 115 v0 0)) (b8 (b8 (s32 s0 (24 - (8 * (a32 v6 3))))))) _ _ hv0 h hR
theorem cB_X1_feed_24 {X : x_Ctx} {M0 : Mem} (C : x_CC X 7 114 yX1_feed cX1_feed 8 (some .int) []) {k24 : Nat → Int → Int → Int → Int → Int → Int → Mem → Option ((Int ⊕ Nat) × Mem)} (hk24 : ∀ (v0 : Nat) (v1 : Int) (v2 : Int) (v3 : Int) (v4 : Int) (v5 : Int) (v6 : Int) (M : Mem) (r : Int ⊕ Nat) (M' : Mem), m_kd M v0 = 1 → k24 v0 v1 v2 v3 v4 v5 v6 M = some (r, M') → ocN r 0 1 ≤ (XR X).cells ∧ ocN r 0 6 ≤ (XR X).slots → x_Z X 0 0 (x_QF X M0 (ocI r) M' (ocN r 0 1) (ocN r 0 6)) M0 M 8 [(0, .ref v0), (1, vI v1), (2, vI v2), (3, vI v3), (4, vI v4), (5, vI v5), (6, vI v6)] 24 []) (v0 : Nat) (v1 : Int) (v2 : Int) (v3 : Int) (v4 : Int) (v5 : Int) (v6 : Int) (M : Mem) (r : Int ⊕ Nat) (M' : Mem) (hv0 : m_kd M v0 = 1) (h : B_X1_feed_24 k24 v0 v1 v2 v3 v4 v5 v6 M = some (r, M')) (hR : ocN r 0 1 ≤ (XR X).cells ∧ ocN r 0 6 ≤ (XR X).slots) : x_Z X 0 0 (x_QF X M0 (ocI r) M' (ocN r 0 1) (ocN r 0 6)) M0 M 8 [(0, .ref v0), (1, vI v1), (2, vI v2), (3, vI v3), (4, vI v4), (5, vI v5), (6, vI v6)] 24 [] := by
  unfold B_X1_feed_24 at h
  refine z_iload (pc := 24) C 6 rfl dX1_feed_24 ?_
  refine z_bipush (pc := 26) C (by decide +kernel) dX1_feed_26 ?_
  refine z_ic_ge (pc := 28) C dX1_feed_28 (tgt := 115) (by decide) (fun c8 => ?_) (fun c8 => ?_)
  · have h := itt c8 h
    refine z_aload_n (pc := 115) C 0 rfl dX1_feed_115 ?_
    refine gX1_115 (pc := 116) C rfl (Or.inl hv0) rfl dX1_feed_116 ?_
    cases h
    exact z_iret (pc := 119) C rfl (show 0 ≤ 0 from by decide) (show 0 ≤ 0 from by decide) dX1_feed_119
  · have h := itf c8 h
    refine z_iload (pc := 31) C 6 rfl dX1_feed_31 ?_
    refine z_iconst (pc := 33) C dX1_feed_33 ?_
    refine z_ic_ge (pc := 34) C dX1_feed_34 (tgt := 41) (by decide) (fun c9 => ?_) (fun c9 => ?_)
    · have h := itt c9 h
      refine z_iload (pc := 41) C 6 rfl dX1_feed_41 ?_
      refine z_bipush (pc := 43) C (by decide +kernel) dX1_feed_43 ?_
      refine z_ic_ge (pc := 45) C dX1_feed_45 (tgt := 52) (by decide) (fun c10 => ?_) (fun c10 => ?_)
      · have h := itt c10 h
        refine z_iload (pc := 52) C 6 rfl dX1_feed_52 ?_
        refine z_bipush (pc := 54) C (by decide +kernel) dX1_feed_54 ?_
        refine z_ic_ge (pc := 56) C dX1_feed_56 (tgt := 63) (by decide) (fun c11 => ?_) (fun c11 => ?_)
        · have h := itt c11 h
          refine z_iload (pc := 63) C 6 rfl dX1_feed_63 ?_
          refine z_bipush (pc := 65) C (by decide +kernel) dX1_feed_65 ?_
          refine z_ic_ge (pc := 67) C dX1_feed_67 (tgt := 75) (by decide) (fun c12 => ?_) (fun c12 => ?_)
          · have h := itt c12 h
            refine z_iload (pc := 75) C 5 rfl dX1_feed_75 ?_
            exact cB_X1_feed_77 C hk24 v0 v1 v2 v3 v4 v5 v6 v5 M _ _ hv0 h hR
          · have h := itf c12 h
            refine z_iload (pc := 70) C 4 rfl dX1_feed_70 ?_
            refine z_goto (pc := 72) C dX1_feed_72 (tgt := 77) (by decide) ?_
            exact cB_X1_feed_77 C hk24 v0 v1 v2 v3 v4 v5 v6 v4 M _ _ hv0 h hR
        · have h := itf c11 h
          refine z_iload_n (pc := 59) C 3 rfl dX1_feed_59 ?_
          refine z_goto (pc := 60) C dX1_feed_60 (tgt := 77) (by decide) ?_
          exact cB_X1_feed_77 C hk24 v0 v1 v2 v3 v4 v5 v6 v3 M _ _ hv0 h hR
      · have h := itf c10 h
        refine z_iload_n (pc := 48) C 2 rfl dX1_feed_48 ?_
        refine z_goto (pc := 49) C dX1_feed_49 (tgt := 77) (by decide) ?_
        exact cB_X1_feed_77 C hk24 v0 v1 v2 v3 v4 v5 v6 v2 M _ _ hv0 h hR
    · have h := itf c9 h
      refine z_iload_n (pc := 37) C 1 rfl dX1_feed_37 ?_
      refine z_goto (pc := 38) C dX1_feed_38 (tgt := 77) (by decide) ?_
      exact cB_X1_feed_77 C hk24 v0 v1 v2 v3 v4 v5 v6 v1 M _ _ hv0 h hR
theorem cL_X1_feed_24 {X : x_Ctx} {M0 : Mem} (C : x_CC X 7 114 yX1_feed cX1_feed 8 (some .int) [])  : ∀ (n : Nat) (v0 : Nat) (v1 : Int) (v2 : Int) (v3 : Int) (v4 : Int) (v5 : Int) (v6 : Int) (M : Mem) (r : Int ⊕ Nat) (M' : Mem) (hv0 : m_kd M v0 = 1) (h : L_X1_feed_24  n v0 v1 v2 v3 v4 v5 v6 M = some (r, M')) (hR : ocN r 0 1 ≤ (XR X).cells ∧ ocN r 0 6 ≤ (XR X).slots), x_Z X 0 0 (x_QF X M0 (ocI r) M' (ocN r 0 1) (ocN r 0 6)) M0 M 8 [(0, .ref v0), (1, vI v1), (2, vI v2), (3, vI v3), (4, vI v4), (5, vI v5), (6, vI v6)] 24 [] := by
  intro n
  induction n with
  | zero => intro v0 v1 v2 v3 v4 v5 v6 M r M' hv0 h hR; cases h
  | succ n ih => intro v0 v1 v2 v3 v4 v5 v6 M r M' hv0 h hR; exact cB_X1_feed_24 C (fun v0 v1 v2 v3 v4 v5 v6 M r M' hv0 h hR => ih v0 v1 v2 v3 v4 v5 v6 M r M' hv0 h hR) v0 v1 v2 v3 v4 v5 v6 M r M' hv0 h hR
theorem ct_X1_feed {l : Launch} {S0 : State} {D : va_G} {cA : Nat → ClassId} (hG : x_G l S0 D cA) (v0 : Nat) (v1 : Int) (v2 : Int) (v3 : Int) (v4 : Int) (v5 : Int) (M : Mem) (r : Int ⊕ Nat) (M' : Mem) (hv0 : m_kd M v0 = 1) (h : d_X1_feed v0 v1 v2 v3 v4 v5 M = some (r, M')) : x_Me l S0 D cA yX1_feed cX1_feed 8 (some .int) [] ({ frames := 7, cells := (ocN r 0 1), slots := (ocN r 0 6), locals := 114 }) [.ref v0, vI v1, vI v2, vI v3, vI v4, vI v5] M (ocI r) M' := by
  refine x_begin (F := 7) (Lo := 114) (mc := (ocN r 0 1)) (ms := (ocN r 0 6)) hG (Nat.le_of_ble_eq_true rfl) (lv := [(0, .ref v0), (1, vI v1), (2, vI v2), (3, vI v3), (4, vI v4), (5, vI v5)]) rfl rfl rfl rfl rfl (fun X e1 e2 e3 e4 e5 C => ?_)
  have hR : _ ∧ _ := ⟨Nat.le_of_eq (congrArg Room.cells e5).symm, Nat.le_of_eq (congrArg Room.slots e5).symm⟩
  unfold d_X1_feed at h
  refine z_aload_n (pc := 0) C 0 rfl dX1_feed_0 ?_
  refine gX1_115 (pc := 1) C rfl (Or.inl hv0) rfl dX1_feed_1 ?_
  refine z_bipush (pc := 4) C (by decide +kernel) dX1_feed_4 ?_
  refine z_iadd (pc := 6) C dX1_feed_6 ?_
  refine z_sipush (pc := 7) C (by decide +kernel) dX1_feed_7 ?_
  refine z_ic_gt (pc := 10) C dX1_feed_10 (tgt := 17) (by decide) (fun c1 => ?_) (fun c1 => ?_)
  · have h := itt c1 h
    refine z_iconst (pc := 17) C dX1_feed_17 ?_
    rcases bTs h with ⟨x6, e4, er⟩ | ⟨r2, M3, e4, h⟩
    · subst er; exact tX1_176 (pc := 18) C rfl (rm := { frames := 6, cells := 1, slots := 6, locals := 90 }) (ct_X1_room C.2.1 0 M _ _  e4) ⟨by decide, by decide, Nat.le_trans (show 1 ≤ 1 from by decide) hR.1, Nat.le_trans (show 6 ≤ 6 from by decide) hR.2⟩ (Nat.le_of_ble_eq_true rfl) dX1_feed_18 (by decide) (show 1 ≤ 1 from by decide) (show 6 ≤ 6 from by decide)
    refine cX1_176 (pc := 18) (st := []) (st1 := []) C rfl (rm := { frames := 6, cells := 0, slots := 0, locals := 90 }) (ct_X1_room C.2.1 0 M _ _  e4) ⟨by decide, by decide, Nat.zero_le _, Nat.zero_le _⟩ rfl (Nat.le_of_ble_eq_true rfl) dX1_feed_18 (c2 := 0) (s2 := 0) rfl rfl (fun x5 => ?_)
    have k7 := x5 _ 1 (by decide) (Or.inl (by decide)) hv0
    refine z_iconst (pc := 21) C dX1_feed_21 ?_
    refine z_istore (pc := 22) C (lv' := [(0, .ref v0), (1, vI v1), (2, vI v2), (3, vI v3), (4, vI v4), (5, vI v5), (6, vI 0)]) (by decide) rfl dX1_feed_22 ?_
    exact cL_X1_feed_24 C FU v0 v1 v2 v3 v4 v5 0 M3 _ _ k7 h hR
  · have h := itf c1 h
    refine z_iconst (pc := 13) C dX1_feed_13 ?_
    refine z_goto (pc := 14) C dX1_feed_14 (tgt := 18) (by decide) ?_
    rcases bTs h with ⟨x18, e16, er⟩ | ⟨r14, M15, e16, h⟩
    · subst er; exact tX1_176 (pc := 18) C rfl (rm := { frames := 6, cells := 1, slots := 6, locals := 90 }) (ct_X1_room C.2.1 1 M _ _  e16) ⟨by decide, by decide, Nat.le_trans (show 1 ≤ 1 from by decide) hR.1, Nat.le_trans (show 6 ≤ 6 from by decide) hR.2⟩ (Nat.le_of_ble_eq_true rfl) dX1_feed_18 (by decide) (show 1 ≤ 1 from by decide) (show 6 ≤ 6 from by decide)
    refine cX1_176 (pc := 18) (st := []) (st1 := []) C rfl (rm := { frames := 6, cells := 0, slots := 0, locals := 90 }) (ct_X1_room C.2.1 1 M _ _  e16) ⟨by decide, by decide, Nat.zero_le _, Nat.zero_le _⟩ rfl (Nat.le_of_ble_eq_true rfl) dX1_feed_18 (c2 := 0) (s2 := 0) rfl rfl (fun x17 => ?_)
    have k19 := x17 _ 1 (by decide) (Or.inl (by decide)) hv0
    refine z_iconst (pc := 21) C dX1_feed_21 ?_
    refine z_istore (pc := 22) C (lv' := [(0, .ref v0), (1, vI v1), (2, vI v2), (3, vI v3), (4, vI v4), (5, vI v5), (6, vI 0)]) (by decide) rfl dX1_feed_22 ?_
    exact cL_X1_feed_24 C FU v0 v1 v2 v3 v4 v5 0 M15 _ _ k19 h hR
