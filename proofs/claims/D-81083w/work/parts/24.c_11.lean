set_option maxRecDepth 100000
def d_X1_end (v0 : Nat) (v1 : Nat) (v2 : Int) (v3 : Int) (v4 : Int) (M : Mem) : Option (Int × Mem) :=
  if w32 (a32 (s32 v2 v3) 1) = 0 then
    if inb v3 12 then 
    some (m_i M 1102 v1 (ixn v3), M) else none
  else
    if w32 v4 = 0 then
      if inb v3 12 then 
      bN (d_X1_reach v0 v1 v2 v3 0 (m_i M 1102 v1 (ixn v3)) M) fun r4 M5 => 
      some ((m_i M 1102 v1 (ixn v3)) - r4, M5) else none
    else
      if inb v3 12 then 
      bN (d_X1_reach v0 v1 v2 v3 1 536870911 M) fun r9 M10 => 
      some ((m_i M 1102 v1 (ixn v3)) + r9, M10) else none
theorem ct_X1_end {l : Launch} {S0 : State} {D : va_G} {cA : Nat → ClassId} (hG : x_G l S0 D cA) (v0 : Nat) (v1 : Nat) (v2 : Int) (v3 : Int) (v4 : Int) (M : Mem) (r : Int) (M' : Mem) (hv0 : m_kd M v0 = 1) (hv1 : m_kd M v1 = 11) (h : d_X1_end v0 v1 v2 v3 v4 M = some (r, M')) : x_Me l S0 D cA yX1_end cX1_end 5 (some .int) [] ({ frames := 4, cells := 0, slots := 0, locals := 116 }) [.ref v0, .ref v1, vI v2, vI v3, vI v4] M (.returned (some (vI r))) M' := by
  refine x_begin (F := 4) (Lo := 116) (mc := 0) (ms := 0) hG (Nat.le_of_ble_eq_true rfl) (lv := [(0, .ref v0), (1, .ref v1), (2, vI v2), (3, vI v3), (4, vI v4)]) rfl rfl rfl rfl rfl (fun X e1 e2 e3 e4 e5 C => ?_)
  unfold d_X1_end at h
  refine z_iload_n (pc := 0) C 2 rfl dX1_end_0 ?_
  refine z_iload_n (pc := 1) C 3 rfl dX1_end_1 ?_
  refine z_ishr (pc := 2) C dX1_end_2 ?_
  refine z_iconst (pc := 3) C dX1_end_3 ?_
  refine z_iand (pc := 4) C dX1_end_4 ?_
  refine z_if_ne (pc := 5) C dX1_end_5 (tgt := 15) (by decide) (fun c1 => ?_) (fun c1 => ?_)
  · have h := itf c1 h
    refine z_iload (pc := 15) C 4 rfl dX1_end_15 ?_
    refine z_if_eq (pc := 17) C dX1_end_17 (tgt := 41) (by decide) (fun c2 => ?_) (fun c2 => ?_)
    · have h := itt c2 h
      refine z_aload_n (pc := 41) C 1 rfl dX1_end_41 ?_
      refine gX1_1102 (pc := 42) C rfl hv1 dX1_end_42 ?_
      refine z_iload_n (pc := 45) C 3 rfl dX1_end_45 ?_
      obtain ⟨c3, h⟩ := ifn h
      refine z_iaO (pc := 46) (k := 11) (j := 2) C 1102 rfl (by decide) (by decide) (by decide) rfl rfl rfl rfl hv1 c3 rfl dX1_end_46 ?_
      refine z_aload_n (pc := 47) C 0 rfl dX1_end_47 ?_
      refine z_aload_n (pc := 48) C 1 rfl dX1_end_48 ?_
      refine z_iload_n (pc := 49) C 2 rfl dX1_end_49 ?_
      refine z_iload_n (pc := 50) C 3 rfl dX1_end_50 ?_
      refine z_iconst (pc := 51) C dX1_end_51 ?_
      refine z_aload_n (pc := 52) C 1 rfl dX1_end_52 ?_
      refine gX1_1102 (pc := 53) C rfl hv1 dX1_end_53 ?_
      refine z_iload_n (pc := 56) C 3 rfl dX1_end_56 ?_
      refine z_iaO (pc := 57) (k := 11) (j := 2) C 1102 rfl (by decide) (by decide) (by decide) rfl rfl rfl rfl hv1 c3 rfl dX1_end_57 ?_
      obtain ⟨r4, M5, e6, h⟩ := bNs h
      refine cX1_531 (pc := 58) (st := [vI (m_i M 1102 v1 (ixn v3))]) (st1 := [vI r4, vI (m_i M 1102 v1 (ixn v3))]) C rfl (rm := { frames := 3, cells := 0, slots := 0, locals := 84 }) (ct_X1_reach C.2.1 v0 v1 v2 v3 0 (m_i M 1102 v1 (ixn v3)) M _ _ hv0 hv1 e6) ⟨by decide, by decide, Nat.zero_le _, Nat.zero_le _⟩ (Or.inl hv0) rfl (Nat.le_of_ble_eq_true rfl) dX1_end_58 (c2 := 0) (s2 := 0) rfl rfl (fun x7 => ?_)
      refine z_isub (pc := 61) C dX1_end_61 ?_
      cases h
      exact z_iret (pc := 62) C rfl (show 0 ≤ 0 from by decide) (show 0 ≤ 0 from by decide) dX1_end_62
    · have h := itf c2 h
      refine z_aload_n (pc := 20) C 1 rfl dX1_end_20 ?_
      refine gX1_1102 (pc := 21) C rfl hv1 dX1_end_21 ?_
      refine z_iload_n (pc := 24) C 3 rfl dX1_end_24 ?_
      obtain ⟨c8, h⟩ := ifn h
      refine z_iaO (pc := 25) (k := 11) (j := 2) C 1102 rfl (by decide) (by decide) (by decide) rfl rfl rfl rfl hv1 c8 rfl dX1_end_25 ?_
      refine z_aload_n (pc := 26) C 0 rfl dX1_end_26 ?_
      refine z_aload_n (pc := 27) C 1 rfl dX1_end_27 ?_
      refine z_iload_n (pc := 28) C 2 rfl dX1_end_28 ?_
      refine z_iload_n (pc := 29) C 3 rfl dX1_end_29 ?_
      refine z_iconst (pc := 30) C dX1_end_30 ?_
      refine z_ldcw (pc := 31) C (x := 536870911) q1375 (by decide +kernel) dX1_end_31 ?_
      obtain ⟨r9, M10, e11, h⟩ := bNs h
      refine cX1_531 (pc := 34) (st := [vI (m_i M 1102 v1 (ixn v3))]) (st1 := [vI r9, vI (m_i M 1102 v1 (ixn v3))]) C rfl (rm := { frames := 3, cells := 0, slots := 0, locals := 84 }) (ct_X1_reach C.2.1 v0 v1 v2 v3 1 536870911 M _ _ hv0 hv1 e11) ⟨by decide, by decide, Nat.zero_le _, Nat.zero_le _⟩ (Or.inl hv0) rfl (Nat.le_of_ble_eq_true rfl) dX1_end_34 (c2 := 0) (s2 := 0) rfl rfl (fun x12 => ?_)
      refine z_iadd (pc := 37) C dX1_end_37 ?_
      refine z_goto (pc := 38) C dX1_end_38 (tgt := 62) (by decide) ?_
      cases h
      exact z_iret (pc := 62) C rfl (show 0 ≤ 0 from by decide) (show 0 ≤ 0 from by decide) dX1_end_62
  · have h := itt c1 h
    refine z_aload_n (pc := 8) C 1 rfl dX1_end_8 ?_
    refine gX1_1102 (pc := 9) C rfl hv1 dX1_end_9 ?_
    refine z_iload_n (pc := 12) C 3 rfl dX1_end_12 ?_
    obtain ⟨c13, h⟩ := ifn h
    refine z_iaO (pc := 13) (k := 11) (j := 2) C 1102 rfl (by decide) (by decide) (by decide) rfl rfl rfl rfl hv1 c13 rfl dX1_end_13 ?_
    cases h
    exact z_iret (pc := 14) C rfl (show 0 ≤ 0 from by decide) (show 0 ≤ 0 from by decide) dX1_end_14
def d_X1_interval (v0 : Nat) (v1 : Int) (v2 : Int) (v3 : Int) (v4 : Int) (M : Mem) : Option ((Int ⊕ Nat) × Mem) :=
  bT (d_X1_cellIn v0 v1 v2 v3 M) fun r1 M2 => 
  if m_kd M2 r1 = 11 then 
  bN (d_X1_end v0 r1 (m_i M2 1107 r1 0) ((v2 * (m_i M2 1101 r1 0)) + v3) v4 M2) fun r8 M9 => 
  some (.inl r8, M9) else none
theorem ct_X1_interval {l : Launch} {S0 : State} {D : va_G} {cA : Nat → ClassId} (hG : x_G l S0 D cA) (v0 : Nat) (v1 : Int) (v2 : Int) (v3 : Int) (v4 : Int) (M : Mem) (r : Int ⊕ Nat) (M' : Mem) (hv0 : m_kd M v0 = 1) (h : d_X1_interval v0 v1 v2 v3 v4 M = some (r, M')) : x_Me l S0 D cA yX1_interval cX1_interval 6 (some .int) [] ({ frames := 9, cells := (ocN r 0 1), slots := (ocN r 0 6), locals := 167 }) [.ref v0, vI v1, vI v2, vI v3, vI v4] M (ocI r) M' := by
  refine x_begin (F := 9) (Lo := 167) (mc := (ocN r 0 1)) (ms := (ocN r 0 6)) hG (Nat.le_of_ble_eq_true rfl) (lv := [(0, .ref v0), (1, vI v1), (2, vI v2), (3, vI v3), (4, vI v4)]) rfl rfl rfl rfl rfl (fun X e1 e2 e3 e4 e5 C => ?_)
  have hR : _ ∧ _ := ⟨Nat.le_of_eq (congrArg Room.cells e5).symm, Nat.le_of_eq (congrArg Room.slots e5).symm⟩
  unfold d_X1_interval at h
  refine z_aload_n (pc := 0) C 0 rfl dX1_interval_0 ?_
  refine z_iload_n (pc := 1) C 1 rfl dX1_interval_1 ?_
  refine z_iload_n (pc := 2) C 2 rfl dX1_interval_2 ?_
  refine z_iload_n (pc := 3) C 3 rfl dX1_interval_3 ?_
  rcases bTs h with ⟨x5, e3, er⟩ | ⟨r1, M2, e3, h⟩
  · subst er; exact tX1_554 (pc := 4) C rfl (rm := { frames := 8, cells := 1, slots := 6, locals := 139 }) (ct_X1_cellIn C.2.1 v0 v1 v2 v3 M _ _ hv0 e3) ⟨by decide, by decide, Nat.le_trans (show 1 ≤ 1 from by decide) hR.1, Nat.le_trans (show 6 ≤ 6 from by decide) hR.2⟩ (Or.inl hv0) (Nat.le_of_ble_eq_true rfl) dX1_interval_4 (by decide) (show 1 ≤ 1 from by decide) (show 6 ≤ 6 from by decide)
  refine cX1_554 (pc := 4) (st := []) (st1 := [.ref r1]) C rfl (rm := { frames := 8, cells := 0, slots := 0, locals := 139 }) (ct_X1_cellIn C.2.1 v0 v1 v2 v3 M _ _ hv0 e3) ⟨by decide, by decide, Nat.zero_le _, Nat.zero_le _⟩ (Or.inl hv0) rfl (Nat.le_of_ble_eq_true rfl) dX1_interval_4 (c2 := 0) (s2 := 0) rfl rfl (fun x4 => ?_)
  have k6 := x4 _ 1 (by decide) (Or.inl (by decide)) hv0
  obtain ⟨c7, h⟩ := ifn h
  refine z_astore (pc := 7) C (lv' := [(0, .ref v0), (1, vI v1), (2, vI v2), (3, vI v3), (4, vI v4), (5, .ref r1)]) (by decide) rfl dX1_interval_7 ?_
  refine z_aload_n (pc := 9) C 0 rfl dX1_interval_9 ?_
  refine z_aload (pc := 10) C 5 rfl dX1_interval_10 ?_
  refine z_aload (pc := 12) C 5 rfl dX1_interval_12 ?_
  refine gX1_1107 (pc := 14) C rfl (Or.inl c7) rfl dX1_interval_14 ?_
  refine z_iload_n (pc := 17) C 2 rfl dX1_interval_17 ?_
  refine z_aload (pc := 18) C 5 rfl dX1_interval_18 ?_
  refine gX1_1101 (pc := 20) C rfl (Or.inl c7) rfl dX1_interval_20 ?_
  refine z_imul (pc := 23) C dX1_interval_23 ?_
  refine z_iload_n (pc := 24) C 3 rfl dX1_interval_24 ?_
  refine z_iadd (pc := 25) C dX1_interval_25 ?_
  refine z_iload (pc := 26) C 4 rfl dX1_interval_26 ?_
  obtain ⟨r8, M9, e10, h⟩ := bNs h
  refine cX1_558 (pc := 28) (st := []) (st1 := [vI r8]) C rfl (rm := { frames := 4, cells := 0, slots := 0, locals := 116 }) (ct_X1_end C.2.1 v0 r1 (m_i M2 1107 r1 0) ((v2 * (m_i M2 1101 r1 0)) + v3) v4 M2 _ _ k6 c7 e10) ⟨by decide, by decide, Nat.zero_le _, Nat.zero_le _⟩ (Or.inl k6) rfl (Nat.le_of_ble_eq_true rfl) dX1_interval_28 (c2 := 0) (s2 := 0) rfl rfl (fun x11 => ?_)
  cases h
  exact z_iret (pc := 31) C rfl (show 0 ≤ 0 from by decide) (show 0 ≤ 0 from by decide) dX1_interval_31
def d_X0_interval (v0 : Nat) (v1 : Int) (v2 : Int) (v3 : Int) (v4 : Int) (v5 : Nat) (M : Mem) : Option (Int × Mem) :=
  bC (d_X1_interval v0 v1 v2 v3 v4 M) (fun r1 M3 =>
    some (0, (m_si M3 9000 v5 (ixn 0) (w32 r1)))) (fun q2 M3 =>
    if m_kd M3 q2 = 115 then
      some (1, M3)
    else
      none)
theorem ct_X0_interval {l : Launch} {S0 : State} {D : va_G} {cA : Nat → ClassId} (hG : x_G l S0 D cA) (v0 : Nat) (v1 : Int) (v2 : Int) (v3 : Int) (v4 : Int) (v5 : Nat) (M : Mem) (r : Int) (M' : Mem) (hv0 : m_kd M v0 = 1) (hv5 : m_kd M v5 = 19000) (h : d_X0_interval v0 v1 v2 v3 v4 v5 M = some (r, M')) : x_Me l S0 D cA yX0_interval cX0_interval 7 (some .int) [(0, 14, 17, 25)] ({ frames := 10, cells := 1, slots := 6, locals := 196 }) [.ref v0, vI v1, vI v2, vI v3, vI v4, .ref v5] M (.returned (some (vI r))) M' := by
  refine x_begin (F := 10) (Lo := 196) (mc := 1) (ms := 6) hG (Nat.le_of_ble_eq_true rfl) (lv := [(0, .ref v0), (1, vI v1), (2, vI v2), (3, vI v3), (4, vI v4), (5, .ref v5)]) rfl rfl rfl rfl rfl (fun X e1 e2 e3 e4 e5 C => ?_)
  have hR : _ ∧ _ := ⟨Nat.le_of_eq (congrArg Room.cells e5).symm, Nat.le_of_eq (congrArg Room.slots e5).symm⟩
  unfold d_X0_interval at h
  refine z_aload (pc := 0) C 5 rfl dX0_interval_0 ?_
  refine z_iconst (pc := 2) C dX0_interval_2 ?_
  refine z_aload_n (pc := 3) C 0 rfl dX0_interval_3 ?_
  refine z_iload_n (pc := 4) C 1 rfl dX0_interval_4 ?_
  refine z_iload_n (pc := 5) C 2 rfl dX0_interval_5 ?_
  refine z_iload_n (pc := 6) C 3 rfl dX0_interval_6 ?_
  refine z_iload (pc := 7) C 4 rfl dX0_interval_7 ?_
  rcases bCs h with ⟨r1, M3, e4, h⟩ | ⟨q2, M3, e4, h⟩
  · refine cX0_119 (pc := 9) (st := [vI 0, .ref v5]) (st1 := [vI r1, vI 0, .ref v5]) C rfl (rm := { frames := 9, cells := 0, slots := 0, locals := 167 }) (ct_X1_interval C.2.1 v0 v1 v2 v3 v4 M _ _ hv0 e4) ⟨by decide, by decide, Nat.zero_le _, Nat.zero_le _⟩ (Or.inl hv0) rfl (Nat.le_of_ble_eq_true rfl) dX0_interval_9 (c2 := 0) (s2 := 0) rfl rfl (fun x5 => ?_)
    have k6 := x5 _ 19000 (by decide) (Or.inr (by decide)) hv5
    refine z_i2l (pc := 12) C dX0_interval_12 ?_
    refine z_lsw (pc := 13) C k6 (by decide +kernel) dX0_interval_13 ?_
    refine z_goto (pc := 14) C dX0_interval_14 (tgt := 21) (by decide) ?_
    refine z_iconst (pc := 21) C dX0_interval_21 ?_
    cases h
    exact z_iret (pc := 22) C rfl (show 0 ≤ 1 from by decide) (show 0 ≤ 6 from by decide) dX0_interval_22
  · by_cases c7 : m_kd M3 q2 = 115
    · have h := itt c7 h
      refine kX0_119 (pc := 9) (st := [vI 0, .ref v5]) C rfl (rm := { frames := 9, cells := 1, slots := 6, locals := 167 }) (r := q2) (ct_X1_interval C.2.1 v0 v1 v2 v3 v4 M _ _ hv0 e4) ⟨by decide, by decide, Nat.le_trans (show 1 ≤ 1 from by decide) hR.1, Nat.le_trans (show 6 ≤ 6 from by decide) hR.2⟩ (Or.inl hv0) (Nat.le_of_ble_eq_true rfl) dX0_interval_9 (e := 15) (hpc := 17) (by decide) (Or.inr c7) (Or.inr ⟨by decide, by decide, 15, by decide, q560, Or.inl ⟨rfl, rfl⟩⟩) (c2 := 1) (s2 := 6) rfl rfl (fun x8 => ?_)
      refine z_astore (pc := 17) C (lv' := [(0, .ref v0), (1, vI v1), (2, vI v2), (3, vI v3), (4, vI v4), (5, .ref v5), (6, .ref q2)]) (by decide) rfl dX0_interval_17 ?_
      refine z_iconst (pc := 19) C dX0_interval_19 ?_
      cases h
      exact z_iret (pc := 20) C rfl (show 1 ≤ 1 from by decide) (show 6 ≤ 6 from by decide) dX0_interval_20
    · have h := itf c7 h
      cases h
def B_X1_rising_9 (k9 : Nat → Int → Int → Int → Int → Int → Int → Int → Mem → Option Int) (v0 : Nat) (v1 : Int) (v2 : Int) (v3 : Int) (v4 : Int) (v5 : Int) (v6 : Int) (v7 : Int) (M : Mem) : Option Int :=
  if w32 (d_X11_cells v0 M) ≤ w32 v7 then
    if w32 v4 = 0 then
      if ¬ w32 v1 = 0 then 
      some ((d32 v5 v1) - v6) else none
    else
      if ¬ w32 v1 = 0 then 
      if w32 (r32 v5 v1) = 0 then
        some ((d32 v5 v1) - v6)
      else
        some (((d32 v5 v1) + 1) - v6) else none
  else
    bR (d_X11_has v0 v7 v2 v3 M) fun r7 => 
    if w32 r7 = 0 then
      k9 v0 v1 v2 v3 v4 v5 v6 (v7 + 1) M
    else
      if inb v7 12 then 
      if ¬ w32 v1 = 0 then 
      k9 v0 v1 v2 v3 v4 (v5 + (m_i M 1102 v0 (ixn v7))) (v6 + (d32 (m_i M 1102 v0 (ixn v7)) v1)) (v7 + 1) M else none else none
def L_X1_rising_9  : Nat → Nat → Int → Int → Int → Int → Int → Int → Int → Mem → Option Int
  | 0, _, _, _, _, _, _, _, _, _ => none
  | n + 1, v0, v1, v2, v3, v4, v5, v6, v7, M => B_X1_rising_9 (L_X1_rising_9  n) v0 v1 v2 v3 v4 v5 v6 v7 M
def d_X1_rising (v0 : Nat) (v1 : Int) (v2 : Int) (v3 : Int) (v4 : Int) (M : Mem) : Option Int :=
  L_X1_rising_9 FU v0 v1 v2 v3 v4 0 0 0 M
theorem cB_X1_rising_9 {X : x_Ctx} {M0 : Mem} (C : x_CC X 2 51 yX1_rising cX1_rising 8 (some .int) []) {k9 : Nat → Int → Int → Int → Int → Int → Int → Int → Mem → Option Int} (hk9 : ∀ (v0 : Nat) (v1 : Int) (v2 : Int) (v3 : Int) (v4 : Int) (v5 : Int) (v6 : Int) (v7 : Int) (M : Mem) (r : Int), m_kd M v0 = 11 → k9 v0 v1 v2 v3 v4 v5 v6 v7 M = some r → x_Z X 0 0 (x_QF X M0 (.returned (some (vI r))) M 0 0) M0 M 8 [(0, .ref v0), (1, vI v1), (2, vI v2), (3, vI v3), (4, vI v4), (5, vI v5), (6, vI v6), (7, vI v7)] 9 []) (v0 : Nat) (v1 : Int) (v2 : Int) (v3 : Int) (v4 : Int) (v5 : Int) (v6 : Int) (v7 : Int) (M : Mem) (r : Int) (hv0 : m_kd M v0 = 11) (h : B_X1_rising_9 k9 v0 v1 v2 v3 v4 v5 v6 v7 M = some r)  : x_Z X 0 0 (x_QF X M0 (.returned (some (vI r))) M 0 0) M0 M 8 [(0, .ref v0), (1, vI v1), (2, vI v2), (3, vI v3), (4, vI v4), (5, vI v5), (6, vI v6), (7, vI v7)] 9 [] := by
  unfold B_X1_rising_9 at h
  refine z_iload (pc := 9) C 7 rfl dX1_rising_9 ?_
  refine z_aload_n (pc := 11) C 0 rfl dX1_rising_11 ?_
  refine cX1_503 (pc := 12) (st := [vI v7]) (st1 := [vI (d_X11_cells v0 M), vI v7]) C rfl (rm := { frames := 1, cells := 0, slots := 0, locals := 24 }) (ct_X11_cells C.2.1 v0 M _ hv0 rfl) ⟨by decide, by decide, Nat.zero_le _, Nat.zero_le _⟩ (Or.inl hv0) rfl (Nat.le_of_ble_eq_true rfl) dX1_rising_12 (c2 := 0) (s2 := 0) rfl rfl (fun _ => ?_)
  refine z_ic_ge (pc := 15) C dX1_rising_15 (tgt := 64) (by decide) (fun c2 => ?_) (fun c2 => ?_)
  · have h := itt c2 h
    refine z_iload (pc := 64) C 4 rfl dX1_rising_64 ?_
    refine z_if_eq (pc := 66) C dX1_rising_66 (tgt := 85) (by decide) (fun c3 => ?_) (fun c3 => ?_)
    · have h := itt c3 h
      refine z_iload (pc := 85) C 5 rfl dX1_rising_85 ?_
      refine z_iload_n (pc := 87) C 1 rfl dX1_rising_87 ?_
      obtain ⟨c4, h⟩ := ifn h
      refine z_idiv (pc := 88) C c4 dX1_rising_88 ?_
      refine z_iload (pc := 89) C 6 rfl dX1_rising_89 ?_
      refine z_isub (pc := 91) C dX1_rising_91 ?_
      cases h
      exact z_iret (pc := 92) C rfl (show 0 ≤ 0 from by decide) (show 0 ≤ 0 from by decide) dX1_rising_92
    · have h := itf c3 h
      refine z_iload (pc := 69) C 5 rfl dX1_rising_69 ?_
      refine z_iload_n (pc := 71) C 1 rfl dX1_rising_71 ?_
      obtain ⟨c5, h⟩ := ifn h
      refine z_irem (pc := 72) C c5 dX1_rising_72 ?_
      refine z_if_eq (pc := 73) C dX1_rising_73 (tgt := 85) (by decide) (fun c6 => ?_) (fun c6 => ?_)
      · have h := itt c6 h
        refine z_iload (pc := 85) C 5 rfl dX1_rising_85 ?_
        refine z_iload_n (pc := 87) C 1 rfl dX1_rising_87 ?_
        refine z_idiv (pc := 88) C c5 dX1_rising_88 ?_
        refine z_iload (pc := 89) C 6 rfl dX1_rising_89 ?_
        refine z_isub (pc := 91) C dX1_rising_91 ?_
        cases h
        exact z_iret (pc := 92) C rfl (show 0 ≤ 0 from by decide) (show 0 ≤ 0 from by decide) dX1_rising_92
      · have h := itf c6 h
        refine z_iload (pc := 76) C 5 rfl dX1_rising_76 ?_
        refine z_iload_n (pc := 78) C 1 rfl dX1_rising_78 ?_
        refine z_idiv (pc := 79) C c5 dX1_rising_79 ?_
        refine z_iconst (pc := 80) C dX1_rising_80 ?_
        refine z_iadd (pc := 81) C dX1_rising_81 ?_
        refine z_goto (pc := 82) C dX1_rising_82 (tgt := 89) (by decide) ?_
        refine z_iload (pc := 89) C 6 rfl dX1_rising_89 ?_
        refine z_isub (pc := 91) C dX1_rising_91 ?_
        cases h
        exact z_iret (pc := 92) C rfl (show 0 ≤ 0 from by decide) (show 0 ≤ 0 from by decide) dX1_rising_92
  · have h := itf c2 h
    refine z_aload_n (pc := 18) C 0 rfl dX1_rising_18 ?_
    refine z_iload (pc := 19) C 7 rfl dX1_rising_19 ?_
    refine z_iload_n (pc := 21) C 2 rfl dX1_rising_21 ?_
    refine z_iload_n (pc := 22) C 3 rfl dX1_rising_22 ?_
    obtain ⟨r7, e8, h⟩ := bRs h
    refine cX1_561 (pc := 23) (st := []) (st1 := [vI r7]) C rfl (rm := { frames := 1, cells := 0, slots := 0, locals := 24 }) (ct_X11_has C.2.1 v0 v7 v2 v3 M _ hv0 e8) ⟨by decide, by decide, Nat.zero_le _, Nat.zero_le _⟩ (Or.inl hv0) rfl (Nat.le_of_ble_eq_true rfl) dX1_rising_23 (c2 := 0) (s2 := 0) rfl rfl (fun _ => ?_)
    refine z_if_ne (pc := 26) C dX1_rising_26 (tgt := 32) (by decide) (fun c9 => ?_) (fun c9 => ?_)
    · have h := itf c9 h
      refine z_iload (pc := 32) C 5 rfl dX1_rising_32 ?_
      refine z_aload_n (pc := 34) C 0 rfl dX1_rising_34 ?_
      refine gX1_1102 (pc := 35) C rfl hv0 dX1_rising_35 ?_
      refine z_iload (pc := 38) C 7 rfl dX1_rising_38 ?_
      obtain ⟨c10, h⟩ := ifn h
      refine z_iaO (pc := 40) (k := 11) (j := 2) C 1102 rfl (by decide) (by decide) (by decide) rfl rfl rfl rfl hv0 c10 rfl dX1_rising_40 ?_
      refine z_iadd (pc := 41) C dX1_rising_41 ?_
      refine z_istore (pc := 42) C (lv' := [(0, .ref v0), (1, vI v1), (2, vI v2), (3, vI v3), (4, vI v4), (5, vI (v5 + (m_i M 1102 v0 (ixn v7)))), (6, vI v6), (7, vI v7)]) (by decide) rfl dX1_rising_42 ?_
      refine z_iload (pc := 44) C 6 rfl dX1_rising_44 ?_
      refine z_aload_n (pc := 46) C 0 rfl dX1_rising_46 ?_
      refine gX1_1102 (pc := 47) C rfl hv0 dX1_rising_47 ?_
      refine z_iload (pc := 50) C 7 rfl dX1_rising_50 ?_
      refine z_iaO (pc := 52) (k := 11) (j := 2) C 1102 rfl (by decide) (by decide) (by decide) rfl rfl rfl rfl hv0 c10 rfl dX1_rising_52 ?_
      refine z_iload_n (pc := 53) C 1 rfl dX1_rising_53 ?_
      obtain ⟨c11, h⟩ := ifn h
      refine z_idiv (pc := 54) C c11 dX1_rising_54 ?_
      refine z_iadd (pc := 55) C dX1_rising_55 ?_
      refine z_istore (pc := 56) C (lv' := [(0, .ref v0), (1, vI v1), (2, vI v2), (3, vI v3), (4, vI v4), (5, vI (v5 + (m_i M 1102 v0 (ixn v7)))), (6, vI (v6 + (d32 (m_i M 1102 v0 (ixn v7)) v1))), (7, vI v7)]) (by decide) rfl dX1_rising_56 ?_
      refine z_iinc (pc := 58) C (lv' := [(0, .ref v0), (1, vI v1), (2, vI v2), (3, vI v3), (4, vI v4), (5, vI (v5 + (m_i M 1102 v0 (ixn v7)))), (6, vI (v6 + (d32 (m_i M 1102 v0 (ixn v7)) v1))), (7, vI (v7 + 1))]) 7 rfl (by decide) rfl dX1_rising_58 ?_
      refine z_goto (pc := 61) C dX1_rising_61 (tgt := 9) (by decide) ?_
      exact hk9 v0 v1 v2 v3 v4 (v5 + (m_i M 1102 v0 (ixn v7))) (v6 + (d32 (m_i M 1102 v0 (ixn v7)) v1)) (v7 + 1) M _ hv0 h
    · have h := itt c9 h
      refine z_goto (pc := 29) C dX1_rising_29 (tgt := 58) (by decide) ?_
      refine z_iinc (pc := 58) C (lv' := [(0, .ref v0), (1, vI v1), (2, vI v2), (3, vI v3), (4, vI v4), (5, vI v5), (6, vI v6), (7, vI (v7 + 1))]) 7 rfl (by decide) rfl dX1_rising_58 ?_
      refine z_goto (pc := 61) C dX1_rising_61 (tgt := 9) (by decide) ?_
      exact hk9 v0 v1 v2 v3 v4 v5 v6 (v7 + 1) M _ hv0 h
theorem cL_X1_rising_9 {X : x_Ctx} {M0 : Mem} (C : x_CC X 2 51 yX1_rising cX1_rising 8 (some .int) [])  : ∀ (n : Nat) (v0 : Nat) (v1 : Int) (v2 : Int) (v3 : Int) (v4 : Int) (v5 : Int) (v6 : Int) (v7 : Int) (M : Mem) (r : Int) (hv0 : m_kd M v0 = 11) (h : L_X1_rising_9  n v0 v1 v2 v3 v4 v5 v6 v7 M = some r) , x_Z X 0 0 (x_QF X M0 (.returned (some (vI r))) M 0 0) M0 M 8 [(0, .ref v0), (1, vI v1), (2, vI v2), (3, vI v3), (4, vI v4), (5, vI v5), (6, vI v6), (7, vI v7)] 9 [] := by
  intro n
  induction n with
  | zero => intro v0 v1 v2 v3 v4 v5 v6 v7 M r hv0 h ; cases h
  | succ n ih => intro v0 v1 v2 v3 v4 v5 v6 v7 M r hv0 h ; exact cB_X1_rising_9 C (fun v0 v1 v2 v3 v4 v5 v6 v7 M r hv0 h  => ih v0 v1 v2 v3 v4 v5 v6 v7 M r hv0 h ) v0 v1 v2 v3 v4 v5 v6 v7 M r hv0 h 
theorem ct_X1_rising {l : Launch} {S0 : State} {D : va_G} {cA : Nat → ClassId} (hG : x_G l S0 D cA) (v0 : Nat) (v1 : Int) (v2 : Int) (v3 : Int) (v4 : Int) (M : Mem) (r : Int) (hv0 : m_kd M v0 = 11) (h : d_X1_rising v0 v1 v2 v3 v4 M = some r) : x_Me l S0 D cA yX1_rising cX1_rising 8 (some .int) [] ({ frames := 2, cells := 0, slots := 0, locals := 51 }) [.ref v0, vI v1, vI v2, vI v3, vI v4] M (.returned (some (vI r))) M := by
  refine x_begin (F := 2) (Lo := 51) (mc := 0) (ms := 0) hG (Nat.le_of_ble_eq_true rfl) (lv := [(0, .ref v0), (1, vI v1), (2, vI v2), (3, vI v3), (4, vI v4)]) rfl rfl rfl rfl rfl (fun X e1 e2 e3 e4 e5 C => ?_)
  unfold d_X1_rising at h
  refine z_iconst (pc := 0) C dX1_rising_0 ?_
  refine z_istore (pc := 1) C (lv' := [(0, .ref v0), (1, vI v1), (2, vI v2), (3, vI v3), (4, vI v4), (5, vI 0)]) (by decide) rfl dX1_rising_1 ?_
  refine z_iconst (pc := 3) C dX1_rising_3 ?_
  refine z_istore (pc := 4) C (lv' := [(0, .ref v0), (1, vI v1), (2, vI v2), (3, vI v3), (4, vI v4), (5, vI 0), (6, vI 0)]) (by decide) rfl dX1_rising_4 ?_
  refine z_iconst (pc := 6) C dX1_rising_6 ?_
  refine z_istore (pc := 7) C (lv' := [(0, .ref v0), (1, vI v1), (2, vI v2), (3, vI v3), (4, vI v4), (5, vI 0), (6, vI 0), (7, vI 0)]) (by decide) rfl dX1_rising_7 ?_
  exact cL_X1_rising_9 C FU v0 v1 v2 v3 v4 0 0 0 M _ hv0 h
def d_X1_between (v0 : Nat) (v1 : Int) (v2 : Int) (v3 : Int) (v4 : Int) (v5 : Int) (v6 : Int) (M : Mem) : Option (Int × Mem) :=
  bR (m_r M 133 v0 0) fun q10 => 
  bN (d_X4_let q10 v1 v2 (v4 - v3) M) fun r13 M14 => 
  bR (m_r M14 133 v0 0) fun q18 => 
  bN (d_X4_let q18 v5 v2 v3 M14) fun r21 M22 => 
  bR (m_r M22 133 v0 0) fun q26 => 
  bN (d_X4_let q26 v1 v6 v3 M22) fun r29 M30 => 
  some (v3, M30)
theorem ct_X1_between {l : Launch} {S0 : State} {D : va_G} {cA : Nat → ClassId} (hG : x_G l S0 D cA) (v0 : Nat) (v1 : Int) (v2 : Int) (v3 : Int) (v4 : Int) (v5 : Int) (v6 : Int) (M : Mem) (r : Int) (M' : Mem) (hv0 : m_kd M v0 = 1) (h : d_X1_between v0 v1 v2 v3 v4 v5 v6 M = some (r, M')) : x_Me l S0 D cA yX1_between cX1_between 7 (some .int) [] ({ frames := 2, cells := 0, slots := 0, locals := 51 }) [.ref v0, vI v1, vI v2, vI v3, vI v4, vI v5, vI v6] M (.returned (some (vI r))) M' := by
  refine x_begin (F := 2) (Lo := 51) (mc := 0) (ms := 0) hG (Nat.le_of_ble_eq_true rfl) (lv := [(0, .ref v0), (1, vI v1), (2, vI v2), (3, vI v3), (4, vI v4), (5, vI v5), (6, vI v6)]) rfl rfl rfl rfl rfl (fun X e1 e2 e3 e4 e5 C => ?_)
  unfold d_X1_between at h
  refine z_aload_n (pc := 0) C 0 rfl dX1_between_0 ?_
  obtain ⟨q10, e11, h⟩ := bRs h
  refine gX1_133 (pc := 1) C rfl (Or.inl hv0) e11 dX1_between_1 (fun k12 => ?_)
  refine z_iload_n (pc := 4) C 1 rfl dX1_between_4 ?_
  refine z_iload_n (pc := 5) C 2 rfl dX1_between_5 ?_
  refine z_iload (pc := 6) C 4 rfl dX1_between_6 ?_
  refine z_iload_n (pc := 8) C 3 rfl dX1_between_8 ?_
  refine z_isub (pc := 9) C dX1_between_9 ?_
  obtain ⟨r13, M14, e15, h⟩ := bNs h
  refine cX1_523 (pc := 10) (st := []) (st1 := []) C rfl (rm := { frames := 1, cells := 0, slots := 0, locals := 24 }) (ct_X4_let C.2.1 q10 v1 v2 (v4 - v3) M _ _ k12 e15) ⟨by decide, by decide, Nat.zero_le _, Nat.zero_le _⟩ (Or.inl k12) rfl (Nat.le_of_ble_eq_true rfl) dX1_between_10 (c2 := 0) (s2 := 0) rfl rfl (fun x16 => ?_)
  have k17 := x16 _ 1 (by decide) (Or.inl (by decide)) hv0
  refine z_aload_n (pc := 13) C 0 rfl dX1_between_13 ?_
  obtain ⟨q18, e19, h⟩ := bRs h
  refine gX1_133 (pc := 14) C rfl (Or.inl k17) e19 dX1_between_14 (fun k20 => ?_)
  refine z_iload (pc := 17) C 5 rfl dX1_between_17 ?_
  refine z_iload_n (pc := 19) C 2 rfl dX1_between_19 ?_
  refine z_iload_n (pc := 20) C 3 rfl dX1_between_20 ?_
  obtain ⟨r21, M22, e23, h⟩ := bNs h
  refine cX1_523 (pc := 21) (st := []) (st1 := []) C rfl (rm := { frames := 1, cells := 0, slots := 0, locals := 24 }) (ct_X4_let C.2.1 q18 v5 v2 v3 M14 _ _ k20 e23) ⟨by decide, by decide, Nat.zero_le _, Nat.zero_le _⟩ (Or.inl k20) rfl (Nat.le_of_ble_eq_true rfl) dX1_between_21 (c2 := 0) (s2 := 0) rfl rfl (fun x24 => ?_)
  have k25 := x24 _ 1 (by decide) (Or.inl (by decide)) k17
  refine z_aload_n (pc := 24) C 0 rfl dX1_between_24 ?_
  obtain ⟨q26, e27, h⟩ := bRs h
  refine gX1_133 (pc := 25) C rfl (Or.inl k25) e27 dX1_between_25 (fun k28 => ?_)
  refine z_iload_n (pc := 28) C 1 rfl dX1_between_28 ?_
  refine z_iload (pc := 29) C 6 rfl dX1_between_29 ?_
  refine z_iload_n (pc := 31) C 3 rfl dX1_between_31 ?_
  obtain ⟨r29, M30, e31, h⟩ := bNs h
  refine cX1_523 (pc := 32) (st := []) (st1 := []) C rfl (rm := { frames := 1, cells := 0, slots := 0, locals := 24 }) (ct_X4_let C.2.1 q26 v1 v6 v3 M22 _ _ k28 e31) ⟨by decide, by decide, Nat.zero_le _, Nat.zero_le _⟩ (Or.inl k28) rfl (Nat.le_of_ble_eq_true rfl) dX1_between_32 (c2 := 0) (s2 := 0) rfl rfl (fun x32 => ?_)
  refine z_iload_n (pc := 35) C 3 rfl dX1_between_35 ?_
  cases h
  exact z_iret (pc := 36) C rfl (show 0 ≤ 0 from by decide) (show 0 ≤ 0 from by decide) dX1_between_36
def B_X1_isRight_255 (k194 : Nat → Nat → Int → Int → Int → Int → Int → Int → Mem → Option (Int × Mem)) (v0 : Nat) (v1 : Nat) (v2 : Int) (v3 : Int) (v6 : Int) (v7 : Int) (v8 : Int) (v9 : Int) (v10 : Int) (s0 : Int) (M : Mem) : Option (Int × Mem) :=
  if ¬ w32 (m_i M 1101 v1 0) = 0 then 
  bN (d_X1_between v0 (d32 v9 (m_i M 1101 v1 0)) (4 + (r32 v9 (m_i M 1101 v1 0))) v10 s0 v6 v7 M) fun r44 M45 => 
  k194 v0 v1 v2 v3 v6 v7 (v8 + r44) (v9 + 1) M45 else none
def B_X1_isRight_220 (k194 : Nat → Nat → Int → Int → Int → Int → Int → Int → Mem → Option (Int × Mem)) (v0 : Nat) (v1 : Nat) (v2 : Int) (v3 : Int) (v6 : Int) (v7 : Int) (v8 : Int) (v9 : Int) (s0 : Int) (M : Mem) : Option (Int × Mem) :=
  if w32 v3 ≤ w32 v9 then
    if inb v9 12 then 
    if ¬ w32 v2 = 0 then 
    if w32 (r32 (m_i M 1102 v1 (ixn v9)) v2) = 0 then
      B_X1_isRight_255 k194 v0 v1 v2 v3 v6 v7 v8 v9 s0 0 M
    else
      B_X1_isRight_255 k194 v0 v1 v2 v3 v6 v7 v8 v9 s0 1 M else none else none
  else
    if inb v9 12 then 
    B_X1_isRight_255 k194 v0 v1 v2 v3 v6 v7 v8 v9 s0 (m_i M 138 v0 (ixn v9)) M else none
def B_X1_isRight_194 (k194 : Nat → Nat → Int → Int → Int → Int → Int → Int → Mem → Option (Int × Mem)) (v0 : Nat) (v1 : Nat) (v2 : Int) (v3 : Int) (v6 : Int) (v7 : Int) (v8 : Int) (v9 : Int) (M : Mem) : Option (Int × Mem) :=
  if w32 (d_X11_cells v1 M) ≤ w32 v9 then
    bR (m_r M 133 v0 0) fun q30 => 
    bN (d_X4_go q30 v6 v7 v8 M) fun r33 M34 => 
    if w32 r33 = w32 v8 then
      some (1, M34)
    else
      some (0, M34)
  else
    if w32 v3 ≤ w32 v9 then
      B_X1_isRight_220 k194 v0 v1 v2 v3 v6 v7 v8 v9 0 M
    else
      if inb v9 12 then 
      B_X1_isRight_220 k194 v0 v1 v2 v3 v6 v7 v8 v9 (m_i M 138 v0 (ixn v9)) M else none
def L_X1_isRight_194  : Nat → Nat → Nat → Int → Int → Int → Int → Int → Int → Mem → Option (Int × Mem)
  | 0, _, _, _, _, _, _, _, _, _ => none
  | n + 1, v0, v1, v2, v3, v6, v7, v8, v9, M => B_X1_isRight_194 (L_X1_isRight_194  n) v0 v1 v2 v3 v6 v7 v8 v9 M
def B_X1_isRight_133 (k133 : Nat → Nat → Int → Int → Int → Int → Int → Int → Int → Mem → Option (Int × Mem)) (v0 : Nat) (v1 : Nat) (v2 : Int) (v3 : Int) (v5 : Int) (v6 : Int) (v7 : Int) (v8 : Int) (v9 : Int) (M : Mem) : Option (Int × Mem) :=
  if w32 (m_i M 1101 v1 0) ≤ w32 v9 then
    L_X1_isRight_194 FU v0 v1 v2 v3 v6 v7 v8 0 M
  else
    bR (d_X1_rising v1 v2 (m_i M 1100 v1 0) v9 0 M) fun r52 => 
    bR (d_X1_rising v1 v2 (m_i M 1100 v1 0) v9 1 M) fun r54 => 
    bN (d_X1_between v0 (4 + v9) v5 r52 r54 v6 v7 M) fun r56 M57 => 
    k133 v0 v1 v2 v3 v5 v6 v7 (v8 + r56) (v9 + 1) M57
def L_X1_isRight_133  : Nat → Nat → Nat → Int → Int → Int → Int → Int → Int → Int → Mem → Option (Int × Mem)
  | 0, _, _, _, _, _, _, _, _, _, _ => none
  | n + 1, v0, v1, v2, v3, v5, v6, v7, v8, v9, M => B_X1_isRight_133 (L_X1_isRight_133  n) v0 v1 v2 v3 v5 v6 v7 v8 v9 M
def B_X1_isRight_74 (k74 : Nat → Nat → Int → Int → Int → Int → Int → Int → Int → Int → Mem → Option (Int × Mem)) (v0 : Nat) (v1 : Nat) (v2 : Int) (v3 : Int) (v4 : Int) (v5 : Int) (v6 : Int) (v7 : Int) (v8 : Int) (v9 : Int) (M : Mem) : Option (Int × Mem) :=
  if w32 (m_i M 1100 v1 0) ≤ w32 v9 then
    L_X1_isRight_133 FU v0 v1 v2 v3 v5 v6 v7 v8 0 M
  else
    bR (d_X1_rising v1 v2 v9 (m_i M 1101 v1 0) 0 M) fun r62 => 
    bR (d_X1_rising v1 v2 v9 (m_i M 1101 v1 0) 1 M) fun r64 => 
    bN (d_X1_between v0 v4 v9 r62 r64 v6 v7 M) fun r66 M67 => 
    k74 v0 v1 v2 v3 v4 v5 v6 v7 (v8 + r66) (v9 + 1) M67
def L_X1_isRight_74  : Nat → Nat → Nat → Int → Int → Int → Int → Int → Int → Int → Int → Mem → Option (Int × Mem)
  | 0, _, _, _, _, _, _, _, _, _, _, _ => none
  | n + 1, v0, v1, v2, v3, v4, v5, v6, v7, v8, v9, M => B_X1_isRight_74 (L_X1_isRight_74  n) v0 v1 v2 v3 v4 v5 v6 v7 v8 v9 M
def d_X1_isRight (v0 : Nat) (v1 : Nat) (v2 : Int) (v3 : Int) (M : Mem) : Option (Int × Mem) :=
  bR (m_r M 133 v0 0) fun q7 => 
  bN (d_X4_clear q7 M) fun r10 M11 => 
  bR (d_X1_rising v1 v2 (m_i M11 1100 v1 0) (m_i M11 1101 v1 0) 0 M11) fun r16 => 
  bR (d_X1_rising v1 v2 (m_i M11 1100 v1 0) (m_i M11 1101 v1 0) 1 M11) fun r18 => 
  bN (d_X1_between v0 (7 + 1) 7 r16 r18 (7 + 2) (7 + 3) M11) fun r20 M21 => 
  L_X1_isRight_74 FU v0 v1 v2 v3 7 (7 + 1) (7 + 2) (7 + 3) r20 0 M21
theorem cB_X1_isRight_255 {X : x_Ctx} {M0 : Mem} (C : x_CC X 3 84 yX1_isRight cX1_isRight 12 (some .boolean) []) {k194 : Nat → Nat → Int → Int → Int → Int → Int → Int → Mem → Option (Int × Mem)} (hk194 : ∀ (v0 : Nat) (v1 : Nat) (v2 : Int) (v3 : Int) (v6 : Int) (v7 : Int) (v8 : Int) (v9 : Int) (M : Mem) (r : Int) (M' : Mem), m_kd M v0 = 1 → m_kd M v1 = 11 → k194 v0 v1 v2 v3 v6 v7 v8 v9 M = some (r, M') → x_Z X 0 0 (x_QF X M0 (.returned (some (vI r))) M' 0 0) M0 M 12 [(0, .ref v0), (1, .ref v1), (2, vI v2), (3, vI v3), (6, vI v6), (7, vI v7), (8, vI v8), (9, vI v9)] 194 []) (v0 : Nat) (v1 : Nat) (v2 : Int) (v3 : Int) (v6 : Int) (v7 : Int) (v8 : Int) (v9 : Int) (v10 : Int) (s0 : Int) (M : Mem) (r : Int) (M' : Mem) (hv0 : m_kd M v0 = 1) (hv1 : m_kd M v1 = 11) (h : B_X1_isRight_255 k194 v0 v1 v2 v3 v6 v7 v8 v9 v10 s0 M = some (r, M'))  : x_Z X 0 0 (x_QF X M0 (.returned (some (vI r))) M' 0 0) M0 M 12 [(0, .ref v0), (1, .ref v1), (2, vI v2), (3, vI v3), (6, vI v6), (7, vI v7), (8, vI v8), (9, vI v9), (10, vI v10)] 255 [vI s0] := by
  unfold B_X1_isRight_255 at h
  refine z_istore (pc := 255) C (lv' := [(0, .ref v0), (1, .ref v1), (2, vI v2), (3, vI v3), (6, vI v6), (7, vI v7), (8, vI v8), (9, vI v9), (10, vI v10), (11, vI s0)]) (by decide) rfl dX1_isRight_255 ?_
  refine z_iload (pc := 257) C 6 rfl dX1_isRight_257 ?_
  refine z_aload_n (pc := 259) C 0 rfl dX1_isRight_259 ?_
  refine z_iload (pc := 260) C 7 rfl dX1_isRight_260 ?_
  refine z_aload_n (pc := 262) C 1 rfl dX1_isRight_262 ?_
  refine gX1_1101 (pc := 263) C rfl (Or.inl hv1) rfl dX1_isRight_263 ?_
  obtain ⟨c43, h⟩ := ifn h
  refine z_idiv (pc := 266) C c43 dX1_isRight_266 ?_
  refine z_iconst (pc := 267) C dX1_isRight_267 ?_
  refine z_iload (pc := 268) C 7 rfl dX1_isRight_268 ?_
  refine z_aload_n (pc := 270) C 1 rfl dX1_isRight_270 ?_
  refine gX1_1101 (pc := 271) C rfl (Or.inl hv1) rfl dX1_isRight_271 ?_
  refine z_irem (pc := 274) C c43 dX1_isRight_274 ?_
  refine z_iadd (pc := 275) C dX1_isRight_275 ?_
  refine z_iload (pc := 276) C 8 rfl dX1_isRight_276 ?_
  refine z_iload (pc := 278) C 9 rfl dX1_isRight_278 ?_
  refine z_iload (pc := 280) C 4 rfl dX1_isRight_280 ?_
  refine z_iload (pc := 282) C 5 rfl dX1_isRight_282 ?_
  obtain ⟨r44, M45, e46, h⟩ := bNs h
  refine cX1_569 (pc := 284) (st := [vI v8]) (st1 := [vI r44, vI v8]) C rfl (rm := { frames := 2, cells := 0, slots := 0, locals := 51 }) (ct_X1_between C.2.1 v0 (d32 v9 (m_i M 1101 v1 0)) (4 + (r32 v9 (m_i M 1101 v1 0))) v10 s0 v6 v7 M _ _ hv0 e46) ⟨by decide, by decide, Nat.zero_le _, Nat.zero_le _⟩ (Or.inl hv0) rfl (Nat.le_of_ble_eq_true rfl) dX1_isRight_284 (c2 := 0) (s2 := 0) rfl rfl (fun x47 => ?_)
  have k48 := x47 _ 1 (by decide) (Or.inl (by decide)) hv0
  have k49 := x47 _ 11 (by decide) (Or.inl (by decide)) hv1
  refine z_iadd (pc := 287) C dX1_isRight_287 ?_
  refine z_istore (pc := 288) C (lv' := [(0, .ref v0), (1, .ref v1), (2, vI v2), (3, vI v3), (6, vI v6), (7, vI v7), (8, vI (v8 + r44)), (9, vI v9), (10, vI v10), (11, vI s0)]) (by decide) rfl dX1_isRight_288 ?_
  refine z_iinc (pc := 290) C (lv' := [(0, .ref v0), (1, .ref v1), (2, vI v2), (3, vI v3), (6, vI v6), (7, vI v7), (8, vI (v8 + r44)), (9, vI (v9 + 1)), (10, vI v10), (11, vI s0)]) 7 rfl (by decide) rfl dX1_isRight_290 ?_
  refine z_goto (pc := 293) C dX1_isRight_293 (tgt := 194) (by decide) ?_
  exact z_lv [0, 1, 2, 3, 4, 5, 6, 7] rfl <| hk194 v0 v1 v2 v3 v6 v7 (v8 + r44) (v9 + 1) M45 _ _ k48 k49 h
theorem cB_X1_isRight_220 {X : x_Ctx} {M0 : Mem} (C : x_CC X 3 84 yX1_isRight cX1_isRight 12 (some .boolean) []) {k194 : Nat → Nat → Int → Int → Int → Int → Int → Int → Mem → Option (Int × Mem)} (hk194 : ∀ (v0 : Nat) (v1 : Nat) (v2 : Int) (v3 : Int) (v6 : Int) (v7 : Int) (v8 : Int) (v9 : Int) (M : Mem) (r : Int) (M' : Mem), m_kd M v0 = 1 → m_kd M v1 = 11 → k194 v0 v1 v2 v3 v6 v7 v8 v9 M = some (r, M') → x_Z X 0 0 (x_QF X M0 (.returned (some (vI r))) M' 0 0) M0 M 12 [(0, .ref v0), (1, .ref v1), (2, vI v2), (3, vI v3), (6, vI v6), (7, vI v7), (8, vI v8), (9, vI v9)] 194 []) (v0 : Nat) (v1 : Nat) (v2 : Int) (v3 : Int) (v6 : Int) (v7 : Int) (v8 : Int) (v9 : Int) (s0 : Int) (M : Mem) (r : Int) (M' : Mem) (hv0 : m_kd M v0 = 1) (hv1 : m_kd M v1 = 11) (h : B_X1_isRight_220 k194 v0 v1 v2 v3 v6 v7 v8 v9 s0 M = some (r, M'))  : x_Z X 0 0 (x_QF X M0 (.returned (some (vI r))) M' 0 0) M0 M 12 [(0, .ref v0), (1, .ref v1), (2, vI v2), (3, vI v3), (6, vI v6), (7, vI v7), (8, vI v8), (9, vI v9)] 220 [vI s0] := by
  unfold B_X1_isRight_220 at h
  refine z_istore (pc := 220) C (lv' := [(0, .ref v0), (1, .ref v1), (2, vI v2), (3, vI v3), (6, vI v6), (7, vI v7), (8, vI v8), (9, vI v9), (10, vI s0)]) (by decide) rfl dX1_isRight_220 ?_
  refine z_iload (pc := 222) C 7 rfl dX1_isRight_222 ?_
  refine z_iload_n (pc := 224) C 3 rfl dX1_isRight_224 ?_
  refine z_ic_ge (pc := 225) C dX1_isRight_225 (tgt := 238) (by decide) (fun c39 => ?_) (fun c39 => ?_)
  · have h := itt c39 h
    refine z_aload_n (pc := 238) C 1 rfl dX1_isRight_238 ?_
    refine gX1_1102 (pc := 239) C rfl hv1 dX1_isRight_239 ?_
    refine z_iload (pc := 242) C 7 rfl dX1_isRight_242 ?_
    obtain ⟨c40, h⟩ := ifn h
    refine z_iaO (pc := 244) (k := 11) (j := 2) C 1102 rfl (by decide) (by decide) (by decide) rfl rfl rfl rfl hv1 c40 rfl dX1_isRight_244 ?_
    refine z_iload_n (pc := 245) C 2 rfl dX1_isRight_245 ?_
    obtain ⟨c41, h⟩ := ifn h
    refine z_irem (pc := 246) C c41 dX1_isRight_246 ?_
    refine z_if_ne (pc := 247) C dX1_isRight_247 (tgt := 254) (by decide) (fun c42 => ?_) (fun c42 => ?_)
    · have h := itf c42 h
      refine z_iconst (pc := 254) C dX1_isRight_254 ?_
      exact cB_X1_isRight_255 C hk194 v0 v1 v2 v3 v6 v7 v8 v9 s0 1 M _ _ hv0 hv1 h
    · have h := itt c42 h
      refine z_iconst (pc := 250) C dX1_isRight_250 ?_
      refine z_goto (pc := 251) C dX1_isRight_251 (tgt := 255) (by decide) ?_
      exact cB_X1_isRight_255 C hk194 v0 v1 v2 v3 v6 v7 v8 v9 s0 0 M _ _ hv0 hv1 h
  · have h := itf c39 h
    refine z_aload_n (pc := 228) C 0 rfl dX1_isRight_228 ?_
    refine gX1_138 (pc := 229) C rfl hv0 dX1_isRight_229 ?_
    refine z_iload (pc := 232) C 7 rfl dX1_isRight_232 ?_
    obtain ⟨c50, h⟩ := ifn h
    refine z_iaO (pc := 234) (k := 1) (j := 38) C 138 rfl (by decide) (by decide) (by decide) rfl rfl rfl rfl hv0 c50 rfl dX1_isRight_234 ?_
    refine z_goto (pc := 235) C dX1_isRight_235 (tgt := 255) (by decide) ?_
    exact cB_X1_isRight_255 C hk194 v0 v1 v2 v3 v6 v7 v8 v9 s0 (m_i M 138 v0 (ixn v9)) M _ _ hv0 hv1 h
theorem cB_X1_isRight_194 {X : x_Ctx} {M0 : Mem} (C : x_CC X 3 84 yX1_isRight cX1_isRight 12 (some .boolean) []) {k194 : Nat → Nat → Int → Int → Int → Int → Int → Int → Mem → Option (Int × Mem)} (hk194 : ∀ (v0 : Nat) (v1 : Nat) (v2 : Int) (v3 : Int) (v6 : Int) (v7 : Int) (v8 : Int) (v9 : Int) (M : Mem) (r : Int) (M' : Mem), m_kd M v0 = 1 → m_kd M v1 = 11 → k194 v0 v1 v2 v3 v6 v7 v8 v9 M = some (r, M') → x_Z X 0 0 (x_QF X M0 (.returned (some (vI r))) M' 0 0) M0 M 12 [(0, .ref v0), (1, .ref v1), (2, vI v2), (3, vI v3), (6, vI v6), (7, vI v7), (8, vI v8), (9, vI v9)] 194 []) (v0 : Nat) (v1 : Nat) (v2 : Int) (v3 : Int) (v6 : Int) (v7 : Int) (v8 : Int) (v9 : Int) (M : Mem) (r : Int) (M' : Mem) (hv0 : m_kd M v0 = 1) (hv1 : m_kd M v1 = 11) (h : B_X1_isRight_194 k194 v0 v1 v2 v3 v6 v7 v8 v9 M = some (r, M'))  : x_Z X 0 0 (x_QF X M0 (.returned (some (vI r))) M' 0 0) M0 M 12 [(0, .ref v0), (1, .ref v1), (2, vI v2), (3, vI v3), (6, vI v6), (7, vI v7), (8, vI v8), (9, vI v9)] 194 [] := by
  unfold B_X1_isRight_194 at h
  refine z_iload (pc := 194) C 7 rfl dX1_isRight_194 ?_
  refine z_aload_n (pc := 196) C 1 rfl dX1_isRight_196 ?_
  refine cX1_503 (pc := 197) (st := [vI v9]) (st1 := [vI (d_X11_cells v1 M), vI v9]) C rfl (rm := { frames := 1, cells := 0, slots := 0, locals := 24 }) (ct_X11_cells C.2.1 v1 M _ hv1 rfl) ⟨by decide, by decide, Nat.zero_le _, Nat.zero_le _⟩ (Or.inl hv1) rfl (Nat.le_of_ble_eq_true rfl) dX1_isRight_197 (c2 := 0) (s2 := 0) rfl rfl (fun _ => ?_)
  refine z_ic_ge (pc := 200) C dX1_isRight_200 (tgt := 296) (by decide) (fun c29 => ?_) (fun c29 => ?_)
  · have h := itt c29 h
    refine z_aload_n (pc := 296) C 0 rfl dX1_isRight_296 ?_
    obtain ⟨q30, e31, h⟩ := bRs h
    refine gX1_133 (pc := 297) C rfl (Or.inl hv0) e31 dX1_isRight_297 (fun k32 => ?_)
    refine z_iload (pc := 300) C 4 rfl dX1_isRight_300 ?_
    refine z_iload (pc := 302) C 5 rfl dX1_isRight_302 ?_
    refine z_iload (pc := 304) C 6 rfl dX1_isRight_304 ?_
    obtain ⟨r33, M34, e35, h⟩ := bNs h
    refine cX1_527 (pc := 306) (st := []) (st1 := [vI r33]) C rfl (rm := { frames := 2, cells := 0, slots := 0, locals := 54 }) (ct_X4_go C.2.1 q30 v6 v7 v8 M _ _ k32 e35) ⟨by decide, by decide, Nat.zero_le _, Nat.zero_le _⟩ (Or.inl k32) rfl (Nat.le_of_ble_eq_true rfl) dX1_isRight_306 (c2 := 0) (s2 := 0) rfl rfl (fun x36 => ?_)
    refine z_iload (pc := 309) C 6 rfl dX1_isRight_309 ?_
    refine z_ic_ne (pc := 311) C dX1_isRight_311 (tgt := 318) (by decide) (fun c37 => ?_) (fun c37 => ?_)
    · have h := itf c37 h
      refine z_iconst (pc := 318) C dX1_isRight_318 ?_
      cases h
      exact z_zret (pc := 319) C rfl (Or.inl rfl) (show 0 ≤ 0 from by decide) (show 0 ≤ 0 from by decide) dX1_isRight_319
    · have h := itt c37 h
      refine z_iconst (pc := 314) C dX1_isRight_314 ?_
      refine z_goto (pc := 315) C dX1_isRight_315 (tgt := 319) (by decide) ?_
      cases h
      exact z_zret (pc := 319) C rfl (Or.inr rfl) (show 0 ≤ 0 from by decide) (show 0 ≤ 0 from by decide) dX1_isRight_319
  · have h := itf c29 h
    refine z_iload (pc := 203) C 7 rfl dX1_isRight_203 ?_
    refine z_iload_n (pc := 205) C 3 rfl dX1_isRight_205 ?_
    refine z_ic_ge (pc := 206) C dX1_isRight_206 (tgt := 219) (by decide) (fun c38 => ?_) (fun c38 => ?_)
    · have h := itt c38 h
      refine z_iconst (pc := 219) C dX1_isRight_219 ?_
      exact cB_X1_isRight_220 C hk194 v0 v1 v2 v3 v6 v7 v8 v9 0 M _ _ hv0 hv1 h
    · have h := itf c38 h
      refine z_aload_n (pc := 209) C 0 rfl dX1_isRight_209 ?_
      refine gX1_138 (pc := 210) C rfl hv0 dX1_isRight_210 ?_
      refine z_iload (pc := 213) C 7 rfl dX1_isRight_213 ?_
      obtain ⟨c51, h⟩ := ifn h
      refine z_iaO (pc := 215) (k := 1) (j := 38) C 138 rfl (by decide) (by decide) (by decide) rfl rfl rfl rfl hv0 c51 rfl dX1_isRight_215 ?_
      refine z_goto (pc := 216) C dX1_isRight_216 (tgt := 220) (by decide) ?_
      exact cB_X1_isRight_220 C hk194 v0 v1 v2 v3 v6 v7 v8 v9 (m_i M 138 v0 (ixn v9)) M _ _ hv0 hv1 h
theorem cL_X1_isRight_194 {X : x_Ctx} {M0 : Mem} (C : x_CC X 3 84 yX1_isRight cX1_isRight 12 (some .boolean) [])  : ∀ (n : Nat) (v0 : Nat) (v1 : Nat) (v2 : Int) (v3 : Int) (v6 : Int) (v7 : Int) (v8 : Int) (v9 : Int) (M : Mem) (r : Int) (M' : Mem) (hv0 : m_kd M v0 = 1) (hv1 : m_kd M v1 = 11) (h : L_X1_isRight_194  n v0 v1 v2 v3 v6 v7 v8 v9 M = some (r, M')) , x_Z X 0 0 (x_QF X M0 (.returned (some (vI r))) M' 0 0) M0 M 12 [(0, .ref v0), (1, .ref v1), (2, vI v2), (3, vI v3), (6, vI v6), (7, vI v7), (8, vI v8), (9, vI v9)] 194 [] := by
  intro n
  induction n with
  | zero => intro v0 v1 v2 v3 v6 v7 v8 v9 M r M' hv0 hv1 h ; cases h
  | succ n ih => intro v0 v1 v2 v3 v6 v7 v8 v9 M r M' hv0 hv1 h ; exact cB_X1_isRight_194 C (fun v0 v1 v2 v3 v6 v7 v8 v9 M r M' hv0 hv1 h  => ih v0 v1 v2 v3 v6 v7 v8 v9 M r M' hv0 hv1 h ) v0 v1 v2 v3 v6 v7 v8 v9 M r M' hv0 hv1 h 
theorem cB_X1_isRight_133 {X : x_Ctx} {M0 : Mem} (C : x_CC X 3 84 yX1_isRight cX1_isRight 12 (some .boolean) []) {k133 : Nat → Nat → Int → Int → Int → Int → Int → Int → Int → Mem → Option (Int × Mem)} (hk133 : ∀ (v0 : Nat) (v1 : Nat) (v2 : Int) (v3 : Int) (v5 : Int) (v6 : Int) (v7 : Int) (v8 : Int) (v9 : Int) (M : Mem) (r : Int) (M' : Mem), m_kd M v0 = 1 → m_kd M v1 = 11 → k133 v0 v1 v2 v3 v5 v6 v7 v8 v9 M = some (r, M') → x_Z X 0 0 (x_QF X M0 (.returned (some (vI r))) M' 0 0) M0 M 12 [(0, .ref v0), (1, .ref v1), (2, vI v2), (3, vI v3), (5, vI v5), (6, vI v6), (7, vI v7), (8, vI v8), (9, vI v9)] 133 []) (v0 : Nat) (v1 : Nat) (v2 : Int) (v3 : Int) (v5 : Int) (v6 : Int) (v7 : Int) (v8 : Int) (v9 : Int) (M : Mem) (r : Int) (M' : Mem) (hv0 : m_kd M v0 = 1) (hv1 : m_kd M v1 = 11) (h : B_X1_isRight_133 k133 v0 v1 v2 v3 v5 v6 v7 v8 v9 M = some (r, M'))  : x_Z X 0 0 (x_QF X M0 (.returned (some (vI r))) M' 0 0) M0 M 12 [(0, .ref v0), (1, .ref v1), (2, vI v2), (3, vI v3), (5, vI v5), (6, vI v6), (7, vI v7), (8, vI v8), (9, vI v9)] 133 [] := by
  unfold B_X1_isRight_133 at h
  refine z_iload (pc := 133) C 8 rfl dX1_isRight_133 ?_
  refine z_aload_n (pc := 135) C 1 rfl dX1_isRight_135 ?_
  refine gX1_1101 (pc := 136) C rfl (Or.inl hv1) rfl dX1_isRight_136 ?_
  refine z_ic_ge (pc := 139) C dX1_isRight_139 (tgt := 191) (by decide) (fun c27 => ?_) (fun c27 => ?_)
  · have h := itt c27 h
    refine z_iconst (pc := 191) C dX1_isRight_191 ?_
    refine z_istore (pc := 192) C (lv' := [(0, .ref v0), (1, .ref v1), (2, vI v2), (3, vI v3), (5, vI v5), (6, vI v6), (7, vI v7), (8, vI v8), (9, vI 0)]) (by decide) rfl dX1_isRight_192 ?_
    exact z_lv [0, 1, 2, 3, 5, 6, 7, 8] rfl <| cL_X1_isRight_194 C FU v0 v1 v2 v3 v6 v7 v8 0 M _ _ hv0 hv1 h
  · have h := itf c27 h
    refine z_iload (pc := 142) C 7 rfl dX1_isRight_142 ?_
    refine z_aload_n (pc := 144) C 0 rfl dX1_isRight_144 ?_
    refine z_iconst (pc := 145) C dX1_isRight_145 ?_
    refine z_iload (pc := 146) C 8 rfl dX1_isRight_146 ?_
    refine z_iadd (pc := 148) C dX1_isRight_148 ?_
    refine z_iload (pc := 149) C 4 rfl dX1_isRight_149 ?_
    refine z_aload_n (pc := 151) C 1 rfl dX1_isRight_151 ?_
    refine z_iload_n (pc := 152) C 2 rfl dX1_isRight_152 ?_
    refine z_aload_n (pc := 153) C 1 rfl dX1_isRight_153 ?_
    refine gX1_1100 (pc := 154) C rfl (Or.inl hv1) rfl dX1_isRight_154 ?_
    refine z_iload (pc := 157) C 8 rfl dX1_isRight_157 ?_
    refine z_iconst (pc := 159) C dX1_isRight_159 ?_
    obtain ⟨r52, e53, h⟩ := bRs h
    refine cX1_565 (pc := 160) (st := [vI v5, vI (4 + v9), .ref v0, vI v8]) (st1 := [vI r52, vI v5, vI (4 + v9), .ref v0, vI v8]) C rfl (rm := { frames := 2, cells := 0, slots := 0, locals := 51 }) (ct_X1_rising C.2.1 v1 v2 (m_i M 1100 v1 0) v9 0 M _ hv1 e53) ⟨by decide, by decide, Nat.zero_le _, Nat.zero_le _⟩ rfl (Nat.le_of_ble_eq_true rfl) dX1_isRight_160 (c2 := 0) (s2 := 0) rfl rfl (fun _ => ?_)
    refine z_aload_n (pc := 163) C 1 rfl dX1_isRight_163 ?_
    refine z_iload_n (pc := 164) C 2 rfl dX1_isRight_164 ?_
    refine z_aload_n (pc := 165) C 1 rfl dX1_isRight_165 ?_
    refine gX1_1100 (pc := 166) C rfl (Or.inl hv1) rfl dX1_isRight_166 ?_
    refine z_iload (pc := 169) C 8 rfl dX1_isRight_169 ?_
    refine z_iconst (pc := 171) C dX1_isRight_171 ?_
    obtain ⟨r54, e55, h⟩ := bRs h
    refine cX1_565 (pc := 172) (st := [vI r52, vI v5, vI (4 + v9), .ref v0, vI v8]) (st1 := [vI r54, vI r52, vI v5, vI (4 + v9), .ref v0, vI v8]) C rfl (rm := { frames := 2, cells := 0, slots := 0, locals := 51 }) (ct_X1_rising C.2.1 v1 v2 (m_i M 1100 v1 0) v9 1 M _ hv1 e55) ⟨by decide, by decide, Nat.zero_le _, Nat.zero_le _⟩ rfl (Nat.le_of_ble_eq_true rfl) dX1_isRight_172 (c2 := 0) (s2 := 0) rfl rfl (fun _ => ?_)
    refine z_iload (pc := 175) C 5 rfl dX1_isRight_175 ?_
    refine z_iload (pc := 177) C 6 rfl dX1_isRight_177 ?_
    obtain ⟨r56, M57, e58, h⟩ := bNs h
    refine cX1_569 (pc := 179) (st := [vI v8]) (st1 := [vI r56, vI v8]) C rfl (rm := { frames := 2, cells := 0, slots := 0, locals := 51 }) (ct_X1_between C.2.1 v0 (4 + v9) v5 r52 r54 v6 v7 M _ _ hv0 e58) ⟨by decide, by decide, Nat.zero_le _, Nat.zero_le _⟩ (Or.inl hv0) rfl (Nat.le_of_ble_eq_true rfl) dX1_isRight_179 (c2 := 0) (s2 := 0) rfl rfl (fun x59 => ?_)
    have k60 := x59 _ 1 (by decide) (Or.inl (by decide)) hv0
    have k61 := x59 _ 11 (by decide) (Or.inl (by decide)) hv1
    refine z_iadd (pc := 182) C dX1_isRight_182 ?_
    refine z_istore (pc := 183) C (lv' := [(0, .ref v0), (1, .ref v1), (2, vI v2), (3, vI v3), (5, vI v5), (6, vI v6), (7, vI v7), (8, vI (v8 + r56)), (9, vI v9)]) (by decide) rfl dX1_isRight_183 ?_
    refine z_iinc (pc := 185) C (lv' := [(0, .ref v0), (1, .ref v1), (2, vI v2), (3, vI v3), (5, vI v5), (6, vI v6), (7, vI v7), (8, vI (v8 + r56)), (9, vI (v9 + 1))]) 8 rfl (by decide) rfl dX1_isRight_185 ?_
    refine z_goto (pc := 188) C dX1_isRight_188 (tgt := 133) (by decide) ?_
    exact hk133 v0 v1 v2 v3 v5 v6 v7 (v8 + r56) (v9 + 1) M57 _ _ k60 k61 h
theorem cL_X1_isRight_133 {X : x_Ctx} {M0 : Mem} (C : x_CC X 3 84 yX1_isRight cX1_isRight 12 (some .boolean) [])  : ∀ (n : Nat) (v0 : Nat) (v1 : Nat) (v2 : Int) (v3 : Int) (v5 : Int) (v6 : Int) (v7 : Int) (v8 : Int) (v9 : Int) (M : Mem) (r : Int) (M' : Mem) (hv0 : m_kd M v0 = 1) (hv1 : m_kd M v1 = 11) (h : L_X1_isRight_133  n v0 v1 v2 v3 v5 v6 v7 v8 v9 M = some (r, M')) , x_Z X 0 0 (x_QF X M0 (.returned (some (vI r))) M' 0 0) M0 M 12 [(0, .ref v0), (1, .ref v1), (2, vI v2), (3, vI v3), (5, vI v5), (6, vI v6), (7, vI v7), (8, vI v8), (9, vI v9)] 133 [] := by
  intro n
  induction n with
  | zero => intro v0 v1 v2 v3 v5 v6 v7 v8 v9 M r M' hv0 hv1 h ; cases h
  | succ n ih => intro v0 v1 v2 v3 v5 v6 v7 v8 v9 M r M' hv0 hv1 h ; exact cB_X1_isRight_133 C (fun v0 v1 v2 v3 v5 v6 v7 v8 v9 M r M' hv0 hv1 h  => ih v0 v1 v2 v3 v5 v6 v7 v8 v9 M r M' hv0 hv1 h ) v0 v1 v2 v3 v5 v6 v7 v8 v9 M r M' hv0 hv1 h 
theorem cB_X1_isRight_74 {X : x_Ctx} {M0 : Mem} (C : x_CC X 3 84 yX1_isRight cX1_isRight 12 (some .boolean) []) {k74 : Nat → Nat → Int → Int → Int → Int → Int → Int → Int → Int → Mem → Option (Int × Mem)} (hk74 : ∀ (v0 : Nat) (v1 : Nat) (v2 : Int) (v3 : Int) (v4 : Int) (v5 : Int) (v6 : Int) (v7 : Int) (v8 : Int) (v9 : Int) (M : Mem) (r : Int) (M' : Mem), m_kd M v0 = 1 → m_kd M v1 = 11 → k74 v0 v1 v2 v3 v4 v5 v6 v7 v8 v9 M = some (r, M') → x_Z X 0 0 (x_QF X M0 (.returned (some (vI r))) M' 0 0) M0 M 12 [(0, .ref v0), (1, .ref v1), (2, vI v2), (3, vI v3), (4, vI v4), (5, vI v5), (6, vI v6), (7, vI v7), (8, vI v8), (9, vI v9)] 74 []) (v0 : Nat) (v1 : Nat) (v2 : Int) (v3 : Int) (v4 : Int) (v5 : Int) (v6 : Int) (v7 : Int) (v8 : Int) (v9 : Int) (M : Mem) (r : Int) (M' : Mem) (hv0 : m_kd M v0 = 1) (hv1 : m_kd M v1 = 11) (h : B_X1_isRight_74 k74 v0 v1 v2 v3 v4 v5 v6 v7 v8 v9 M = some (r, M'))  : x_Z X 0 0 (x_QF X M0 (.returned (some (vI r))) M' 0 0) M0 M 12 [(0, .ref v0), (1, .ref v1), (2, vI v2), (3, vI v3), (4, vI v4), (5, vI v5), (6, vI v6), (7, vI v7), (8, vI v8), (9, vI v9)] 74 [] := by
  unfold B_X1_isRight_74 at h
  refine z_iload (pc := 74) C 9 rfl dX1_isRight_74 ?_
  refine z_aload_n (pc := 76) C 1 rfl dX1_isRight_76 ?_
  refine gX1_1100 (pc := 77) C rfl (Or.inl hv1) rfl dX1_isRight_77 ?_
  refine z_ic_ge (pc := 80) C dX1_isRight_80 (tgt := 130) (by decide) (fun c26 => ?_) (fun c26 => ?_)
  · have h := itt c26 h
    refine z_iconst (pc := 130) C dX1_isRight_130 ?_
    refine z_istore (pc := 131) C (lv' := [(0, .ref v0), (1, .ref v1), (2, vI v2), (3, vI v3), (4, vI v4), (5, vI v5), (6, vI v6), (7, vI v7), (8, vI v8), (9, vI 0)]) (by decide) rfl dX1_isRight_131 ?_
    exact z_lv [0, 1, 2, 3, 5, 6, 7, 8, 9] rfl <| cL_X1_isRight_133 C FU v0 v1 v2 v3 v5 v6 v7 v8 0 M _ _ hv0 hv1 h
  · have h := itf c26 h
    refine z_iload (pc := 83) C 8 rfl dX1_isRight_83 ?_
    refine z_aload_n (pc := 85) C 0 rfl dX1_isRight_85 ?_
    refine z_iload (pc := 86) C 4 rfl dX1_isRight_86 ?_
    refine z_iload (pc := 88) C 9 rfl dX1_isRight_88 ?_
    refine z_aload_n (pc := 90) C 1 rfl dX1_isRight_90 ?_
    refine z_iload_n (pc := 91) C 2 rfl dX1_isRight_91 ?_
    refine z_iload (pc := 92) C 9 rfl dX1_isRight_92 ?_
    refine z_aload_n (pc := 94) C 1 rfl dX1_isRight_94 ?_
    refine gX1_1101 (pc := 95) C rfl (Or.inl hv1) rfl dX1_isRight_95 ?_
    refine z_iconst (pc := 98) C dX1_isRight_98 ?_
    obtain ⟨r62, e63, h⟩ := bRs h
    refine cX1_565 (pc := 99) (st := [vI v9, vI v4, .ref v0, vI v8]) (st1 := [vI r62, vI v9, vI v4, .ref v0, vI v8]) C rfl (rm := { frames := 2, cells := 0, slots := 0, locals := 51 }) (ct_X1_rising C.2.1 v1 v2 v9 (m_i M 1101 v1 0) 0 M _ hv1 e63) ⟨by decide, by decide, Nat.zero_le _, Nat.zero_le _⟩ rfl (Nat.le_of_ble_eq_true rfl) dX1_isRight_99 (c2 := 0) (s2 := 0) rfl rfl (fun _ => ?_)
    refine z_aload_n (pc := 102) C 1 rfl dX1_isRight_102 ?_
    refine z_iload_n (pc := 103) C 2 rfl dX1_isRight_103 ?_
    refine z_iload (pc := 104) C 9 rfl dX1_isRight_104 ?_
    refine z_aload_n (pc := 106) C 1 rfl dX1_isRight_106 ?_
    refine gX1_1101 (pc := 107) C rfl (Or.inl hv1) rfl dX1_isRight_107 ?_
    refine z_iconst (pc := 110) C dX1_isRight_110 ?_
    obtain ⟨r64, e65, h⟩ := bRs h
    refine cX1_565 (pc := 111) (st := [vI r62, vI v9, vI v4, .ref v0, vI v8]) (st1 := [vI r64, vI r62, vI v9, vI v4, .ref v0, vI v8]) C rfl (rm := { frames := 2, cells := 0, slots := 0, locals := 51 }) (ct_X1_rising C.2.1 v1 v2 v9 (m_i M 1101 v1 0) 1 M _ hv1 e65) ⟨by decide, by decide, Nat.zero_le _, Nat.zero_le _⟩ rfl (Nat.le_of_ble_eq_true rfl) dX1_isRight_111 (c2 := 0) (s2 := 0) rfl rfl (fun _ => ?_)
    refine z_iload (pc := 114) C 6 rfl dX1_isRight_114 ?_
    refine z_iload (pc := 116) C 7 rfl dX1_isRight_116 ?_
    obtain ⟨r66, M67, e68, h⟩ := bNs h
    refine cX1_569 (pc := 118) (st := [vI v8]) (st1 := [vI r66, vI v8]) C rfl (rm := { frames := 2, cells := 0, slots := 0, locals := 51 }) (ct_X1_between C.2.1 v0 v4 v9 r62 r64 v6 v7 M _ _ hv0 e68) ⟨by decide, by decide, Nat.zero_le _, Nat.zero_le _⟩ (Or.inl hv0) rfl (Nat.le_of_ble_eq_true rfl) dX1_isRight_118 (c2 := 0) (s2 := 0) rfl rfl (fun x69 => ?_)
    have k70 := x69 _ 1 (by decide) (Or.inl (by decide)) hv0
    have k71 := x69 _ 11 (by decide) (Or.inl (by decide)) hv1
    refine z_iadd (pc := 121) C dX1_isRight_121 ?_
    refine z_istore (pc := 122) C (lv' := [(0, .ref v0), (1, .ref v1), (2, vI v2), (3, vI v3), (4, vI v4), (5, vI v5), (6, vI v6), (7, vI v7), (8, vI (v8 + r66)), (9, vI v9)]) (by decide) rfl dX1_isRight_122 ?_
    refine z_iinc (pc := 124) C (lv' := [(0, .ref v0), (1, .ref v1), (2, vI v2), (3, vI v3), (4, vI v4), (5, vI v5), (6, vI v6), (7, vI v7), (8, vI (v8 + r66)), (9, vI (v9 + 1))]) 9 rfl (by decide) rfl dX1_isRight_124 ?_
    refine z_goto (pc := 127) C dX1_isRight_127 (tgt := 74) (by decide) ?_
    exact hk74 v0 v1 v2 v3 v4 v5 v6 v7 (v8 + r66) (v9 + 1) M67 _ _ k70 k71 h
theorem cL_X1_isRight_74 {X : x_Ctx} {M0 : Mem} (C : x_CC X 3 84 yX1_isRight cX1_isRight 12 (some .boolean) [])  : ∀ (n : Nat) (v0 : Nat) (v1 : Nat) (v2 : Int) (v3 : Int) (v4 : Int) (v5 : Int) (v6 : Int) (v7 : Int) (v8 : Int) (v9 : Int) (M : Mem) (r : Int) (M' : Mem) (hv0 : m_kd M v0 = 1) (hv1 : m_kd M v1 = 11) (h : L_X1_isRight_74  n v0 v1 v2 v3 v4 v5 v6 v7 v8 v9 M = some (r, M')) , x_Z X 0 0 (x_QF X M0 (.returned (some (vI r))) M' 0 0) M0 M 12 [(0, .ref v0), (1, .ref v1), (2, vI v2), (3, vI v3), (4, vI v4), (5, vI v5), (6, vI v6), (7, vI v7), (8, vI v8), (9, vI v9)] 74 [] := by
  intro n
  induction n with
  | zero => intro v0 v1 v2 v3 v4 v5 v6 v7 v8 v9 M r M' hv0 hv1 h ; cases h
  | succ n ih => intro v0 v1 v2 v3 v4 v5 v6 v7 v8 v9 M r M' hv0 hv1 h ; exact cB_X1_isRight_74 C (fun v0 v1 v2 v3 v4 v5 v6 v7 v8 v9 M r M' hv0 hv1 h  => ih v0 v1 v2 v3 v4 v5 v6 v7 v8 v9 M r M' hv0 hv1 h ) v0 v1 v2 v3 v4 v5 v6 v7 v8 v9 M r M' hv0 hv1 h 
theorem ct_X1_isRight {l : Launch} {S0 : State} {D : va_G} {cA : Nat → ClassId} (hG : x_G l S0 D cA) (v0 : Nat) (v1 : Nat) (v2 : Int) (v3 : Int) (M : Mem) (r : Int) (M' : Mem) (hv0 : m_kd M v0 = 1) (hv1 : m_kd M v1 = 11) (h : d_X1_isRight v0 v1 v2 v3 M = some (r, M')) : x_Me l S0 D cA yX1_isRight cX1_isRight 12 (some .boolean) [] ({ frames := 3, cells := 0, slots := 0, locals := 84 }) [.ref v0, .ref v1, vI v2, vI v3] M (.returned (some (vI r))) M' := by
  refine x_begin (F := 3) (Lo := 84) (mc := 0) (ms := 0) hG (Nat.le_of_ble_eq_true rfl) (lv := [(0, .ref v0), (1, .ref v1), (2, vI v2), (3, vI v3)]) rfl rfl rfl rfl rfl (fun X e1 e2 e3 e4 e5 C => ?_)
  unfold d_X1_isRight at h
  refine z_bipush (pc := 0) C (by decide +kernel) dX1_isRight_0 ?_
  refine z_istore (pc := 2) C (lv' := [(0, .ref v0), (1, .ref v1), (2, vI v2), (3, vI v3), (4, vI 7)]) (by decide) rfl dX1_isRight_2 ?_
  refine z_iload (pc := 4) C 4 rfl dX1_isRight_4 ?_
  refine z_iconst (pc := 6) C dX1_isRight_6 ?_
  refine z_iadd (pc := 7) C dX1_isRight_7 ?_
  refine z_istore (pc := 8) C (lv' := [(0, .ref v0), (1, .ref v1), (2, vI v2), (3, vI v3), (4, vI 7), (5, vI (7 + 1))]) (by decide) rfl dX1_isRight_8 ?_
  refine z_iload (pc := 10) C 4 rfl dX1_isRight_10 ?_
  refine z_iconst (pc := 12) C dX1_isRight_12 ?_
  refine z_iadd (pc := 13) C dX1_isRight_13 ?_
  refine z_istore (pc := 14) C (lv' := [(0, .ref v0), (1, .ref v1), (2, vI v2), (3, vI v3), (4, vI 7), (5, vI (7 + 1)), (6, vI (7 + 2))]) (by decide) rfl dX1_isRight_14 ?_
  refine z_iload (pc := 16) C 4 rfl dX1_isRight_16 ?_
  refine z_iconst (pc := 18) C dX1_isRight_18 ?_
  refine z_iadd (pc := 19) C dX1_isRight_19 ?_
  refine z_istore (pc := 20) C (lv' := [(0, .ref v0), (1, .ref v1), (2, vI v2), (3, vI v3), (4, vI 7), (5, vI (7 + 1)), (6, vI (7 + 2)), (7, vI (7 + 3))]) (by decide) rfl dX1_isRight_20 ?_
  refine z_aload_n (pc := 22) C 0 rfl dX1_isRight_22 ?_
  obtain ⟨q7, e8, h⟩ := bRs h
  refine gX1_133 (pc := 23) C rfl (Or.inl hv0) e8 dX1_isRight_23 (fun k9 => ?_)
  obtain ⟨r10, M11, e12, h⟩ := bNs h
  refine cX1_520 (pc := 26) (st := []) (st1 := []) C rfl (rm := { frames := 1, cells := 0, slots := 0, locals := 24 }) (ct_X4_clear C.2.1 q7 M _ _ k9 e12) ⟨by decide, by decide, Nat.zero_le _, Nat.zero_le _⟩ (Or.inl k9) rfl (Nat.le_of_ble_eq_true rfl) dX1_isRight_26 (c2 := 0) (s2 := 0) rfl rfl (fun x13 => ?_)
  have k14 := x13 _ 1 (by decide) (Or.inl (by decide)) hv0
  have k15 := x13 _ 11 (by decide) (Or.inl (by decide)) hv1
  refine z_aload_n (pc := 29) C 0 rfl dX1_isRight_29 ?_
  refine z_iload (pc := 30) C 5 rfl dX1_isRight_30 ?_
  refine z_iload (pc := 32) C 4 rfl dX1_isRight_32 ?_
  refine z_aload_n (pc := 34) C 1 rfl dX1_isRight_34 ?_
  refine z_iload_n (pc := 35) C 2 rfl dX1_isRight_35 ?_
  refine z_aload_n (pc := 36) C 1 rfl dX1_isRight_36 ?_
  refine gX1_1100 (pc := 37) C rfl (Or.inl k15) rfl dX1_isRight_37 ?_
  refine z_aload_n (pc := 40) C 1 rfl dX1_isRight_40 ?_
  refine gX1_1101 (pc := 41) C rfl (Or.inl k15) rfl dX1_isRight_41 ?_
  refine z_iconst (pc := 44) C dX1_isRight_44 ?_
  obtain ⟨r16, e17, h⟩ := bRs h
  refine cX1_565 (pc := 45) (st := [vI 7, vI (7 + 1), .ref v0]) (st1 := [vI r16, vI 7, vI (7 + 1), .ref v0]) C rfl (rm := { frames := 2, cells := 0, slots := 0, locals := 51 }) (ct_X1_rising C.2.1 v1 v2 (m_i M11 1100 v1 0) (m_i M11 1101 v1 0) 0 M11 _ k15 e17) ⟨by decide, by decide, Nat.zero_le _, Nat.zero_le _⟩ rfl (Nat.le_of_ble_eq_true rfl) dX1_isRight_45 (c2 := 0) (s2 := 0) rfl rfl (fun _ => ?_)
  refine z_aload_n (pc := 48) C 1 rfl dX1_isRight_48 ?_
  refine z_iload_n (pc := 49) C 2 rfl dX1_isRight_49 ?_
  refine z_aload_n (pc := 50) C 1 rfl dX1_isRight_50 ?_
  refine gX1_1100 (pc := 51) C rfl (Or.inl k15) rfl dX1_isRight_51 ?_
  refine z_aload_n (pc := 54) C 1 rfl dX1_isRight_54 ?_
  refine gX1_1101 (pc := 55) C rfl (Or.inl k15) rfl dX1_isRight_55 ?_
  refine z_iconst (pc := 58) C dX1_isRight_58 ?_
  obtain ⟨r18, e19, h⟩ := bRs h
  refine cX1_565 (pc := 59) (st := [vI r16, vI 7, vI (7 + 1), .ref v0]) (st1 := [vI r18, vI r16, vI 7, vI (7 + 1), .ref v0]) C rfl (rm := { frames := 2, cells := 0, slots := 0, locals := 51 }) (ct_X1_rising C.2.1 v1 v2 (m_i M11 1100 v1 0) (m_i M11 1101 v1 0) 1 M11 _ k15 e19) ⟨by decide, by decide, Nat.zero_le _, Nat.zero_le _⟩ rfl (Nat.le_of_ble_eq_true rfl) dX1_isRight_59 (c2 := 0) (s2 := 0) rfl rfl (fun _ => ?_)
  refine z_iload (pc := 62) C 6 rfl dX1_isRight_62 ?_
  refine z_iload (pc := 64) C 7 rfl dX1_isRight_64 ?_
  obtain ⟨r20, M21, e22, h⟩ := bNs h
  refine cX1_569 (pc := 66) (st := []) (st1 := [vI r20]) C rfl (rm := { frames := 2, cells := 0, slots := 0, locals := 51 }) (ct_X1_between C.2.1 v0 (7 + 1) 7 r16 r18 (7 + 2) (7 + 3) M11 _ _ k14 e22) ⟨by decide, by decide, Nat.zero_le _, Nat.zero_le _⟩ (Or.inl k14) rfl (Nat.le_of_ble_eq_true rfl) dX1_isRight_66 (c2 := 0) (s2 := 0) rfl rfl (fun x23 => ?_)
  have k24 := x23 _ 1 (by decide) (Or.inl (by decide)) k14
  have k25 := x23 _ 11 (by decide) (Or.inl (by decide)) k15
  refine z_istore (pc := 69) C (lv' := [(0, .ref v0), (1, .ref v1), (2, vI v2), (3, vI v3), (4, vI 7), (5, vI (7 + 1)), (6, vI (7 + 2)), (7, vI (7 + 3)), (8, vI r20)]) (by decide) rfl dX1_isRight_69 ?_
  refine z_iconst (pc := 71) C dX1_isRight_71 ?_
  refine z_istore (pc := 72) C (lv' := [(0, .ref v0), (1, .ref v1), (2, vI v2), (3, vI v3), (4, vI 7), (5, vI (7 + 1)), (6, vI (7 + 2)), (7, vI (7 + 3)), (8, vI r20), (9, vI 0)]) (by decide) rfl dX1_isRight_72 ?_
  exact cL_X1_isRight_74 C FU v0 v1 v2 v3 7 (7 + 1) (7 + 2) (7 + 3) r20 0 M21 _ _ k24 k25 h
def B_X1_round_74 (k24 : Nat → Int → Nat → Int → Int → Mem → Option ((Int ⊕ Nat) × Mem)) (v0 : Nat) (v2 : Int) (v3 : Nat) (v4 : Int) (v5 : Int) (M : Mem) : Option ((Int ⊕ Nat) × Mem) :=
  if inb v5 12 then 
  if ¬ w32 v2 = 0 then 
  k24 v0 v2 v3 (v4 + (m_i M 138 v0 (ixn v5))) (v5 + 1) (m_si M 1105 v3 (ixn v5) (((d32 (m_i M 1102 v3 (ixn v5)) v2) + (m_i M 138 v0 (ixn v5))) * v2)) else none else none
def B_X1_round_24 (k24 : Nat → Int → Nat → Int → Int → Mem → Option ((Int ⊕ Nat) × Mem)) (v0 : Nat) (v2 : Int) (v3 : Nat) (v4 : Int) (v5 : Int) (M : Mem) : Option ((Int ⊕ Nat) × Mem) :=
  if w32 (d_X11_cells v3 M) ≤ w32 v5 then
    some (.inl v4, M)
  else
    if inb v5 12 then 
    if ¬ w32 v2 = 0 then 
    if w32 (r32 (m_i M 1102 v3 (ixn v5)) v2) = 0 then
      B_X1_round_74 k24 v0 v2 v3 v4 v5 (m_si M 138 v0 (ixn v5) 0)
    else
      bN (d_X1_isRight v0 v3 v2 (v5 + 1) (m_si M 138 v0 (ixn v5) 0)) fun r23 M24 => 
      if w32 r23 = 0 then
        B_X1_round_74 k24 v0 v2 v3 v4 v5 (m_si M24 138 v0 (ixn v5) 1)
      else
        B_X1_round_74 k24 v0 v2 v3 v4 v5 M24 else none else none
def L_X1_round_24  : Nat → Nat → Int → Nat → Int → Int → Mem → Option ((Int ⊕ Nat) × Mem)
  | 0, _, _, _, _, _, _ => none
  | n + 1, v0, v2, v3, v4, v5, M => B_X1_round_24 (L_X1_round_24  n) v0 v2 v3 v4 v5 M
def d_X1_round (v0 : Nat) (v1 : Int) (v2 : Int) (M : Mem) : Option ((Int ⊕ Nat) × Mem) :=
  bT (d_X1_tableOf v0 v1 M) fun r1 M2 => 
  if m_kd M2 r1 = 11 then 
  bT (d_X1_need (d_X1_isIn (w32 v2) 1 1000) M2) fun r9 M10 => 
  L_X1_round_24 FU v0 v2 r1 0 0 M10 else none
theorem cB_X1_round_74 {X : x_Ctx} {M0 : Mem} (C : x_CC X 8 139 yX1_round cX1_round 6 (some .int) []) {k24 : Nat → Int → Nat → Int → Int → Mem → Option ((Int ⊕ Nat) × Mem)} (hk24 : ∀ (v0 : Nat) (v2 : Int) (v3 : Nat) (v4 : Int) (v5 : Int) (M : Mem) (r : Int ⊕ Nat) (M' : Mem), m_kd M v0 = 1 → m_kd M v3 = 11 → k24 v0 v2 v3 v4 v5 M = some (r, M') → ocN r 0 1 ≤ (XR X).cells ∧ ocN r 0 6 ≤ (XR X).slots → x_Z X 0 0 (x_QF X M0 (ocI r) M' (ocN r 0 1) (ocN r 0 6)) M0 M 6 [(0, .ref v0), (2, vI v2), (3, .ref v3), (4, vI v4), (5, vI v5)] 24 []) (v0 : Nat) (v2 : Int) (v3 : Nat) (v4 : Int) (v5 : Int) (M : Mem) (r : Int ⊕ Nat) (M' : Mem) (hv0 : m_kd M v0 = 1) (hv3 : m_kd M v3 = 11) (h : B_X1_round_74 k24 v0 v2 v3 v4 v5 M = some (r, M')) (hR : ocN r 0 1 ≤ (XR X).cells ∧ ocN r 0 6 ≤ (XR X).slots) : x_Z X 0 0 (x_QF X M0 (ocI r) M' (ocN r 0 1) (ocN r 0 6)) M0 M 6 [(0, .ref v0), (2, vI v2), (3, .ref v3), (4, vI v4), (5, vI v5)] 74 [] := by
  unfold B_X1_round_74 at h
  refine z_aload_n (pc := 74) C 2 rfl dX1_round_74 ?_
  refine gX1_1105 (pc := 75) C rfl hv3 dX1_round_75 ?_
  refine z_iload (pc := 78) C 4 rfl dX1_round_78 ?_
  refine z_aload_n (pc := 80) C 2 rfl dX1_round_80 ?_
  refine gX1_1102 (pc := 81) C rfl hv3 dX1_round_81 ?_
  refine z_iload (pc := 84) C 4 rfl dX1_round_84 ?_
  obtain ⟨c21, h⟩ := ifn h
  refine z_iaO (pc := 86) (k := 11) (j := 2) C 1102 rfl (by decide) (by decide) (by decide) rfl rfl rfl rfl hv3 c21 rfl dX1_round_86 ?_
  refine z_iload_n (pc := 87) C 1 rfl dX1_round_87 ?_
  obtain ⟨c22, h⟩ := ifn h
  refine z_idiv (pc := 88) C c22 dX1_round_88 ?_
  refine z_aload_n (pc := 89) C 0 rfl dX1_round_89 ?_
  refine gX1_138 (pc := 90) C rfl hv0 dX1_round_90 ?_
  refine z_iload (pc := 93) C 4 rfl dX1_round_93 ?_
  refine z_iaO (pc := 95) (k := 1) (j := 38) C 138 rfl (by decide) (by decide) (by decide) rfl rfl rfl rfl hv0 c21 rfl dX1_round_95 ?_
  refine z_iadd (pc := 96) C dX1_round_96 ?_
  refine z_iload_n (pc := 97) C 1 rfl dX1_round_97 ?_
  refine z_imul (pc := 98) C dX1_round_98 ?_
  refine z_isO (pc := 99) (k := 11) (j := 5) C 1105 rfl (by decide) (by decide) (by decide) rfl rfl rfl rfl hv3 c21 dX1_round_99 ?_
  refine z_iload (pc := 100) C 3 rfl dX1_round_100 ?_
  refine z_aload_n (pc := 102) C 0 rfl dX1_round_102 ?_
  refine gX1_138 (pc := 103) C rfl hv0 dX1_round_103 ?_
  refine z_iload (pc := 106) C 4 rfl dX1_round_106 ?_
  refine z_iaO (pc := 108) (k := 1) (j := 38) C 138 rfl (by decide) (by decide) (by decide) rfl rfl rfl rfl hv0 c21 (x := m_i M 138 v0 (ixn v5)) ((m_i_ne (by decide)).trans rfl) dX1_round_108 ?_
  refine z_iadd (pc := 109) C dX1_round_109 ?_
  refine z_istore (pc := 110) C (lv' := [(0, .ref v0), (2, vI v2), (3, .ref v3), (4, vI (v4 + (m_i M 138 v0 (ixn v5)))), (5, vI v5)]) (by decide) rfl dX1_round_110 ?_
  refine z_iinc (pc := 112) C (lv' := [(0, .ref v0), (2, vI v2), (3, .ref v3), (4, vI (v4 + (m_i M 138 v0 (ixn v5)))), (5, vI (v5 + 1))]) 4 rfl (by decide) rfl dX1_round_112 ?_
  refine z_goto (pc := 115) C dX1_round_115 (tgt := 24) (by decide) ?_
  exact hk24 v0 v2 v3 (v4 + (m_i M 138 v0 (ixn v5))) (v5 + 1) (m_si M 1105 v3 (ixn v5) (((d32 (m_i M 1102 v3 (ixn v5)) v2) + (m_i M 138 v0 (ixn v5))) * v2)) _ _ hv0 hv3 h hR
theorem cB_X1_round_24 {X : x_Ctx} {M0 : Mem} (C : x_CC X 8 139 yX1_round cX1_round 6 (some .int) []) {k24 : Nat → Int → Nat → Int → Int → Mem → Option ((Int ⊕ Nat) × Mem)} (hk24 : ∀ (v0 : Nat) (v2 : Int) (v3 : Nat) (v4 : Int) (v5 : Int) (M : Mem) (r : Int ⊕ Nat) (M' : Mem), m_kd M v0 = 1 → m_kd M v3 = 11 → k24 v0 v2 v3 v4 v5 M = some (r, M') → ocN r 0 1 ≤ (XR X).cells ∧ ocN r 0 6 ≤ (XR X).slots → x_Z X 0 0 (x_QF X M0 (ocI r) M' (ocN r 0 1) (ocN r 0 6)) M0 M 6 [(0, .ref v0), (2, vI v2), (3, .ref v3), (4, vI v4), (5, vI v5)] 24 []) (v0 : Nat) (v2 : Int) (v3 : Nat) (v4 : Int) (v5 : Int) (M : Mem) (r : Int ⊕ Nat) (M' : Mem) (hv0 : m_kd M v0 = 1) (hv3 : m_kd M v3 = 11) (h : B_X1_round_24 k24 v0 v2 v3 v4 v5 M = some (r, M')) (hR : ocN r 0 1 ≤ (XR X).cells ∧ ocN r 0 6 ≤ (XR X).slots) : x_Z X 0 0 (x_QF X M0 (ocI r) M' (ocN r 0 1) (ocN r 0 6)) M0 M 6 [(0, .ref v0), (2, vI v2), (3, .ref v3), (4, vI v4), (5, vI v5)] 24 [] := by
  unfold B_X1_round_24 at h
  refine z_iload (pc := 24) C 4 rfl dX1_round_24 ?_
  refine z_aload_n (pc := 26) C 2 rfl dX1_round_26 ?_
  refine cX1_503 (pc := 27) (st := [vI v5]) (st1 := [vI (d_X11_cells v3 M), vI v5]) C rfl (rm := { frames := 1, cells := 0, slots := 0, locals := 24 }) (ct_X11_cells C.2.1 v3 M _ hv3 rfl) ⟨by decide, by decide, Nat.zero_le _, Nat.zero_le _⟩ (Or.inl hv3) rfl (Nat.le_of_ble_eq_true rfl) dX1_round_27 (c2 := 0) (s2 := 0) rfl rfl (fun _ => ?_)
  refine z_ic_ge (pc := 30) C dX1_round_30 (tgt := 118) (by decide) (fun c17 => ?_) (fun c17 => ?_)
  · have h := itt c17 h
    refine z_iload (pc := 118) C 3 rfl dX1_round_118 ?_
    cases h
    exact z_iret (pc := 120) C rfl (show 0 ≤ 0 from by decide) (show 0 ≤ 0 from by decide) dX1_round_120
  · have h := itf c17 h
    refine z_aload_n (pc := 33) C 0 rfl dX1_round_33 ?_
    refine gX1_138 (pc := 34) C rfl hv0 dX1_round_34 ?_
    refine z_iload (pc := 37) C 4 rfl dX1_round_37 ?_
    refine z_iconst (pc := 39) C dX1_round_39 ?_
    obtain ⟨c18, h⟩ := ifn h
    refine z_isO (pc := 40) (k := 1) (j := 38) C 138 rfl (by decide) (by decide) (by decide) rfl rfl rfl rfl hv0 c18 dX1_round_40 ?_
    refine z_aload_n (pc := 41) C 2 rfl dX1_round_41 ?_
    refine gX1_1102 (pc := 42) C rfl hv3 dX1_round_42 ?_
    refine z_iload (pc := 45) C 4 rfl dX1_round_45 ?_
    refine z_iaO (pc := 47) (k := 11) (j := 2) C 1102 rfl (by decide) (by decide) (by decide) rfl rfl rfl rfl hv3 c18 (x := m_i M 1102 v3 (ixn v5)) ((m_i_ne (by decide)).trans rfl) dX1_round_47 ?_
    refine z_iload_n (pc := 48) C 1 rfl dX1_round_48 ?_
    obtain ⟨c19, h⟩ := ifn h
    refine z_irem (pc := 49) C c19 dX1_round_49 ?_
    refine z_if_eq (pc := 50) C dX1_round_50 (tgt := 74) (by decide) (fun c20 => ?_) (fun c20 => ?_)
    · have h := itt c20 h
      exact cB_X1_round_74 C hk24 v0 v2 v3 v4 v5 (m_si M 138 v0 (ixn v5) 0) _ _ hv0 hv3 h hR
    · have h := itf c20 h
      refine z_aload_n (pc := 53) C 0 rfl dX1_round_53 ?_
      refine z_aload_n (pc := 54) C 2 rfl dX1_round_54 ?_
      refine z_iload_n (pc := 55) C 1 rfl dX1_round_55 ?_
      refine z_iload (pc := 56) C 4 rfl dX1_round_56 ?_
      refine z_iconst (pc := 58) C dX1_round_58 ?_
      refine z_iadd (pc := 59) C dX1_round_59 ?_
      obtain ⟨r23, M24, e25, h⟩ := bNs h
      refine cX1_575 (pc := 60) (st := []) (st1 := [vI r23]) C rfl (rm := { frames := 3, cells := 0, slots := 0, locals := 84 }) (ct_X1_isRight C.2.1 v0 v3 v2 (v5 + 1) (m_si M 138 v0 (ixn v5) 0) _ _ hv0 hv3 e25) ⟨by decide, by decide, Nat.zero_le _, Nat.zero_le _⟩ (Or.inl hv0) rfl (Nat.le_of_ble_eq_true rfl) dX1_round_60 (c2 := 0) (s2 := 0) rfl rfl (fun x26 => ?_)
      have k27 := x26 _ 1 (by decide) (Or.inl (by decide)) hv0
      have k28 := x26 _ 11 (by decide) (Or.inl (by decide)) hv3
      refine z_if_ne (pc := 63) C dX1_round_63 (tgt := 74) (by decide) (fun c29 => ?_) (fun c29 => ?_)
      · have h := itf c29 h
        exact cB_X1_round_74 C hk24 v0 v2 v3 v4 v5 M24 _ _ k27 k28 h hR
      · have h := itt c29 h
        refine z_aload_n (pc := 66) C 0 rfl dX1_round_66 ?_
        refine gX1_138 (pc := 67) C rfl k27 dX1_round_67 ?_
        refine z_iload (pc := 70) C 4 rfl dX1_round_70 ?_
        refine z_iconst (pc := 72) C dX1_round_72 ?_
        refine z_isO (pc := 73) (k := 1) (j := 38) C 138 rfl (by decide) (by decide) (by decide) rfl rfl rfl rfl k27 c18 dX1_round_73 ?_
        exact cB_X1_round_74 C hk24 v0 v2 v3 v4 v5 (m_si M24 138 v0 (ixn v5) 1) _ _ k27 k28 h hR
theorem cL_X1_round_24 {X : x_Ctx} {M0 : Mem} (C : x_CC X 8 139 yX1_round cX1_round 6 (some .int) [])  : ∀ (n : Nat) (v0 : Nat) (v2 : Int) (v3 : Nat) (v4 : Int) (v5 : Int) (M : Mem) (r : Int ⊕ Nat) (M' : Mem) (hv0 : m_kd M v0 = 1) (hv3 : m_kd M v3 = 11) (h : L_X1_round_24  n v0 v2 v3 v4 v5 M = some (r, M')) (hR : ocN r 0 1 ≤ (XR X).cells ∧ ocN r 0 6 ≤ (XR X).slots), x_Z X 0 0 (x_QF X M0 (ocI r) M' (ocN r 0 1) (ocN r 0 6)) M0 M 6 [(0, .ref v0), (2, vI v2), (3, .ref v3), (4, vI v4), (5, vI v5)] 24 [] := by
  intro n
  induction n with
  | zero => intro v0 v2 v3 v4 v5 M r M' hv0 hv3 h hR; cases h
  | succ n ih => intro v0 v2 v3 v4 v5 M r M' hv0 hv3 h hR; exact cB_X1_round_24 C (fun v0 v2 v3 v4 v5 M r M' hv0 hv3 h hR => ih v0 v2 v3 v4 v5 M r M' hv0 hv3 h hR) v0 v2 v3 v4 v5 M r M' hv0 hv3 h hR
theorem ct_X1_round {l : Launch} {S0 : State} {D : va_G} {cA : Nat → ClassId} (hG : x_G l S0 D cA) (v0 : Nat) (v1 : Int) (v2 : Int) (M : Mem) (r : Int ⊕ Nat) (M' : Mem) (hv0 : m_kd M v0 = 1) (h : d_X1_round v0 v1 v2 M = some (r, M')) : x_Me l S0 D cA yX1_round cX1_round 6 (some .int) [] ({ frames := 8, cells := (ocN r 0 1), slots := (ocN r 0 6), locals := 139 }) [.ref v0, vI v1, vI v2] M (ocI r) M' := by
  refine x_begin (F := 8) (Lo := 139) (mc := (ocN r 0 1)) (ms := (ocN r 0 6)) hG (Nat.le_of_ble_eq_true rfl) (lv := [(0, .ref v0), (1, vI v1), (2, vI v2)]) rfl rfl rfl rfl rfl (fun X e1 e2 e3 e4 e5 C => ?_)
  have hR : _ ∧ _ := ⟨Nat.le_of_eq (congrArg Room.cells e5).symm, Nat.le_of_eq (congrArg Room.slots e5).symm⟩
  unfold d_X1_round at h
  refine z_aload_n (pc := 0) C 0 rfl dX1_round_0 ?_
  refine z_iload_n (pc := 1) C 1 rfl dX1_round_1 ?_
  rcases bTs h with ⟨x5, e3, er⟩ | ⟨r1, M2, e3, h⟩
  · subst er; exact tX1_509 (pc := 2) C rfl (rm := { frames := 7, cells := 1, slots := 6, locals := 114 }) (ct_X1_tableOf C.2.1 v0 v1 M _ _ hv0 e3) ⟨by decide, by decide, Nat.le_trans (show 1 ≤ 1 from by decide) hR.1, Nat.le_trans (show 6 ≤ 6 from by decide) hR.2⟩ (Or.inl hv0) (Nat.le_of_ble_eq_true rfl) dX1_round_2 (by decide) (show 1 ≤ 1 from by decide) (show 6 ≤ 6 from by decide)
  refine cX1_509 (pc := 2) (st := []) (st1 := [.ref r1]) C rfl (rm := { frames := 7, cells := 0, slots := 0, locals := 114 }) (ct_X1_tableOf C.2.1 v0 v1 M _ _ hv0 e3) ⟨by decide, by decide, Nat.zero_le _, Nat.zero_le _⟩ (Or.inl hv0) rfl (Nat.le_of_ble_eq_true rfl) dX1_round_2 (c2 := 0) (s2 := 0) rfl rfl (fun x4 => ?_)
  have k6 := x4 _ 1 (by decide) (Or.inl (by decide)) hv0
  obtain ⟨c7, h⟩ := ifn h
  refine z_astore_n (pc := 5) C (lv' := [(0, .ref v0), (1, vI v1), (2, vI v2), (3, .ref r1)]) (by decide) rfl dX1_round_5 ?_
  refine z_iload_n (pc := 6) C 2 rfl dX1_round_6 ?_
  refine z_i2l (pc := 7) C dX1_round_7 ?_
  refine z_lconst (pc := 8) C (x := 1) (by decide +kernel) dX1_round_8 ?_
  refine z_ldc2 (pc := 9) C (x := 1000) q1417 (by decide +kernel) dX1_round_9 ?_
  refine cX1_159 (pc := 12) (st := []) (st1 := [vI (d_X1_isIn (w32 v2) 1 1000)]) C rfl (rm := { frames := 1, cells := 0, slots := 0, locals := 24 }) (ct_X1_isIn C.2.1 (w32 v2) 1 1000 M2 _  rfl) ⟨by decide, by decide, Nat.zero_le _, Nat.zero_le _⟩ rfl (Nat.le_of_ble_eq_true rfl) dX1_round_12 (c2 := 0) (s2 := 0) rfl rfl (fun _ => ?_)
  rcases bTs h with ⟨x13, e11, er⟩ | ⟨r9, M10, e11, h⟩
  · subst er; exact tX1_164 (pc := 15) C rfl (rm := { frames := 6, cells := 1, slots := 6, locals := 90 }) (ct_X1_need C.2.1 (d_X1_isIn (w32 v2) 1 1000) M2 _ _  e11) ⟨by decide, by decide, Nat.le_trans (show 1 ≤ 1 from by decide) hR.1, Nat.le_trans (show 6 ≤ 6 from by decide) hR.2⟩ (Nat.le_of_ble_eq_true rfl) dX1_round_15 (by decide) (show 1 ≤ 1 from by decide) (show 6 ≤ 6 from by decide)
  refine cX1_164 (pc := 15) (st := []) (st1 := []) C rfl (rm := { frames := 6, cells := 0, slots := 0, locals := 90 }) (ct_X1_need C.2.1 (d_X1_isIn (w32 v2) 1 1000) M2 _ _  e11) ⟨by decide, by decide, Nat.zero_le _, Nat.zero_le _⟩ rfl (Nat.le_of_ble_eq_true rfl) dX1_round_15 (c2 := 0) (s2 := 0) rfl rfl (fun x12 => ?_)
  have k14 := x12 _ 1 (by decide) (Or.inl (by decide)) k6
  have k15 := x12 _ 11 (by decide) (Or.inl (by decide)) c7
  refine z_iconst (pc := 18) C dX1_round_18 ?_
  refine z_istore (pc := 19) C (lv' := [(0, .ref v0), (1, vI v1), (2, vI v2), (3, .ref r1), (4, vI 0)]) (by decide) rfl dX1_round_19 ?_
  refine z_iconst (pc := 21) C dX1_round_21 ?_
  refine z_istore (pc := 22) C (lv' := [(0, .ref v0), (1, vI v1), (2, vI v2), (3, .ref r1), (4, vI 0), (5, vI 0)]) (by decide) rfl dX1_round_22 ?_
  exact z_lv [0, 2, 3, 4, 5] rfl <| cL_X1_round_24 C FU v0 v2 r1 0 0 M10 _ _ k14 k15 h hR
def d_X0_round (v0 : Nat) (v1 : Int) (v2 : Int) (v3 : Nat) (M : Mem) : Option (Int × Mem) :=
  bC (d_X1_round v0 v1 v2 M) (fun r1 M3 =>
    some (0, (m_si M3 9000 v3 (ixn 0) (w32 r1)))) (fun q2 M3 =>
    if m_kd M3 q2 = 115 then
      some (1, M3)
    else
      if m_kd M3 q2 = 113 then
        some (2, M3)
      else
        none)
theorem ct_X0_round {l : Launch} {S0 : State} {D : va_G} {cA : Nat → ClassId} (hG : x_G l S0 D cA) (v0 : Nat) (v1 : Int) (v2 : Int) (v3 : Nat) (M : Mem) (r : Int) (M' : Mem) (hv0 : m_kd M v0 = 1) (hv3 : m_kd M v3 = 19000) (h : d_X0_round v0 v1 v2 v3 M = some (r, M')) : x_Me l S0 D cA yX0_round cX0_round 5 (some .int) [(0, 10, 13, 25), (0, 10, 17, 13)] ({ frames := 9, cells := 1, slots := 6, locals := 168 }) [.ref v0, vI v1, vI v2, .ref v3] M (.returned (some (vI r))) M' := by
  refine x_begin (F := 9) (Lo := 168) (mc := 1) (ms := 6) hG (Nat.le_of_ble_eq_true rfl) (lv := [(0, .ref v0), (1, vI v1), (2, vI v2), (3, .ref v3)]) rfl rfl rfl rfl rfl (fun X e1 e2 e3 e4 e5 C => ?_)
  have hR : _ ∧ _ := ⟨Nat.le_of_eq (congrArg Room.cells e5).symm, Nat.le_of_eq (congrArg Room.slots e5).symm⟩
  unfold d_X0_round at h
  refine z_aload_n (pc := 0) C 3 rfl dX0_round_0 ?_
  refine z_iconst (pc := 1) C dX0_round_1 ?_
  refine z_aload_n (pc := 2) C 0 rfl dX0_round_2 ?_
  refine z_iload_n (pc := 3) C 1 rfl dX0_round_3 ?_
  refine z_iload_n (pc := 4) C 2 rfl dX0_round_4 ?_
  rcases bCs h with ⟨r1, M3, e4, h⟩ | ⟨q2, M3, e4, h⟩
  · refine cX0_123 (pc := 5) (st := [vI 0, .ref v3]) (st1 := [vI r1, vI 0, .ref v3]) C rfl (rm := { frames := 8, cells := 0, slots := 0, locals := 139 }) (ct_X1_round C.2.1 v0 v1 v2 M _ _ hv0 e4) ⟨by decide, by decide, Nat.zero_le _, Nat.zero_le _⟩ (Or.inl hv0) rfl (Nat.le_of_ble_eq_true rfl) dX0_round_5 (c2 := 0) (s2 := 0) rfl rfl (fun x5 => ?_)
    have k6 := x5 _ 19000 (by decide) (Or.inr (by decide)) hv3
    refine z_i2l (pc := 8) C dX0_round_8 ?_
    refine z_lsw (pc := 9) C k6 (by decide +kernel) dX0_round_9 ?_
    refine z_goto (pc := 10) C dX0_round_10 (tgt := 21) (by decide) ?_
    refine z_iconst (pc := 21) C dX0_round_21 ?_
    cases h
    exact z_iret (pc := 22) C rfl (show 0 ≤ 1 from by decide) (show 0 ≤ 6 from by decide) dX0_round_22
  · by_cases c7 : m_kd M3 q2 = 115
    · have h := itt c7 h
      refine kX0_123 (pc := 5) (st := [vI 0, .ref v3]) C rfl (rm := { frames := 8, cells := 1, slots := 6, locals := 139 }) (r := q2) (ct_X1_round C.2.1 v0 v1 v2 M _ _ hv0 e4) ⟨by decide, by decide, Nat.le_trans (show 1 ≤ 1 from by decide) hR.1, Nat.le_trans (show 6 ≤ 6 from by decide) hR.2⟩ (Or.inl hv0) (Nat.le_of_ble_eq_true rfl) dX0_round_5 (e := 15) (hpc := 13) (by decide) (Or.inr c7) (Or.inr ⟨by decide, by decide, 15, by decide, q560, Or.inl ⟨rfl, rfl⟩⟩) (c2 := 1) (s2 := 6) rfl rfl (fun x8 => ?_)
      refine z_astore (pc := 13) C (lv' := [(0, .ref v0), (1, vI v1), (2, vI v2), (3, .ref v3), (4, .ref q2)]) (by decide) rfl dX0_round_13 ?_
      refine z_iconst (pc := 15) C dX0_round_15 ?_
      cases h
      exact z_iret (pc := 16) C rfl (show 1 ≤ 1 from by decide) (show 6 ≤ 6 from by decide) dX0_round_16
    · have h := itf c7 h
      by_cases c9 : m_kd M3 q2 = 113
      · have h := itt c9 h
        refine kX0_123 (pc := 5) (st := [vI 0, .ref v3]) C rfl (rm := { frames := 8, cells := 1, slots := 6, locals := 139 }) (r := q2) (ct_X1_round C.2.1 v0 v1 v2 M _ _ hv0 e4) ⟨by decide, by decide, Nat.le_trans (show 1 ≤ 1 from by decide) hR.1, Nat.le_trans (show 6 ≤ 6 from by decide) hR.2⟩ (Or.inl hv0) (Nat.le_of_ble_eq_true rfl) dX0_round_5 (e := 13) (hpc := 17) (by decide) (Or.inr c9) (Or.inr ⟨by decide, by decide, 15, by decide, q560, Or.inr ⟨by decide, Or.inr ⟨by decide, by decide, 13, by decide, q447, Or.inl ⟨rfl, rfl⟩⟩⟩⟩) (c2 := 1) (s2 := 6) rfl rfl (fun x10 => ?_)
        refine z_astore (pc := 17) C (lv' := [(0, .ref v0), (1, vI v1), (2, vI v2), (3, .ref v3), (4, .ref q2)]) (by decide) rfl dX0_round_17 ?_
        refine z_iconst (pc := 19) C dX0_round_19 ?_
        cases h
        exact z_iret (pc := 20) C rfl (show 1 ≤ 1 from by decide) (show 6 ≤ 6 from by decide) dX0_round_20
      · have h := itf c9 h
        cases h
def B_X1_person_26  (v0 : Nat) (v1 : Int) (s0 : Int) (M : Mem) : Option ((Int ⊕ Nat) × Mem) :=
  bT (d_X1_room s0 M) fun r9 M10 => 
  if inb (m_i M10 139 v0 0) 12 then 
  some (.inl (m_i M10 139 v0 0), (m_si (m_si M10 140 v0 (ixn (m_i M10 139 v0 0)) v1) 139 v0 0 ((m_i M10 139 v0 0) + 1))) else none
def d_X1_person (v0 : Nat) (v1 : Int) (M : Mem) : Option ((Int ⊕ Nat) × Mem) :=
  bT (d_X1_need (d_X1_isIn (w32 v1) 0 7) M) fun r2 M3 => 
  if w32 12 ≤ w32 (m_i M3 139 v0 0) then
    B_X1_person_26 v0 v1 0 M3
  else
    B_X1_person_26 v0 v1 1 M3
theorem cB_X1_person_26 {X : x_Ctx} {M0 : Mem} (C : x_CC X 7 114 yX1_person cX1_person 2 (some .int) [])  (v0 : Nat) (v1 : Int) (s0 : Int) (M : Mem) (r : Int ⊕ Nat) (M' : Mem) (hv0 : m_kd M v0 = 1) (h : B_X1_person_26  v0 v1 s0 M = some (r, M')) (hR : ocN r 0 1 ≤ (XR X).cells ∧ ocN r 0 6 ≤ (XR X).slots) : x_Z X 0 0 (x_QF X M0 (ocI r) M' (ocN r 0 1) (ocN r 0 6)) M0 M 2 [(0, .ref v0), (1, vI v1)] 26 [vI s0] := by
  unfold B_X1_person_26 at h
  rcases bTs h with ⟨x13, e11, er⟩ | ⟨r9, M10, e11, h⟩
  · subst er; exact tX1_176 (pc := 26) C rfl (rm := { frames := 6, cells := 1, slots := 6, locals := 90 }) (ct_X1_room C.2.1 s0 M _ _  e11) ⟨by decide, by decide, Nat.le_trans (show 1 ≤ 1 from by decide) hR.1, Nat.le_trans (show 6 ≤ 6 from by decide) hR.2⟩ (Nat.le_of_ble_eq_true rfl) dX1_person_26 (by decide) (show 1 ≤ 1 from by decide) (show 6 ≤ 6 from by decide)
  refine cX1_176 (pc := 26) (st := []) (st1 := []) C rfl (rm := { frames := 6, cells := 0, slots := 0, locals := 90 }) (ct_X1_room C.2.1 s0 M _ _  e11) ⟨by decide, by decide, Nat.zero_le _, Nat.zero_le _⟩ rfl (Nat.le_of_ble_eq_true rfl) dX1_person_26 (c2 := 0) (s2 := 0) rfl rfl (fun x12 => ?_)
  have k14 := x12 _ 1 (by decide) (Or.inl (by decide)) hv0
  refine z_aload_n (pc := 29) C 0 rfl dX1_person_29 ?_
  refine gX1_140 (pc := 30) C rfl k14 dX1_person_30 ?_
  refine z_aload_n (pc := 33) C 0 rfl dX1_person_33 ?_
  refine gX1_139 (pc := 34) C rfl (Or.inl k14) rfl dX1_person_34 ?_
  refine z_iload_n (pc := 37) C 1 rfl dX1_person_37 ?_
  obtain ⟨c15, h⟩ := ifn h
  refine z_isO (pc := 38) (k := 1) (j := 40) C 140 rfl (by decide) (by decide) (by decide) rfl rfl rfl rfl k14 c15 dX1_person_38 ?_
  refine z_aload_n (pc := 39) C 0 rfl dX1_person_39 ?_
  refine z_dup (pc := 40) C rfl dX1_person_40 ?_
  refine gX1_139 (pc := 41) C rfl (Or.inl k14) (x := m_i M10 139 v0 0) ((m_i_ne (by decide)).trans rfl) dX1_person_41 ?_
  refine z_dupx1 (pc := 44) C rfl rfl dX1_person_44 ?_
  refine z_iconst (pc := 45) C dX1_person_45 ?_
  refine z_iadd (pc := 46) C dX1_person_46 ?_
  refine pX1_139 (pc := 47) C rfl (Or.inl k14) dX1_person_47 ?_
  cases h
  exact z_iret (pc := 50) C rfl (show 0 ≤ 0 from by decide) (show 0 ≤ 0 from by decide) dX1_person_50
theorem ct_X1_person {l : Launch} {S0 : State} {D : va_G} {cA : Nat → ClassId} (hG : x_G l S0 D cA) (v0 : Nat) (v1 : Int) (M : Mem) (r : Int ⊕ Nat) (M' : Mem) (hv0 : m_kd M v0 = 1) (h : d_X1_person v0 v1 M = some (r, M')) : x_Me l S0 D cA yX1_person cX1_person 2 (some .int) [] ({ frames := 7, cells := (ocN r 0 1), slots := (ocN r 0 6), locals := 114 }) [.ref v0, vI v1] M (ocI r) M' := by
  refine x_begin (F := 7) (Lo := 114) (mc := (ocN r 0 1)) (ms := (ocN r 0 6)) hG (Nat.le_of_ble_eq_true rfl) (lv := [(0, .ref v0), (1, vI v1)]) rfl rfl rfl rfl rfl (fun X e1 e2 e3 e4 e5 C => ?_)
  have hR : _ ∧ _ := ⟨Nat.le_of_eq (congrArg Room.cells e5).symm, Nat.le_of_eq (congrArg Room.slots e5).symm⟩
  unfold d_X1_person at h
  refine z_iload_n (pc := 0) C 1 rfl dX1_person_0 ?_
  refine z_i2l (pc := 1) C dX1_person_1 ?_
  refine z_lconst (pc := 2) C (x := 0) (by decide +kernel) dX1_person_2 ?_
  refine z_ldc2 (pc := 3) C (x := 7) q1437 (by decide +kernel) dX1_person_3 ?_
  refine cX1_159 (pc := 6) (st := []) (st1 := [vI (d_X1_isIn (w32 v1) 0 7)]) C rfl (rm := { frames := 1, cells := 0, slots := 0, locals := 24 }) (ct_X1_isIn C.2.1 (w32 v1) 0 7 M _  rfl) ⟨by decide, by decide, Nat.zero_le _, Nat.zero_le _⟩ rfl (Nat.le_of_ble_eq_true rfl) dX1_person_6 (c2 := 0) (s2 := 0) rfl rfl (fun _ => ?_)
  rcases bTs h with ⟨x6, e4, er⟩ | ⟨r2, M3, e4, h⟩
  · subst er; exact tX1_164 (pc := 9) C rfl (rm := { frames := 6, cells := 1, slots := 6, locals := 90 }) (ct_X1_need C.2.1 (d_X1_isIn (w32 v1) 0 7) M _ _  e4) ⟨by decide, by decide, Nat.le_trans (show 1 ≤ 1 from by decide) hR.1, Nat.le_trans (show 6 ≤ 6 from by decide) hR.2⟩ (Nat.le_of_ble_eq_true rfl) dX1_person_9 (by decide) (show 1 ≤ 1 from by decide) (show 6 ≤ 6 from by decide)
  refine cX1_164 (pc := 9) (st := []) (st1 := []) C rfl (rm := { frames := 6, cells := 0, slots := 0, locals := 90 }) (ct_X1_need C.2.1 (d_X1_isIn (w32 v1) 0 7) M _ _  e4) ⟨by decide, by decide, Nat.zero_le _, Nat.zero_le _⟩ rfl (Nat.le_of_ble_eq_true rfl) dX1_person_9 (c2 := 0) (s2 := 0) rfl rfl (fun x5 => ?_)
  have k7 := x5 _ 1 (by decide) (Or.inl (by decide)) hv0
  refine z_aload_n (pc := 12) C 0 rfl dX1_person_12 ?_
  refine gX1_139 (pc := 13) C rfl (Or.inl k7) rfl dX1_person_13 ?_
  refine z_bipush (pc := 16) C (by decide +kernel) dX1_person_16 ?_
  refine z_ic_ge (pc := 18) C dX1_person_18 (tgt := 25) (by decide) (fun c8 => ?_) (fun c8 => ?_)
  · have h := itt c8 h
    refine z_iconst (pc := 25) C dX1_person_25 ?_
    exact cB_X1_person_26 C v0 v1 0 M3 _ _ k7 h hR
  · have h := itf c8 h
    refine z_iconst (pc := 21) C dX1_person_21 ?_
    refine z_goto (pc := 22) C dX1_person_22 (tgt := 26) (by decide) ?_
    exact cB_X1_person_26 C v0 v1 1 M3 _ _ k7 h hR
def d_X0_person (v0 : Nat) (v1 : Int) (v2 : Nat) (M : Mem) : Option (Int × Mem) :=
  bC (d_X1_person v0 v1 M) (fun r1 M3 =>
    some (0, (m_si M3 9000 v2 (ixn 0) (w32 r1)))) (fun q2 M3 =>
    if m_kd M3 q2 = 113 then
      some (1, M3)
    else
      if m_kd M3 q2 = 114 then
        some (2, M3)
      else
        none)
theorem ct_X0_person {l : Launch} {S0 : State} {D : va_G} {cA : Nat → ClassId} (hG : x_G l S0 D cA) (v0 : Nat) (v1 : Int) (v2 : Nat) (M : Mem) (r : Int) (M' : Mem) (hv0 : m_kd M v0 = 1) (hv2 : m_kd M v2 = 19000) (h : d_X0_person v0 v1 v2 M = some (r, M')) : x_Me l S0 D cA yX0_person cX0_person 4 (some .int) [(0, 9, 12, 13), (0, 9, 15, 19)] ({ frames := 8, cells := 1, slots := 6, locals := 139 }) [.ref v0, vI v1, .ref v2] M (.returned (some (vI r))) M' := by
  refine x_begin (F := 8) (Lo := 139) (mc := 1) (ms := 6) hG (Nat.le_of_ble_eq_true rfl) (lv := [(0, .ref v0), (1, vI v1), (2, .ref v2)]) rfl rfl rfl rfl rfl (fun X e1 e2 e3 e4 e5 C => ?_)
  have hR : _ ∧ _ := ⟨Nat.le_of_eq (congrArg Room.cells e5).symm, Nat.le_of_eq (congrArg Room.slots e5).symm⟩
  unfold d_X0_person at h
  refine z_aload_n (pc := 0) C 2 rfl dX0_person_0 ?_
  refine z_iconst (pc := 1) C dX0_person_1 ?_
  refine z_aload_n (pc := 2) C 0 rfl dX0_person_2 ?_
  refine z_iload_n (pc := 3) C 1 rfl dX0_person_3 ?_
  rcases bCs h with ⟨r1, M3, e4, h⟩ | ⟨q2, M3, e4, h⟩
  · refine cX0_126 (pc := 4) (st := [vI 0, .ref v2]) (st1 := [vI r1, vI 0, .ref v2]) C rfl (rm := { frames := 7, cells := 0, slots := 0, locals := 114 }) (ct_X1_person C.2.1 v0 v1 M _ _ hv0 e4) ⟨by decide, by decide, Nat.zero_le _, Nat.zero_le _⟩ (Or.inl hv0) rfl (Nat.le_of_ble_eq_true rfl) dX0_person_4 (c2 := 0) (s2 := 0) rfl rfl (fun x5 => ?_)
    have k6 := x5 _ 19000 (by decide) (Or.inr (by decide)) hv2
    refine z_i2l (pc := 7) C dX0_person_7 ?_
    refine z_lsw (pc := 8) C k6 (by decide +kernel) dX0_person_8 ?_
    refine z_goto (pc := 9) C dX0_person_9 (tgt := 18) (by decide) ?_
    refine z_iconst (pc := 18) C dX0_person_18 ?_
    cases h
    exact z_iret (pc := 19) C rfl (show 0 ≤ 1 from by decide) (show 0 ≤ 6 from by decide) dX0_person_19
  · by_cases c7 : m_kd M3 q2 = 113
    · have h := itt c7 h
      refine kX0_126 (pc := 4) (st := [vI 0, .ref v2]) C rfl (rm := { frames := 7, cells := 1, slots := 6, locals := 114 }) (r := q2) (ct_X1_person C.2.1 v0 v1 M _ _ hv0 e4) ⟨by decide, by decide, Nat.le_trans (show 1 ≤ 1 from by decide) hR.1, Nat.le_trans (show 6 ≤ 6 from by decide) hR.2⟩ (Or.inl hv0) (Nat.le_of_ble_eq_true rfl) dX0_person_4 (e := 13) (hpc := 12) (by decide) (Or.inr c7) (Or.inr ⟨by decide, by decide, 13, by decide, q447, Or.inl ⟨rfl, rfl⟩⟩) (c2 := 1) (s2 := 6) rfl rfl (fun x8 => ?_)
      refine z_astore_n (pc := 12) C (lv' := [(0, .ref v0), (1, vI v1), (2, .ref v2), (3, .ref q2)]) (by decide) rfl dX0_person_12 ?_
      refine z_iconst (pc := 13) C dX0_person_13 ?_
      cases h
      exact z_iret (pc := 14) C rfl (show 1 ≤ 1 from by decide) (show 6 ≤ 6 from by decide) dX0_person_14
    · have h := itf c7 h
      by_cases c9 : m_kd M3 q2 = 114
      · have h := itt c9 h
        refine kX0_126 (pc := 4) (st := [vI 0, .ref v2]) C rfl (rm := { frames := 7, cells := 1, slots := 6, locals := 114 }) (r := q2) (ct_X1_person C.2.1 v0 v1 M _ _ hv0 e4) ⟨by decide, by decide, Nat.le_trans (show 1 ≤ 1 from by decide) hR.1, Nat.le_trans (show 6 ≤ 6 from by decide) hR.2⟩ (Or.inl hv0) (Nat.le_of_ble_eq_true rfl) dX0_person_4 (e := 14) (hpc := 15) (by decide) (Or.inr c9) (Or.inr ⟨by decide, by decide, 13, by decide, q447, Or.inr ⟨by decide, Or.inr ⟨by decide, by decide, 14, by decide, q533, Or.inl ⟨rfl, rfl⟩⟩⟩⟩) (c2 := 1) (s2 := 6) rfl rfl (fun x10 => ?_)
        refine z_astore_n (pc := 15) C (lv' := [(0, .ref v0), (1, vI v1), (2, .ref v2), (3, .ref q2)]) (by decide) rfl dX0_person_15 ?_
        refine z_iconst (pc := 16) C dX0_person_16 ?_
        cases h
        exact z_iret (pc := 17) C rfl (show 1 ≤ 1 from by decide) (show 6 ≤ 6 from by decide) dX0_person_17
      · have h := itf c9 h
        cases h
def d_X1_personIn (v0 : Nat) (v1 : Int) (M : Mem) : Option ((Int ⊕ Nat) × Mem) :=
  bT (d_X1_inside (d_X1_isIn (w32 v1) 0 (w32 ((m_i M 139 v0 0) - 1))) M) fun r2 M3 => 
  some (.inl 0, M3)
theorem ct_X1_personIn {l : Launch} {S0 : State} {D : va_G} {cA : Nat → ClassId} (hG : x_G l S0 D cA) (v0 : Nat) (v1 : Int) (M : Mem) (r : Int ⊕ Nat) (M' : Mem) (hv0 : m_kd M v0 = 1) (h : d_X1_personIn v0 v1 M = some (r, M')) : x_Me l S0 D cA yX1_personIn cX1_personIn 2 none [] ({ frames := 7, cells := (ocN r 0 1), slots := (ocN r 0 6), locals := 114 }) [.ref v0, vI v1] M (ocV r) M' := by
  refine x_begin (F := 7) (Lo := 114) (mc := (ocN r 0 1)) (ms := (ocN r 0 6)) hG (Nat.le_of_ble_eq_true rfl) (lv := [(0, .ref v0), (1, vI v1)]) rfl rfl rfl rfl rfl (fun X e1 e2 e3 e4 e5 C => ?_)
  have hR : _ ∧ _ := ⟨Nat.le_of_eq (congrArg Room.cells e5).symm, Nat.le_of_eq (congrArg Room.slots e5).symm⟩
  unfold d_X1_personIn at h
  refine z_iload_n (pc := 0) C 1 rfl dX1_personIn_0 ?_
  refine z_i2l (pc := 1) C dX1_personIn_1 ?_
  refine z_lconst (pc := 2) C (x := 0) (by decide +kernel) dX1_personIn_2 ?_
  refine z_aload_n (pc := 3) C 0 rfl dX1_personIn_3 ?_
  refine gX1_139 (pc := 4) C rfl (Or.inl hv0) rfl dX1_personIn_4 ?_
  refine z_iconst (pc := 7) C dX1_personIn_7 ?_
  refine z_isub (pc := 8) C dX1_personIn_8 ?_
  refine z_i2l (pc := 9) C dX1_personIn_9 ?_
  refine cX1_159 (pc := 10) (st := []) (st1 := [vI (d_X1_isIn (w32 v1) 0 (w32 ((m_i M 139 v0 0) - 1)))]) C rfl (rm := { frames := 1, cells := 0, slots := 0, locals := 24 }) (ct_X1_isIn C.2.1 (w32 v1) 0 (w32 ((m_i M 139 v0 0) - 1)) M _  rfl) ⟨by decide, by decide, Nat.zero_le _, Nat.zero_le _⟩ rfl (Nat.le_of_ble_eq_true rfl) dX1_personIn_10 (c2 := 0) (s2 := 0) rfl rfl (fun _ => ?_)
  rcases bTs h with ⟨x6, e4, er⟩ | ⟨r2, M3, e4, h⟩
  · subst er; exact tX1_171 (pc := 13) C rfl (rm := { frames := 6, cells := 1, slots := 6, locals := 90 }) (ct_X1_inside C.2.1 (d_X1_isIn (w32 v1) 0 (w32 ((m_i M 139 v0 0) - 1))) M _ _  e4) ⟨by decide, by decide, Nat.le_trans (show 1 ≤ 1 from by decide) hR.1, Nat.le_trans (show 6 ≤ 6 from by decide) hR.2⟩ (Nat.le_of_ble_eq_true rfl) dX1_personIn_13 (by decide) (show 1 ≤ 1 from by decide) (show 6 ≤ 6 from by decide)
  refine cX1_171 (pc := 13) (st := []) (st1 := []) C rfl (rm := { frames := 6, cells := 0, slots := 0, locals := 90 }) (ct_X1_inside C.2.1 (d_X1_isIn (w32 v1) 0 (w32 ((m_i M 139 v0 0) - 1))) M _ _  e4) ⟨by decide, by decide, Nat.zero_le _, Nat.zero_le _⟩ rfl (Nat.le_of_ble_eq_true rfl) dX1_personIn_13 (c2 := 0) (s2 := 0) rfl rfl (fun x5 => ?_)
  cases h
  exact z_vret (pc := 16) C rfl (show 0 ≤ 0 from by decide) (show 0 ≤ 0 from by decide) dX1_personIn_16
def B_X12_init_38 (k38 : Nat → Nat → Int → Mem → Option (Int × Mem)) (v0 : Nat) (v3 : Nat) (v4 : Int) (M : Mem) : Option (Int × Mem) :=
  if w32 12 ≤ w32 v4 then
    some (0, M)
  else
    if inb v4 12 then 
    k38 v0 v3 (v4 + 1) (m_si M 1204 v0 (ixn v4) (m_i M 1105 v3 (ixn v4))) else none
def L_X12_init_38  : Nat → Nat → Nat → Int → Mem → Option (Int × Mem)
  | 0, _, _, _, _ => none
  | n + 1, v0, v3, v4, M => B_X12_init_38 (L_X12_init_38  n) v0 v3 v4 M
def d_X12_init (v0 : Nat) (v1 : Int) (v2 : Int) (v3 : Nat) (M : Mem) : Option (Int × Mem) :=
  if m_sz M + 0 = v0 + 1 then 
  if x_whole (m_nw M 11204) v0 12 = true then 
  L_X12_init_38 FU v0 v3 0 (m_si (m_sr (m_si (m_si (m_se (m_nw M 11204) v0 12) 1200 v0 0 v1) 1201 v0 0 v2) 1202 v0 0 (some v3)) 1203 v0 0 (m_i M 1107 v3 0)) else none else none
theorem cB_X12_init_38 {X : x_Ctx} {M0 : Mem} (C : x_CC X 1 24 yX12_init cX12_init 5 none []) {k38 : Nat → Nat → Int → Mem → Option (Int × Mem)} (hk38 : ∀ (v0 : Nat) (v3 : Nat) (v4 : Int) (M : Mem) (r : Int) (M' : Mem), m_kd M v0 = 12 → m_kd M v3 = 11 → k38 v0 v3 v4 M = some (r, M') → 1 ≤ (XR X).cells ∧ 12 ≤ (XR X).slots → x_Z X 1 12 (x_QF X M0 (.returned none) M' 1 12) M0 M 5 [(0, .ref v0), (3, .ref v3), (4, vI v4)] 38 []) (v0 : Nat) (v3 : Nat) (v4 : Int) (M : Mem) (r : Int) (M' : Mem) (hv0 : m_kd M v0 = 12) (hv3 : m_kd M v3 = 11) (h : B_X12_init_38 k38 v0 v3 v4 M = some (r, M')) (hR : 1 ≤ (XR X).cells ∧ 12 ≤ (XR X).slots) : x_Z X 1 12 (x_QF X M0 (.returned none) M' 1 12) M0 M 5 [(0, .ref v0), (3, .ref v3), (4, vI v4)] 38 [] := by
  unfold B_X12_init_38 at h
  refine z_iload (pc := 38) C 2 rfl dX12_init_38 ?_
  refine z_aload_n (pc := 40) C 0 rfl dX12_init_40 ?_
  refine gX12_1204 (pc := 41) C rfl hv0 dX12_init_41 ?_
  refine z_alO (pc := 44) (k := 12) (j := 4) C 1204 rfl (by decide) (by decide) (by decide) rfl rfl (by decide) rfl hv0 dX12_init_44 ?_
  refine z_ic_ge (pc := 45) C dX12_init_45 (tgt := 68) (by decide) (fun c9 => ?_) (fun c9 => ?_)
  · have h := itt c9 h
    cases h
    exact z_vret (pc := 68) C rfl (show 1 ≤ 1 from by decide) (show 12 ≤ 12 from by decide) dX12_init_68
  · have h := itf c9 h
    refine z_aload_n (pc := 48) C 0 rfl dX12_init_48 ?_
    refine gX12_1204 (pc := 49) C rfl hv0 dX12_init_49 ?_
    refine z_iload (pc := 52) C 2 rfl dX12_init_52 ?_
    refine z_aload_n (pc := 54) C 1 rfl dX12_init_54 ?_
    refine gX12_1105 (pc := 55) C rfl hv3 dX12_init_55 ?_
    refine z_iload (pc := 58) C 2 rfl dX12_init_58 ?_
    obtain ⟨c10, h⟩ := ifn h
    refine z_iaO (pc := 60) (k := 11) (j := 5) C 1105 rfl (by decide) (by decide) (by decide) rfl rfl rfl rfl hv3 c10 rfl dX12_init_60 ?_
    refine z_isO (pc := 61) (k := 12) (j := 4) C 1204 rfl (by decide) (by decide) (by decide) rfl rfl rfl rfl hv0 c10 dX12_init_61 ?_
    refine z_iinc (pc := 62) C (lv' := [(0, .ref v0), (3, .ref v3), (4, vI (v4 + 1))]) 2 rfl (by decide) rfl dX12_init_62 ?_
    refine z_goto (pc := 65) C dX12_init_65 (tgt := 38) (by decide) ?_
    exact hk38 v0 v3 (v4 + 1) (m_si M 1204 v0 (ixn v4) (m_i M 1105 v3 (ixn v4))) _ _ hv0 hv3 h hR
theorem cL_X12_init_38 {X : x_Ctx} {M0 : Mem} (C : x_CC X 1 24 yX12_init cX12_init 5 none [])  : ∀ (n : Nat) (v0 : Nat) (v3 : Nat) (v4 : Int) (M : Mem) (r : Int) (M' : Mem) (hv0 : m_kd M v0 = 12) (hv3 : m_kd M v3 = 11) (h : L_X12_init_38  n v0 v3 v4 M = some (r, M')) (hR : 1 ≤ (XR X).cells ∧ 12 ≤ (XR X).slots), x_Z X 1 12 (x_QF X M0 (.returned none) M' 1 12) M0 M 5 [(0, .ref v0), (3, .ref v3), (4, vI v4)] 38 [] := by
  intro n
  induction n with
  | zero => intro v0 v3 v4 M r M' hv0 hv3 h hR; cases h
  | succ n ih => intro v0 v3 v4 M r M' hv0 hv3 h hR; exact cB_X12_init_38 C (fun v0 v3 v4 M r M' hv0 hv3 h hR => ih v0 v3 v4 M r M' hv0 hv3 h hR) v0 v3 v4 M r M' hv0 hv3 h hR
theorem ct_X12_init {l : Launch} {S0 : State} {D : va_G} {cA : Nat → ClassId} (hG : x_G l S0 D cA) (v0 : Nat) (v1 : Int) (v2 : Int) (v3 : Nat) (M : Mem) (r : Int) (M' : Mem) (hv0 : m_kd M v0 = 112) (hv3 : m_kd M v3 = 11) (h : d_X12_init v0 v1 v2 v3 M = some (r, M')) : x_Me l S0 D cA yX12_init cX12_init 5 none [] ({ frames := 1, cells := 1, slots := 12, locals := 24 }) [.ref v0, vI v1, vI v2, .ref v3] M (.returned none) M' := by
  refine x_begin (F := 1) (Lo := 24) (mc := 1) (ms := 12) hG (Nat.le_of_ble_eq_true rfl) (lv := [(0, .ref v0), (1, vI v1), (2, vI v2), (3, .ref v3)]) rfl rfl rfl rfl rfl (fun X e1 e2 e3 e4 e5 C => ?_)
  have hR : _ ∧ _ := ⟨Nat.le_of_eq (congrArg Room.cells e5).symm, Nat.le_of_eq (congrArg Room.slots e5).symm⟩
  unfold d_X12_init at h
  refine z_aload_n (pc := 0) C 0 rfl dX12_init_0 ?_
  refine z_obj (pc := 1) C q1453 q139 q140 (by decide) (by decide) (by decide) dX12_init_1 ?_
  refine z_aload_n (pc := 4) C 0 rfl dX12_init_4 ?_
  refine z_bipush (pc := 5) C (by decide +kernel) dX12_init_5 ?_
  obtain ⟨c1, h⟩ := ifn h
  refine aX12_1204 (pc := 7) C rfl rfl hv0 (show m_sz M + 0 = v0 + 1 from by have := c1; omega) (Nat.le_trans (show 1 ≤ 1 from by decide) hR.1) (Nat.le_trans (show 12 ≤ 12 from by decide) hR.2) dX12_init_7 dX12_init_9 (c2 := 1) (s2 := 12) rfl rfl (fun x2 => ?_)
  have k3 := x2.k hv0 (by decide)
  have k4 := x2.k hv3 (by decide)
  obtain ⟨c5, h⟩ := ifn h
  refine z_sealW (k := 12) v0 k3 (by decide) (by decide) c5 (fun k6 x7 => ?_)
  have k8 := x7 _ _ k4 (by decide)
  refine z_aload_n (pc := 12) C 0 rfl dX12_init_12 ?_
  refine z_iload_n (pc := 13) C 1 rfl dX12_init_13 ?_
  refine pX12_1200 (pc := 14) C rfl rfl (Or.inl k6) dX12_init_14 ?_
  refine z_aload_n (pc := 17) C 0 rfl dX12_init_17 ?_
  refine z_iload_n (pc := 18) C 2 rfl dX12_init_18 ?_
  refine pX12_1201 (pc := 19) C rfl rfl (Or.inl k6) dX12_init_19 ?_
  refine z_aload_n (pc := 22) C 0 rfl dX12_init_22 ?_
  refine z_aload_n (pc := 23) C 3 rfl dX12_init_23 ?_
  refine pX12_1202 (pc := 24) C rfl rfl (Or.inl k6) (x_rkk (k := 11) k8 (by unfold x_rk; decide)) dX12_init_24 ?_
  refine z_aload_n (pc := 27) C 0 rfl dX12_init_27 ?_
  refine z_aload_n (pc := 28) C 3 rfl dX12_init_28 ?_
  refine gX12_1107 (pc := 29) C rfl (Or.inl k8) (x := m_i M 1107 v3 0) (m_i_sr.trans ((m_i_ne (by decide)).trans ((m_i_ne (by decide)).trans (m_i_se.trans (m_i_nw.trans rfl))))) dX12_init_29 ?_
  refine pX12_1203 (pc := 32) C rfl rfl (Or.inl k6) dX12_init_32 ?_
  refine z_iconst (pc := 35) C dX12_init_35 ?_
  refine z_istore (pc := 36) C (lv' := [(0, .ref v0), (1, vI v1), (2, vI v2), (3, .ref v3), (4, vI 0)]) (by decide) rfl dX12_init_36 ?_
  exact z_lv [0, 3, 4] rfl <| cL_X12_init_38 C FU v0 v3 0 (m_si (m_sr (m_si (m_si (m_se (m_nw M 11204) v0 12) 1200 v0 0 v1) 1201 v0 0 v2) 1202 v0 0 (some v3)) 1203 v0 0 (m_i M 1107 v3 0)) _ _ k6 k8 h hR
