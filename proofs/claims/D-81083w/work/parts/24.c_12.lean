set_option maxRecDepth 100000
def B_X1_release_61  (v0 : Nat) (v1 : Int) (v3 : Int) (v4 : Nat) (s0 : Int) (M : Mem) : Option ((Int ⊕ Nat) × Mem) :=
  bT (d_X1_room s0 M) fun r32 M33 => 
  bN (d_X12_init (m_sz M33) v1 v3 v4 (m_nw M33 112)) fun r44 M45 => 
  if m_kd M45 (m_sz M33) = 12 then 
  if inb (m_i M33 141 v0 0) 12 then 
  some (.inl (m_i M45 141 v0 0), (m_si (m_sr M45 142 v0 (ixn (m_i M33 141 v0 0)) (some (m_sz M33))) 141 v0 0 ((m_i M45 141 v0 0) + 1))) else none else none
def B_X1_release_44  (v0 : Nat) (v1 : Int) (v3 : Int) (v4 : Nat) (s0 : Int) (M : Mem) : Option ((Int ⊕ Nat) × Mem) :=
  bT (d_X1_need s0 M) fun r24 M25 => 
  if w32 12 ≤ w32 (m_i M25 141 v0 0) then
    B_X1_release_61 v0 v1 v3 v4 0 M25
  else
    B_X1_release_61 v0 v1 v3 v4 1 M25
def B_X1_release_28  (v0 : Nat) (v1 : Int) (v3 : Int) (v4 : Nat) (s0 : Int) (M : Mem) : Option ((Int ⊕ Nat) × Mem) :=
  bT (d_X1_may s0 M) fun r16 M17 => 
  if w32 v3 < w32 (m_i M17 100 v0 0) then
    B_X1_release_44 v0 v1 v3 v4 0 M17
  else
    B_X1_release_44 v0 v1 v3 v4 1 M17
def d_X1_release (v0 : Nat) (v1 : Int) (v2 : Int) (v3 : Int) (M : Mem) : Option ((Int ⊕ Nat) × Mem) :=
  bT (d_X1_personIn v0 v1 M) fun r1 M2 => 
  bT (d_X1_tableOf v0 v2 M2) fun r7 M8 => 
  if m_kd M8 r7 = 11 then 
  if inb v1 12 then 
  if w32 (a32 (m_i M8 140 v0 (ixn v1)) 1) = 0 then
    B_X1_release_28 v0 v1 v3 r7 0 M8
  else
    B_X1_release_28 v0 v1 v3 r7 1 M8 else none else none
theorem cB_X1_release_61 {X : x_Ctx} {M0 : Mem} (C : x_CC X 8 139 yX1_release cX1_release 5 (some .int) [])  (v0 : Nat) (v1 : Int) (v3 : Int) (v4 : Nat) (s0 : Int) (M : Mem) (r : Int ⊕ Nat) (M' : Mem) (hv0 : m_kd M v0 = 1) (hv4 : m_kd M v4 = 11) (h : B_X1_release_61  v0 v1 v3 v4 s0 M = some (r, M')) (hR : ocN r 2 2 ≤ (XR X).cells ∧ ocN r 17 17 ≤ (XR X).slots) : x_Z X 0 0 (x_QF X M0 (ocI r) M' (ocN r 2 2) (ocN r 17 17)) M0 M 5 [(0, .ref v0), (1, vI v1), (3, vI v3), (4, .ref v4)] 61 [vI s0] := by
  unfold B_X1_release_61 at h
  rcases bTs h with ⟨x36, e34, er⟩ | ⟨r32, M33, e34, h⟩
  · subst er; exact tX1_176 (pc := 61) C rfl (rm := { frames := 6, cells := 1, slots := 6, locals := 90 }) (ct_X1_room C.2.1 s0 M _ _  e34) ⟨by decide, by decide, Nat.le_trans (show 1 ≤ 2 from by decide) hR.1, Nat.le_trans (show 6 ≤ 17 from by decide) hR.2⟩ (Nat.le_of_ble_eq_true rfl) dX1_release_61 (by decide) (show 1 ≤ 2 from by decide) (show 6 ≤ 17 from by decide)
  refine cX1_176 (pc := 61) (st := []) (st1 := []) C rfl (rm := { frames := 6, cells := 0, slots := 0, locals := 90 }) (ct_X1_room C.2.1 s0 M _ _  e34) ⟨by decide, by decide, Nat.zero_le _, Nat.zero_le _⟩ rfl (Nat.le_of_ble_eq_true rfl) dX1_release_61 (c2 := 0) (s2 := 0) rfl rfl (fun x35 => ?_)
  have k37 := x35 _ 1 (by decide) (Or.inl (by decide)) hv0
  have k38 := x35 _ 11 (by decide) (Or.inl (by decide)) hv4
  refine z_aload_n (pc := 64) C 0 rfl dX1_release_64 ?_
  refine gX1_142 (pc := 65) C rfl k37 dX1_release_65 ?_
  refine z_aload_n (pc := 68) C 0 rfl dX1_release_68 ?_
  refine gX1_141 (pc := 69) C rfl (Or.inl k37) rfl dX1_release_69 ?_
  refine nX1_12 (pc := 72) C rfl (a := m_sz M33) (Nat.le_trans (ocN_le (show 1 ≤ 2 from by decide) (show 1 ≤ 2 from by decide)) hR.1) (Nat.le_trans (ocN_le (show 5 ≤ 17 from by decide) (show 5 ≤ 17 from by decide)) hR.2) dX1_release_72 (c2 := 1) (s2 := 5) rfl rfl rfl (fun k39 x40 => ?_)
  have k41 := x40.k k37 (by decide)
  have k42 := x40.k k37 (by decide)
  have k43 := x40.k k38 (by decide)
  refine z_dup (pc := 75) C rfl dX1_release_75 ?_
  refine z_iload_n (pc := 76) C 1 rfl dX1_release_76 ?_
  refine z_iload_n (pc := 77) C 2 rfl dX1_release_77 ?_
  refine z_aload (pc := 78) C 3 rfl dX1_release_78 ?_
  obtain ⟨r44, M45, e46, h⟩ := bNs h
  refine cX1_589 (pc := 80) (st := [.ref (m_sz M33), vI (m_i M33 141 v0 0), .ref (v0 + 49)]) C rfl (rm := { frames := 1, cells := 1, slots := 12, locals := 24 }) (ct_X12_init C.2.1 (m_sz M33) v1 v3 v4 (m_nw M33 112) _ _ k39 k43 e46) ⟨by decide, by decide, Nat.le_trans (ocN_le (show 2 ≤ 2 from by decide) (show 2 ≤ 2 from by decide)) hR.1, Nat.le_trans (ocN_le (show 17 ≤ 17 from by decide) (show 17 ≤ 17 from by decide)) hR.2⟩ (Nat.le_of_ble_eq_true rfl) dX1_release_80 (c2 := 2) (s2 := 17) rfl rfl (fun x47 => ?_)
  have k48 := x47 _ 1 (by decide) (Or.inl (by decide)) k41
  obtain ⟨c49, h⟩ := ifn h
  have k50 := x47 _ 1 (by decide) (Or.inl (by decide)) k42
  obtain ⟨c51, h⟩ := ifn h
  refine z_asO (pc := 83) (k := 1) (j := 42) C 142 rfl (by decide) (by decide) (by decide) rfl rfl rfl (by decide) rfl (by decide) (by decide) (by decide) rfl k48 c51 c49 (by unfold x_rk; decide) dX1_release_83 ?_
  refine z_aload_n (pc := 84) C 0 rfl dX1_release_84 ?_
  refine z_dup (pc := 85) C rfl dX1_release_85 ?_
  refine gX1_141 (pc := 86) C rfl (Or.inl k50) (x := m_i M45 141 v0 0) (m_i_sr.trans rfl) dX1_release_86 ?_
  refine z_dupx1 (pc := 89) C rfl rfl dX1_release_89 ?_
  refine z_iconst (pc := 90) C dX1_release_90 ?_
  refine z_iadd (pc := 91) C dX1_release_91 ?_
  refine pX1_141 (pc := 92) C rfl (Or.inl k50) dX1_release_92 ?_
  cases h
  exact z_iret (pc := 95) C rfl (show 2 ≤ 2 from by decide) (show 17 ≤ 17 from by decide) dX1_release_95
theorem cB_X1_release_44 {X : x_Ctx} {M0 : Mem} (C : x_CC X 8 139 yX1_release cX1_release 5 (some .int) [])  (v0 : Nat) (v1 : Int) (v3 : Int) (v4 : Nat) (s0 : Int) (M : Mem) (r : Int ⊕ Nat) (M' : Mem) (hv0 : m_kd M v0 = 1) (hv4 : m_kd M v4 = 11) (h : B_X1_release_44  v0 v1 v3 v4 s0 M = some (r, M')) (hR : ocN r 2 2 ≤ (XR X).cells ∧ ocN r 17 17 ≤ (XR X).slots) : x_Z X 0 0 (x_QF X M0 (ocI r) M' (ocN r 2 2) (ocN r 17 17)) M0 M 5 [(0, .ref v0), (1, vI v1), (3, vI v3), (4, .ref v4)] 44 [vI s0] := by
  unfold B_X1_release_44 at h
  rcases bTs h with ⟨x28, e26, er⟩ | ⟨r24, M25, e26, h⟩
  · subst er; exact tX1_164 (pc := 44) C rfl (rm := { frames := 6, cells := 1, slots := 6, locals := 90 }) (ct_X1_need C.2.1 s0 M _ _  e26) ⟨by decide, by decide, Nat.le_trans (show 1 ≤ 2 from by decide) hR.1, Nat.le_trans (show 6 ≤ 17 from by decide) hR.2⟩ (Nat.le_of_ble_eq_true rfl) dX1_release_44 (by decide) (show 1 ≤ 2 from by decide) (show 6 ≤ 17 from by decide)
  refine cX1_164 (pc := 44) (st := []) (st1 := []) C rfl (rm := { frames := 6, cells := 0, slots := 0, locals := 90 }) (ct_X1_need C.2.1 s0 M _ _  e26) ⟨by decide, by decide, Nat.zero_le _, Nat.zero_le _⟩ rfl (Nat.le_of_ble_eq_true rfl) dX1_release_44 (c2 := 0) (s2 := 0) rfl rfl (fun x27 => ?_)
  have k29 := x27 _ 1 (by decide) (Or.inl (by decide)) hv0
  have k30 := x27 _ 11 (by decide) (Or.inl (by decide)) hv4
  refine z_aload_n (pc := 47) C 0 rfl dX1_release_47 ?_
  refine gX1_141 (pc := 48) C rfl (Or.inl k29) rfl dX1_release_48 ?_
  refine z_bipush (pc := 51) C (by decide +kernel) dX1_release_51 ?_
  refine z_ic_ge (pc := 53) C dX1_release_53 (tgt := 60) (by decide) (fun c31 => ?_) (fun c31 => ?_)
  · have h := itt c31 h
    refine z_iconst (pc := 60) C dX1_release_60 ?_
    exact cB_X1_release_61 C v0 v1 v3 v4 0 M25 _ _ k29 k30 h hR
  · have h := itf c31 h
    refine z_iconst (pc := 56) C dX1_release_56 ?_
    refine z_goto (pc := 57) C dX1_release_57 (tgt := 61) (by decide) ?_
    exact cB_X1_release_61 C v0 v1 v3 v4 1 M25 _ _ k29 k30 h hR
theorem cB_X1_release_28 {X : x_Ctx} {M0 : Mem} (C : x_CC X 8 139 yX1_release cX1_release 5 (some .int) [])  (v0 : Nat) (v1 : Int) (v3 : Int) (v4 : Nat) (s0 : Int) (M : Mem) (r : Int ⊕ Nat) (M' : Mem) (hv0 : m_kd M v0 = 1) (hv4 : m_kd M v4 = 11) (h : B_X1_release_28  v0 v1 v3 v4 s0 M = some (r, M')) (hR : ocN r 2 2 ≤ (XR X).cells ∧ ocN r 17 17 ≤ (XR X).slots) : x_Z X 0 0 (x_QF X M0 (ocI r) M' (ocN r 2 2) (ocN r 17 17)) M0 M 5 [(0, .ref v0), (1, vI v1), (3, vI v3), (4, .ref v4)] 28 [vI s0] := by
  unfold B_X1_release_28 at h
  rcases bTs h with ⟨x20, e18, er⟩ | ⟨r16, M17, e18, h⟩
  · subst er; exact tX1_190 (pc := 28) C rfl (rm := { frames := 6, cells := 1, slots := 6, locals := 90 }) (ct_X1_may C.2.1 s0 M _ _  e18) ⟨by decide, by decide, Nat.le_trans (show 1 ≤ 2 from by decide) hR.1, Nat.le_trans (show 6 ≤ 17 from by decide) hR.2⟩ (Nat.le_of_ble_eq_true rfl) dX1_release_28 (by decide) (show 1 ≤ 2 from by decide) (show 6 ≤ 17 from by decide)
  refine cX1_190 (pc := 28) (st := []) (st1 := []) C rfl (rm := { frames := 6, cells := 0, slots := 0, locals := 90 }) (ct_X1_may C.2.1 s0 M _ _  e18) ⟨by decide, by decide, Nat.zero_le _, Nat.zero_le _⟩ rfl (Nat.le_of_ble_eq_true rfl) dX1_release_28 (c2 := 0) (s2 := 0) rfl rfl (fun x19 => ?_)
  have k21 := x19 _ 1 (by decide) (Or.inl (by decide)) hv0
  have k22 := x19 _ 11 (by decide) (Or.inl (by decide)) hv4
  refine z_iload_n (pc := 31) C 2 rfl dX1_release_31 ?_
  refine z_aload_n (pc := 32) C 0 rfl dX1_release_32 ?_
  refine gX1_100 (pc := 33) C rfl (Or.inl k21) rfl dX1_release_33 ?_
  refine z_ic_lt (pc := 36) C dX1_release_36 (tgt := 43) (by decide) (fun c23 => ?_) (fun c23 => ?_)
  · have h := itt c23 h
    refine z_iconst (pc := 43) C dX1_release_43 ?_
    exact cB_X1_release_44 C v0 v1 v3 v4 0 M17 _ _ k21 k22 h hR
  · have h := itf c23 h
    refine z_iconst (pc := 39) C dX1_release_39 ?_
    refine z_goto (pc := 40) C dX1_release_40 (tgt := 44) (by decide) ?_
    exact cB_X1_release_44 C v0 v1 v3 v4 1 M17 _ _ k21 k22 h hR
theorem ct_X1_release {l : Launch} {S0 : State} {D : va_G} {cA : Nat → ClassId} (hG : x_G l S0 D cA) (v0 : Nat) (v1 : Int) (v2 : Int) (v3 : Int) (M : Mem) (r : Int ⊕ Nat) (M' : Mem) (hv0 : m_kd M v0 = 1) (h : d_X1_release v0 v1 v2 v3 M = some (r, M')) : x_Me l S0 D cA yX1_release cX1_release 5 (some .int) [] ({ frames := 8, cells := (ocN r 2 2), slots := (ocN r 17 17), locals := 139 }) [.ref v0, vI v1, vI v2, vI v3] M (ocI r) M' := by
  refine x_begin (F := 8) (Lo := 139) (mc := (ocN r 2 2)) (ms := (ocN r 17 17)) hG (Nat.le_of_ble_eq_true rfl) (lv := [(0, .ref v0), (1, vI v1), (2, vI v2), (3, vI v3)]) rfl rfl rfl rfl rfl (fun X e1 e2 e3 e4 e5 C => ?_)
  have hR : _ ∧ _ := ⟨Nat.le_of_eq (congrArg Room.cells e5).symm, Nat.le_of_eq (congrArg Room.slots e5).symm⟩
  unfold d_X1_release at h
  refine z_aload_n (pc := 0) C 0 rfl dX1_release_0 ?_
  refine z_iload_n (pc := 1) C 1 rfl dX1_release_1 ?_
  rcases bTs h with ⟨x5, e3, er⟩ | ⟨r1, M2, e3, h⟩
  · subst er; exact tX1_583 (pc := 2) C rfl (rm := { frames := 7, cells := 1, slots := 6, locals := 114 }) (ct_X1_personIn C.2.1 v0 v1 M _ _ hv0 e3) ⟨by decide, by decide, Nat.le_trans (show 1 ≤ 2 from by decide) hR.1, Nat.le_trans (show 6 ≤ 17 from by decide) hR.2⟩ (Or.inl hv0) (Nat.le_of_ble_eq_true rfl) dX1_release_2 (by decide) (show 1 ≤ 2 from by decide) (show 6 ≤ 17 from by decide)
  refine cX1_583 (pc := 2) (st := []) (st1 := []) C rfl (rm := { frames := 7, cells := 0, slots := 0, locals := 114 }) (ct_X1_personIn C.2.1 v0 v1 M _ _ hv0 e3) ⟨by decide, by decide, Nat.zero_le _, Nat.zero_le _⟩ (Or.inl hv0) rfl (Nat.le_of_ble_eq_true rfl) dX1_release_2 (c2 := 0) (s2 := 0) rfl rfl (fun x4 => ?_)
  have k6 := x4 _ 1 (by decide) (Or.inl (by decide)) hv0
  refine z_aload_n (pc := 5) C 0 rfl dX1_release_5 ?_
  refine z_iload_n (pc := 6) C 2 rfl dX1_release_6 ?_
  rcases bTs h with ⟨x11, e9, er⟩ | ⟨r7, M8, e9, h⟩
  · subst er; exact tX1_509 (pc := 7) C rfl (rm := { frames := 7, cells := 1, slots := 6, locals := 114 }) (ct_X1_tableOf C.2.1 v0 v2 M2 _ _ k6 e9) ⟨by decide, by decide, Nat.le_trans (show 1 ≤ 2 from by decide) hR.1, Nat.le_trans (show 6 ≤ 17 from by decide) hR.2⟩ (Or.inl k6) (Nat.le_of_ble_eq_true rfl) dX1_release_7 (by decide) (show 1 ≤ 2 from by decide) (show 6 ≤ 17 from by decide)
  refine cX1_509 (pc := 7) (st := []) (st1 := [.ref r7]) C rfl (rm := { frames := 7, cells := 0, slots := 0, locals := 114 }) (ct_X1_tableOf C.2.1 v0 v2 M2 _ _ k6 e9) ⟨by decide, by decide, Nat.zero_le _, Nat.zero_le _⟩ (Or.inl k6) rfl (Nat.le_of_ble_eq_true rfl) dX1_release_7 (c2 := 0) (s2 := 0) rfl rfl (fun x10 => ?_)
  have k12 := x10 _ 1 (by decide) (Or.inl (by decide)) k6
  obtain ⟨c13, h⟩ := ifn h
  refine z_astore (pc := 10) C (lv' := [(0, .ref v0), (1, vI v1), (2, vI v2), (3, vI v3), (4, .ref r7)]) (by decide) rfl dX1_release_10 ?_
  refine z_aload_n (pc := 12) C 0 rfl dX1_release_12 ?_
  refine gX1_140 (pc := 13) C rfl k12 dX1_release_13 ?_
  refine z_iload_n (pc := 16) C 1 rfl dX1_release_16 ?_
  obtain ⟨c14, h⟩ := ifn h
  refine z_iaO (pc := 17) (k := 1) (j := 40) C 140 rfl (by decide) (by decide) (by decide) rfl rfl rfl rfl k12 c14 rfl dX1_release_17 ?_
  refine z_iconst (pc := 18) C dX1_release_18 ?_
  refine z_iand (pc := 19) C dX1_release_19 ?_
  refine z_if_eq (pc := 20) C dX1_release_20 (tgt := 27) (by decide) (fun c15 => ?_) (fun c15 => ?_)
  · have h := itt c15 h
    refine z_iconst (pc := 27) C dX1_release_27 ?_
    exact z_lv [0, 1, 3, 4] rfl <| cB_X1_release_28 C v0 v1 v3 r7 0 M8 _ _ k12 c13 h hR
  · have h := itf c15 h
    refine z_iconst (pc := 23) C dX1_release_23 ?_
    refine z_goto (pc := 24) C dX1_release_24 (tgt := 28) (by decide) ?_
    exact z_lv [0, 1, 3, 4] rfl <| cB_X1_release_28 C v0 v1 v3 r7 1 M8 _ _ k12 c13 h hR
def d_X0_release (v0 : Nat) (v1 : Int) (v2 : Int) (v3 : Int) (v4 : Nat) (M : Mem) : Option (Int × Mem) :=
  bC (d_X1_release v0 v1 v2 v3 M) (fun r1 M3 =>
    some (0, (m_si M3 9000 v4 (ixn 0) (w32 r1)))) (fun q2 M3 =>
    if m_kd M3 q2 = 115 then
      some (1, M3)
    else
      if m_kd M3 q2 = 116 then
        some (2, M3)
      else
        if m_kd M3 q2 = 113 then
          some (3, M3)
        else
          if m_kd M3 q2 = 114 then
            some (4, M3)
          else
            none)
theorem ct_X0_release {l : Launch} {S0 : State} {D : va_G} {cA : Nat → ClassId} (hG : x_G l S0 D cA) (v0 : Nat) (v1 : Int) (v2 : Int) (v3 : Int) (v4 : Nat) (M : Mem) (r : Int) (M' : Mem) (hv0 : m_kd M v0 = 1) (hv4 : m_kd M v4 = 19000) (h : d_X0_release v0 v1 v2 v3 v4 M = some (r, M')) : x_Me l S0 D cA yX0_release cX0_release 6 (some .int) [(0, 12, 15, 25), (0, 12, 19, 27), (0, 12, 23, 13), (0, 12, 27, 19)] ({ frames := 9, cells := 2, slots := 17, locals := 167 }) [.ref v0, vI v1, vI v2, vI v3, .ref v4] M (.returned (some (vI r))) M' := by
  refine x_begin (F := 9) (Lo := 167) (mc := 2) (ms := 17) hG (Nat.le_of_ble_eq_true rfl) (lv := [(0, .ref v0), (1, vI v1), (2, vI v2), (3, vI v3), (4, .ref v4)]) rfl rfl rfl rfl rfl (fun X e1 e2 e3 e4 e5 C => ?_)
  have hR : _ ∧ _ := ⟨Nat.le_of_eq (congrArg Room.cells e5).symm, Nat.le_of_eq (congrArg Room.slots e5).symm⟩
  unfold d_X0_release at h
  refine z_aload (pc := 0) C 4 rfl dX0_release_0 ?_
  refine z_iconst (pc := 2) C dX0_release_2 ?_
  refine z_aload_n (pc := 3) C 0 rfl dX0_release_3 ?_
  refine z_iload_n (pc := 4) C 1 rfl dX0_release_4 ?_
  refine z_iload_n (pc := 5) C 2 rfl dX0_release_5 ?_
  refine z_iload_n (pc := 6) C 3 rfl dX0_release_6 ?_
  rcases bCs h with ⟨r1, M3, e4, h⟩ | ⟨q2, M3, e4, h⟩
  · refine cX0_129 (pc := 7) (st := [vI 0, .ref v4]) (st1 := [vI r1, vI 0, .ref v4]) C rfl (rm := { frames := 8, cells := 2, slots := 17, locals := 139 }) (ct_X1_release C.2.1 v0 v1 v2 v3 M _ _ hv0 e4) ⟨by decide, by decide, Nat.le_trans (show 2 ≤ 2 from by decide) hR.1, Nat.le_trans (show 17 ≤ 17 from by decide) hR.2⟩ (Or.inl hv0) rfl (Nat.le_of_ble_eq_true rfl) dX0_release_7 (c2 := 2) (s2 := 17) rfl rfl (fun x5 => ?_)
    have k6 := x5 _ 19000 (by decide) (Or.inr (by decide)) hv4
    refine z_i2l (pc := 10) C dX0_release_10 ?_
    refine z_lsw (pc := 11) C k6 (by decide +kernel) dX0_release_11 ?_
    refine z_goto (pc := 12) C dX0_release_12 (tgt := 31) (by decide) ?_
    refine z_iconst (pc := 31) C dX0_release_31 ?_
    cases h
    exact z_iret (pc := 32) C rfl (show 2 ≤ 2 from by decide) (show 17 ≤ 17 from by decide) dX0_release_32
  · by_cases c7 : m_kd M3 q2 = 115
    · have h := itt c7 h
      refine kX0_129 (pc := 7) (st := [vI 0, .ref v4]) C rfl (rm := { frames := 8, cells := 2, slots := 17, locals := 139 }) (r := q2) (ct_X1_release C.2.1 v0 v1 v2 v3 M _ _ hv0 e4) ⟨by decide, by decide, Nat.le_trans (show 2 ≤ 2 from by decide) hR.1, Nat.le_trans (show 17 ≤ 17 from by decide) hR.2⟩ (Or.inl hv0) (Nat.le_of_ble_eq_true rfl) dX0_release_7 (e := 15) (hpc := 15) (by decide) (Or.inr c7) (Or.inr ⟨by decide, by decide, 15, by decide, q560, Or.inl ⟨rfl, rfl⟩⟩) (c2 := 2) (s2 := 17) rfl rfl (fun x8 => ?_)
      refine z_astore (pc := 15) C (lv' := [(0, .ref v0), (1, vI v1), (2, vI v2), (3, vI v3), (4, .ref v4), (5, .ref q2)]) (by decide) rfl dX0_release_15 ?_
      refine z_iconst (pc := 17) C dX0_release_17 ?_
      cases h
      exact z_iret (pc := 18) C rfl (show 2 ≤ 2 from by decide) (show 17 ≤ 17 from by decide) dX0_release_18
    · have h := itf c7 h
      by_cases c9 : m_kd M3 q2 = 116
      · have h := itt c9 h
        refine kX0_129 (pc := 7) (st := [vI 0, .ref v4]) C rfl (rm := { frames := 8, cells := 2, slots := 17, locals := 139 }) (r := q2) (ct_X1_release C.2.1 v0 v1 v2 v3 M _ _ hv0 e4) ⟨by decide, by decide, Nat.le_trans (show 2 ≤ 2 from by decide) hR.1, Nat.le_trans (show 17 ≤ 17 from by decide) hR.2⟩ (Or.inl hv0) (Nat.le_of_ble_eq_true rfl) dX0_release_7 (e := 16) (hpc := 19) (by decide) (Or.inr c9) (Or.inr ⟨by decide, by decide, 15, by decide, q560, Or.inr ⟨by decide, Or.inr ⟨by decide, by decide, 16, by decide, q584, Or.inl ⟨rfl, rfl⟩⟩⟩⟩) (c2 := 2) (s2 := 17) rfl rfl (fun x10 => ?_)
        refine z_astore (pc := 19) C (lv' := [(0, .ref v0), (1, vI v1), (2, vI v2), (3, vI v3), (4, .ref v4), (5, .ref q2)]) (by decide) rfl dX0_release_19 ?_
        refine z_iconst (pc := 21) C dX0_release_21 ?_
        cases h
        exact z_iret (pc := 22) C rfl (show 2 ≤ 2 from by decide) (show 17 ≤ 17 from by decide) dX0_release_22
      · have h := itf c9 h
        by_cases c11 : m_kd M3 q2 = 113
        · have h := itt c11 h
          refine kX0_129 (pc := 7) (st := [vI 0, .ref v4]) C rfl (rm := { frames := 8, cells := 2, slots := 17, locals := 139 }) (r := q2) (ct_X1_release C.2.1 v0 v1 v2 v3 M _ _ hv0 e4) ⟨by decide, by decide, Nat.le_trans (show 2 ≤ 2 from by decide) hR.1, Nat.le_trans (show 17 ≤ 17 from by decide) hR.2⟩ (Or.inl hv0) (Nat.le_of_ble_eq_true rfl) dX0_release_7 (e := 13) (hpc := 23) (by decide) (Or.inr c11) (Or.inr ⟨by decide, by decide, 15, by decide, q560, Or.inr ⟨by decide, Or.inr ⟨by decide, by decide, 16, by decide, q584, Or.inr ⟨by decide, Or.inr ⟨by decide, by decide, 13, by decide, q447, Or.inl ⟨rfl, rfl⟩⟩⟩⟩⟩⟩) (c2 := 2) (s2 := 17) rfl rfl (fun x12 => ?_)
          refine z_astore (pc := 23) C (lv' := [(0, .ref v0), (1, vI v1), (2, vI v2), (3, vI v3), (4, .ref v4), (5, .ref q2)]) (by decide) rfl dX0_release_23 ?_
          refine z_iconst (pc := 25) C dX0_release_25 ?_
          cases h
          exact z_iret (pc := 26) C rfl (show 2 ≤ 2 from by decide) (show 17 ≤ 17 from by decide) dX0_release_26
        · have h := itf c11 h
          by_cases c13 : m_kd M3 q2 = 114
          · have h := itt c13 h
            refine kX0_129 (pc := 7) (st := [vI 0, .ref v4]) C rfl (rm := { frames := 8, cells := 2, slots := 17, locals := 139 }) (r := q2) (ct_X1_release C.2.1 v0 v1 v2 v3 M _ _ hv0 e4) ⟨by decide, by decide, Nat.le_trans (show 2 ≤ 2 from by decide) hR.1, Nat.le_trans (show 17 ≤ 17 from by decide) hR.2⟩ (Or.inl hv0) (Nat.le_of_ble_eq_true rfl) dX0_release_7 (e := 14) (hpc := 27) (by decide) (Or.inr c13) (Or.inr ⟨by decide, by decide, 15, by decide, q560, Or.inr ⟨by decide, Or.inr ⟨by decide, by decide, 16, by decide, q584, Or.inr ⟨by decide, Or.inr ⟨by decide, by decide, 13, by decide, q447, Or.inr ⟨by decide, Or.inr ⟨by decide, by decide, 14, by decide, q533, Or.inl ⟨rfl, rfl⟩⟩⟩⟩⟩⟩⟩⟩) (c2 := 2) (s2 := 17) rfl rfl (fun x14 => ?_)
            refine z_astore (pc := 27) C (lv' := [(0, .ref v0), (1, vI v1), (2, vI v2), (3, vI v3), (4, .ref v4), (5, .ref q2)]) (by decide) rfl dX0_release_27 ?_
            refine z_iconst (pc := 29) C dX0_release_29 ?_
            cases h
            exact z_iret (pc := 30) C rfl (show 2 ≤ 2 from by decide) (show 17 ≤ 17 from by decide) dX0_release_30
          · have h := itf c13 h
            cases h
def B_X1_look_234  (v0 : Nat) (v1 : Int) (v2 : Int) (v3 : Int) (v4 : Int) (v7 : Int) (M : Mem) : Option ((Int ⊕ Nat) × Mem) :=
  if inb (6 * (m_i M 143 v0 0)) 3000 then 
  if inb ((6 * (m_i M 143 v0 0)) + 1) 3000 then 
  if inb ((6 * (m_i M 143 v0 0)) + 2) 3000 then 
  if inb ((6 * (m_i M 143 v0 0)) + 3) 3000 then 
  if inb ((6 * (m_i M 143 v0 0)) + 4) 3000 then 
  if inb ((6 * (m_i M 143 v0 0)) + 5) 3000 then 
  some (.inl v7, (m_si (m_si (m_si (m_si (m_si (m_si (m_si M 144 v0 (ixn (6 * (m_i M 143 v0 0))) v1) 144 v0 (ixn ((6 * (m_i M 143 v0 0)) + 1)) v2) 144 v0 (ixn ((6 * (m_i M 143 v0 0)) + 2)) v3) 144 v0 (ixn ((6 * (m_i M 143 v0 0)) + 3)) v4) 144 v0 (ixn ((6 * (m_i M 143 v0 0)) + 4)) v7) 144 v0 (ixn ((6 * (m_i M 143 v0 0)) + 5)) (m_i M 100 v0 0)) 143 v0 0 ((m_i M 143 v0 0) + 1))) else none else none else none else none else none else none
def B_X1_look_215  (v0 : Nat) (v1 : Int) (v2 : Int) (v3 : Int) (v4 : Int) (v5 : Nat) (M : Mem) : Option ((Int ⊕ Nat) × Mem) :=
  bR (m_r M 1202 v5 0) fun q67 => 
  bR (d_X11_told q67 (v5 + 1) v3 v4 0 M) fun r71 => 
  B_X1_look_234 v0 v1 v2 v3 v4 r71 M
def B_X1_look_152  (v0 : Nat) (v1 : Int) (v2 : Int) (v3 : Int) (v4 : Int) (v5 : Nat) (v6 : Int) (M : Mem) : Option ((Int ⊕ Nat) × Mem) :=
  if inb v1 12 then 
  if w32 (m_i M 140 v0 (ixn v1)) = 0 then
    B_X1_look_234 v0 v1 v2 v3 v4 (-13) M
  else
    if w32 v6 = 0 then
      B_X1_look_215 v0 v1 v2 v3 v4 v5 M
    else
      bR (m_r M 1202 v5 0) fun q79 => 
      if w32 (a32 (s32 (m_i M 1203 v5 0) ((v3 * (m_i M 1101 q79 0)) + v4)) 1) = 0 then
        B_X1_look_215 v0 v1 v2 v3 v4 v5 M
      else
        if w32 (a32 (m_i M 140 v0 (ixn v1)) 4) = 0 then
          B_X1_look_234 v0 v1 v2 v3 v4 (-14) M
        else
          B_X1_look_215 v0 v1 v2 v3 v4 v5 M else none
def B_X1_look_122  (v0 : Nat) (v1 : Int) (v2 : Int) (v3 : Int) (v4 : Int) (v5 : Nat) (s0 : Int) (M : Mem) : Option ((Int ⊕ Nat) × Mem) :=
  if w32 (m_i M 1201 v5 0) ≤ w32 (m_i M 100 v0 0) then
    B_X1_look_152 v0 v1 v2 v3 v4 v5 s0 M
  else
    if w32 v1 = w32 (m_i M 1200 v5 0) then
      B_X1_look_152 v0 v1 v2 v3 v4 v5 s0 M
    else
      B_X1_look_234 v0 v1 v2 v3 v4 (-12) M
def B_X1_look_121  (v0 : Nat) (v1 : Int) (v2 : Int) (v3 : Int) (v4 : Int) (v5 : Nat) (M : Mem) : Option ((Int ⊕ Nat) × Mem) :=
  B_X1_look_122 v0 v1 v2 v3 v4 v5 0 M
def B_X1_look_89  (v0 : Nat) (v1 : Int) (v2 : Int) (v3 : Int) (v4 : Int) (v5 : Nat) (s0 : Int) (M : Mem) : Option ((Int ⊕ Nat) × Mem) :=
  bT (d_X1_room s0 M) fun r52 M53 => 
  bR (m_r M53 1202 v5 0) fun q59 => 
  if w32 (m_i M53 1100 q59 0) ≤ w32 v3 then
    B_X1_look_121 v0 v1 v2 v3 v4 v5 M53
  else
    bR (m_r M53 1202 v5 0) fun q85 => 
    if w32 (m_i M53 1101 q85 0) ≤ w32 v4 then
      B_X1_look_121 v0 v1 v2 v3 v4 v5 M53
    else
      B_X1_look_122 v0 v1 v2 v3 v4 v5 1 M53
def B_X1_look_71  (v0 : Nat) (v1 : Int) (v2 : Int) (v3 : Int) (v4 : Int) (v5 : Nat) (s0 : Int) (M : Mem) : Option ((Int ⊕ Nat) × Mem) :=
  bT (d_X1_inside s0 M) fun r44 M45 => 
  if w32 500 ≤ w32 (m_i M45 143 v0 0) then
    B_X1_look_89 v0 v1 v2 v3 v4 v5 0 M45
  else
    B_X1_look_89 v0 v1 v2 v3 v4 v5 1 M45
def B_X1_look_70  (v0 : Nat) (v1 : Int) (v2 : Int) (v3 : Int) (v4 : Int) (v5 : Nat) (M : Mem) : Option ((Int ⊕ Nat) × Mem) :=
  B_X1_look_71 v0 v1 v2 v3 v4 v5 0 M
def d_X1_look (v0 : Nat) (v1 : Int) (v2 : Int) (v3 : Int) (v4 : Int) (M : Mem) : Option ((Int ⊕ Nat) × Mem) :=
  bT (d_X1_personIn v0 v1 M) fun r22 M23 => 
  bT (d_X1_inside (d_X1_isIn (w32 v2) 0 (w32 ((m_i M23 141 v0 0) - 1))) M23) fun r29 M30 => 
  if inb v2 12 then 
  bR (m_r M30 142 v0 (ixn v2)) fun q36 => 
  bR (m_r M30 1202 q36 0) fun q39 => 
  if w32 (d_X1_isIn (w32 v3) 0 (w32 (m_i M30 1100 q39 0))) = 0 then
    B_X1_look_70 v0 v1 v2 v3 v4 q36 M30
  else
    bR (m_r M30 1202 q36 0) fun q89 => 
    if w32 (d_X1_isIn (w32 v4) 0 (w32 (m_i M30 1101 q89 0))) = 0 then
      B_X1_look_70 v0 v1 v2 v3 v4 q36 M30
    else
      B_X1_look_71 v0 v1 v2 v3 v4 q36 1 M30 else none
theorem cB_X1_look_234 {X : x_Ctx} {M0 : Mem} (C : x_CC X 8 139 yX1_look cX1_look 9 (some .int) [])  (v0 : Nat) (v1 : Int) (v2 : Int) (v3 : Int) (v4 : Int) (v7 : Int) (M : Mem) (r : Int ⊕ Nat) (M' : Mem) (hv0 : m_kd M v0 = 1) (h : B_X1_look_234  v0 v1 v2 v3 v4 v7 M = some (r, M')) (hR : ocN r 0 1 ≤ (XR X).cells ∧ ocN r 0 6 ≤ (XR X).slots) : x_Z X 0 0 (x_QF X M0 (ocI r) M' (ocN r 0 1) (ocN r 0 6)) M0 M 9 [(0, .ref v0), (1, vI v1), (2, vI v2), (3, vI v3), (4, vI v4), (7, vI v7)] 234 [] := by
  unfold B_X1_look_234 at h
  refine z_bipush (pc := 234) C (by decide +kernel) dX1_look_234 ?_
  refine z_aload_n (pc := 236) C 0 rfl dX1_look_236 ?_
  refine gX1_143 (pc := 237) C rfl (Or.inl hv0) rfl dX1_look_237 ?_
  refine z_imul (pc := 240) C dX1_look_240 ?_
  refine z_istore (pc := 241) C (lv' := [(0, .ref v0), (1, vI v1), (2, vI v2), (3, vI v3), (4, vI v4), (7, vI v7), (8, vI (6 * (m_i M 143 v0 0)))]) (by decide) rfl dX1_look_241 ?_
  refine z_aload_n (pc := 243) C 0 rfl dX1_look_243 ?_
  refine gX1_144 (pc := 244) C rfl hv0 dX1_look_244 ?_
  refine z_iload (pc := 247) C 6 rfl dX1_look_247 ?_
  refine z_iload_n (pc := 249) C 1 rfl dX1_look_249 ?_
  obtain ⟨c73, h⟩ := ifn h
  refine z_isO (pc := 250) (k := 1) (j := 44) C 144 rfl (by decide) (by decide) (by decide) rfl rfl rfl rfl hv0 c73 dX1_look_250 ?_
  refine z_aload_n (pc := 251) C 0 rfl dX1_look_251 ?_
  refine gX1_144 (pc := 252) C rfl hv0 dX1_look_252 ?_
  refine z_iload (pc := 255) C 6 rfl dX1_look_255 ?_
  refine z_iconst (pc := 257) C dX1_look_257 ?_
  refine z_iadd (pc := 258) C dX1_look_258 ?_
  refine z_iload_n (pc := 259) C 2 rfl dX1_look_259 ?_
  obtain ⟨c74, h⟩ := ifn h
  refine z_isO (pc := 260) (k := 1) (j := 44) C 144 rfl (by decide) (by decide) (by decide) rfl rfl rfl rfl hv0 c74 dX1_look_260 ?_
  refine z_aload_n (pc := 261) C 0 rfl dX1_look_261 ?_
  refine gX1_144 (pc := 262) C rfl hv0 dX1_look_262 ?_
  refine z_iload (pc := 265) C 6 rfl dX1_look_265 ?_
  refine z_iconst (pc := 267) C dX1_look_267 ?_
  refine z_iadd (pc := 268) C dX1_look_268 ?_
  refine z_iload_n (pc := 269) C 3 rfl dX1_look_269 ?_
  obtain ⟨c75, h⟩ := ifn h
  refine z_isO (pc := 270) (k := 1) (j := 44) C 144 rfl (by decide) (by decide) (by decide) rfl rfl rfl rfl hv0 c75 dX1_look_270 ?_
  refine z_aload_n (pc := 271) C 0 rfl dX1_look_271 ?_
  refine gX1_144 (pc := 272) C rfl hv0 dX1_look_272 ?_
  refine z_iload (pc := 275) C 6 rfl dX1_look_275 ?_
  refine z_iconst (pc := 277) C dX1_look_277 ?_
  refine z_iadd (pc := 278) C dX1_look_278 ?_
  refine z_iload (pc := 279) C 4 rfl dX1_look_279 ?_
  obtain ⟨c76, h⟩ := ifn h
  refine z_isO (pc := 281) (k := 1) (j := 44) C 144 rfl (by decide) (by decide) (by decide) rfl rfl rfl rfl hv0 c76 dX1_look_281 ?_
  refine z_aload_n (pc := 282) C 0 rfl dX1_look_282 ?_
  refine gX1_144 (pc := 283) C rfl hv0 dX1_look_283 ?_
  refine z_iload (pc := 286) C 6 rfl dX1_look_286 ?_
  refine z_iconst (pc := 288) C dX1_look_288 ?_
  refine z_iadd (pc := 289) C dX1_look_289 ?_
  refine z_iload (pc := 290) C 5 rfl dX1_look_290 ?_
  obtain ⟨c77, h⟩ := ifn h
  refine z_isO (pc := 292) (k := 1) (j := 44) C 144 rfl (by decide) (by decide) (by decide) rfl rfl rfl rfl hv0 c77 dX1_look_292 ?_
  refine z_aload_n (pc := 293) C 0 rfl dX1_look_293 ?_
  refine gX1_144 (pc := 294) C rfl hv0 dX1_look_294 ?_
  refine z_iload (pc := 297) C 6 rfl dX1_look_297 ?_
  refine z_iconst (pc := 299) C dX1_look_299 ?_
  refine z_iadd (pc := 300) C dX1_look_300 ?_
  refine z_aload_n (pc := 301) C 0 rfl dX1_look_301 ?_
  refine gX1_100 (pc := 302) C rfl (Or.inl hv0) (x := m_i M 100 v0 0) ((m_i_ne (by decide)).trans ((m_i_ne (by decide)).trans ((m_i_ne (by decide)).trans ((m_i_ne (by decide)).trans ((m_i_ne (by decide)).trans rfl))))) dX1_look_302 ?_
  obtain ⟨c78, h⟩ := ifn h
  refine z_isO (pc := 305) (k := 1) (j := 44) C 144 rfl (by decide) (by decide) (by decide) rfl rfl rfl rfl hv0 c78 dX1_look_305 ?_
  refine z_aload_n (pc := 306) C 0 rfl dX1_look_306 ?_
  refine z_dup (pc := 307) C rfl dX1_look_307 ?_
  refine gX1_143 (pc := 308) C rfl (Or.inl hv0) (x := m_i M 143 v0 0) ((m_i_ne (by decide)).trans ((m_i_ne (by decide)).trans ((m_i_ne (by decide)).trans ((m_i_ne (by decide)).trans ((m_i_ne (by decide)).trans ((m_i_ne (by decide)).trans rfl)))))) dX1_look_308 ?_
  refine z_iconst (pc := 311) C dX1_look_311 ?_
  refine z_iadd (pc := 312) C dX1_look_312 ?_
  refine pX1_143 (pc := 313) C rfl (Or.inl hv0) dX1_look_313 ?_
  refine z_iload (pc := 316) C 5 rfl dX1_look_316 ?_
  cases h
  exact z_iret (pc := 318) C rfl (show 0 ≤ 0 from by decide) (show 0 ≤ 0 from by decide) dX1_look_318
theorem cB_X1_look_215 {X : x_Ctx} {M0 : Mem} (C : x_CC X 8 139 yX1_look cX1_look 9 (some .int) [])  (v0 : Nat) (v1 : Int) (v2 : Int) (v3 : Int) (v4 : Int) (v5 : Nat) (M : Mem) (r : Int ⊕ Nat) (M' : Mem) (hv0 : m_kd M v0 = 1) (hv5 : m_kd M v5 = 12) (h : B_X1_look_215  v0 v1 v2 v3 v4 v5 M = some (r, M')) (hR : ocN r 0 1 ≤ (XR X).cells ∧ ocN r 0 6 ≤ (XR X).slots) : x_Z X 0 0 (x_QF X M0 (ocI r) M' (ocN r 0 1) (ocN r 0 6)) M0 M 9 [(0, .ref v0), (1, vI v1), (2, vI v2), (3, vI v3), (4, vI v4), (5, .ref v5)] 215 [] := by
  unfold B_X1_look_215 at h
  refine z_aload (pc := 215) C 5 rfl dX1_look_215 ?_
  obtain ⟨q67, e68, h⟩ := bRs h
  refine gX1_1202 (pc := 217) C rfl (Or.inl hv5) e68 dX1_look_217 (fun k69 => ?_)
  refine z_aload (pc := 220) C 5 rfl dX1_look_220 ?_
  refine gX1_1204 (pc := 222) C rfl hv5 dX1_look_222 ?_
  refine z_iload_n (pc := 225) C 3 rfl dX1_look_225 ?_
  refine z_iload (pc := 226) C 4 rfl dX1_look_226 ?_
  refine z_iconst (pc := 228) C dX1_look_228 ?_
  refine z_ia (k := 12) (j := 4) 1204 rfl (by decide) (by decide) (by decide) rfl rfl rfl hv5 (fun k70 => ?_)
  obtain ⟨r71, e72, h⟩ := bRs h
  refine cX1_516 (pc := 229) (st := []) (st1 := [vI r71]) C rfl (rm := { frames := 2, cells := 0, slots := 0, locals := 51 }) (ct_X11_told C.2.1 q67 (v5 + 1) v3 v4 0 M _ k69 k70.1 e72) ⟨by decide, by decide, Nat.zero_le _, Nat.zero_le _⟩ (Or.inl k69) rfl (Nat.le_of_ble_eq_true rfl) dX1_look_229 (c2 := 0) (s2 := 0) rfl rfl (fun _ => ?_)
  refine z_istore (pc := 232) C (lv' := [(0, .ref v0), (1, vI v1), (2, vI v2), (3, vI v3), (4, vI v4), (5, .ref v5), (7, vI r71)]) (by decide) rfl dX1_look_232 ?_
  exact z_lv [0, 1, 2, 3, 4, 6] rfl <| cB_X1_look_234 C v0 v1 v2 v3 v4 r71 M _ _ hv0 h hR
theorem cB_X1_look_152 {X : x_Ctx} {M0 : Mem} (C : x_CC X 8 139 yX1_look cX1_look 9 (some .int) [])  (v0 : Nat) (v1 : Int) (v2 : Int) (v3 : Int) (v4 : Int) (v5 : Nat) (v6 : Int) (M : Mem) (r : Int ⊕ Nat) (M' : Mem) (hv0 : m_kd M v0 = 1) (hv5 : m_kd M v5 = 12) (h : B_X1_look_152  v0 v1 v2 v3 v4 v5 v6 M = some (r, M')) (hR : ocN r 0 1 ≤ (XR X).cells ∧ ocN r 0 6 ≤ (XR X).slots) : x_Z X 0 0 (x_QF X M0 (ocI r) M' (ocN r 0 1) (ocN r 0 6)) M0 M 9 [(0, .ref v0), (1, vI v1), (2, vI v2), (3, vI v3), (4, vI v4), (5, .ref v5), (6, vI v6)] 152 [] := by
  unfold B_X1_look_152 at h
  refine z_aload_n (pc := 152) C 0 rfl dX1_look_152 ?_
  refine gX1_140 (pc := 153) C rfl hv0 dX1_look_153 ?_
  refine z_iload_n (pc := 156) C 1 rfl dX1_look_156 ?_
  obtain ⟨c64, h⟩ := ifn h
  refine z_iaO (pc := 157) (k := 1) (j := 40) C 140 rfl (by decide) (by decide) (by decide) rfl rfl rfl rfl hv0 c64 rfl dX1_look_157 ?_
  refine z_if_ne (pc := 158) C dX1_look_158 (tgt := 168) (by decide) (fun c65 => ?_) (fun c65 => ?_)
  · have h := itf c65 h
    refine z_iload (pc := 168) C 6 rfl dX1_look_168 ?_
    refine z_if_eq (pc := 170) C dX1_look_170 (tgt := 215) (by decide) (fun c66 => ?_) (fun c66 => ?_)
    · have h := itt c66 h
      exact z_lv [0, 1, 2, 3, 4, 5] rfl <| cB_X1_look_215 C v0 v1 v2 v3 v4 v5 M _ _ hv0 hv5 h hR
    · have h := itf c66 h
      refine z_aload (pc := 173) C 5 rfl dX1_look_173 ?_
      refine gX1_1203 (pc := 175) C rfl (Or.inl hv5) rfl dX1_look_175 ?_
      refine z_iload_n (pc := 178) C 3 rfl dX1_look_178 ?_
      refine z_aload (pc := 179) C 5 rfl dX1_look_179 ?_
      obtain ⟨q79, e80, h⟩ := bRs h
      refine gX1_1202 (pc := 181) C rfl (Or.inl hv5) e80 dX1_look_181 (fun k81 => ?_)
      refine gX1_1101 (pc := 184) C rfl (Or.inl k81) rfl dX1_look_184 ?_
      refine z_imul (pc := 187) C dX1_look_187 ?_
      refine z_iload (pc := 188) C 4 rfl dX1_look_188 ?_
      refine z_iadd (pc := 190) C dX1_look_190 ?_
      refine z_ishr (pc := 191) C dX1_look_191 ?_
      refine z_iconst (pc := 192) C dX1_look_192 ?_
      refine z_iand (pc := 193) C dX1_look_193 ?_
      refine z_if_eq (pc := 194) C dX1_look_194 (tgt := 215) (by decide) (fun c82 => ?_) (fun c82 => ?_)
      · have h := itt c82 h
        exact z_lv [0, 1, 2, 3, 4, 5] rfl <| cB_X1_look_215 C v0 v1 v2 v3 v4 v5 M _ _ hv0 hv5 h hR
      · have h := itf c82 h
        refine z_aload_n (pc := 197) C 0 rfl dX1_look_197 ?_
        refine gX1_140 (pc := 198) C rfl hv0 dX1_look_198 ?_
        refine z_iload_n (pc := 201) C 1 rfl dX1_look_201 ?_
        refine z_iaO (pc := 202) (k := 1) (j := 40) C 140 rfl (by decide) (by decide) (by decide) rfl rfl rfl rfl hv0 c64 rfl dX1_look_202 ?_
        refine z_iconst (pc := 203) C dX1_look_203 ?_
        refine z_iand (pc := 204) C dX1_look_204 ?_
        refine z_if_ne (pc := 205) C dX1_look_205 (tgt := 215) (by decide) (fun c83 => ?_) (fun c83 => ?_)
        · have h := itf c83 h
          exact z_lv [0, 1, 2, 3, 4, 5] rfl <| cB_X1_look_215 C v0 v1 v2 v3 v4 v5 M _ _ hv0 hv5 h hR
        · have h := itt c83 h
          refine z_bipush (pc := 208) C (by decide +kernel) dX1_look_208 ?_
          refine z_istore (pc := 210) C (lv' := [(0, .ref v0), (1, vI v1), (2, vI v2), (3, vI v3), (4, vI v4), (5, .ref v5), (6, vI v6), (7, vI (-14))]) (by decide) rfl dX1_look_210 ?_
          refine z_goto (pc := 212) C dX1_look_212 (tgt := 234) (by decide) ?_
          exact z_lv [0, 1, 2, 3, 4, 7] rfl <| cB_X1_look_234 C v0 v1 v2 v3 v4 (-14) M _ _ hv0 h hR
  · have h := itt c65 h
    refine z_bipush (pc := 161) C (by decide +kernel) dX1_look_161 ?_
    refine z_istore (pc := 163) C (lv' := [(0, .ref v0), (1, vI v1), (2, vI v2), (3, vI v3), (4, vI v4), (5, .ref v5), (6, vI v6), (7, vI (-13))]) (by decide) rfl dX1_look_163 ?_
    refine z_goto (pc := 165) C dX1_look_165 (tgt := 234) (by decide) ?_
    exact z_lv [0, 1, 2, 3, 4, 7] rfl <| cB_X1_look_234 C v0 v1 v2 v3 v4 (-13) M _ _ hv0 h hR
theorem cB_X1_look_122 {X : x_Ctx} {M0 : Mem} (C : x_CC X 8 139 yX1_look cX1_look 9 (some .int) [])  (v0 : Nat) (v1 : Int) (v2 : Int) (v3 : Int) (v4 : Int) (v5 : Nat) (s0 : Int) (M : Mem) (r : Int ⊕ Nat) (M' : Mem) (hv0 : m_kd M v0 = 1) (hv5 : m_kd M v5 = 12) (h : B_X1_look_122  v0 v1 v2 v3 v4 v5 s0 M = some (r, M')) (hR : ocN r 0 1 ≤ (XR X).cells ∧ ocN r 0 6 ≤ (XR X).slots) : x_Z X 0 0 (x_QF X M0 (ocI r) M' (ocN r 0 1) (ocN r 0 6)) M0 M 9 [(0, .ref v0), (1, vI v1), (2, vI v2), (3, vI v3), (4, vI v4), (5, .ref v5)] 122 [vI s0] := by
  unfold B_X1_look_122 at h
  refine z_istore (pc := 122) C (lv' := [(0, .ref v0), (1, vI v1), (2, vI v2), (3, vI v3), (4, vI v4), (5, .ref v5), (6, vI s0)]) (by decide) rfl dX1_look_122 ?_
  refine z_aload_n (pc := 124) C 0 rfl dX1_look_124 ?_
  refine gX1_100 (pc := 125) C rfl (Or.inl hv0) rfl dX1_look_125 ?_
  refine z_aload (pc := 128) C 5 rfl dX1_look_128 ?_
  refine gX1_1201 (pc := 130) C rfl (Or.inl hv5) rfl dX1_look_130 ?_
  refine z_ic_ge (pc := 133) C dX1_look_133 (tgt := 152) (by decide) (fun c63 => ?_) (fun c63 => ?_)
  · have h := itt c63 h
    exact cB_X1_look_152 C v0 v1 v2 v3 v4 v5 s0 M _ _ hv0 hv5 h hR
  · have h := itf c63 h
    refine z_iload_n (pc := 136) C 1 rfl dX1_look_136 ?_
    refine z_aload (pc := 137) C 5 rfl dX1_look_137 ?_
    refine gX1_1200 (pc := 139) C rfl (Or.inl hv5) rfl dX1_look_139 ?_
    refine z_ic_eq (pc := 142) C dX1_look_142 (tgt := 152) (by decide) (fun c84 => ?_) (fun c84 => ?_)
    · have h := itt c84 h
      exact cB_X1_look_152 C v0 v1 v2 v3 v4 v5 s0 M _ _ hv0 hv5 h hR
    · have h := itf c84 h
      refine z_bipush (pc := 145) C (by decide +kernel) dX1_look_145 ?_
      refine z_istore (pc := 147) C (lv' := [(0, .ref v0), (1, vI v1), (2, vI v2), (3, vI v3), (4, vI v4), (5, .ref v5), (6, vI s0), (7, vI (-12))]) (by decide) rfl dX1_look_147 ?_
      refine z_goto (pc := 149) C dX1_look_149 (tgt := 234) (by decide) ?_
      exact z_lv [0, 1, 2, 3, 4, 7] rfl <| cB_X1_look_234 C v0 v1 v2 v3 v4 (-12) M _ _ hv0 h hR
theorem cB_X1_look_121 {X : x_Ctx} {M0 : Mem} (C : x_CC X 8 139 yX1_look cX1_look 9 (some .int) [])  (v0 : Nat) (v1 : Int) (v2 : Int) (v3 : Int) (v4 : Int) (v5 : Nat) (M : Mem) (r : Int ⊕ Nat) (M' : Mem) (hv0 : m_kd M v0 = 1) (hv5 : m_kd M v5 = 12) (h : B_X1_look_121  v0 v1 v2 v3 v4 v5 M = some (r, M')) (hR : ocN r 0 1 ≤ (XR X).cells ∧ ocN r 0 6 ≤ (XR X).slots) : x_Z X 0 0 (x_QF X M0 (ocI r) M' (ocN r 0 1) (ocN r 0 6)) M0 M 9 [(0, .ref v0), (1, vI v1), (2, vI v2), (3, vI v3), (4, vI v4), (5, .ref v5)] 121 [] := by
  unfold B_X1_look_121 at h
  refine z_iconst (pc := 121) C dX1_look_121 ?_
  exact cB_X1_look_122 C v0 v1 v2 v3 v4 v5 0 M _ _ hv0 hv5 h hR
theorem cB_X1_look_89 {X : x_Ctx} {M0 : Mem} (C : x_CC X 8 139 yX1_look cX1_look 9 (some .int) [])  (v0 : Nat) (v1 : Int) (v2 : Int) (v3 : Int) (v4 : Int) (v5 : Nat) (s0 : Int) (M : Mem) (r : Int ⊕ Nat) (M' : Mem) (hv0 : m_kd M v0 = 1) (hv5 : m_kd M v5 = 12) (h : B_X1_look_89  v0 v1 v2 v3 v4 v5 s0 M = some (r, M')) (hR : ocN r 0 1 ≤ (XR X).cells ∧ ocN r 0 6 ≤ (XR X).slots) : x_Z X 0 0 (x_QF X M0 (ocI r) M' (ocN r 0 1) (ocN r 0 6)) M0 M 9 [(0, .ref v0), (1, vI v1), (2, vI v2), (3, vI v3), (4, vI v4), (5, .ref v5)] 89 [vI s0] := by
  unfold B_X1_look_89 at h
  rcases bTs h with ⟨x56, e54, er⟩ | ⟨r52, M53, e54, h⟩
  · subst er; exact tX1_176 (pc := 89) C rfl (rm := { frames := 6, cells := 1, slots := 6, locals := 90 }) (ct_X1_room C.2.1 s0 M _ _  e54) ⟨by decide, by decide, Nat.le_trans (show 1 ≤ 1 from by decide) hR.1, Nat.le_trans (show 6 ≤ 6 from by decide) hR.2⟩ (Nat.le_of_ble_eq_true rfl) dX1_look_89 (by decide) (show 1 ≤ 1 from by decide) (show 6 ≤ 6 from by decide)
  refine cX1_176 (pc := 89) (st := []) (st1 := []) C rfl (rm := { frames := 6, cells := 0, slots := 0, locals := 90 }) (ct_X1_room C.2.1 s0 M _ _  e54) ⟨by decide, by decide, Nat.zero_le _, Nat.zero_le _⟩ rfl (Nat.le_of_ble_eq_true rfl) dX1_look_89 (c2 := 0) (s2 := 0) rfl rfl (fun x55 => ?_)
  have k57 := x55 _ 1 (by decide) (Or.inl (by decide)) hv0
  have k58 := x55 _ 12 (by decide) (Or.inl (by decide)) hv5
  refine z_iload_n (pc := 92) C 3 rfl dX1_look_92 ?_
  refine z_aload (pc := 93) C 5 rfl dX1_look_93 ?_
  obtain ⟨q59, e60, h⟩ := bRs h
  refine gX1_1202 (pc := 95) C rfl (Or.inl k58) e60 dX1_look_95 (fun k61 => ?_)
  refine gX1_1100 (pc := 98) C rfl (Or.inl k61) rfl dX1_look_98 ?_
  refine z_ic_ge (pc := 101) C dX1_look_101 (tgt := 121) (by decide) (fun c62 => ?_) (fun c62 => ?_)
  · have h := itt c62 h
    exact cB_X1_look_121 C v0 v1 v2 v3 v4 v5 M53 _ _ k57 k58 h hR
  · have h := itf c62 h
    refine z_iload (pc := 104) C 4 rfl dX1_look_104 ?_
    refine z_aload (pc := 106) C 5 rfl dX1_look_106 ?_
    obtain ⟨q85, e86, h⟩ := bRs h
    refine gX1_1202 (pc := 108) C rfl (Or.inl k58) e86 dX1_look_108 (fun k87 => ?_)
    refine gX1_1101 (pc := 111) C rfl (Or.inl k87) rfl dX1_look_111 ?_
    refine z_ic_ge (pc := 114) C dX1_look_114 (tgt := 121) (by decide) (fun c88 => ?_) (fun c88 => ?_)
    · have h := itt c88 h
      exact cB_X1_look_121 C v0 v1 v2 v3 v4 v5 M53 _ _ k57 k58 h hR
    · have h := itf c88 h
      refine z_iconst (pc := 117) C dX1_look_117 ?_
      refine z_goto (pc := 118) C dX1_look_118 (tgt := 122) (by decide) ?_
      exact cB_X1_look_122 C v0 v1 v2 v3 v4 v5 1 M53 _ _ k57 k58 h hR
theorem cB_X1_look_71 {X : x_Ctx} {M0 : Mem} (C : x_CC X 8 139 yX1_look cX1_look 9 (some .int) [])  (v0 : Nat) (v1 : Int) (v2 : Int) (v3 : Int) (v4 : Int) (v5 : Nat) (s0 : Int) (M : Mem) (r : Int ⊕ Nat) (M' : Mem) (hv0 : m_kd M v0 = 1) (hv5 : m_kd M v5 = 12) (h : B_X1_look_71  v0 v1 v2 v3 v4 v5 s0 M = some (r, M')) (hR : ocN r 0 1 ≤ (XR X).cells ∧ ocN r 0 6 ≤ (XR X).slots) : x_Z X 0 0 (x_QF X M0 (ocI r) M' (ocN r 0 1) (ocN r 0 6)) M0 M 9 [(0, .ref v0), (1, vI v1), (2, vI v2), (3, vI v3), (4, vI v4), (5, .ref v5)] 71 [vI s0] := by
  unfold B_X1_look_71 at h
  rcases bTs h with ⟨x48, e46, er⟩ | ⟨r44, M45, e46, h⟩
  · subst er; exact tX1_171 (pc := 71) C rfl (rm := { frames := 6, cells := 1, slots := 6, locals := 90 }) (ct_X1_inside C.2.1 s0 M _ _  e46) ⟨by decide, by decide, Nat.le_trans (show 1 ≤ 1 from by decide) hR.1, Nat.le_trans (show 6 ≤ 6 from by decide) hR.2⟩ (Nat.le_of_ble_eq_true rfl) dX1_look_71 (by decide) (show 1 ≤ 1 from by decide) (show 6 ≤ 6 from by decide)
  refine cX1_171 (pc := 71) (st := []) (st1 := []) C rfl (rm := { frames := 6, cells := 0, slots := 0, locals := 90 }) (ct_X1_inside C.2.1 s0 M _ _  e46) ⟨by decide, by decide, Nat.zero_le _, Nat.zero_le _⟩ rfl (Nat.le_of_ble_eq_true rfl) dX1_look_71 (c2 := 0) (s2 := 0) rfl rfl (fun x47 => ?_)
  have k49 := x47 _ 1 (by decide) (Or.inl (by decide)) hv0
  have k50 := x47 _ 12 (by decide) (Or.inl (by decide)) hv5
  refine z_aload_n (pc := 74) C 0 rfl dX1_look_74 ?_
  refine gX1_143 (pc := 75) C rfl (Or.inl k49) rfl dX1_look_75 ?_
  refine z_sipush (pc := 78) C (by decide +kernel) dX1_look_78 ?_
  refine z_ic_ge (pc := 81) C dX1_look_81 (tgt := 88) (by decide) (fun c51 => ?_) (fun c51 => ?_)
  · have h := itt c51 h
    refine z_iconst (pc := 88) C dX1_look_88 ?_
    exact cB_X1_look_89 C v0 v1 v2 v3 v4 v5 0 M45 _ _ k49 k50 h hR
  · have h := itf c51 h
    refine z_iconst (pc := 84) C dX1_look_84 ?_
    refine z_goto (pc := 85) C dX1_look_85 (tgt := 89) (by decide) ?_
    exact cB_X1_look_89 C v0 v1 v2 v3 v4 v5 1 M45 _ _ k49 k50 h hR
theorem cB_X1_look_70 {X : x_Ctx} {M0 : Mem} (C : x_CC X 8 139 yX1_look cX1_look 9 (some .int) [])  (v0 : Nat) (v1 : Int) (v2 : Int) (v3 : Int) (v4 : Int) (v5 : Nat) (M : Mem) (r : Int ⊕ Nat) (M' : Mem) (hv0 : m_kd M v0 = 1) (hv5 : m_kd M v5 = 12) (h : B_X1_look_70  v0 v1 v2 v3 v4 v5 M = some (r, M')) (hR : ocN r 0 1 ≤ (XR X).cells ∧ ocN r 0 6 ≤ (XR X).slots) : x_Z X 0 0 (x_QF X M0 (ocI r) M' (ocN r 0 1) (ocN r 0 6)) M0 M 9 [(0, .ref v0), (1, vI v1), (2, vI v2), (3, vI v3), (4, vI v4), (5, .ref v5)] 70 [] := by
  unfold B_X1_look_70 at h
  refine z_iconst (pc := 70) C dX1_look_70 ?_
  exact cB_X1_look_71 C v0 v1 v2 v3 v4 v5 0 M _ _ hv0 hv5 h hR
theorem ct_X1_look {l : Launch} {S0 : State} {D : va_G} {cA : Nat → ClassId} (hG : x_G l S0 D cA) (v0 : Nat) (v1 : Int) (v2 : Int) (v3 : Int) (v4 : Int) (M : Mem) (r : Int ⊕ Nat) (M' : Mem) (hv0 : m_kd M v0 = 1) (h : d_X1_look v0 v1 v2 v3 v4 M = some (r, M')) : x_Me l S0 D cA yX1_look cX1_look 9 (some .int) [] ({ frames := 8, cells := (ocN r 0 1), slots := (ocN r 0 6), locals := 139 }) [.ref v0, vI v1, vI v2, vI v3, vI v4] M (ocI r) M' := by
  refine x_begin (F := 8) (Lo := 139) (mc := (ocN r 0 1)) (ms := (ocN r 0 6)) hG (Nat.le_of_ble_eq_true rfl) (lv := [(0, .ref v0), (1, vI v1), (2, vI v2), (3, vI v3), (4, vI v4)]) rfl rfl rfl rfl rfl (fun X e1 e2 e3 e4 e5 C => ?_)
  have hR : _ ∧ _ := ⟨Nat.le_of_eq (congrArg Room.cells e5).symm, Nat.le_of_eq (congrArg Room.slots e5).symm⟩
  unfold d_X1_look at h
  refine z_aload_n (pc := 0) C 0 rfl dX1_look_0 ?_
  refine z_iload_n (pc := 1) C 1 rfl dX1_look_1 ?_
  rcases bTs h with ⟨x26, e24, er⟩ | ⟨r22, M23, e24, h⟩
  · subst er; exact tX1_583 (pc := 2) C rfl (rm := { frames := 7, cells := 1, slots := 6, locals := 114 }) (ct_X1_personIn C.2.1 v0 v1 M _ _ hv0 e24) ⟨by decide, by decide, Nat.le_trans (show 1 ≤ 1 from by decide) hR.1, Nat.le_trans (show 6 ≤ 6 from by decide) hR.2⟩ (Or.inl hv0) (Nat.le_of_ble_eq_true rfl) dX1_look_2 (by decide) (show 1 ≤ 1 from by decide) (show 6 ≤ 6 from by decide)
  refine cX1_583 (pc := 2) (st := []) (st1 := []) C rfl (rm := { frames := 7, cells := 0, slots := 0, locals := 114 }) (ct_X1_personIn C.2.1 v0 v1 M _ _ hv0 e24) ⟨by decide, by decide, Nat.zero_le _, Nat.zero_le _⟩ (Or.inl hv0) rfl (Nat.le_of_ble_eq_true rfl) dX1_look_2 (c2 := 0) (s2 := 0) rfl rfl (fun x25 => ?_)
  have k27 := x25 _ 1 (by decide) (Or.inl (by decide)) hv0
  refine z_iload_n (pc := 5) C 2 rfl dX1_look_5 ?_
  refine z_i2l (pc := 6) C dX1_look_6 ?_
  refine z_lconst (pc := 7) C (x := 0) (by decide +kernel) dX1_look_7 ?_
  refine z_aload_n (pc := 8) C 0 rfl dX1_look_8 ?_
  refine gX1_141 (pc := 9) C rfl (Or.inl k27) rfl dX1_look_9 ?_
  refine z_iconst (pc := 12) C dX1_look_12 ?_
  refine z_isub (pc := 13) C dX1_look_13 ?_
  refine z_i2l (pc := 14) C dX1_look_14 ?_
  refine cX1_159 (pc := 15) (st := []) (st1 := [vI (d_X1_isIn (w32 v2) 0 (w32 ((m_i M23 141 v0 0) - 1)))]) C rfl (rm := { frames := 1, cells := 0, slots := 0, locals := 24 }) (ct_X1_isIn C.2.1 (w32 v2) 0 (w32 ((m_i M23 141 v0 0) - 1)) M23 _  rfl) ⟨by decide, by decide, Nat.zero_le _, Nat.zero_le _⟩ rfl (Nat.le_of_ble_eq_true rfl) dX1_look_15 (c2 := 0) (s2 := 0) rfl rfl (fun _ => ?_)
  rcases bTs h with ⟨x33, e31, er⟩ | ⟨r29, M30, e31, h⟩
  · subst er; exact tX1_171 (pc := 18) C rfl (rm := { frames := 6, cells := 1, slots := 6, locals := 90 }) (ct_X1_inside C.2.1 (d_X1_isIn (w32 v2) 0 (w32 ((m_i M23 141 v0 0) - 1))) M23 _ _  e31) ⟨by decide, by decide, Nat.le_trans (show 1 ≤ 1 from by decide) hR.1, Nat.le_trans (show 6 ≤ 6 from by decide) hR.2⟩ (Nat.le_of_ble_eq_true rfl) dX1_look_18 (by decide) (show 1 ≤ 1 from by decide) (show 6 ≤ 6 from by decide)
  refine cX1_171 (pc := 18) (st := []) (st1 := []) C rfl (rm := { frames := 6, cells := 0, slots := 0, locals := 90 }) (ct_X1_inside C.2.1 (d_X1_isIn (w32 v2) 0 (w32 ((m_i M23 141 v0 0) - 1))) M23 _ _  e31) ⟨by decide, by decide, Nat.zero_le _, Nat.zero_le _⟩ rfl (Nat.le_of_ble_eq_true rfl) dX1_look_18 (c2 := 0) (s2 := 0) rfl rfl (fun x32 => ?_)
  have k34 := x32 _ 1 (by decide) (Or.inl (by decide)) k27
  refine z_aload_n (pc := 21) C 0 rfl dX1_look_21 ?_
  refine gX1_142 (pc := 22) C rfl k34 dX1_look_22 ?_
  refine z_iload_n (pc := 25) C 2 rfl dX1_look_25 ?_
  obtain ⟨c35, h⟩ := ifn h
  obtain ⟨q36, e37, h⟩ := bRs h
  refine z_aaO (pc := 26) (k := 1) (j := 42) C 142 rfl (by decide) (by decide) (by decide) rfl rfl (by decide) (by decide) rfl k34 c35 rfl (by decide) e37 dX1_look_26 (fun k38 => ?_)
  refine z_astore (pc := 27) C (lv' := [(0, .ref v0), (1, vI v1), (2, vI v2), (3, vI v3), (4, vI v4), (5, .ref q36)]) (by decide) rfl dX1_look_27 ?_
  refine z_iload_n (pc := 29) C 3 rfl dX1_look_29 ?_
  refine z_i2l (pc := 30) C dX1_look_30 ?_
  refine z_lconst (pc := 31) C (x := 0) (by decide +kernel) dX1_look_31 ?_
  refine z_aload (pc := 32) C 5 rfl dX1_look_32 ?_
  obtain ⟨q39, e40, h⟩ := bRs h
  refine gX1_1202 (pc := 34) C rfl (Or.inl k38) e40 dX1_look_34 (fun k41 => ?_)
  refine gX1_1100 (pc := 37) C rfl (Or.inl k41) rfl dX1_look_37 ?_
  refine z_i2l (pc := 40) C dX1_look_40 ?_
  refine cX1_159 (pc := 41) (st := []) (st1 := [vI (d_X1_isIn (w32 v3) 0 (w32 (m_i M30 1100 q39 0)))]) C rfl (rm := { frames := 1, cells := 0, slots := 0, locals := 24 }) (ct_X1_isIn C.2.1 (w32 v3) 0 (w32 (m_i M30 1100 q39 0)) M30 _  rfl) ⟨by decide, by decide, Nat.zero_le _, Nat.zero_le _⟩ rfl (Nat.le_of_ble_eq_true rfl) dX1_look_41 (c2 := 0) (s2 := 0) rfl rfl (fun _ => ?_)
  refine z_if_eq (pc := 44) C dX1_look_44 (tgt := 70) (by decide) (fun c43 => ?_) (fun c43 => ?_)
  · have h := itt c43 h
    exact cB_X1_look_70 C v0 v1 v2 v3 v4 q36 M30 _ _ k34 k38 h hR
  · have h := itf c43 h
    refine z_iload (pc := 47) C 4 rfl dX1_look_47 ?_
    refine z_i2l (pc := 49) C dX1_look_49 ?_
    refine z_lconst (pc := 50) C (x := 0) (by decide +kernel) dX1_look_50 ?_
    refine z_aload (pc := 51) C 5 rfl dX1_look_51 ?_
    obtain ⟨q89, e90, h⟩ := bRs h
    refine gX1_1202 (pc := 53) C rfl (Or.inl k38) e90 dX1_look_53 (fun k91 => ?_)
    refine gX1_1101 (pc := 56) C rfl (Or.inl k91) rfl dX1_look_56 ?_
    refine z_i2l (pc := 59) C dX1_look_59 ?_
    refine cX1_159 (pc := 60) (st := []) (st1 := [vI (d_X1_isIn (w32 v4) 0 (w32 (m_i M30 1101 q89 0)))]) C rfl (rm := { frames := 1, cells := 0, slots := 0, locals := 24 }) (ct_X1_isIn C.2.1 (w32 v4) 0 (w32 (m_i M30 1101 q89 0)) M30 _  rfl) ⟨by decide, by decide, Nat.zero_le _, Nat.zero_le _⟩ rfl (Nat.le_of_ble_eq_true rfl) dX1_look_60 (c2 := 0) (s2 := 0) rfl rfl (fun _ => ?_)
    refine z_if_eq (pc := 63) C dX1_look_63 (tgt := 70) (by decide) (fun c93 => ?_) (fun c93 => ?_)
    · have h := itt c93 h
      exact cB_X1_look_70 C v0 v1 v2 v3 v4 q36 M30 _ _ k34 k38 h hR
    · have h := itf c93 h
      refine z_iconst (pc := 66) C dX1_look_66 ?_
      refine z_goto (pc := 67) C dX1_look_67 (tgt := 71) (by decide) ?_
      exact cB_X1_look_71 C v0 v1 v2 v3 v4 q36 1 M30 _ _ k34 k38 h hR
def d_X0_look (v0 : Nat) (v1 : Int) (v2 : Int) (v3 : Int) (v4 : Int) (v5 : Nat) (M : Mem) : Option (Int × Mem) :=
  bC (d_X1_look v0 v1 v2 v3 v4 M) (fun r1 M3 =>
    some (0, (m_si M3 9000 v5 (ixn 0) (w32 r1)))) (fun q2 M3 =>
    if m_kd M3 q2 = 115 then
      some (1, M3)
    else
      if m_kd M3 q2 = 114 then
        some (2, M3)
      else
        none)
theorem ct_X0_look {l : Launch} {S0 : State} {D : va_G} {cA : Nat → ClassId} (hG : x_G l S0 D cA) (v0 : Nat) (v1 : Int) (v2 : Int) (v3 : Int) (v4 : Int) (v5 : Nat) (M : Mem) (r : Int) (M' : Mem) (hv0 : m_kd M v0 = 1) (hv5 : m_kd M v5 = 19000) (h : d_X0_look v0 v1 v2 v3 v4 v5 M = some (r, M')) : x_Me l S0 D cA yX0_look cX0_look 7 (some .int) [(0, 14, 17, 25), (0, 14, 21, 19)] ({ frames := 9, cells := 1, slots := 6, locals := 171 }) [.ref v0, vI v1, vI v2, vI v3, vI v4, .ref v5] M (.returned (some (vI r))) M' := by
  refine x_begin (F := 9) (Lo := 171) (mc := 1) (ms := 6) hG (Nat.le_of_ble_eq_true rfl) (lv := [(0, .ref v0), (1, vI v1), (2, vI v2), (3, vI v3), (4, vI v4), (5, .ref v5)]) rfl rfl rfl rfl rfl (fun X e1 e2 e3 e4 e5 C => ?_)
  have hR : _ ∧ _ := ⟨Nat.le_of_eq (congrArg Room.cells e5).symm, Nat.le_of_eq (congrArg Room.slots e5).symm⟩
  unfold d_X0_look at h
  refine z_aload (pc := 0) C 5 rfl dX0_look_0 ?_
  refine z_iconst (pc := 2) C dX0_look_2 ?_
  refine z_aload_n (pc := 3) C 0 rfl dX0_look_3 ?_
  refine z_iload_n (pc := 4) C 1 rfl dX0_look_4 ?_
  refine z_iload_n (pc := 5) C 2 rfl dX0_look_5 ?_
  refine z_iload_n (pc := 6) C 3 rfl dX0_look_6 ?_
  refine z_iload (pc := 7) C 4 rfl dX0_look_7 ?_
  rcases bCs h with ⟨r1, M3, e4, h⟩ | ⟨q2, M3, e4, h⟩
  · refine cX0_132 (pc := 9) (st := [vI 0, .ref v5]) (st1 := [vI r1, vI 0, .ref v5]) C rfl (rm := { frames := 8, cells := 0, slots := 0, locals := 139 }) (ct_X1_look C.2.1 v0 v1 v2 v3 v4 M _ _ hv0 e4) ⟨by decide, by decide, Nat.zero_le _, Nat.zero_le _⟩ (Or.inl hv0) rfl (Nat.le_of_ble_eq_true rfl) dX0_look_9 (c2 := 0) (s2 := 0) rfl rfl (fun x5 => ?_)
    have k6 := x5 _ 19000 (by decide) (Or.inr (by decide)) hv5
    refine z_i2l (pc := 12) C dX0_look_12 ?_
    refine z_lsw (pc := 13) C k6 (by decide +kernel) dX0_look_13 ?_
    refine z_goto (pc := 14) C dX0_look_14 (tgt := 25) (by decide) ?_
    refine z_iconst (pc := 25) C dX0_look_25 ?_
    cases h
    exact z_iret (pc := 26) C rfl (show 0 ≤ 1 from by decide) (show 0 ≤ 6 from by decide) dX0_look_26
  · by_cases c7 : m_kd M3 q2 = 115
    · have h := itt c7 h
      refine kX0_132 (pc := 9) (st := [vI 0, .ref v5]) C rfl (rm := { frames := 8, cells := 1, slots := 6, locals := 139 }) (r := q2) (ct_X1_look C.2.1 v0 v1 v2 v3 v4 M _ _ hv0 e4) ⟨by decide, by decide, Nat.le_trans (show 1 ≤ 1 from by decide) hR.1, Nat.le_trans (show 6 ≤ 6 from by decide) hR.2⟩ (Or.inl hv0) (Nat.le_of_ble_eq_true rfl) dX0_look_9 (e := 15) (hpc := 17) (by decide) (Or.inr c7) (Or.inr ⟨by decide, by decide, 15, by decide, q560, Or.inl ⟨rfl, rfl⟩⟩) (c2 := 1) (s2 := 6) rfl rfl (fun x8 => ?_)
      refine z_astore (pc := 17) C (lv' := [(0, .ref v0), (1, vI v1), (2, vI v2), (3, vI v3), (4, vI v4), (5, .ref v5), (6, .ref q2)]) (by decide) rfl dX0_look_17 ?_
      refine z_iconst (pc := 19) C dX0_look_19 ?_
      cases h
      exact z_iret (pc := 20) C rfl (show 1 ≤ 1 from by decide) (show 6 ≤ 6 from by decide) dX0_look_20
    · have h := itf c7 h
      by_cases c9 : m_kd M3 q2 = 114
      · have h := itt c9 h
        refine kX0_132 (pc := 9) (st := [vI 0, .ref v5]) C rfl (rm := { frames := 8, cells := 1, slots := 6, locals := 139 }) (r := q2) (ct_X1_look C.2.1 v0 v1 v2 v3 v4 M _ _ hv0 e4) ⟨by decide, by decide, Nat.le_trans (show 1 ≤ 1 from by decide) hR.1, Nat.le_trans (show 6 ≤ 6 from by decide) hR.2⟩ (Or.inl hv0) (Nat.le_of_ble_eq_true rfl) dX0_look_9 (e := 14) (hpc := 21) (by decide) (Or.inr c9) (Or.inr ⟨by decide, by decide, 15, by decide, q560, Or.inr ⟨by decide, Or.inr ⟨by decide, by decide, 14, by decide, q533, Or.inl ⟨rfl, rfl⟩⟩⟩⟩) (c2 := 1) (s2 := 6) rfl rfl (fun x10 => ?_)
        refine z_astore (pc := 21) C (lv' := [(0, .ref v0), (1, vI v1), (2, vI v2), (3, vI v3), (4, vI v4), (5, .ref v5), (6, .ref q2)]) (by decide) rfl dX0_look_21 ?_
        refine z_iconst (pc := 23) C dX0_look_23 ?_
        cases h
        exact z_iret (pc := 24) C rfl (show 1 ≤ 1 from by decide) (show 6 ≤ 6 from by decide) dX0_look_24
      · have h := itf c9 h
        cases h
def d_X1_looked (v0 : Nat) (v1 : Int) (v2 : Int) (M : Mem) : Option ((Int ⊕ Nat) × Mem) :=
  bT (d_X1_inside (d_X1_isIn (w32 v1) 0 (w32 ((m_i M 143 v0 0) - 1))) M) fun r2 M3 => 
  bT (d_X1_need (d_X1_isIn (w32 v2) 0 5) M3) fun r9 M10 => 
  if inb ((6 * v1) + v2) 3000 then 
  some (.inl (m_i M10 144 v0 (ixn ((6 * v1) + v2))), M10) else none
theorem ct_X1_looked {l : Launch} {S0 : State} {D : va_G} {cA : Nat → ClassId} (hG : x_G l S0 D cA) (v0 : Nat) (v1 : Int) (v2 : Int) (M : Mem) (r : Int ⊕ Nat) (M' : Mem) (hv0 : m_kd M v0 = 1) (h : d_X1_looked v0 v1 v2 M = some (r, M')) : x_Me l S0 D cA yX1_looked cX1_looked 3 (some .int) [] ({ frames := 7, cells := (ocN r 0 1), slots := (ocN r 0 6), locals := 114 }) [.ref v0, vI v1, vI v2] M (ocI r) M' := by
  refine x_begin (F := 7) (Lo := 114) (mc := (ocN r 0 1)) (ms := (ocN r 0 6)) hG (Nat.le_of_ble_eq_true rfl) (lv := [(0, .ref v0), (1, vI v1), (2, vI v2)]) rfl rfl rfl rfl rfl (fun X e1 e2 e3 e4 e5 C => ?_)
  have hR : _ ∧ _ := ⟨Nat.le_of_eq (congrArg Room.cells e5).symm, Nat.le_of_eq (congrArg Room.slots e5).symm⟩
  unfold d_X1_looked at h
  refine z_iload_n (pc := 0) C 1 rfl dX1_looked_0 ?_
  refine z_i2l (pc := 1) C dX1_looked_1 ?_
  refine z_lconst (pc := 2) C (x := 0) (by decide +kernel) dX1_looked_2 ?_
  refine z_aload_n (pc := 3) C 0 rfl dX1_looked_3 ?_
  refine gX1_143 (pc := 4) C rfl (Or.inl hv0) rfl dX1_looked_4 ?_
  refine z_iconst (pc := 7) C dX1_looked_7 ?_
  refine z_isub (pc := 8) C dX1_looked_8 ?_
  refine z_i2l (pc := 9) C dX1_looked_9 ?_
  refine cX1_159 (pc := 10) (st := []) (st1 := [vI (d_X1_isIn (w32 v1) 0 (w32 ((m_i M 143 v0 0) - 1)))]) C rfl (rm := { frames := 1, cells := 0, slots := 0, locals := 24 }) (ct_X1_isIn C.2.1 (w32 v1) 0 (w32 ((m_i M 143 v0 0) - 1)) M _  rfl) ⟨by decide, by decide, Nat.zero_le _, Nat.zero_le _⟩ rfl (Nat.le_of_ble_eq_true rfl) dX1_looked_10 (c2 := 0) (s2 := 0) rfl rfl (fun _ => ?_)
  rcases bTs h with ⟨x6, e4, er⟩ | ⟨r2, M3, e4, h⟩
  · subst er; exact tX1_171 (pc := 13) C rfl (rm := { frames := 6, cells := 1, slots := 6, locals := 90 }) (ct_X1_inside C.2.1 (d_X1_isIn (w32 v1) 0 (w32 ((m_i M 143 v0 0) - 1))) M _ _  e4) ⟨by decide, by decide, Nat.le_trans (show 1 ≤ 1 from by decide) hR.1, Nat.le_trans (show 6 ≤ 6 from by decide) hR.2⟩ (Nat.le_of_ble_eq_true rfl) dX1_looked_13 (by decide) (show 1 ≤ 1 from by decide) (show 6 ≤ 6 from by decide)
  refine cX1_171 (pc := 13) (st := []) (st1 := []) C rfl (rm := { frames := 6, cells := 0, slots := 0, locals := 90 }) (ct_X1_inside C.2.1 (d_X1_isIn (w32 v1) 0 (w32 ((m_i M 143 v0 0) - 1))) M _ _  e4) ⟨by decide, by decide, Nat.zero_le _, Nat.zero_le _⟩ rfl (Nat.le_of_ble_eq_true rfl) dX1_looked_13 (c2 := 0) (s2 := 0) rfl rfl (fun x5 => ?_)
  have k7 := x5 _ 1 (by decide) (Or.inl (by decide)) hv0
  refine z_iload_n (pc := 16) C 2 rfl dX1_looked_16 ?_
  refine z_i2l (pc := 17) C dX1_looked_17 ?_
  refine z_lconst (pc := 18) C (x := 0) (by decide +kernel) dX1_looked_18 ?_
  refine z_ldc2 (pc := 19) C (x := 5) q612 (by decide +kernel) dX1_looked_19 ?_
  refine cX1_159 (pc := 22) (st := []) (st1 := [vI (d_X1_isIn (w32 v2) 0 5)]) C rfl (rm := { frames := 1, cells := 0, slots := 0, locals := 24 }) (ct_X1_isIn C.2.1 (w32 v2) 0 5 M3 _  rfl) ⟨by decide, by decide, Nat.zero_le _, Nat.zero_le _⟩ rfl (Nat.le_of_ble_eq_true rfl) dX1_looked_22 (c2 := 0) (s2 := 0) rfl rfl (fun _ => ?_)
  rcases bTs h with ⟨x13, e11, er⟩ | ⟨r9, M10, e11, h⟩
  · subst er; exact tX1_164 (pc := 25) C rfl (rm := { frames := 6, cells := 1, slots := 6, locals := 90 }) (ct_X1_need C.2.1 (d_X1_isIn (w32 v2) 0 5) M3 _ _  e11) ⟨by decide, by decide, Nat.le_trans (show 1 ≤ 1 from by decide) hR.1, Nat.le_trans (show 6 ≤ 6 from by decide) hR.2⟩ (Nat.le_of_ble_eq_true rfl) dX1_looked_25 (by decide) (show 1 ≤ 1 from by decide) (show 6 ≤ 6 from by decide)
  refine cX1_164 (pc := 25) (st := []) (st1 := []) C rfl (rm := { frames := 6, cells := 0, slots := 0, locals := 90 }) (ct_X1_need C.2.1 (d_X1_isIn (w32 v2) 0 5) M3 _ _  e11) ⟨by decide, by decide, Nat.zero_le _, Nat.zero_le _⟩ rfl (Nat.le_of_ble_eq_true rfl) dX1_looked_25 (c2 := 0) (s2 := 0) rfl rfl (fun x12 => ?_)
  have k14 := x12 _ 1 (by decide) (Or.inl (by decide)) k7
  refine z_aload_n (pc := 28) C 0 rfl dX1_looked_28 ?_
  refine gX1_144 (pc := 29) C rfl k14 dX1_looked_29 ?_
  refine z_bipush (pc := 32) C (by decide +kernel) dX1_looked_32 ?_
  refine z_iload_n (pc := 34) C 1 rfl dX1_looked_34 ?_
  refine z_imul (pc := 35) C dX1_looked_35 ?_
  refine z_iload_n (pc := 36) C 2 rfl dX1_looked_36 ?_
  refine z_iadd (pc := 37) C dX1_looked_37 ?_
  obtain ⟨c15, h⟩ := ifn h
  refine z_iaO (pc := 38) (k := 1) (j := 44) C 144 rfl (by decide) (by decide) (by decide) rfl rfl rfl rfl k14 c15 rfl dX1_looked_38 ?_
  cases h
  exact z_iret (pc := 39) C rfl (show 0 ≤ 0 from by decide) (show 0 ≤ 0 from by decide) dX1_looked_39
def d_X0_looked (v0 : Nat) (v1 : Int) (v2 : Int) (v3 : Nat) (M : Mem) : Option (Int × Mem) :=
  bC (d_X1_looked v0 v1 v2 M) (fun r1 M3 =>
    some (0, (m_si M3 9000 v3 (ixn 0) (w32 r1)))) (fun q2 M3 =>
    if m_kd M3 q2 = 115 then
      some (1, M3)
    else
      if m_kd M3 q2 = 113 then
        some (2, M3)
      else
        none)
theorem ct_X0_looked {l : Launch} {S0 : State} {D : va_G} {cA : Nat → ClassId} (hG : x_G l S0 D cA) (v0 : Nat) (v1 : Int) (v2 : Int) (v3 : Nat) (M : Mem) (r : Int) (M' : Mem) (hv0 : m_kd M v0 = 1) (hv3 : m_kd M v3 = 19000) (h : d_X0_looked v0 v1 v2 v3 M = some (r, M')) : x_Me l S0 D cA yX0_looked cX0_looked 5 (some .int) [(0, 10, 13, 25), (0, 10, 17, 13)] ({ frames := 8, cells := 1, slots := 6, locals := 140 }) [.ref v0, vI v1, vI v2, .ref v3] M (.returned (some (vI r))) M' := by
  refine x_begin (F := 8) (Lo := 140) (mc := 1) (ms := 6) hG (Nat.le_of_ble_eq_true rfl) (lv := [(0, .ref v0), (1, vI v1), (2, vI v2), (3, .ref v3)]) rfl rfl rfl rfl rfl (fun X e1 e2 e3 e4 e5 C => ?_)
  have hR : _ ∧ _ := ⟨Nat.le_of_eq (congrArg Room.cells e5).symm, Nat.le_of_eq (congrArg Room.slots e5).symm⟩
  unfold d_X0_looked at h
  refine z_aload_n (pc := 0) C 3 rfl dX0_looked_0 ?_
  refine z_iconst (pc := 1) C dX0_looked_1 ?_
  refine z_aload_n (pc := 2) C 0 rfl dX0_looked_2 ?_
  refine z_iload_n (pc := 3) C 1 rfl dX0_looked_3 ?_
  refine z_iload_n (pc := 4) C 2 rfl dX0_looked_4 ?_
  rcases bCs h with ⟨r1, M3, e4, h⟩ | ⟨q2, M3, e4, h⟩
  · refine cX0_135 (pc := 5) (st := [vI 0, .ref v3]) (st1 := [vI r1, vI 0, .ref v3]) C rfl (rm := { frames := 7, cells := 0, slots := 0, locals := 114 }) (ct_X1_looked C.2.1 v0 v1 v2 M _ _ hv0 e4) ⟨by decide, by decide, Nat.zero_le _, Nat.zero_le _⟩ (Or.inl hv0) rfl (Nat.le_of_ble_eq_true rfl) dX0_looked_5 (c2 := 0) (s2 := 0) rfl rfl (fun x5 => ?_)
    have k6 := x5 _ 19000 (by decide) (Or.inr (by decide)) hv3
    refine z_i2l (pc := 8) C dX0_looked_8 ?_
    refine z_lsw (pc := 9) C k6 (by decide +kernel) dX0_looked_9 ?_
    refine z_goto (pc := 10) C dX0_looked_10 (tgt := 21) (by decide) ?_
    refine z_iconst (pc := 21) C dX0_looked_21 ?_
    cases h
    exact z_iret (pc := 22) C rfl (show 0 ≤ 1 from by decide) (show 0 ≤ 6 from by decide) dX0_looked_22
  · by_cases c7 : m_kd M3 q2 = 115
    · have h := itt c7 h
      refine kX0_135 (pc := 5) (st := [vI 0, .ref v3]) C rfl (rm := { frames := 7, cells := 1, slots := 6, locals := 114 }) (r := q2) (ct_X1_looked C.2.1 v0 v1 v2 M _ _ hv0 e4) ⟨by decide, by decide, Nat.le_trans (show 1 ≤ 1 from by decide) hR.1, Nat.le_trans (show 6 ≤ 6 from by decide) hR.2⟩ (Or.inl hv0) (Nat.le_of_ble_eq_true rfl) dX0_looked_5 (e := 15) (hpc := 13) (by decide) (Or.inr c7) (Or.inr ⟨by decide, by decide, 15, by decide, q560, Or.inl ⟨rfl, rfl⟩⟩) (c2 := 1) (s2 := 6) rfl rfl (fun x8 => ?_)
      refine z_astore (pc := 13) C (lv' := [(0, .ref v0), (1, vI v1), (2, vI v2), (3, .ref v3), (4, .ref q2)]) (by decide) rfl dX0_looked_13 ?_
      refine z_iconst (pc := 15) C dX0_looked_15 ?_
      cases h
      exact z_iret (pc := 16) C rfl (show 1 ≤ 1 from by decide) (show 6 ≤ 6 from by decide) dX0_looked_16
    · have h := itf c7 h
      by_cases c9 : m_kd M3 q2 = 113
      · have h := itt c9 h
        refine kX0_135 (pc := 5) (st := [vI 0, .ref v3]) C rfl (rm := { frames := 7, cells := 1, slots := 6, locals := 114 }) (r := q2) (ct_X1_looked C.2.1 v0 v1 v2 M _ _ hv0 e4) ⟨by decide, by decide, Nat.le_trans (show 1 ≤ 1 from by decide) hR.1, Nat.le_trans (show 6 ≤ 6 from by decide) hR.2⟩ (Or.inl hv0) (Nat.le_of_ble_eq_true rfl) dX0_looked_5 (e := 13) (hpc := 17) (by decide) (Or.inr c9) (Or.inr ⟨by decide, by decide, 15, by decide, q560, Or.inr ⟨by decide, Or.inr ⟨by decide, by decide, 13, by decide, q447, Or.inl ⟨rfl, rfl⟩⟩⟩⟩) (c2 := 1) (s2 := 6) rfl rfl (fun x10 => ?_)
        refine z_astore (pc := 17) C (lv' := [(0, .ref v0), (1, vI v1), (2, vI v2), (3, .ref v3), (4, .ref q2)]) (by decide) rfl dX0_looked_17 ?_
        refine z_iconst (pc := 19) C dX0_looked_19 ?_
        cases h
        exact z_iret (pc := 20) C rfl (show 1 ≤ 1 from by decide) (show 6 ≤ 6 from by decide) dX0_looked_20
      · have h := itf c9 h
        cases h
def d_X1_told (v0 : Nat) (v1 : Int) (M : Mem) : Option ((Int ⊕ Nat) × Mem) :=
  if w32 v1 = 0 then
    some (.inl (m_i M 101 v0 0), M)
  else
    if w32 v1 = 1 then
      some (.inl (m_i M 103 v0 0), M)
    else
      if w32 v1 = 2 then
        some (.inl (m_i M 102 v0 0), M)
      else
        if w32 v1 = 3 then
          some (.inl (m_i M 111 v0 0), M)
        else
          if w32 v1 = 4 then
            some (.inl (m_i M 118 v0 0), M)
          else
            if w32 v1 = 5 then
              some (.inl ((m_i M 118 v0 0) - (m_i M 120 v0 0)), M)
            else
              if w32 v1 = 6 then
                some (.inl (m_i M 120 v0 0), M)
              else
                if w32 v1 = 7 then
                  some (.inl (m_i M 125 v0 0), M)
                else
                  if w32 v1 = 8 then
                    some (.inl (m_i M 134 v0 0), M)
                  else
                    if w32 v1 = 9 then
                      some (.inl (m_i M 139 v0 0), M)
                    else
                      if w32 v1 = 10 then
                        some (.inl (m_i M 141 v0 0), M)
                      else
                        if w32 v1 = 11 then
                          some (.inl (m_i M 143 v0 0), M)
                        else
                          if w32 v1 = 12 then
                            some (.inl (m_i M 115 v0 0), M)
                          else
                            if w32 v1 = 13 then
                              some (.inl (m_i M 100 v0 0), M)
                            else
                              if w32 v1 = 14 then
                                some (.inl (d_X1_day v0 M), M)
                              else
                                some (.inr (m_sz M), m_nw M 113)
theorem ct_X1_told {l : Launch} {S0 : State} {D : va_G} {cA : Nat → ClassId} (hG : x_G l S0 D cA) (v0 : Nat) (v1 : Int) (M : Mem) (r : Int ⊕ Nat) (M' : Mem) (hv0 : m_kd M v0 = 1) (h : d_X1_told v0 v1 M = some (r, M')) : x_Me l S0 D cA yX1_told cX1_told 2 (some .int) [] ({ frames := 6, cells := (ocN r 0 1), slots := (ocN r 0 6), locals := 90 }) [.ref v0, vI v1] M (ocI r) M' := by
  refine x_begin0 (F := 6) (Lo := 90) (mc := (ocN r 0 1)) (ms := (ocN r 0 6)) hG (Nat.le_of_ble_eq_true rfl) (lv := [(0, .ref v0), (1, vI v1)]) rfl rfl rfl rfl rfl (fun X ls e1 e2 e3 e4 e5 C hP hl => ?_)
  by_cases hrange : 0 ≤ w32 v1 ∧ w32 v1 ≤ 14
  · refine (?_ : x_Z X 0 0 _ M M _ _ 0 []) _ [] ls hP (x_ext.refl M) (fun q h => by cases h) hl
    have hR : _ ∧ _ := ⟨Nat.le_of_eq (congrArg Room.cells e5).symm, Nat.le_of_eq (congrArg Room.slots e5).symm⟩
    unfold d_X1_told at h
    refine z_iload_n (pc := 0) C 1 rfl dX1_told_0 ?_
    by_cases c1 : w32 v1 = 0
    · have h := itt c1 h
      refine z_tabI (pc := 1) C (tgt := 76) dX1_told_1 c1 (by decide) (by decide) rfl (by decide) ?_
      refine z_aload_n (pc := 76) C 0 rfl dX1_told_76 ?_
      refine gX1_101 (pc := 77) C rfl (Or.inl hv0) rfl dX1_told_77 ?_
      cases h
      exact z_iret (pc := 80) C rfl (show 0 ≤ 0 from by decide) (show 0 ≤ 0 from by decide) dX1_told_80
    · have h := itf c1 h
      by_cases c2 : w32 v1 = 1
      · have h := itt c2 h
        refine z_tabI (pc := 1) C (tgt := 81) dX1_told_1 c2 (by decide) (by decide) rfl (by decide) ?_
        refine z_aload_n (pc := 81) C 0 rfl dX1_told_81 ?_
        refine gX1_103 (pc := 82) C rfl (Or.inl hv0) rfl dX1_told_82 ?_
        cases h
        exact z_iret (pc := 85) C rfl (show 0 ≤ 0 from by decide) (show 0 ≤ 0 from by decide) dX1_told_85
      · have h := itf c2 h
        by_cases c3 : w32 v1 = 2
        · have h := itt c3 h
          refine z_tabI (pc := 1) C (tgt := 86) dX1_told_1 c3 (by decide) (by decide) rfl (by decide) ?_
          refine z_aload_n (pc := 86) C 0 rfl dX1_told_86 ?_
          refine gX1_102 (pc := 87) C rfl (Or.inl hv0) rfl dX1_told_87 ?_
          cases h
          exact z_iret (pc := 90) C rfl (show 0 ≤ 0 from by decide) (show 0 ≤ 0 from by decide) dX1_told_90
        · have h := itf c3 h
          by_cases c4 : w32 v1 = 3
          · have h := itt c4 h
            refine z_tabI (pc := 1) C (tgt := 91) dX1_told_1 c4 (by decide) (by decide) rfl (by decide) ?_
            refine z_aload_n (pc := 91) C 0 rfl dX1_told_91 ?_
            refine gX1_111 (pc := 92) C rfl (Or.inl hv0) rfl dX1_told_92 ?_
            cases h
            exact z_iret (pc := 95) C rfl (show 0 ≤ 0 from by decide) (show 0 ≤ 0 from by decide) dX1_told_95
          · have h := itf c4 h
            by_cases c5 : w32 v1 = 4
            · have h := itt c5 h
              refine z_tabI (pc := 1) C (tgt := 96) dX1_told_1 c5 (by decide) (by decide) rfl (by decide) ?_
              refine z_aload_n (pc := 96) C 0 rfl dX1_told_96 ?_
              refine gX1_118 (pc := 97) C rfl (Or.inl hv0) rfl dX1_told_97 ?_
              cases h
              exact z_iret (pc := 100) C rfl (show 0 ≤ 0 from by decide) (show 0 ≤ 0 from by decide) dX1_told_100
            · have h := itf c5 h
              by_cases c6 : w32 v1 = 5
              · have h := itt c6 h
                refine z_tabI (pc := 1) C (tgt := 101) dX1_told_1 c6 (by decide) (by decide) rfl (by decide) ?_
                refine z_aload_n (pc := 101) C 0 rfl dX1_told_101 ?_
                refine gX1_118 (pc := 102) C rfl (Or.inl hv0) rfl dX1_told_102 ?_
                refine z_aload_n (pc := 105) C 0 rfl dX1_told_105 ?_
                refine gX1_120 (pc := 106) C rfl (Or.inl hv0) rfl dX1_told_106 ?_
                refine z_isub (pc := 109) C dX1_told_109 ?_
                cases h
                exact z_iret (pc := 110) C rfl (show 0 ≤ 0 from by decide) (show 0 ≤ 0 from by decide) dX1_told_110
              · have h := itf c6 h
                by_cases c7 : w32 v1 = 6
                · have h := itt c7 h
                  refine z_tabI (pc := 1) C (tgt := 111) dX1_told_1 c7 (by decide) (by decide) rfl (by decide) ?_
                  refine z_aload_n (pc := 111) C 0 rfl dX1_told_111 ?_
                  refine gX1_120 (pc := 112) C rfl (Or.inl hv0) rfl dX1_told_112 ?_
                  cases h
                  exact z_iret (pc := 115) C rfl (show 0 ≤ 0 from by decide) (show 0 ≤ 0 from by decide) dX1_told_115
                · have h := itf c7 h
                  by_cases c8 : w32 v1 = 7
                  · have h := itt c8 h
                    refine z_tabI (pc := 1) C (tgt := 116) dX1_told_1 c8 (by decide) (by decide) rfl (by decide) ?_
                    refine z_aload_n (pc := 116) C 0 rfl dX1_told_116 ?_
                    refine gX1_125 (pc := 117) C rfl (Or.inl hv0) rfl dX1_told_117 ?_
                    cases h
                    exact z_iret (pc := 120) C rfl (show 0 ≤ 0 from by decide) (show 0 ≤ 0 from by decide) dX1_told_120
                  · have h := itf c8 h
                    by_cases c9 : w32 v1 = 8
                    · have h := itt c9 h
                      refine z_tabI (pc := 1) C (tgt := 121) dX1_told_1 c9 (by decide) (by decide) rfl (by decide) ?_
                      refine z_aload_n (pc := 121) C 0 rfl dX1_told_121 ?_
                      refine gX1_134 (pc := 122) C rfl (Or.inl hv0) rfl dX1_told_122 ?_
                      cases h
                      exact z_iret (pc := 125) C rfl (show 0 ≤ 0 from by decide) (show 0 ≤ 0 from by decide) dX1_told_125
                    · have h := itf c9 h
                      by_cases c10 : w32 v1 = 9
                      · have h := itt c10 h
                        refine z_tabI (pc := 1) C (tgt := 126) dX1_told_1 c10 (by decide) (by decide) rfl (by decide) ?_
                        refine z_aload_n (pc := 126) C 0 rfl dX1_told_126 ?_
                        refine gX1_139 (pc := 127) C rfl (Or.inl hv0) rfl dX1_told_127 ?_
                        cases h
                        exact z_iret (pc := 130) C rfl (show 0 ≤ 0 from by decide) (show 0 ≤ 0 from by decide) dX1_told_130
                      · have h := itf c10 h
                        by_cases c11 : w32 v1 = 10
                        · have h := itt c11 h
                          refine z_tabI (pc := 1) C (tgt := 131) dX1_told_1 c11 (by decide) (by decide) rfl (by decide) ?_
                          refine z_aload_n (pc := 131) C 0 rfl dX1_told_131 ?_
                          refine gX1_141 (pc := 132) C rfl (Or.inl hv0) rfl dX1_told_132 ?_
                          cases h
                          exact z_iret (pc := 135) C rfl (show 0 ≤ 0 from by decide) (show 0 ≤ 0 from by decide) dX1_told_135
                        · have h := itf c11 h
                          by_cases c12 : w32 v1 = 11
                          · have h := itt c12 h
                            refine z_tabI (pc := 1) C (tgt := 136) dX1_told_1 c12 (by decide) (by decide) rfl (by decide) ?_
                            refine z_aload_n (pc := 136) C 0 rfl dX1_told_136 ?_
                            refine gX1_143 (pc := 137) C rfl (Or.inl hv0) rfl dX1_told_137 ?_
                            cases h
                            exact z_iret (pc := 140) C rfl (show 0 ≤ 0 from by decide) (show 0 ≤ 0 from by decide) dX1_told_140
                          · have h := itf c12 h
                            by_cases c13 : w32 v1 = 12
                            · have h := itt c13 h
                              refine z_tabI (pc := 1) C (tgt := 141) dX1_told_1 c13 (by decide) (by decide) rfl (by decide) ?_
                              refine z_aload_n (pc := 141) C 0 rfl dX1_told_141 ?_
                              refine gX1_115 (pc := 142) C rfl (Or.inl hv0) rfl dX1_told_142 ?_
                              cases h
                              exact z_iret (pc := 145) C rfl (show 0 ≤ 0 from by decide) (show 0 ≤ 0 from by decide) dX1_told_145
                            · have h := itf c13 h
                              by_cases c14 : w32 v1 = 13
                              · have h := itt c14 h
                                refine z_tabI (pc := 1) C (tgt := 146) dX1_told_1 c14 (by decide) (by decide) rfl (by decide) ?_
                                refine z_aload_n (pc := 146) C 0 rfl dX1_told_146 ?_
                                refine gX1_100 (pc := 147) C rfl (Or.inl hv0) rfl dX1_told_147 ?_
                                cases h
                                exact z_iret (pc := 150) C rfl (show 0 ≤ 0 from by decide) (show 0 ≤ 0 from by decide) dX1_told_150
                              · have h := itf c14 h
                                by_cases c15 : w32 v1 = 14
                                · have h := itt c15 h
                                  refine z_tabI (pc := 1) C (tgt := 151) dX1_told_1 c15 (by decide) (by decide) rfl (by decide) ?_
                                  refine z_aload_n (pc := 151) C 0 rfl dX1_told_151 ?_
                                  refine cX1_196 (pc := 152) (st := []) (st1 := [vI (d_X1_day v0 M)]) C rfl (rm := { frames := 1, cells := 0, slots := 0, locals := 24 }) (ct_X1_day C.2.1 v0 M _ hv0 rfl) ⟨by decide, by decide, Nat.zero_le _, Nat.zero_le _⟩ (Or.inl hv0) rfl (Nat.le_of_ble_eq_true rfl) dX1_told_152 (c2 := 0) (s2 := 0) rfl rfl (fun _ => ?_)
                                  cases h
                                  exact z_iret (pc := 155) C rfl (show 0 ≤ 0 from by decide) (show 0 ≤ 0 from by decide) dX1_told_155
                                · have h := itf c15 h
                                  refine z_tabO (pc := 1) C (tgt := 156) dX1_told_1 (by omega) (by decide) ?_
                                  exact absurd hrange (by omega)
  · unfold d_X1_told at h
    have h := itf (show ¬ w32 v1 = 0 by omega) h
    have h := itf (show ¬ w32 v1 = 1 by omega) h
    have h := itf (show ¬ w32 v1 = 2 by omega) h
    have h := itf (show ¬ w32 v1 = 3 by omega) h
    have h := itf (show ¬ w32 v1 = 4 by omega) h
    have h := itf (show ¬ w32 v1 = 5 by omega) h
    have h := itf (show ¬ w32 v1 = 6 by omega) h
    have h := itf (show ¬ w32 v1 = 7 by omega) h
    have h := itf (show ¬ w32 v1 = 8 by omega) h
    have h := itf (show ¬ w32 v1 = 9 by omega) h
    have h := itf (show ¬ w32 v1 = 10 by omega) h
    have h := itf (show ¬ w32 v1 = 11 by omega) h
    have h := itf (show ¬ w32 v1 = 12 by omega) h
    have h := itf (show ¬ w32 v1 = 13 by omega) h
    have h := itf (show ¬ w32 v1 = 14 by omega) h
    cases h
    have hR : _ ∧ _ := ⟨Nat.le_of_eq (congrArg Room.cells e5).symm, Nat.le_of_eq (congrArg Room.slots e5).symm⟩
    refine lv_iload_n C.1.1 C.1.2.1 dX1_told_0 rfl (lv_at hl 1 rfl) ?_
    refine lv_tableOut C.1.1 C.1.2.1 dX1_told_1 (show w32 v1 < 0 ∨ 14 < w32 v1 from by omega) (tgt := 156) (by decide) ?_
    exact x_throw (k := 13) (w := 3) (sid := 4) C (by decide) (by decide) rfl (by decide) (by decide) (Or.inr rfl) q460 q461 q115 (own_13 C hP.2.2.1) (by decide +kernel) (by decide) rfl rfl rfl hR.1 hR.2 dX1_told_156 dX1_told_159 dX1_told_160 dX1_told_163 dX1_told_166 hl.1 hP
def d_X0_told (v0 : Nat) (v1 : Int) (v2 : Nat) (M : Mem) : Option (Int × Mem) :=
  bC (d_X1_told v0 v1 M) (fun r1 M3 =>
    some (0, (m_si M3 9000 v2 (ixn 0) (w32 r1)))) (fun q2 M3 =>
    if m_kd M3 q2 = 113 then
      some (1, M3)
    else
      none)
theorem ct_X0_told {l : Launch} {S0 : State} {D : va_G} {cA : Nat → ClassId} (hG : x_G l S0 D cA) (v0 : Nat) (v1 : Int) (v2 : Nat) (M : Mem) (r : Int) (M' : Mem) (hv0 : m_kd M v0 = 1) (hv2 : m_kd M v2 = 19000) (h : d_X0_told v0 v1 v2 M = some (r, M')) : x_Me l S0 D cA yX0_told cX0_told 4 (some .int) [(0, 9, 12, 13)] ({ frames := 7, cells := 1, slots := 6, locals := 115 }) [.ref v0, vI v1, .ref v2] M (.returned (some (vI r))) M' := by
  refine x_begin (F := 7) (Lo := 115) (mc := 1) (ms := 6) hG (Nat.le_of_ble_eq_true rfl) (lv := [(0, .ref v0), (1, vI v1), (2, .ref v2)]) rfl rfl rfl rfl rfl (fun X e1 e2 e3 e4 e5 C => ?_)
  have hR : _ ∧ _ := ⟨Nat.le_of_eq (congrArg Room.cells e5).symm, Nat.le_of_eq (congrArg Room.slots e5).symm⟩
  unfold d_X0_told at h
  refine z_aload_n (pc := 0) C 2 rfl dX0_told_0 ?_
  refine z_iconst (pc := 1) C dX0_told_1 ?_
  refine z_aload_n (pc := 2) C 0 rfl dX0_told_2 ?_
  refine z_iload_n (pc := 3) C 1 rfl dX0_told_3 ?_
  rcases bCs h with ⟨r1, M3, e4, h⟩ | ⟨q2, M3, e4, h⟩
  · refine cX0_138 (pc := 4) (st := [vI 0, .ref v2]) (st1 := [vI r1, vI 0, .ref v2]) C rfl (rm := { frames := 6, cells := 0, slots := 0, locals := 90 }) (ct_X1_told C.2.1 v0 v1 M _ _ hv0 e4) ⟨by decide, by decide, Nat.zero_le _, Nat.zero_le _⟩ (Or.inl hv0) rfl (Nat.le_of_ble_eq_true rfl) dX0_told_4 (c2 := 0) (s2 := 0) rfl rfl (fun x5 => ?_)
    have k6 := x5 _ 19000 (by decide) (Or.inr (by decide)) hv2
    refine z_i2l (pc := 7) C dX0_told_7 ?_
    refine z_lsw (pc := 8) C k6 (by decide +kernel) dX0_told_8 ?_
    refine z_goto (pc := 9) C dX0_told_9 (tgt := 15) (by decide) ?_
    refine z_iconst (pc := 15) C dX0_told_15 ?_
    cases h
    exact z_iret (pc := 16) C rfl (show 0 ≤ 1 from by decide) (show 0 ≤ 6 from by decide) dX0_told_16
  · by_cases c7 : m_kd M3 q2 = 113
    · have h := itt c7 h
      refine kX0_138 (pc := 4) (st := [vI 0, .ref v2]) C rfl (rm := { frames := 6, cells := 1, slots := 6, locals := 90 }) (r := q2) (ct_X1_told C.2.1 v0 v1 M _ _ hv0 e4) ⟨by decide, by decide, Nat.le_trans (show 1 ≤ 1 from by decide) hR.1, Nat.le_trans (show 6 ≤ 6 from by decide) hR.2⟩ (Or.inl hv0) (Nat.le_of_ble_eq_true rfl) dX0_told_4 (e := 13) (hpc := 12) (by decide) (Or.inr c7) (Or.inr ⟨by decide, by decide, 13, by decide, q447, Or.inl ⟨rfl, rfl⟩⟩) (c2 := 1) (s2 := 6) rfl rfl (fun x8 => ?_)
      refine z_astore_n (pc := 12) C (lv' := [(0, .ref v0), (1, vI v1), (2, .ref v2), (3, .ref q2)]) (by decide) rfl dX0_told_12 ?_
      refine z_iconst (pc := 13) C dX0_told_13 ?_
      cases h
      exact z_iret (pc := 14) C rfl (show 1 ≤ 1 from by decide) (show 6 ≤ 6 from by decide) dX0_told_14
    · have h := itf c7 h
      cases h
def d_X3_init (v0 : Nat) (v1 : Nat) (M : Mem) : Option (Int × Mem) :=
  if m_sz M + 0 = v0 + 1 then 
  if x_whole (m_nw (m_nw (m_nw (m_nw (m_nw (m_nw (m_sr M 311 v0 0 (some v1)) 10300) 10301) 10302) 10303) 10305) 10306) v0 3 = true then 
  some (0, (m_se (m_nw (m_nw (m_nw (m_nw (m_nw (m_nw (m_sr M 311 v0 0 (some v1)) 10300) 10301) 10302) 10303) 10305) 10306) v0 3)) else none else none
theorem ct_X3_init {l : Launch} {S0 : State} {D : va_G} {cA : Nat → ClassId} (hG : x_G l S0 D cA) (v0 : Nat) (v1 : Nat) (M : Mem) (r : Int) (M' : Mem) (hv0 : m_kd M v0 = 103) (hv1 : x_isK M v1 1) (h : d_X3_init v0 v1 M = some (r, M')) : x_Me l S0 D cA yX3_init cX3_init 2 none [] ({ frames := 1, cells := 6, slots := 266, locals := 24 }) [.ref v0, .ref v1] M (.returned none) M' := by
  refine x_begin (F := 1) (Lo := 24) (mc := 6) (ms := 266) hG (Nat.le_of_ble_eq_true rfl) (lv := [(0, .ref v0), (1, .ref v1)]) rfl rfl rfl rfl rfl (fun X e1 e2 e3 e4 e5 C => ?_)
  have hR : _ ∧ _ := ⟨Nat.le_of_eq (congrArg Room.cells e5).symm, Nat.le_of_eq (congrArg Room.slots e5).symm⟩
  unfold d_X3_init at h
  refine z_aload_n (pc := 0) C 0 rfl dX3_init_0 ?_
  refine z_aload_n (pc := 1) C 1 rfl dX3_init_1 ?_
  refine pX3_311 (pc := 2) C rfl rfl (Or.inr hv0) (x_rku (by decide) (by decide) hv1) dX3_init_2 ?_
  refine z_aload_n (pc := 5) C 0 rfl dX3_init_5 ?_
  refine z_obj (pc := 6) C q239 q139 q140 (by decide) (by decide) (by decide) dX3_init_6 ?_
  refine z_aload_n (pc := 9) C 0 rfl dX3_init_9 ?_
  refine z_bipush (pc := 10) C (by decide +kernel) dX3_init_10 ?_
  obtain ⟨c1, h⟩ := ifn h
  refine aX3_300 (pc := 12) C rfl rfl hv0 (show m_sz M + 0 = v0 + 1 from by have := c1; omega) (Nat.le_trans (show 1 ≤ 6 from by decide) hR.1) (Nat.le_trans (show 56 ≤ 266 from by decide) hR.2) dX3_init_12 dX3_init_14 (c2 := 1) (s2 := 56) rfl rfl (fun x2 => ?_)
  have k3 := x2.k hv0 (by decide)
  have k4 := x2.u (by decide) hv1
  refine z_aload_n (pc := 17) C 0 rfl dX3_init_17 ?_
  refine z_bipush (pc := 18) C (by decide +kernel) dX3_init_18 ?_
  refine aX3_301 (pc := 20) C rfl rfl k3 (show m_sz M + 1 = v0 + 2 from by have := c1; omega) (Nat.le_trans (show 2 ≤ 6 from by decide) hR.1) (Nat.le_trans (show 112 ≤ 266 from by decide) hR.2) dX3_init_20 dX3_init_22 (c2 := 2) (s2 := 112) rfl rfl (fun x5 => ?_)
  have k6 := x5.k k3 (by decide)
  have k7 := x5.u (by decide) k4
  refine z_aload_n (pc := 25) C 0 rfl dX3_init_25 ?_
  refine z_bipush (pc := 26) C (by decide +kernel) dX3_init_26 ?_
  refine aX3_302 (pc := 28) C rfl rfl k6 (show m_sz M + 2 = v0 + 3 from by have := c1; omega) (Nat.le_trans (show 3 ≤ 6 from by decide) hR.1) (Nat.le_trans (show 168 ≤ 266 from by decide) hR.2) dX3_init_28 dX3_init_30 (c2 := 3) (s2 := 168) rfl rfl (fun x8 => ?_)
  have k9 := x8.k k6 (by decide)
  have k10 := x8.u (by decide) k7
  refine z_aload_n (pc := 33) C 0 rfl dX3_init_33 ?_
  refine z_bipush (pc := 34) C (by decide +kernel) dX3_init_34 ?_
  refine aX3_303 (pc := 36) C rfl rfl k9 (show m_sz M + 3 = v0 + 4 from by have := c1; omega) (Nat.le_trans (show 4 ≤ 6 from by decide) hR.1) (Nat.le_trans (show 224 ≤ 266 from by decide) hR.2) dX3_init_36 dX3_init_38 (c2 := 4) (s2 := 224) rfl rfl (fun x11 => ?_)
  have k12 := x11.k k9 (by decide)
  have k13 := x11.u (by decide) k10
  refine z_aload_n (pc := 41) C 0 rfl dX3_init_41 ?_
  refine z_bipush (pc := 42) C (by decide +kernel) dX3_init_42 ?_
  refine aX3_305 (pc := 44) C rfl rfl k12 (show m_sz M + 4 = v0 + 5 from by have := c1; omega) (Nat.le_trans (show 5 ≤ 6 from by decide) hR.1) (Nat.le_trans (show 245 ≤ 266 from by decide) hR.2) dX3_init_44 dX3_init_46 (c2 := 5) (s2 := 245) rfl rfl (fun x14 => ?_)
  have k15 := x14.k k12 (by decide)
  have k16 := x14.u (by decide) k13
  refine z_aload_n (pc := 49) C 0 rfl dX3_init_49 ?_
  refine z_bipush (pc := 50) C (by decide +kernel) dX3_init_50 ?_
  refine aX3_306 (pc := 52) C rfl rfl k15 (show m_sz M + 5 = v0 + 6 from by have := c1; omega) (Nat.le_trans (show 6 ≤ 6 from by decide) hR.1) (Nat.le_trans (show 266 ≤ 266 from by decide) hR.2) dX3_init_52 dX3_init_54 (c2 := 6) (s2 := 266) rfl rfl (fun x17 => ?_)
  have k18 := x17.k k15 (by decide)
  have k19 := x17.u (by decide) k16
  obtain ⟨c20, h⟩ := ifn h
  refine z_sealW (k := 3) v0 k18 (by decide) (by decide) c20 (fun k21 x22 => ?_)
  have k23 := x_sk.u k19 x22 (by decide) (by decide)
  cases h
  exact z_vret (pc := 57) C rfl (show 6 ≤ 6 from by decide) (show 266 ≤ 266 from by decide) dX3_init_57
def d_X4_init (v0 : Nat) (v1 : Nat) (M : Mem) : Option (Int × Mem) :=
  if m_sz M + 0 = v0 + 1 then 
  if x_whole (m_nw (m_nw (m_nw (m_sr M 403 v0 0 (some v1)) 10400) 10401) 10402) v0 4 = true then 
  some (0, (m_se (m_nw (m_nw (m_nw (m_sr M 403 v0 0 (some v1)) 10400) 10401) 10402) v0 4)) else none else none
theorem ct_X4_init {l : Launch} {S0 : State} {D : va_G} {cA : Nat → ClassId} (hG : x_G l S0 D cA) (v0 : Nat) (v1 : Nat) (M : Mem) (r : Int) (M' : Mem) (hv0 : m_kd M v0 = 104) (hv1 : x_isK M v1 1) (h : d_X4_init v0 v1 M = some (r, M')) : x_Me l S0 D cA yX4_init cX4_init 2 none [] ({ frames := 1, cells := 3, slots := 168, locals := 24 }) [.ref v0, .ref v1] M (.returned none) M' := by
  refine x_begin (F := 1) (Lo := 24) (mc := 3) (ms := 168) hG (Nat.le_of_ble_eq_true rfl) (lv := [(0, .ref v0), (1, .ref v1)]) rfl rfl rfl rfl rfl (fun X e1 e2 e3 e4 e5 C => ?_)
  have hR : _ ∧ _ := ⟨Nat.le_of_eq (congrArg Room.cells e5).symm, Nat.le_of_eq (congrArg Room.slots e5).symm⟩
  unfold d_X4_init at h
  refine z_aload_n (pc := 0) C 0 rfl dX4_init_0 ?_
  refine z_aload_n (pc := 1) C 1 rfl dX4_init_1 ?_
  refine pX4_403 (pc := 2) C rfl rfl (Or.inr hv0) (x_rku (by decide) (by decide) hv1) dX4_init_2 ?_
  refine z_aload_n (pc := 5) C 0 rfl dX4_init_5 ?_
  refine z_obj (pc := 6) C q287 q139 q140 (by decide) (by decide) (by decide) dX4_init_6 ?_
  refine z_aload_n (pc := 9) C 0 rfl dX4_init_9 ?_
  refine z_sipush (pc := 10) C (by decide +kernel) dX4_init_10 ?_
  obtain ⟨c1, h⟩ := ifn h
  refine aX4_400 (pc := 13) C rfl rfl hv0 (show m_sz M + 0 = v0 + 1 from by have := c1; omega) (Nat.le_trans (show 1 ≤ 3 from by decide) hR.1) (Nat.le_trans (show 144 ≤ 168 from by decide) hR.2) dX4_init_13 dX4_init_15 (c2 := 1) (s2 := 144) rfl rfl (fun x2 => ?_)
  have k3 := x2.k hv0 (by decide)
  have k4 := x2.u (by decide) hv1
  refine z_aload_n (pc := 18) C 0 rfl dX4_init_18 ?_
  refine z_bipush (pc := 19) C (by decide +kernel) dX4_init_19 ?_
  refine aX4_401 (pc := 21) C rfl rfl k3 (show m_sz M + 1 = v0 + 2 from by have := c1; omega) (Nat.le_trans (show 2 ≤ 3 from by decide) hR.1) (Nat.le_trans (show 156 ≤ 168 from by decide) hR.2) dX4_init_21 dX4_init_23 (c2 := 2) (s2 := 156) rfl rfl (fun x5 => ?_)
  have k6 := x5.k k3 (by decide)
  have k7 := x5.u (by decide) k4
  refine z_aload_n (pc := 26) C 0 rfl dX4_init_26 ?_
  refine z_bipush (pc := 27) C (by decide +kernel) dX4_init_27 ?_
  refine aX4_402 (pc := 29) C rfl rfl k6 (show m_sz M + 2 = v0 + 3 from by have := c1; omega) (Nat.le_trans (show 3 ≤ 3 from by decide) hR.1) (Nat.le_trans (show 168 ≤ 168 from by decide) hR.2) dX4_init_29 dX4_init_31 (c2 := 3) (s2 := 168) rfl rfl (fun x8 => ?_)
  have k9 := x8.k k6 (by decide)
  have k10 := x8.u (by decide) k7
  obtain ⟨c11, h⟩ := ifn h
  refine z_sealW (k := 4) v0 k9 (by decide) (by decide) c11 (fun k12 x13 => ?_)
  have k14 := x_sk.u k10 x13 (by decide) (by decide)
  cases h
  exact z_vret (pc := 34) C rfl (show 3 ≤ 3 from by decide) (show 168 ≤ 168 from by decide) dX4_init_34
def B_X1_init_262 (k262 : Nat → Int → Mem → Option (Int × Mem)) (v0 : Nat) (v1 : Int) (M : Mem) : Option (Int × Mem) :=
  if w32 600 ≤ w32 v1 then
    some (0, M)
  else
    if inb v1 600 then 
    k262 v0 (v1 + 1) (m_si M 106 v0 (ixn v1) (-1)) else none
def L_X1_init_262  : Nat → Nat → Int → Mem → Option (Int × Mem)
  | 0, _, _, _ => none
  | n + 1, v0, v1, M => B_X1_init_262 (L_X1_init_262  n) v0 v1 M
def d_X1_init (v0 : Nat) (M : Mem) : Option (Int × Mem) :=
  if m_sz M + 0 = v0 + 1 then 
  bN (d_X2_init (m_sz M + 8) (m_nw (m_nw (m_nw (m_nw (m_nw (m_nw (m_nw (m_nw (m_nw M 10104) 10105) 10106) 10107) 10108) 10109) 10110) 10112) 102)) fun r21 M22 => 
  if m_kd M22 v0 = 101 then 
  if m_kd M22 (m_sz M + 8) = 2 then 
  if m_sz M22 + 0 = v0 + 22 then 
  bN (d_X3_init (m_sz M22 + 4) v0 (m_nw (m_nw (m_nw (m_nw (m_nw (m_sr M22 113 v0 0 (some (m_sz M + 8))) 10114) 10116) 10119) 10121) 103)) fun r40 M41 => 
  if m_kd M41 v0 = 101 then 
  if m_kd M41 (m_sz M22 + 4) = 3 then 
  if m_sz M41 + 0 = v0 + 33 then 
  bN (d_X4_init (m_sz M41 + 9) v0 (m_nw (m_nw (m_nw (m_nw (m_nw (m_nw (m_nw (m_nw (m_nw (m_nw (m_sr M41 122 v0 0 (some (m_sz M22 + 4))) 10123) 10124) 10126) 10127) 10128) 10129) 10130) 10131) 10132) 104)) fun r69 M70 => 
  if m_kd M70 v0 = 101 then 
  if m_kd M70 (m_sz M41 + 9) = 4 then 
  if m_sz M70 + 0 = v0 + 46 then 
  if x_whole (m_nw (m_nw (m_nw (m_nw (m_nw (m_sr M70 133 v0 0 (some (m_sz M41 + 9))) 10135) 10138) 10140) 10142) 10144) v0 1 = true then 
  L_X1_init_262 FU v0 0 (m_se (m_nw (m_nw (m_nw (m_nw (m_nw (m_sr M70 133 v0 0 (some (m_sz M41 + 9))) 10135) 10138) 10140) 10142) 10144) v0 1) else none else none else none else none else none else none else none else none else none else none else none
theorem cB_X1_init_262 {X : x_Ctx} {M0 : Mem} (C : x_CC X 2 49 yX1_init cX1_init 2 none []) {k262 : Nat → Int → Mem → Option (Int × Mem)} (hk262 : ∀ (v0 : Nat) (v1 : Int) (M : Mem) (r : Int) (M' : Mem), m_kd M v0 = 1 → k262 v0 v1 M = some (r, M') → 50 ≤ (XR X).cells ∧ 16156 ≤ (XR X).slots → x_Z X 50 16156 (x_QF X M0 (.returned none) M' 50 16156) M0 M 2 [(0, .ref v0), (1, vI v1)] 262 []) (v0 : Nat) (v1 : Int) (M : Mem) (r : Int) (M' : Mem) (hv0 : m_kd M v0 = 1) (h : B_X1_init_262 k262 v0 v1 M = some (r, M')) (hR : 50 ≤ (XR X).cells ∧ 16156 ≤ (XR X).slots) : x_Z X 50 16156 (x_QF X M0 (.returned none) M' 50 16156) M0 M 2 [(0, .ref v0), (1, vI v1)] 262 [] := by
  unfold B_X1_init_262 at h
  refine z_iload_n (pc := 262) C 1 rfl dX1_init_262 ?_
  refine z_aload_n (pc := 263) C 0 rfl dX1_init_263 ?_
  refine gX1_106 (pc := 264) C rfl hv0 dX1_init_264 ?_
  refine z_alO (pc := 267) (k := 1) (j := 6) C 106 rfl (by decide) (by decide) (by decide) rfl rfl (by decide) rfl hv0 dX1_init_267 ?_
  refine z_ic_ge (pc := 268) C dX1_init_268 (tgt := 284) (by decide) (fun c90 => ?_) (fun c90 => ?_)
  · have h := itt c90 h
    cases h
    exact z_vret (pc := 284) C rfl (show 50 ≤ 50 from by decide) (show 16156 ≤ 16156 from by decide) dX1_init_284
  · have h := itf c90 h
    refine z_aload_n (pc := 271) C 0 rfl dX1_init_271 ?_
    refine gX1_106 (pc := 272) C rfl hv0 dX1_init_272 ?_
    refine z_iload_n (pc := 275) C 1 rfl dX1_init_275 ?_
    refine z_iconst (pc := 276) C dX1_init_276 ?_
    obtain ⟨c91, h⟩ := ifn h
    refine z_isO (pc := 277) (k := 1) (j := 6) C 106 rfl (by decide) (by decide) (by decide) rfl rfl rfl rfl hv0 c91 dX1_init_277 ?_
    refine z_iinc (pc := 278) C (lv' := [(0, .ref v0), (1, vI (v1 + 1))]) 1 rfl (by decide) rfl dX1_init_278 ?_
    refine z_goto (pc := 281) C dX1_init_281 (tgt := 262) (by decide) ?_
    exact hk262 v0 (v1 + 1) (m_si M 106 v0 (ixn v1) (-1)) _ _ hv0 h hR
theorem cL_X1_init_262 {X : x_Ctx} {M0 : Mem} (C : x_CC X 2 49 yX1_init cX1_init 2 none [])  : ∀ (n : Nat) (v0 : Nat) (v1 : Int) (M : Mem) (r : Int) (M' : Mem) (hv0 : m_kd M v0 = 1) (h : L_X1_init_262  n v0 v1 M = some (r, M')) (hR : 50 ≤ (XR X).cells ∧ 16156 ≤ (XR X).slots), x_Z X 50 16156 (x_QF X M0 (.returned none) M' 50 16156) M0 M 2 [(0, .ref v0), (1, vI v1)] 262 [] := by
  intro n
  induction n with
  | zero => intro v0 v1 M r M' hv0 h hR; cases h
  | succ n ih => intro v0 v1 M r M' hv0 h hR; exact cB_X1_init_262 C (fun v0 v1 M r M' hv0 h hR => ih v0 v1 M r M' hv0 h hR) v0 v1 M r M' hv0 h hR
theorem ct_X1_init {l : Launch} {S0 : State} {D : va_G} {cA : Nat → ClassId} (hG : x_G l S0 D cA) (v0 : Nat) (M : Mem) (r : Int) (M' : Mem) (hv0 : m_kd M v0 = 101) (h : d_X1_init v0 M = some (r, M')) : x_Me l S0 D cA yX1_init cX1_init 2 none [] ({ frames := 2, cells := 50, slots := 16156, locals := 49 }) [.ref v0] M (.returned none) M' := by
  refine x_begin (F := 2) (Lo := 49) (mc := 50) (ms := 16156) hG (Nat.le_of_ble_eq_true rfl) (lv := [(0, .ref v0)]) rfl rfl rfl rfl rfl (fun X e1 e2 e3 e4 e5 C => ?_)
  have hR : _ ∧ _ := ⟨Nat.le_of_eq (congrArg Room.cells e5).symm, Nat.le_of_eq (congrArg Room.slots e5).symm⟩
  unfold d_X1_init at h
  refine z_aload_n (pc := 0) C 0 rfl dX1_init_0 ?_
  refine z_obj (pc := 1) C q138 q139 q140 (by decide) (by decide) (by decide) dX1_init_1 ?_
  refine z_aload_n (pc := 4) C 0 rfl dX1_init_4 ?_
  refine z_bipush (pc := 5) C (by decide +kernel) dX1_init_5 ?_
  obtain ⟨c1, h⟩ := ifn h
  refine aX1_104 (pc := 7) C rfl rfl hv0 (show m_sz M + 0 = v0 + 1 from by have := c1; omega) (Nat.le_trans (show 1 ≤ 50 from by decide) hR.1) (Nat.le_trans (show 100 ≤ 16156 from by decide) hR.2) dX1_init_7 dX1_init_9 (c2 := 1) (s2 := 100) rfl rfl (fun x2 => ?_)
  have k3 := x2.k hv0 (by decide)
  refine z_aload_n (pc := 12) C 0 rfl dX1_init_12 ?_
  refine z_bipush (pc := 13) C (by decide +kernel) dX1_init_13 ?_
  refine aX1_105 (pc := 15) C rfl rfl k3 (show m_sz M + 1 = v0 + 2 from by have := c1; omega) (Nat.le_trans (show 2 ≤ 50 from by decide) hR.1) (Nat.le_trans (show 200 ≤ 16156 from by decide) hR.2) dX1_init_15 dX1_init_17 (c2 := 2) (s2 := 200) rfl rfl (fun x4 => ?_)
  have k5 := x4.k k3 (by decide)
  refine z_aload_n (pc := 20) C 0 rfl dX1_init_20 ?_
  refine z_sipush (pc := 21) C (by decide +kernel) dX1_init_21 ?_
  refine aX1_106 (pc := 24) C rfl rfl k5 (show m_sz M + 2 = v0 + 3 from by have := c1; omega) (Nat.le_trans (show 3 ≤ 50 from by decide) hR.1) (Nat.le_trans (show 800 ≤ 16156 from by decide) hR.2) dX1_init_24 dX1_init_26 (c2 := 3) (s2 := 800) rfl rfl (fun x6 => ?_)
  have k7 := x6.k k5 (by decide)
  refine z_aload_n (pc := 29) C 0 rfl dX1_init_29 ?_
  refine z_sipush (pc := 30) C (by decide +kernel) dX1_init_30 ?_
  refine aX1_107 (pc := 33) C rfl rfl k7 (show m_sz M + 3 = v0 + 4 from by have := c1; omega) (Nat.le_trans (show 4 ≤ 50 from by decide) hR.1) (Nat.le_trans (show 2300 ≤ 16156 from by decide) hR.2) dX1_init_33 dX1_init_35 (c2 := 4) (s2 := 2300) rfl rfl (fun x8 => ?_)
  have k9 := x8.k k7 (by decide)
  refine z_aload_n (pc := 38) C 0 rfl dX1_init_38 ?_
  refine z_sipush (pc := 39) C (by decide +kernel) dX1_init_39 ?_
  refine aX1_108 (pc := 42) C rfl rfl k9 (show m_sz M + 4 = v0 + 5 from by have := c1; omega) (Nat.le_trans (show 5 ≤ 50 from by decide) hR.1) (Nat.le_trans (show 3800 ≤ 16156 from by decide) hR.2) dX1_init_42 dX1_init_44 (c2 := 5) (s2 := 3800) rfl rfl (fun x10 => ?_)
  have k11 := x10.k k9 (by decide)
  refine z_aload_n (pc := 47) C 0 rfl dX1_init_47 ?_
  refine z_sipush (pc := 48) C (by decide +kernel) dX1_init_48 ?_
  refine aX1_109 (pc := 51) C rfl rfl k11 (show m_sz M + 5 = v0 + 6 from by have := c1; omega) (Nat.le_trans (show 6 ≤ 50 from by decide) hR.1) (Nat.le_trans (show 5300 ≤ 16156 from by decide) hR.2) dX1_init_51 dX1_init_53 (c2 := 6) (s2 := 5300) rfl rfl (fun x12 => ?_)
  have k13 := x12.k k11 (by decide)
  refine z_aload_n (pc := 56) C 0 rfl dX1_init_56 ?_
  refine z_sipush (pc := 57) C (by decide +kernel) dX1_init_57 ?_
  refine aX1_110 (pc := 60) C rfl rfl k13 (show m_sz M + 6 = v0 + 7 from by have := c1; omega) (Nat.le_trans (show 7 ≤ 50 from by decide) hR.1) (Nat.le_trans (show 6800 ≤ 16156 from by decide) hR.2) dX1_init_60 dX1_init_62 (c2 := 7) (s2 := 6800) rfl rfl (fun x14 => ?_)
  have k15 := x14.k k13 (by decide)
  refine z_aload_n (pc := 65) C 0 rfl dX1_init_65 ?_
  refine z_bipush (pc := 66) C (by decide +kernel) dX1_init_66 ?_
  refine aX1_112 (pc := 68) C rfl rfl k15 (show m_sz M + 7 = v0 + 8 from by have := c1; omega) (Nat.le_trans (show 8 ≤ 50 from by decide) hR.1) (Nat.le_trans (show 6806 ≤ 16156 from by decide) hR.2) dX1_init_68 dX1_init_71 (c2 := 8) (s2 := 6806) rfl rfl (fun x16 => ?_)
  have k17 := x16.k k15 (by decide)
  refine z_aload_n (pc := 74) C 0 rfl dX1_init_74 ?_
  refine nX1_2 (pc := 75) C rfl (a := m_sz M + 8) (Nat.le_trans (show 9 ≤ 50 from by decide) hR.1) (Nat.le_trans (show 6822 ≤ 16156 from by decide) hR.2) dX1_init_75 (c2 := 9) (s2 := 6822) rfl rfl rfl (fun k18 x19 => ?_)
  have k20 := x19.k k17 (by decide)
  refine z_dup (pc := 78) C rfl dX1_init_78 ?_
  obtain ⟨r21, M22, e23, h⟩ := bNs h
  refine cX1_39 (pc := 79) (st := [.ref (m_sz M + 8), .ref v0]) C rfl (rm := { frames := 1, cells := 12, slots := 3808, locals := 24 }) (ct_X2_init C.2.1 (m_sz M + 8) (m_nw (m_nw (m_nw (m_nw (m_nw (m_nw (m_nw (m_nw (m_nw M 10104) 10105) 10106) 10107) 10108) 10109) 10110) 10112) 102) _ _ k18 e23) ⟨by decide, by decide, Nat.le_trans (show 21 ≤ 50 from by decide) hR.1, Nat.le_trans (show 10630 ≤ 16156 from by decide) hR.2⟩ (Nat.le_of_ble_eq_true rfl) dX1_init_79 (c2 := 21) (s2 := 10630) rfl rfl (fun x24 => ?_)
  obtain ⟨c26, h⟩ := ifn h
  obtain ⟨c27, h⟩ := ifn h
  refine pX1_113 (pc := 82) C rfl (Or.inr c26) (x_rkk (k := 2) c27 (by unfold x_rk; decide)) dX1_init_82 ?_
  refine z_aload_n (pc := 85) C 0 rfl dX1_init_85 ?_
  refine z_sipush (pc := 86) C (by decide +kernel) dX1_init_86 ?_
  obtain ⟨c28, h⟩ := ifn h
  refine aX1_114 (pc := 89) C rfl rfl c26 (show m_sz M22 + 0 = v0 + 22 from by have := c28; omega) (Nat.le_trans (show 22 ≤ 50 from by decide) hR.1) (Nat.le_trans (show 11830 ≤ 16156 from by decide) hR.2) dX1_init_89 dX1_init_91 (c2 := 22) (s2 := 11830) rfl rfl (fun x29 => ?_)
  have k30 := x29.k c26 (by decide)
  refine z_aload_n (pc := 94) C 0 rfl dX1_init_94 ?_
  refine z_bipush (pc := 95) C (by decide +kernel) dX1_init_95 ?_
  refine aX1_116 (pc := 97) C rfl rfl k30 (show m_sz M22 + 1 = v0 + 23 from by have := c28; omega) (Nat.le_trans (show 23 ≤ 50 from by decide) hR.1) (Nat.le_trans (show 11846 ≤ 16156 from by decide) hR.2) dX1_init_97 dX1_init_99 (c2 := 23) (s2 := 11846) rfl rfl (fun x31 => ?_)
  have k32 := x31.k k30 (by decide)
  refine z_aload_n (pc := 102) C 0 rfl dX1_init_102 ?_
  refine z_bipush (pc := 103) C (by decide +kernel) dX1_init_103 ?_
  refine aX1_119 (pc := 105) C rfl rfl k32 (show m_sz M22 + 2 = v0 + 24 from by have := c28; omega) (Nat.le_trans (show 24 ≤ 50 from by decide) hR.1) (Nat.le_trans (show 11906 ≤ 16156 from by decide) hR.2) dX1_init_105 dX1_init_108 (c2 := 24) (s2 := 11906) rfl rfl (fun x33 => ?_)
  have k34 := x33.k k32 (by decide)
  refine z_aload_n (pc := 111) C 0 rfl dX1_init_111 ?_
  refine z_bipush (pc := 112) C (by decide +kernel) dX1_init_112 ?_
  refine aX1_121 (pc := 114) C rfl rfl k34 (show m_sz M22 + 3 = v0 + 25 from by have := c28; omega) (Nat.le_trans (show 25 ≤ 50 from by decide) hR.1) (Nat.le_trans (show 11966 ≤ 16156 from by decide) hR.2) dX1_init_114 dX1_init_117 (c2 := 25) (s2 := 11966) rfl rfl (fun x35 => ?_)
  have k36 := x35.k k34 (by decide)
  refine z_aload_n (pc := 120) C 0 rfl dX1_init_120 ?_
  refine nX1_3 (pc := 121) C rfl (a := m_sz M22 + 4) (Nat.le_trans (show 26 ≤ 50 from by decide) hR.1) (Nat.le_trans (show 11978 ≤ 16156 from by decide) hR.2) dX1_init_121 (c2 := 26) (s2 := 11978) rfl rfl rfl (fun k37 x38 => ?_)
  have k39 := x38.k k36 (by decide)
  refine z_dup (pc := 124) C rfl dX1_init_124 ?_
  refine z_aload_n (pc := 125) C 0 rfl dX1_init_125 ?_
  obtain ⟨r40, M41, e42, h⟩ := bNs h
  refine cX1_66 (pc := 126) (st := [.ref (m_sz M22 + 4), .ref v0]) C rfl (rm := { frames := 1, cells := 6, slots := 266, locals := 24 }) (ct_X3_init C.2.1 (m_sz M22 + 4) v0 (m_nw (m_nw (m_nw (m_nw (m_nw (m_sr M22 113 v0 0 (some (m_sz M + 8))) 10114) 10116) 10119) 10121) 103) _ _ k37 (Or.inr k39) e42) ⟨by decide, by decide, Nat.le_trans (show 32 ≤ 50 from by decide) hR.1, Nat.le_trans (show 12244 ≤ 16156 from by decide) hR.2⟩ (Nat.le_of_ble_eq_true rfl) dX1_init_126 (c2 := 32) (s2 := 12244) rfl rfl (fun x43 => ?_)
  obtain ⟨c45, h⟩ := ifn h
  obtain ⟨c46, h⟩ := ifn h
  refine pX1_122 (pc := 129) C rfl rfl (Or.inr c45) (x_rkk (k := 3) c46 (by unfold x_rk; decide)) dX1_init_129 ?_
  refine z_aload_n (pc := 132) C 0 rfl dX1_init_132 ?_
  refine z_bipush (pc := 133) C (by decide +kernel) dX1_init_133 ?_
  obtain ⟨c47, h⟩ := ifn h
  refine aX1_123 (pc := 135) C rfl rfl c45 (show m_sz M41 + 0 = v0 + 33 from by have := c47; omega) (Nat.le_trans (show 33 ≤ 50 from by decide) hR.1) (Nat.le_trans (show 12264 ≤ 16156 from by decide) hR.2) dX1_init_135 dX1_init_137 (c2 := 33) (s2 := 12264) rfl rfl (fun x48 => ?_)
  have k49 := x48.k c45 (by decide)
  refine z_aload_n (pc := 140) C 0 rfl dX1_init_140 ?_
  refine z_bipush (pc := 141) C (by decide +kernel) dX1_init_141 ?_
  refine aX1_124 (pc := 143) C rfl rfl k49 (show m_sz M41 + 1 = v0 + 34 from by have := c47; omega) (Nat.le_trans (show 34 ≤ 50 from by decide) hR.1) (Nat.le_trans (show 12324 ≤ 16156 from by decide) hR.2) dX1_init_143 dX1_init_145 (c2 := 34) (s2 := 12324) rfl rfl (fun x50 => ?_)
  have k51 := x50.k k49 (by decide)
  refine z_aload_n (pc := 148) C 0 rfl dX1_init_148 ?_
  refine z_bipush (pc := 149) C (by decide +kernel) dX1_init_149 ?_
  refine aX1_126 (pc := 151) C rfl rfl k51 (show m_sz M41 + 2 = v0 + 35 from by have := c47; omega) (Nat.le_trans (show 35 ≤ 50 from by decide) hR.1) (Nat.le_trans (show 12336 ≤ 16156 from by decide) hR.2) dX1_init_151 dX1_init_154 (c2 := 35) (s2 := 12336) rfl rfl (fun x52 => ?_)
  have k53 := x52.k k51 (by decide)
  refine z_aload_n (pc := 157) C 0 rfl dX1_init_157 ?_
  refine z_bipush (pc := 158) C (by decide +kernel) dX1_init_158 ?_
  refine aX1_127 (pc := 160) C rfl rfl k53 (show m_sz M41 + 3 = v0 + 36 from by have := c47; omega) (Nat.le_trans (show 36 ≤ 50 from by decide) hR.1) (Nat.le_trans (show 12436 ≤ 16156 from by decide) hR.2) dX1_init_160 dX1_init_162 (c2 := 36) (s2 := 12436) rfl rfl (fun x54 => ?_)
  have k55 := x54.k k53 (by decide)
  refine z_aload_n (pc := 165) C 0 rfl dX1_init_165 ?_
  refine z_bipush (pc := 166) C (by decide +kernel) dX1_init_166 ?_
  refine aX1_128 (pc := 168) C rfl rfl k55 (show m_sz M41 + 4 = v0 + 37 from by have := c47; omega) (Nat.le_trans (show 37 ≤ 50 from by decide) hR.1) (Nat.le_trans (show 12536 ≤ 16156 from by decide) hR.2) dX1_init_168 dX1_init_170 (c2 := 37) (s2 := 12536) rfl rfl (fun x56 => ?_)
  have k57 := x56.k k55 (by decide)
  refine z_aload_n (pc := 173) C 0 rfl dX1_init_173 ?_
  refine z_bipush (pc := 174) C (by decide +kernel) dX1_init_174 ?_
  refine aX1_129 (pc := 176) C rfl rfl k57 (show m_sz M41 + 5 = v0 + 38 from by have := c47; omega) (Nat.le_trans (show 38 ≤ 50 from by decide) hR.1) (Nat.le_trans (show 12636 ≤ 16156 from by decide) hR.2) dX1_init_176 dX1_init_178 (c2 := 38) (s2 := 12636) rfl rfl (fun x58 => ?_)
  have k59 := x58.k k57 (by decide)
  refine z_aload_n (pc := 181) C 0 rfl dX1_init_181 ?_
  refine z_bipush (pc := 182) C (by decide +kernel) dX1_init_182 ?_
  refine aX1_130 (pc := 184) C rfl rfl k59 (show m_sz M41 + 6 = v0 + 39 from by have := c47; omega) (Nat.le_trans (show 39 ≤ 50 from by decide) hR.1) (Nat.le_trans (show 12736 ≤ 16156 from by decide) hR.2) dX1_init_184 dX1_init_186 (c2 := 39) (s2 := 12736) rfl rfl (fun x60 => ?_)
  have k61 := x60.k k59 (by decide)
  refine z_aload_n (pc := 189) C 0 rfl dX1_init_189 ?_
  refine z_bipush (pc := 190) C (by decide +kernel) dX1_init_190 ?_
  refine aX1_131 (pc := 192) C rfl rfl k61 (show m_sz M41 + 7 = v0 + 40 from by have := c47; omega) (Nat.le_trans (show 40 ≤ 50 from by decide) hR.1) (Nat.le_trans (show 12836 ≤ 16156 from by decide) hR.2) dX1_init_192 dX1_init_194 (c2 := 40) (s2 := 12836) rfl rfl (fun x62 => ?_)
  have k63 := x62.k k61 (by decide)
  refine z_aload_n (pc := 197) C 0 rfl dX1_init_197 ?_
  refine z_bipush (pc := 198) C (by decide +kernel) dX1_init_198 ?_
  refine aX1_132 (pc := 200) C rfl rfl k63 (show m_sz M41 + 8 = v0 + 41 from by have := c47; omega) (Nat.le_trans (show 41 ≤ 50 from by decide) hR.1) (Nat.le_trans (show 12936 ≤ 16156 from by decide) hR.2) dX1_init_200 dX1_init_202 (c2 := 41) (s2 := 12936) rfl rfl (fun x64 => ?_)
  have k65 := x64.k k63 (by decide)
  refine z_aload_n (pc := 205) C 0 rfl dX1_init_205 ?_
  refine nX1_4 (pc := 206) C rfl (a := m_sz M41 + 9) (Nat.le_trans (show 42 ≤ 50 from by decide) hR.1) (Nat.le_trans (show 12940 ≤ 16156 from by decide) hR.2) dX1_init_206 (c2 := 42) (s2 := 12940) rfl rfl rfl (fun k66 x67 => ?_)
  have k68 := x67.k k65 (by decide)
  refine z_dup (pc := 209) C rfl dX1_init_209 ?_
  refine z_aload_n (pc := 210) C 0 rfl dX1_init_210 ?_
  obtain ⟨r69, M70, e71, h⟩ := bNs h
  refine cX1_105 (pc := 211) (st := [.ref (m_sz M41 + 9), .ref v0]) C rfl (rm := { frames := 1, cells := 3, slots := 168, locals := 24 }) (ct_X4_init C.2.1 (m_sz M41 + 9) v0 (m_nw (m_nw (m_nw (m_nw (m_nw (m_nw (m_nw (m_nw (m_nw (m_nw (m_sr M41 122 v0 0 (some (m_sz M22 + 4))) 10123) 10124) 10126) 10127) 10128) 10129) 10130) 10131) 10132) 104) _ _ k66 (Or.inr k68) e71) ⟨by decide, by decide, Nat.le_trans (show 45 ≤ 50 from by decide) hR.1, Nat.le_trans (show 13108 ≤ 16156 from by decide) hR.2⟩ (Nat.le_of_ble_eq_true rfl) dX1_init_211 (c2 := 45) (s2 := 13108) rfl rfl (fun x72 => ?_)
  obtain ⟨c74, h⟩ := ifn h
  obtain ⟨c75, h⟩ := ifn h
  refine pX1_133 (pc := 214) C rfl rfl (Or.inr c74) (x_rkk (k := 4) c75 (by unfold x_rk; decide)) dX1_init_214 ?_
  refine z_aload_n (pc := 217) C 0 rfl dX1_init_217 ?_
  refine z_bipush (pc := 218) C (by decide +kernel) dX1_init_218 ?_
  obtain ⟨c76, h⟩ := ifn h
  refine aX1_135 (pc := 220) C rfl rfl c74 (show m_sz M70 + 0 = v0 + 46 from by have := c76; omega) (Nat.le_trans (show 46 ≤ 50 from by decide) hR.1) (Nat.le_trans (show 13120 ≤ 16156 from by decide) hR.2) dX1_init_220 dX1_init_223 (c2 := 46) (s2 := 13120) rfl rfl (fun x77 => ?_)
  have k78 := x77.k c74 (by decide)
  refine z_aload_n (pc := 226) C 0 rfl dX1_init_226 ?_
  refine z_bipush (pc := 227) C (by decide +kernel) dX1_init_227 ?_
  refine aX1_138 (pc := 229) C rfl rfl k78 (show m_sz M70 + 1 = v0 + 47 from by have := c76; omega) (Nat.le_trans (show 47 ≤ 50 from by decide) hR.1) (Nat.le_trans (show 13132 ≤ 16156 from by decide) hR.2) dX1_init_229 dX1_init_231 (c2 := 47) (s2 := 13132) rfl rfl (fun x79 => ?_)
  have k80 := x79.k k78 (by decide)
  refine z_aload_n (pc := 234) C 0 rfl dX1_init_234 ?_
  refine z_bipush (pc := 235) C (by decide +kernel) dX1_init_235 ?_
  refine aX1_140 (pc := 237) C rfl rfl k80 (show m_sz M70 + 2 = v0 + 48 from by have := c76; omega) (Nat.le_trans (show 48 ≤ 50 from by decide) hR.1) (Nat.le_trans (show 13144 ≤ 16156 from by decide) hR.2) dX1_init_237 dX1_init_239 (c2 := 48) (s2 := 13144) rfl rfl (fun x81 => ?_)
  have k82 := x81.k k80 (by decide)
  refine z_aload_n (pc := 242) C 0 rfl dX1_init_242 ?_
  refine z_bipush (pc := 243) C (by decide +kernel) dX1_init_243 ?_
  refine aX1_142 (pc := 245) C rfl rfl k82 (show m_sz M70 + 3 = v0 + 49 from by have := c76; omega) (Nat.le_trans (show 49 ≤ 50 from by decide) hR.1) (Nat.le_trans (show 13156 ≤ 16156 from by decide) hR.2) dX1_init_245 dX1_init_248 (c2 := 49) (s2 := 13156) rfl rfl (fun x83 => ?_)
  have k84 := x83.k k82 (by decide)
  refine z_aload_n (pc := 251) C 0 rfl dX1_init_251 ?_
  refine z_sipush (pc := 252) C (by decide +kernel) dX1_init_252 ?_
  refine aX1_144 (pc := 255) C rfl rfl k84 (show m_sz M70 + 4 = v0 + 50 from by have := c76; omega) (Nat.le_trans (show 50 ≤ 50 from by decide) hR.1) (Nat.le_trans (show 16156 ≤ 16156 from by decide) hR.2) dX1_init_255 dX1_init_257 (c2 := 50) (s2 := 16156) rfl rfl (fun x85 => ?_)
  have k86 := x85.k k84 (by decide)
  obtain ⟨c87, h⟩ := ifn h
  refine z_sealW (k := 1) v0 k86 (by decide) (by decide) c87 (fun k88 x89 => ?_)
  refine z_iconst (pc := 260) C dX1_init_260 ?_
  refine z_istore_n (pc := 261) C (lv' := [(0, .ref v0), (1, vI 0)]) (by decide) rfl dX1_init_261 ?_
  exact cL_X1_init_262 C FU v0 0 (m_se (m_nw (m_nw (m_nw (m_nw (m_nw (m_sr M70 133 v0 0 (some (m_sz M41 + 9))) 10135) 10138) 10140) 10142) 10144) v0 1) _ _ k88 h hR
