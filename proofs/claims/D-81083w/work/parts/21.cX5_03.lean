set_option maxRecDepth 100000
def B_X5_back_38 (k38 : Nat → Int → Int → Int → Mem → Option (Int × Mem)) (v0 : Nat) (v1 : Int) (v2 : Int) (v3 : Int) (M : Mem) : Option (Int × Mem) :=
  if inb v1 60 then 
  if inb (m_i M 539 v0 (ixn v1)) 6 then 
  if w32 (m_i M 515 v0 (ixn (m_i M 539 v0 (ixn v1)))) ≤ w32 v3 then
    if w32 v2 = w32 (-1) then
      some (-1, M)
    else
      bN (d_X5_forgetNotes v0 v1 M) fun r10 M11 => 
      if inb ((20 * v1) + v2) 1200 then 
      bN (d_X5_questionOf v0 v1 (m_si (m_si (m_si (m_si M11 548 v0 (ixn v1) (-1)) 543 v0 (ixn ((20 * v1) + v2)) (bz 0)) 545 v0 (ixn ((20 * v1) + v2)) (bz 1)) 546 v0 (ixn ((20 * v1) + v2)) (m_i M11 544 v0 (ixn ((20 * v1) + v2))))) fun r16 M17 => 
      some (r16, M17) else none
  else
    if inb ((20 * v1) + v3) 1200 then 
    if w32 (m_i M 543 v0 (ixn ((20 * v1) + v3))) = 0 then
      k38 v0 v1 v2 (v3 + 1) M
    else
      k38 v0 v1 v3 (v3 + 1) M else none else none else none
def L_X5_back_38  : Nat → Nat → Int → Int → Int → Mem → Option (Int × Mem)
  | 0, _, _, _, _, _ => none
  | n + 1, v0, v1, v2, v3, M => B_X5_back_38 (L_X5_back_38  n) v0 v1 v2 v3 M
def d_X5_back (v0 : Nat) (v1 : Int) (M : Mem) : Option (Int × Mem) :=
  bR (d_X5_isSession v0 v1 (m_si M 500 v0 0 0)) fun r1 => 
  if w32 r1 = 0 then
    bN (d_X5_fail v0 1 (m_si M 500 v0 0 0)) fun r26 M27 => 
    some (r26, M27)
  else
    if inb v1 60 then 
    if w32 (m_i M 542 v0 (ixn v1)) = 0 then
      L_X5_back_38 FU v0 v1 (-1) 0 (m_si M 500 v0 0 0)
    else
      bN (d_X5_fail v0 2 (m_si M 500 v0 0 0)) fun r22 M23 => 
      some (r22, M23) else none
theorem cB_X5_back_38 {X : x_Ctx} {M0 : Mem} (C : x_CC X 6 172 yX5_back cX5_back 4 (some .int) []) {k38 : Nat → Int → Int → Int → Mem → Option (Int × Mem)} (hk38 : ∀ (v0 : Nat) (v1 : Int) (v2 : Int) (v3 : Int) (M : Mem) (r : Int) (M' : Mem), m_kd M v0 = 5 → k38 v0 v1 v2 v3 M = some (r, M') → x_Z X 0 0 (x_QF X M0 (.returned (some (vI r))) M' 0 0) M0 M 4 [(0, .ref v0), (1, vI v1), (2, vI v2), (3, vI v3)] 38 []) (v0 : Nat) (v1 : Int) (v2 : Int) (v3 : Int) (M : Mem) (r : Int) (M' : Mem) (hv0 : m_kd M v0 = 5) (h : B_X5_back_38 k38 v0 v1 v2 v3 M = some (r, M'))  : x_Z X 0 0 (x_QF X M0 (.returned (some (vI r))) M' 0 0) M0 M 4 [(0, .ref v0), (1, vI v1), (2, vI v2), (3, vI v3)] 38 [] := by
  unfold B_X5_back_38 at h
  refine z_iload_n (pc := 38) C 3 rfl dX5_back_38 ?_
  refine z_aload_n (pc := 39) C 0 rfl dX5_back_39 ?_
  refine gX5_515 (pc := 40) C rfl hv0 dX5_back_40 ?_
  refine z_aload_n (pc := 43) C 0 rfl dX5_back_43 ?_
  refine gX5_539 (pc := 44) C rfl hv0 dX5_back_44 ?_
  refine z_iload_n (pc := 47) C 1 rfl dX5_back_47 ?_
  obtain ⟨c6, h⟩ := ifn h
  refine z_iaO (pc := 48) (k := 5) (j := 39) C 539 rfl (by decide) (by decide) (by decide) rfl rfl rfl rfl hv0 c6 rfl dX5_back_48 ?_
  obtain ⟨c7, h⟩ := ifn h
  refine z_iaO (pc := 49) (k := 5) (j := 15) C 515 rfl (by decide) (by decide) (by decide) rfl rfl rfl rfl hv0 c7 rfl dX5_back_49 ?_
  refine z_ic_ge (pc := 50) C dX5_back_50 (tgt := 79) (by decide) (fun c8 => ?_) (fun c8 => ?_)
  · have h := itt c8 h
    refine z_iload_n (pc := 79) C 2 rfl dX5_back_79 ?_
    refine z_iconst (pc := 80) C dX5_back_80 ?_
    refine z_ic_ne (pc := 81) C dX5_back_81 (tgt := 86) (by decide) (fun c9 => ?_) (fun c9 => ?_)
    · have h := itf c9 h
      refine z_aload_n (pc := 86) C 0 rfl dX5_back_86 ?_
      refine z_iload_n (pc := 87) C 1 rfl dX5_back_87 ?_
      obtain ⟨r10, M11, e12, h⟩ := bNs h
      refine cX5_392 (pc := 88) (st := []) (st1 := []) C rfl (rm := { frames := 1, cells := 0, slots := 0, locals := 24 }) (ct_X5_forgetNotes C.2.1 v0 v1 M _ _ hv0 e12) ⟨by decide, by decide, Nat.zero_le _, Nat.zero_le _⟩ (Or.inl hv0) rfl (Nat.le_of_ble_eq_true rfl) dX5_back_88 (c2 := 0) (s2 := 0) rfl rfl (fun x13 => ?_)
      have k14 := x13 _ 5 (by decide) (Or.inl (by decide)) hv0
      refine z_aload_n (pc := 91) C 0 rfl dX5_back_91 ?_
      refine gX5_548 (pc := 92) C rfl k14 dX5_back_92 ?_
      refine z_iload_n (pc := 95) C 1 rfl dX5_back_95 ?_
      refine z_iconst (pc := 96) C dX5_back_96 ?_
      refine z_isO (pc := 97) (k := 5) (j := 48) C 548 rfl (by decide) (by decide) (by decide) rfl rfl rfl rfl k14 c6 dX5_back_97 ?_
      refine z_aload_n (pc := 98) C 0 rfl dX5_back_98 ?_
      refine gX5_543 (pc := 99) C rfl k14 dX5_back_99 ?_
      refine z_bipush (pc := 102) C (by decide +kernel) dX5_back_102 ?_
      refine z_iload_n (pc := 104) C 1 rfl dX5_back_104 ?_
      refine z_imul (pc := 105) C dX5_back_105 ?_
      refine z_iload_n (pc := 106) C 2 rfl dX5_back_106 ?_
      refine z_iadd (pc := 107) C dX5_back_107 ?_
      refine z_iconst (pc := 108) C dX5_back_108 ?_
      obtain ⟨c15, h⟩ := ifn h
      refine z_zsO (pc := 109) (k := 5) (j := 43) C 543 rfl (by decide) (by decide) (by decide) rfl rfl rfl rfl k14 c15 dX5_back_109 ?_
      refine z_aload_n (pc := 110) C 0 rfl dX5_back_110 ?_
      refine gX5_545 (pc := 111) C rfl k14 dX5_back_111 ?_
      refine z_bipush (pc := 114) C (by decide +kernel) dX5_back_114 ?_
      refine z_iload_n (pc := 116) C 1 rfl dX5_back_116 ?_
      refine z_imul (pc := 117) C dX5_back_117 ?_
      refine z_iload_n (pc := 118) C 2 rfl dX5_back_118 ?_
      refine z_iadd (pc := 119) C dX5_back_119 ?_
      refine z_iconst (pc := 120) C dX5_back_120 ?_
      refine z_zsO (pc := 121) (k := 5) (j := 45) C 545 rfl (by decide) (by decide) (by decide) rfl rfl rfl rfl k14 c15 dX5_back_121 ?_
      refine z_aload_n (pc := 122) C 0 rfl dX5_back_122 ?_
      refine gX5_546 (pc := 123) C rfl k14 dX5_back_123 ?_
      refine z_bipush (pc := 126) C (by decide +kernel) dX5_back_126 ?_
      refine z_iload_n (pc := 128) C 1 rfl dX5_back_128 ?_
      refine z_imul (pc := 129) C dX5_back_129 ?_
      refine z_iload_n (pc := 130) C 2 rfl dX5_back_130 ?_
      refine z_iadd (pc := 131) C dX5_back_131 ?_
      refine z_aload_n (pc := 132) C 0 rfl dX5_back_132 ?_
      refine gX5_544 (pc := 133) C rfl k14 dX5_back_133 ?_
      refine z_bipush (pc := 136) C (by decide +kernel) dX5_back_136 ?_
      refine z_iload_n (pc := 138) C 1 rfl dX5_back_138 ?_
      refine z_imul (pc := 139) C dX5_back_139 ?_
      refine z_iload_n (pc := 140) C 2 rfl dX5_back_140 ?_
      refine z_iadd (pc := 141) C dX5_back_141 ?_
      refine z_iaO (pc := 142) (k := 5) (j := 44) C 544 rfl (by decide) (by decide) (by decide) rfl rfl rfl rfl k14 c15 (x := m_i M11 544 v0 (ixn ((20 * v1) + v2))) ((m_i_ne (by decide)).trans ((m_i_ne (by decide)).trans ((m_i_ne (by decide)).trans rfl))) dX5_back_142 ?_
      refine z_isO (pc := 143) (k := 5) (j := 46) C 546 rfl (by decide) (by decide) (by decide) rfl rfl rfl rfl k14 c15 dX5_back_143 ?_
      refine z_aload_n (pc := 144) C 0 rfl dX5_back_144 ?_
      refine z_iload_n (pc := 145) C 1 rfl dX5_back_145 ?_
      obtain ⟨r16, M17, e18, h⟩ := bNs h
      refine cX5_389 (pc := 146) (st := []) (st1 := [vI r16]) C rfl (rm := { frames := 5, cells := 0, slots := 0, locals := 147 }) (ct_X5_questionOf C.2.1 v0 v1 (m_si (m_si (m_si (m_si M11 548 v0 (ixn v1) (-1)) 543 v0 (ixn ((20 * v1) + v2)) (bz 0)) 545 v0 (ixn ((20 * v1) + v2)) (bz 1)) 546 v0 (ixn ((20 * v1) + v2)) (m_i M11 544 v0 (ixn ((20 * v1) + v2)))) _ _ k14 e18) ⟨by decide, by decide, Nat.zero_le _, Nat.zero_le _⟩ (Or.inl k14) rfl (Nat.le_of_ble_eq_true rfl) dX5_back_146 (c2 := 0) (s2 := 0) rfl rfl (fun x19 => ?_)
      cases h
      exact z_iret (pc := 149) C rfl (show 0 ≤ 0 from by decide) (show 0 ≤ 0 from by decide) dX5_back_149
    · have h := itt c9 h
      refine z_iconst (pc := 84) C dX5_back_84 ?_
      cases h
      exact z_iret (pc := 85) C rfl (show 0 ≤ 0 from by decide) (show 0 ≤ 0 from by decide) dX5_back_85
  · have h := itf c8 h
    refine z_aload_n (pc := 53) C 0 rfl dX5_back_53 ?_
    refine gX5_543 (pc := 54) C rfl hv0 dX5_back_54 ?_
    refine z_bipush (pc := 57) C (by decide +kernel) dX5_back_57 ?_
    refine z_iload_n (pc := 59) C 1 rfl dX5_back_59 ?_
    refine z_imul (pc := 60) C dX5_back_60 ?_
    refine z_iload_n (pc := 61) C 3 rfl dX5_back_61 ?_
    refine z_iadd (pc := 62) C dX5_back_62 ?_
    obtain ⟨c20, h⟩ := ifn h
    refine z_zaO (pc := 63) (k := 5) (j := 43) C 543 rfl (by decide) (by decide) (by decide) rfl rfl rfl rfl hv0 c20 rfl dX5_back_63 ?_
    refine z_if_eq (pc := 64) C dX5_back_64 (tgt := 71) (by decide) (fun c21 => ?_) (fun c21 => ?_)
    · have h := itt c21 h
      refine z_iload_n (pc := 71) C 2 rfl dX5_back_71 ?_
      refine z_istore_n (pc := 72) C (lv' := [(0, .ref v0), (1, vI v1), (2, vI v2), (3, vI v3)]) (by decide) rfl dX5_back_72 ?_
      refine z_iinc (pc := 73) C (lv' := [(0, .ref v0), (1, vI v1), (2, vI v2), (3, vI (v3 + 1))]) 3 rfl (by decide) rfl dX5_back_73 ?_
      refine z_goto (pc := 76) C dX5_back_76 (tgt := 38) (by decide) ?_
      exact hk38 v0 v1 v2 (v3 + 1) M _ _ hv0 h
    · have h := itf c21 h
      refine z_iload_n (pc := 67) C 3 rfl dX5_back_67 ?_
      refine z_goto (pc := 68) C dX5_back_68 (tgt := 72) (by decide) ?_
      refine z_istore_n (pc := 72) C (lv' := [(0, .ref v0), (1, vI v1), (2, vI v3), (3, vI v3)]) (by decide) rfl dX5_back_72 ?_
      refine z_iinc (pc := 73) C (lv' := [(0, .ref v0), (1, vI v1), (2, vI v3), (3, vI (v3 + 1))]) 3 rfl (by decide) rfl dX5_back_73 ?_
      refine z_goto (pc := 76) C dX5_back_76 (tgt := 38) (by decide) ?_
      exact hk38 v0 v1 v3 (v3 + 1) M _ _ hv0 h
theorem cL_X5_back_38 {X : x_Ctx} {M0 : Mem} (C : x_CC X 6 172 yX5_back cX5_back 4 (some .int) [])  : ∀ (n : Nat) (v0 : Nat) (v1 : Int) (v2 : Int) (v3 : Int) (M : Mem) (r : Int) (M' : Mem) (hv0 : m_kd M v0 = 5) (h : L_X5_back_38  n v0 v1 v2 v3 M = some (r, M')) , x_Z X 0 0 (x_QF X M0 (.returned (some (vI r))) M' 0 0) M0 M 4 [(0, .ref v0), (1, vI v1), (2, vI v2), (3, vI v3)] 38 [] := by
  intro n
  induction n with
  | zero => intro v0 v1 v2 v3 M r M' hv0 h ; cases h
  | succ n ih => intro v0 v1 v2 v3 M r M' hv0 h ; exact cB_X5_back_38 C (fun v0 v1 v2 v3 M r M' hv0 h  => ih v0 v1 v2 v3 M r M' hv0 h ) v0 v1 v2 v3 M r M' hv0 h 
theorem ct_X5_back {l : Launch} {S0 : State} {D : va_G} {cA : Nat → ClassId} (hG : x_G l S0 D cA) (v0 : Nat) (v1 : Int) (M : Mem) (r : Int) (M' : Mem) (hv0 : m_kd M v0 = 5) (h : d_X5_back v0 v1 M = some (r, M')) : x_Me l S0 D cA yX5_back cX5_back 4 (some .int) [] ({ frames := 6, cells := 0, slots := 0, locals := 172 }) [.ref v0, vI v1] M (.returned (some (vI r))) M' := by
  refine x_begin (F := 6) (Lo := 172) (mc := 0) (ms := 0) hG (Nat.le_of_ble_eq_true rfl) (lv := [(0, .ref v0), (1, vI v1)]) rfl rfl rfl rfl rfl (fun X e1 e2 e3 e4 e5 C => ?_)
  unfold d_X5_back at h
  refine z_aload_n (pc := 0) C 0 rfl dX5_back_0 ?_
  refine z_iconst (pc := 1) C dX5_back_1 ?_
  refine pX5_500 (pc := 2) C rfl (Or.inl hv0) dX5_back_2 ?_
  refine z_aload_n (pc := 5) C 0 rfl dX5_back_5 ?_
  refine z_iload_n (pc := 6) C 1 rfl dX5_back_6 ?_
  obtain ⟨r1, e2, h⟩ := bRs h
  refine cX5_386 (pc := 7) (st := []) (st1 := [vI r1]) C rfl (rm := { frames := 2, cells := 0, slots := 0, locals := 53 }) (ct_X5_isSession C.2.1 v0 v1 (m_si M 500 v0 0 0) _ hv0 e2) ⟨by decide, by decide, Nat.zero_le _, Nat.zero_le _⟩ (Or.inl hv0) rfl (Nat.le_of_ble_eq_true rfl) dX5_back_7 (c2 := 0) (s2 := 0) rfl rfl (fun _ => ?_)
  refine z_if_ne (pc := 10) C dX5_back_10 (tgt := 19) (by decide) (fun c3 => ?_) (fun c3 => ?_)
  · have h := itf c3 h
    refine z_aload_n (pc := 19) C 0 rfl dX5_back_19 ?_
    refine gX5_542 (pc := 20) C rfl hv0 dX5_back_20 ?_
    refine z_iload_n (pc := 23) C 1 rfl dX5_back_23 ?_
    obtain ⟨c4, h⟩ := ifn h
    refine z_zaO (pc := 24) (k := 5) (j := 42) C 542 rfl (by decide) (by decide) (by decide) rfl rfl rfl rfl hv0 c4 (x := m_i M 542 v0 (ixn v1)) ((m_i_ne (by decide)).trans rfl) dX5_back_24 ?_
    refine z_if_eq (pc := 25) C dX5_back_25 (tgt := 34) (by decide) (fun c5 => ?_) (fun c5 => ?_)
    · have h := itt c5 h
      refine z_iconst (pc := 34) C dX5_back_34 ?_
      refine z_istore_n (pc := 35) C (lv' := [(0, .ref v0), (1, vI v1), (2, vI (-1))]) (by decide) rfl dX5_back_35 ?_
      refine z_iconst (pc := 36) C dX5_back_36 ?_
      refine z_istore_n (pc := 37) C (lv' := [(0, .ref v0), (1, vI v1), (2, vI (-1)), (3, vI 0)]) (by decide) rfl dX5_back_37 ?_
      exact cL_X5_back_38 C FU v0 v1 (-1) 0 (m_si M 500 v0 0 0) _ _ hv0 h
    · have h := itf c5 h
      refine z_aload_n (pc := 28) C 0 rfl dX5_back_28 ?_
      refine z_iconst (pc := 29) C dX5_back_29 ?_
      obtain ⟨r22, M23, e24, h⟩ := bNs h
      refine cX5_213 (pc := 30) (st := []) (st1 := [vI r22]) C rfl (rm := { frames := 1, cells := 0, slots := 0, locals := 24 }) (ct_X5_fail C.2.1 v0 2 (m_si M 500 v0 0 0) _ _ hv0 e24) ⟨by decide, by decide, Nat.zero_le _, Nat.zero_le _⟩ (Or.inl hv0) rfl (Nat.le_of_ble_eq_true rfl) dX5_back_30 (c2 := 0) (s2 := 0) rfl rfl (fun x25 => ?_)
      cases h
      exact z_iret (pc := 33) C rfl (show 0 ≤ 0 from by decide) (show 0 ≤ 0 from by decide) dX5_back_33
  · have h := itt c3 h
    refine z_aload_n (pc := 13) C 0 rfl dX5_back_13 ?_
    refine z_iconst (pc := 14) C dX5_back_14 ?_
    obtain ⟨r26, M27, e28, h⟩ := bNs h
    refine cX5_213 (pc := 15) (st := []) (st1 := [vI r26]) C rfl (rm := { frames := 1, cells := 0, slots := 0, locals := 24 }) (ct_X5_fail C.2.1 v0 1 (m_si M 500 v0 0 0) _ _ hv0 e28) ⟨by decide, by decide, Nat.zero_le _, Nat.zero_le _⟩ (Or.inl hv0) rfl (Nat.le_of_ble_eq_true rfl) dX5_back_15 (c2 := 0) (s2 := 0) rfl rfl (fun x29 => ?_)
    cases h
    exact z_iret (pc := 18) C rfl (show 0 ≤ 0 from by decide) (show 0 ≤ 0 from by decide) dX5_back_18
def d_X5_given (v0 : Nat) (v1 : Int) (v2 : Int) (v3 : Int) (M : Mem) : Option (Int × Mem) :=
  bR (d_X5_isSession v0 v1 (m_si M 500 v0 0 0)) fun r1 => 
  if w32 r1 = 0 then
    bN (d_X5_fail v0 1 (m_si M 500 v0 0 0)) fun r4 M5 => 
    some (r4, M5)
  else
    if inb v1 60 then 
    if inb (m_i M 539 v0 (ixn v1)) 6 then 
    if w32 (d_X5_isIn (w32 v2) 0 (w32 ((m_i M 515 v0 (ixn (m_i M 539 v0 (ixn v1)))) - 1))) = 0 then
      bN (d_X5_fail v0 1 (m_si M 500 v0 0 0)) fun r21 M22 => 
      some (r21, M22)
    else
      if w32 v3 = 0 then
        bN (d_X5_walk v0 v1 (-1) (m_si M 500 v0 0 0)) fun r13 M14 => 
        if inb v2 20 then 
        some (m_i M14 534 v0 (ixn v2), M14) else none
      else
        if inb ((20 * v1) + v2) 1200 then 
        if w32 (m_i M 545 v0 (ixn ((20 * v1) + v2))) = 0 then
          some (-2000000, (m_si M 500 v0 0 0))
        else
          some (m_i M 546 v0 (ixn ((20 * v1) + v2)), (m_si M 500 v0 0 0)) else none else none else none
theorem ct_X5_given {l : Launch} {S0 : State} {D : va_G} {cA : Nat → ClassId} (hG : x_G l S0 D cA) (v0 : Nat) (v1 : Int) (v2 : Int) (v3 : Int) (M : Mem) (r : Int) (M' : Mem) (hv0 : m_kd M v0 = 5) (h : d_X5_given v0 v1 v2 v3 M = some (r, M')) : x_Me l S0 D cA yX5_given cX5_given 4 (some .int) [] ({ frames := 5, cells := 0, slots := 0, locals := 147 }) [.ref v0, vI v1, vI v2, vI v3] M (.returned (some (vI r))) M' := by
  refine x_begin (F := 5) (Lo := 147) (mc := 0) (ms := 0) hG (Nat.le_of_ble_eq_true rfl) (lv := [(0, .ref v0), (1, vI v1), (2, vI v2), (3, vI v3)]) rfl rfl rfl rfl rfl (fun X e1 e2 e3 e4 e5 C => ?_)
  unfold d_X5_given at h
  refine z_aload_n (pc := 0) C 0 rfl dX5_given_0 ?_
  refine z_iconst (pc := 1) C dX5_given_1 ?_
  refine pX5_500 (pc := 2) C rfl (Or.inl hv0) dX5_given_2 ?_
  refine z_aload_n (pc := 5) C 0 rfl dX5_given_5 ?_
  refine z_iload_n (pc := 6) C 1 rfl dX5_given_6 ?_
  obtain ⟨r1, e2, h⟩ := bRs h
  refine cX5_386 (pc := 7) (st := []) (st1 := [vI r1]) C rfl (rm := { frames := 2, cells := 0, slots := 0, locals := 53 }) (ct_X5_isSession C.2.1 v0 v1 (m_si M 500 v0 0 0) _ hv0 e2) ⟨by decide, by decide, Nat.zero_le _, Nat.zero_le _⟩ (Or.inl hv0) rfl (Nat.le_of_ble_eq_true rfl) dX5_given_7 (c2 := 0) (s2 := 0) rfl rfl (fun _ => ?_)
  refine z_if_eq (pc := 10) C dX5_given_10 (tgt := 36) (by decide) (fun c3 => ?_) (fun c3 => ?_)
  · have h := itt c3 h
    refine z_aload_n (pc := 36) C 0 rfl dX5_given_36 ?_
    refine z_iconst (pc := 37) C dX5_given_37 ?_
    obtain ⟨r4, M5, e6, h⟩ := bNs h
    refine cX5_213 (pc := 38) (st := []) (st1 := [vI r4]) C rfl (rm := { frames := 1, cells := 0, slots := 0, locals := 24 }) (ct_X5_fail C.2.1 v0 1 (m_si M 500 v0 0 0) _ _ hv0 e6) ⟨by decide, by decide, Nat.zero_le _, Nat.zero_le _⟩ (Or.inl hv0) rfl (Nat.le_of_ble_eq_true rfl) dX5_given_38 (c2 := 0) (s2 := 0) rfl rfl (fun x7 => ?_)
    cases h
    exact z_iret (pc := 41) C rfl (show 0 ≤ 0 from by decide) (show 0 ≤ 0 from by decide) dX5_given_41
  · have h := itf c3 h
    refine z_iload_n (pc := 13) C 2 rfl dX5_given_13 ?_
    refine z_i2l (pc := 14) C dX5_given_14 ?_
    refine z_lconst (pc := 15) C (x := 0) (by decide +kernel) dX5_given_15 ?_
    refine z_aload_n (pc := 16) C 0 rfl dX5_given_16 ?_
    refine gX5_515 (pc := 17) C rfl hv0 dX5_given_17 ?_
    refine z_aload_n (pc := 20) C 0 rfl dX5_given_20 ?_
    refine gX5_539 (pc := 21) C rfl hv0 dX5_given_21 ?_
    refine z_iload_n (pc := 24) C 1 rfl dX5_given_24 ?_
    obtain ⟨c8, h⟩ := ifn h
    refine z_iaO (pc := 25) (k := 5) (j := 39) C 539 rfl (by decide) (by decide) (by decide) rfl rfl rfl rfl hv0 c8 (x := m_i M 539 v0 (ixn v1)) ((m_i_ne (by decide)).trans rfl) dX5_given_25 ?_
    obtain ⟨c9, h⟩ := ifn h
    refine z_iaO (pc := 26) (k := 5) (j := 15) C 515 rfl (by decide) (by decide) (by decide) rfl rfl rfl rfl hv0 c9 (x := m_i M 515 v0 (ixn (m_i M 539 v0 (ixn v1)))) ((m_i_ne (by decide)).trans rfl) dX5_given_26 ?_
    refine z_iconst (pc := 27) C dX5_given_27 ?_
    refine z_isub (pc := 28) C dX5_given_28 ?_
    refine z_i2l (pc := 29) C dX5_given_29 ?_
    refine cX5_207 (pc := 30) (st := []) (st1 := [vI (d_X5_isIn (w32 v2) 0 (w32 ((m_i M 515 v0 (ixn (m_i M 539 v0 (ixn v1)))) - 1)))]) C rfl (rm := { frames := 1, cells := 0, slots := 0, locals := 24 }) (ct_X5_isIn C.2.1 (w32 v2) 0 (w32 ((m_i M 515 v0 (ixn (m_i M 539 v0 (ixn v1)))) - 1)) (m_si M 500 v0 0 0) _  rfl) ⟨by decide, by decide, Nat.zero_le _, Nat.zero_le _⟩ rfl (Nat.le_of_ble_eq_true rfl) dX5_given_30 (c2 := 0) (s2 := 0) rfl rfl (fun _ => ?_)
    refine z_if_ne (pc := 33) C dX5_given_33 (tgt := 42) (by decide) (fun c11 => ?_) (fun c11 => ?_)
    · have h := itf c11 h
      refine z_iload_n (pc := 42) C 3 rfl dX5_given_42 ?_
      refine z_if_eq (pc := 43) C dX5_given_43 (tgt := 77) (by decide) (fun c12 => ?_) (fun c12 => ?_)
      · have h := itt c12 h
        refine z_aload_n (pc := 77) C 0 rfl dX5_given_77 ?_
        refine z_iload_n (pc := 78) C 1 rfl dX5_given_78 ?_
        refine z_iconst (pc := 79) C dX5_given_79 ?_
        obtain ⟨r13, M14, e15, h⟩ := bNs h
        refine cX5_383 (pc := 80) (st := []) (st1 := []) C rfl (rm := { frames := 4, cells := 0, slots := 0, locals := 117 }) (ct_X5_walk C.2.1 v0 v1 (-1) (m_si M 500 v0 0 0) _ _ hv0 e15) ⟨by decide, by decide, Nat.zero_le _, Nat.zero_le _⟩ (Or.inl hv0) rfl (Nat.le_of_ble_eq_true rfl) dX5_given_80 (c2 := 0) (s2 := 0) rfl rfl (fun x16 => ?_)
        have k17 := x16 _ 5 (by decide) (Or.inl (by decide)) hv0
        refine z_aload_n (pc := 83) C 0 rfl dX5_given_83 ?_
        refine gX5_534 (pc := 84) C rfl k17 dX5_given_84 ?_
        refine z_iload_n (pc := 87) C 2 rfl dX5_given_87 ?_
        obtain ⟨c18, h⟩ := ifn h
        refine z_iaO (pc := 88) (k := 5) (j := 34) C 534 rfl (by decide) (by decide) (by decide) rfl rfl rfl rfl k17 c18 rfl dX5_given_88 ?_
        cases h
        exact z_iret (pc := 89) C rfl (show 0 ≤ 0 from by decide) (show 0 ≤ 0 from by decide) dX5_given_89
      · have h := itf c12 h
        refine z_aload_n (pc := 46) C 0 rfl dX5_given_46 ?_
        refine gX5_545 (pc := 47) C rfl hv0 dX5_given_47 ?_
        refine z_bipush (pc := 50) C (by decide +kernel) dX5_given_50 ?_
        refine z_iload_n (pc := 52) C 1 rfl dX5_given_52 ?_
        refine z_imul (pc := 53) C dX5_given_53 ?_
        refine z_iload_n (pc := 54) C 2 rfl dX5_given_54 ?_
        refine z_iadd (pc := 55) C dX5_given_55 ?_
        obtain ⟨c19, h⟩ := ifn h
        refine z_zaO (pc := 56) (k := 5) (j := 45) C 545 rfl (by decide) (by decide) (by decide) rfl rfl rfl rfl hv0 c19 (x := m_i M 545 v0 (ixn ((20 * v1) + v2))) ((m_i_ne (by decide)).trans rfl) dX5_given_56 ?_
        refine z_if_eq (pc := 57) C dX5_given_57 (tgt := 74) (by decide) (fun c20 => ?_) (fun c20 => ?_)
        · have h := itt c20 h
          refine z_ldc (pc := 74) C (x := -2000000) q1829 (by decide +kernel) dX5_given_74 ?_
          cases h
          exact z_iret (pc := 76) C rfl (show 0 ≤ 0 from by decide) (show 0 ≤ 0 from by decide) dX5_given_76
        · have h := itf c20 h
          refine z_aload_n (pc := 60) C 0 rfl dX5_given_60 ?_
          refine gX5_546 (pc := 61) C rfl hv0 dX5_given_61 ?_
          refine z_bipush (pc := 64) C (by decide +kernel) dX5_given_64 ?_
          refine z_iload_n (pc := 66) C 1 rfl dX5_given_66 ?_
          refine z_imul (pc := 67) C dX5_given_67 ?_
          refine z_iload_n (pc := 68) C 2 rfl dX5_given_68 ?_
          refine z_iadd (pc := 69) C dX5_given_69 ?_
          refine z_iaO (pc := 70) (k := 5) (j := 46) C 546 rfl (by decide) (by decide) (by decide) rfl rfl rfl rfl hv0 c19 (x := m_i M 546 v0 (ixn ((20 * v1) + v2))) ((m_i_ne (by decide)).trans rfl) dX5_given_70 ?_
          refine z_goto (pc := 71) C dX5_given_71 (tgt := 76) (by decide) ?_
          cases h
          exact z_iret (pc := 76) C rfl (show 0 ≤ 0 from by decide) (show 0 ≤ 0 from by decide) dX5_given_76
    · have h := itt c11 h
      refine z_aload_n (pc := 36) C 0 rfl dX5_given_36 ?_
      refine z_iconst (pc := 37) C dX5_given_37 ?_
      obtain ⟨r21, M22, e23, h⟩ := bNs h
      refine cX5_213 (pc := 38) (st := []) (st1 := [vI r21]) C rfl (rm := { frames := 1, cells := 0, slots := 0, locals := 24 }) (ct_X5_fail C.2.1 v0 1 (m_si M 500 v0 0 0) _ _ hv0 e23) ⟨by decide, by decide, Nat.zero_le _, Nat.zero_le _⟩ (Or.inl hv0) rfl (Nat.le_of_ble_eq_true rfl) dX5_given_38 (c2 := 0) (s2 := 0) rfl rfl (fun x24 => ?_)
      cases h
      exact z_iret (pc := 41) C rfl (show 0 ≤ 0 from by decide) (show 0 ≤ 0 from by decide) dX5_given_41
def B_X5_close_68 (k68 : Nat → Int → Mem → Option (Int × Mem)) (v0 : Nat) (v2 : Int) (M : Mem) : Option (Int × Mem) :=
  if w32 20 ≤ w32 v2 then
    some (((m_i M 553 v0 0) + 1) - 1, (m_si M 553 v0 0 ((m_i M 553 v0 0) + 1)))
  else
    if inb v2 20 then 
    if inb ((20 * (m_i M 553 v0 0)) + v2) 1200 then 
    k68 v0 (v2 + 1) (m_si (m_si M 555 v0 (ixn ((20 * (m_i M 553 v0 0)) + v2)) (m_i M 534 v0 (ixn v2))) 556 v0 (ixn ((20 * (m_i M 553 v0 0)) + v2)) 0) else none else none
def L_X5_close_68  : Nat → Nat → Int → Mem → Option (Int × Mem)
  | 0, _, _, _ => none
  | n + 1, v0, v2, M => B_X5_close_68 (L_X5_close_68  n) v0 v2 M
def d_X5_close (v0 : Nat) (v1 : Int) (M : Mem) : Option (Int × Mem) :=
  bR (d_X5_isSession v0 v1 (m_si M 500 v0 0 0)) fun r1 => 
  if w32 r1 = 0 then
    bN (d_X5_fail v0 1 (m_si M 500 v0 0 0)) fun r29 M30 => 
    some (r29, M30)
  else
    if inb v1 60 then 
    if w32 (m_i M 542 v0 (ixn v1)) = 0 then
      bN (d_X5_questionOf v0 v1 (m_si M 500 v0 0 0)) fun r10 M11 => 
      if w32 r10 = w32 (-1) then
        bN (d_X5_walk v0 v1 (-1) (m_si M11 542 v0 (ixn v1) (bz 1))) fun r16 M17 => 
        if inb (m_i M17 553 v0 0) 60 then 
        L_X5_close_68 FU v0 0 (m_si M17 554 v0 (ixn (m_i M17 553 v0 0)) v1) else none
      else
        bN (d_X5_fail v0 2 M11) fun r25 M26 => 
        some (r25, M26)
    else
      bN (d_X5_fail v0 2 (m_si M 500 v0 0 0)) fun r6 M7 => 
      some (r6, M7) else none
theorem cB_X5_close_68 {X : x_Ctx} {M0 : Mem} (C : x_CC X 6 172 yX5_close cX5_close 3 (some .int) []) {k68 : Nat → Int → Mem → Option (Int × Mem)} (hk68 : ∀ (v0 : Nat) (v2 : Int) (M : Mem) (r : Int) (M' : Mem), m_kd M v0 = 5 → k68 v0 v2 M = some (r, M') → x_Z X 0 0 (x_QF X M0 (.returned (some (vI r))) M' 0 0) M0 M 3 [(0, .ref v0), (2, vI v2)] 68 []) (v0 : Nat) (v2 : Int) (M : Mem) (r : Int) (M' : Mem) (hv0 : m_kd M v0 = 5) (h : B_X5_close_68 k68 v0 v2 M = some (r, M'))  : x_Z X 0 0 (x_QF X M0 (.returned (some (vI r))) M' 0 0) M0 M 3 [(0, .ref v0), (2, vI v2)] 68 [] := by
  unfold B_X5_close_68 at h
  refine z_iload_n (pc := 68) C 1 rfl dX5_close_68 ?_
  refine z_bipush (pc := 69) C (by decide +kernel) dX5_close_69 ?_
  refine z_ic_ge (pc := 71) C dX5_close_71 (tgt := 115) (by decide) (fun c22 => ?_) (fun c22 => ?_)
  · have h := itt c22 h
    refine z_aload_n (pc := 115) C 0 rfl dX5_close_115 ?_
    refine z_dup (pc := 116) C rfl dX5_close_116 ?_
    refine gX5_553 (pc := 117) C rfl (Or.inl hv0) rfl dX5_close_117 ?_
    refine z_iconst (pc := 120) C dX5_close_120 ?_
    refine z_iadd (pc := 121) C dX5_close_121 ?_
    refine pX5_553 (pc := 122) C rfl (Or.inl hv0) dX5_close_122 ?_
    refine z_aload_n (pc := 125) C 0 rfl dX5_close_125 ?_
    refine gX5_553 (pc := 126) C rfl (Or.inl hv0) (x := (m_i M 553 v0 0) + 1) (m_i_self _ _ _ _ _) dX5_close_126 ?_
    refine z_iconst (pc := 129) C dX5_close_129 ?_
    refine z_isub (pc := 130) C dX5_close_130 ?_
    cases h
    exact z_iret (pc := 131) C rfl (show 0 ≤ 0 from by decide) (show 0 ≤ 0 from by decide) dX5_close_131
  · have h := itf c22 h
    refine z_aload_n (pc := 74) C 0 rfl dX5_close_74 ?_
    refine gX5_555 (pc := 75) C rfl hv0 dX5_close_75 ?_
    refine z_bipush (pc := 78) C (by decide +kernel) dX5_close_78 ?_
    refine z_aload_n (pc := 80) C 0 rfl dX5_close_80 ?_
    refine gX5_553 (pc := 81) C rfl (Or.inl hv0) rfl dX5_close_81 ?_
    refine z_imul (pc := 84) C dX5_close_84 ?_
    refine z_iload_n (pc := 85) C 1 rfl dX5_close_85 ?_
    refine z_iadd (pc := 86) C dX5_close_86 ?_
    refine z_aload_n (pc := 87) C 0 rfl dX5_close_87 ?_
    refine gX5_534 (pc := 88) C rfl hv0 dX5_close_88 ?_
    refine z_iload_n (pc := 91) C 1 rfl dX5_close_91 ?_
    obtain ⟨c23, h⟩ := ifn h
    refine z_iaO (pc := 92) (k := 5) (j := 34) C 534 rfl (by decide) (by decide) (by decide) rfl rfl rfl rfl hv0 c23 rfl dX5_close_92 ?_
    obtain ⟨c24, h⟩ := ifn h
    refine z_isO (pc := 93) (k := 5) (j := 55) C 555 rfl (by decide) (by decide) (by decide) rfl rfl rfl rfl hv0 c24 dX5_close_93 ?_
    refine z_aload_n (pc := 94) C 0 rfl dX5_close_94 ?_
    refine gX5_556 (pc := 95) C rfl hv0 dX5_close_95 ?_
    refine z_bipush (pc := 98) C (by decide +kernel) dX5_close_98 ?_
    refine z_aload_n (pc := 100) C 0 rfl dX5_close_100 ?_
    refine gX5_553 (pc := 101) C rfl (Or.inl hv0) (x := m_i M 553 v0 0) ((m_i_ne (by decide)).trans rfl) dX5_close_101 ?_
    refine z_imul (pc := 104) C dX5_close_104 ?_
    refine z_iload_n (pc := 105) C 1 rfl dX5_close_105 ?_
    refine z_iadd (pc := 106) C dX5_close_106 ?_
    refine z_iconst (pc := 107) C dX5_close_107 ?_
    refine z_isO (pc := 108) (k := 5) (j := 56) C 556 rfl (by decide) (by decide) (by decide) rfl rfl rfl rfl hv0 c24 dX5_close_108 ?_
    refine z_iinc (pc := 109) C (lv' := [(0, .ref v0), (2, vI (v2 + 1))]) 1 rfl (by decide) rfl dX5_close_109 ?_
    refine z_goto (pc := 112) C dX5_close_112 (tgt := 68) (by decide) ?_
    exact hk68 v0 (v2 + 1) (m_si (m_si M 555 v0 (ixn ((20 * (m_i M 553 v0 0)) + v2)) (m_i M 534 v0 (ixn v2))) 556 v0 (ixn ((20 * (m_i M 553 v0 0)) + v2)) 0) _ _ hv0 h
theorem cL_X5_close_68 {X : x_Ctx} {M0 : Mem} (C : x_CC X 6 172 yX5_close cX5_close 3 (some .int) [])  : ∀ (n : Nat) (v0 : Nat) (v2 : Int) (M : Mem) (r : Int) (M' : Mem) (hv0 : m_kd M v0 = 5) (h : L_X5_close_68  n v0 v2 M = some (r, M')) , x_Z X 0 0 (x_QF X M0 (.returned (some (vI r))) M' 0 0) M0 M 3 [(0, .ref v0), (2, vI v2)] 68 [] := by
  intro n
  induction n with
  | zero => intro v0 v2 M r M' hv0 h ; cases h
  | succ n ih => intro v0 v2 M r M' hv0 h ; exact cB_X5_close_68 C (fun v0 v2 M r M' hv0 h  => ih v0 v2 M r M' hv0 h ) v0 v2 M r M' hv0 h 
theorem ct_X5_close {l : Launch} {S0 : State} {D : va_G} {cA : Nat → ClassId} (hG : x_G l S0 D cA) (v0 : Nat) (v1 : Int) (M : Mem) (r : Int) (M' : Mem) (hv0 : m_kd M v0 = 5) (h : d_X5_close v0 v1 M = some (r, M')) : x_Me l S0 D cA yX5_close cX5_close 3 (some .int) [] ({ frames := 6, cells := 0, slots := 0, locals := 172 }) [.ref v0, vI v1] M (.returned (some (vI r))) M' := by
  refine x_begin (F := 6) (Lo := 172) (mc := 0) (ms := 0) hG (Nat.le_of_ble_eq_true rfl) (lv := [(0, .ref v0), (1, vI v1)]) rfl rfl rfl rfl rfl (fun X e1 e2 e3 e4 e5 C => ?_)
  unfold d_X5_close at h
  refine z_aload_n (pc := 0) C 0 rfl dX5_close_0 ?_
  refine z_iconst (pc := 1) C dX5_close_1 ?_
  refine pX5_500 (pc := 2) C rfl (Or.inl hv0) dX5_close_2 ?_
  refine z_aload_n (pc := 5) C 0 rfl dX5_close_5 ?_
  refine z_iload_n (pc := 6) C 1 rfl dX5_close_6 ?_
  obtain ⟨r1, e2, h⟩ := bRs h
  refine cX5_386 (pc := 7) (st := []) (st1 := [vI r1]) C rfl (rm := { frames := 2, cells := 0, slots := 0, locals := 53 }) (ct_X5_isSession C.2.1 v0 v1 (m_si M 500 v0 0 0) _ hv0 e2) ⟨by decide, by decide, Nat.zero_le _, Nat.zero_le _⟩ (Or.inl hv0) rfl (Nat.le_of_ble_eq_true rfl) dX5_close_7 (c2 := 0) (s2 := 0) rfl rfl (fun _ => ?_)
  refine z_if_ne (pc := 10) C dX5_close_10 (tgt := 19) (by decide) (fun c3 => ?_) (fun c3 => ?_)
  · have h := itf c3 h
    refine z_aload_n (pc := 19) C 0 rfl dX5_close_19 ?_
    refine gX5_542 (pc := 20) C rfl hv0 dX5_close_20 ?_
    refine z_iload_n (pc := 23) C 1 rfl dX5_close_23 ?_
    obtain ⟨c4, h⟩ := ifn h
    refine z_zaO (pc := 24) (k := 5) (j := 42) C 542 rfl (by decide) (by decide) (by decide) rfl rfl rfl rfl hv0 c4 (x := m_i M 542 v0 (ixn v1)) ((m_i_ne (by decide)).trans rfl) dX5_close_24 ?_
    refine z_if_ne (pc := 25) C dX5_close_25 (tgt := 37) (by decide) (fun c5 => ?_) (fun c5 => ?_)
    · have h := itf c5 h
      refine z_aload_n (pc := 37) C 0 rfl dX5_close_37 ?_
      refine z_iconst (pc := 38) C dX5_close_38 ?_
      obtain ⟨r6, M7, e8, h⟩ := bNs h
      refine cX5_213 (pc := 39) (st := []) (st1 := [vI r6]) C rfl (rm := { frames := 1, cells := 0, slots := 0, locals := 24 }) (ct_X5_fail C.2.1 v0 2 (m_si M 500 v0 0 0) _ _ hv0 e8) ⟨by decide, by decide, Nat.zero_le _, Nat.zero_le _⟩ (Or.inl hv0) rfl (Nat.le_of_ble_eq_true rfl) dX5_close_39 (c2 := 0) (s2 := 0) rfl rfl (fun x9 => ?_)
      cases h
      exact z_iret (pc := 42) C rfl (show 0 ≤ 0 from by decide) (show 0 ≤ 0 from by decide) dX5_close_42
    · have h := itt c5 h
      refine z_aload_n (pc := 28) C 0 rfl dX5_close_28 ?_
      refine z_iload_n (pc := 29) C 1 rfl dX5_close_29 ?_
      obtain ⟨r10, M11, e12, h⟩ := bNs h
      refine cX5_389 (pc := 30) (st := []) (st1 := [vI r10]) C rfl (rm := { frames := 5, cells := 0, slots := 0, locals := 147 }) (ct_X5_questionOf C.2.1 v0 v1 (m_si M 500 v0 0 0) _ _ hv0 e12) ⟨by decide, by decide, Nat.zero_le _, Nat.zero_le _⟩ (Or.inl hv0) rfl (Nat.le_of_ble_eq_true rfl) dX5_close_30 (c2 := 0) (s2 := 0) rfl rfl (fun x13 => ?_)
      have k14 := x13 _ 5 (by decide) (Or.inl (by decide)) hv0
      refine z_iconst (pc := 33) C dX5_close_33 ?_
      refine z_ic_eq (pc := 34) C dX5_close_34 (tgt := 43) (by decide) (fun c15 => ?_) (fun c15 => ?_)
      · have h := itt c15 h
        refine z_aload_n (pc := 43) C 0 rfl dX5_close_43 ?_
        refine gX5_542 (pc := 44) C rfl k14 dX5_close_44 ?_
        refine z_iload_n (pc := 47) C 1 rfl dX5_close_47 ?_
        refine z_iconst (pc := 48) C dX5_close_48 ?_
        refine z_zsO (pc := 49) (k := 5) (j := 42) C 542 rfl (by decide) (by decide) (by decide) rfl rfl rfl rfl k14 c4 dX5_close_49 ?_
        refine z_aload_n (pc := 50) C 0 rfl dX5_close_50 ?_
        refine z_iload_n (pc := 51) C 1 rfl dX5_close_51 ?_
        refine z_iconst (pc := 52) C dX5_close_52 ?_
        obtain ⟨r16, M17, e18, h⟩ := bNs h
        refine cX5_383 (pc := 53) (st := []) (st1 := []) C rfl (rm := { frames := 4, cells := 0, slots := 0, locals := 117 }) (ct_X5_walk C.2.1 v0 v1 (-1) (m_si M11 542 v0 (ixn v1) (bz 1)) _ _ k14 e18) ⟨by decide, by decide, Nat.zero_le _, Nat.zero_le _⟩ (Or.inl k14) rfl (Nat.le_of_ble_eq_true rfl) dX5_close_53 (c2 := 0) (s2 := 0) rfl rfl (fun x19 => ?_)
        have k20 := x19 _ 5 (by decide) (Or.inl (by decide)) k14
        refine z_aload_n (pc := 56) C 0 rfl dX5_close_56 ?_
        refine gX5_554 (pc := 57) C rfl k20 dX5_close_57 ?_
        refine z_aload_n (pc := 60) C 0 rfl dX5_close_60 ?_
        refine gX5_553 (pc := 61) C rfl (Or.inl k20) rfl dX5_close_61 ?_
        refine z_iload_n (pc := 64) C 1 rfl dX5_close_64 ?_
        obtain ⟨c21, h⟩ := ifn h
        refine z_isO (pc := 65) (k := 5) (j := 54) C 554 rfl (by decide) (by decide) (by decide) rfl rfl rfl rfl k20 c21 dX5_close_65 ?_
        refine z_iconst (pc := 66) C dX5_close_66 ?_
        refine z_istore_n (pc := 67) C (lv' := [(0, .ref v0), (1, vI v1), (2, vI 0)]) (by decide) rfl dX5_close_67 ?_
        exact z_lv [0, 2] rfl <| cL_X5_close_68 C FU v0 0 (m_si M17 554 v0 (ixn (m_i M17 553 v0 0)) v1) _ _ k20 h
      · have h := itf c15 h
        refine z_aload_n (pc := 37) C 0 rfl dX5_close_37 ?_
        refine z_iconst (pc := 38) C dX5_close_38 ?_
        obtain ⟨r25, M26, e27, h⟩ := bNs h
        refine cX5_213 (pc := 39) (st := []) (st1 := [vI r25]) C rfl (rm := { frames := 1, cells := 0, slots := 0, locals := 24 }) (ct_X5_fail C.2.1 v0 2 M11 _ _ k14 e27) ⟨by decide, by decide, Nat.zero_le _, Nat.zero_le _⟩ (Or.inl k14) rfl (Nat.le_of_ble_eq_true rfl) dX5_close_39 (c2 := 0) (s2 := 0) rfl rfl (fun x28 => ?_)
        cases h
        exact z_iret (pc := 42) C rfl (show 0 ≤ 0 from by decide) (show 0 ≤ 0 from by decide) dX5_close_42
  · have h := itt c3 h
    refine z_aload_n (pc := 13) C 0 rfl dX5_close_13 ?_
    refine z_iconst (pc := 14) C dX5_close_14 ?_
    obtain ⟨r29, M30, e31, h⟩ := bNs h
    refine cX5_213 (pc := 15) (st := []) (st1 := [vI r29]) C rfl (rm := { frames := 1, cells := 0, slots := 0, locals := 24 }) (ct_X5_fail C.2.1 v0 1 (m_si M 500 v0 0 0) _ _ hv0 e31) ⟨by decide, by decide, Nat.zero_le _, Nat.zero_le _⟩ (Or.inl hv0) rfl (Nat.le_of_ble_eq_true rfl) dX5_close_15 (c2 := 0) (s2 := 0) rfl rfl (fun x32 => ?_)
    cases h
    exact z_iret (pc := 18) C rfl (show 0 ≤ 0 from by decide) (show 0 ≤ 0 from by decide) dX5_close_18
def d_X5_formOf (v0 : Nat) (v1 : Int) (M : Mem) : Option Int :=
  if inb v1 60 then 
  if inb (m_i M 554 v0 (ixn v1)) 60 then 
  some (m_i M 539 v0 (ixn (m_i M 554 v0 (ixn v1)))) else none else none
theorem ct_X5_formOf {l : Launch} {S0 : State} {D : va_G} {cA : Nat → ClassId} (hG : x_G l S0 D cA) (v0 : Nat) (v1 : Int) (M : Mem) (r : Int) (hv0 : m_kd M v0 = 5) (h : d_X5_formOf v0 v1 M = some r) : x_Me l S0 D cA yX5_formOf cX5_formOf 2 (some .int) [] ({ frames := 1, cells := 0, slots := 0, locals := 24 }) [.ref v0, vI v1] M (.returned (some (vI r))) M := by
  refine x_begin (F := 1) (Lo := 24) (mc := 0) (ms := 0) hG (Nat.le_of_ble_eq_true rfl) (lv := [(0, .ref v0), (1, vI v1)]) rfl rfl rfl rfl rfl (fun X e1 e2 e3 e4 e5 C => ?_)
  unfold d_X5_formOf at h
  refine z_aload_n (pc := 0) C 0 rfl dX5_formOf_0 ?_
  refine gX5_539 (pc := 1) C rfl hv0 dX5_formOf_1 ?_
  refine z_aload_n (pc := 4) C 0 rfl dX5_formOf_4 ?_
  refine gX5_554 (pc := 5) C rfl hv0 dX5_formOf_5 ?_
  refine z_iload_n (pc := 8) C 1 rfl dX5_formOf_8 ?_
  obtain ⟨c1, h⟩ := ifn h
  refine z_iaO (pc := 9) (k := 5) (j := 54) C 554 rfl (by decide) (by decide) (by decide) rfl rfl rfl rfl hv0 c1 rfl dX5_formOf_9 ?_
  obtain ⟨c2, h⟩ := ifn h
  refine z_iaO (pc := 10) (k := 5) (j := 39) C 539 rfl (by decide) (by decide) (by decide) rfl rfl rfl rfl hv0 c2 rfl dX5_formOf_10 ?_
  cases h
  exact z_iret (pc := 11) C rfl (show 0 ≤ 0 from by decide) (show 0 ≤ 0 from by decide) dX5_formOf_11
def d_X5_isItem (v0 : Nat) (v1 : Int) (v2 : Int) (M : Mem) : Option Int :=
  if w32 (d_X5_isIn (w32 v1) 0 (w32 ((m_i M 553 v0 0) - 1))) = 0 then
    some 0
  else
    bR (d_X5_formOf v0 v1 M) fun r3 => 
    if inb r3 6 then 
    if w32 (d_X5_isIn (w32 v2) 0 (w32 ((m_i M 515 v0 (ixn r3)) - 1))) = 0 then
      some 0
    else
      some 1 else none
theorem ct_X5_isItem {l : Launch} {S0 : State} {D : va_G} {cA : Nat → ClassId} (hG : x_G l S0 D cA) (v0 : Nat) (v1 : Int) (v2 : Int) (M : Mem) (r : Int) (hv0 : m_kd M v0 = 5) (h : d_X5_isItem v0 v1 v2 M = some r) : x_Me l S0 D cA yX5_isItem cX5_isItem 3 (some .boolean) [] ({ frames := 2, cells := 0, slots := 0, locals := 53 }) [.ref v0, vI v1, vI v2] M (.returned (some (vI r))) M := by
  refine x_begin (F := 2) (Lo := 53) (mc := 0) (ms := 0) hG (Nat.le_of_ble_eq_true rfl) (lv := [(0, .ref v0), (1, vI v1), (2, vI v2)]) rfl rfl rfl rfl rfl (fun X e1 e2 e3 e4 e5 C => ?_)
  unfold d_X5_isItem at h
  refine z_iload_n (pc := 0) C 1 rfl dX5_isItem_0 ?_
  refine z_i2l (pc := 1) C dX5_isItem_1 ?_
  refine z_lconst (pc := 2) C (x := 0) (by decide +kernel) dX5_isItem_2 ?_
  refine z_aload_n (pc := 3) C 0 rfl dX5_isItem_3 ?_
  refine gX5_553 (pc := 4) C rfl (Or.inl hv0) rfl dX5_isItem_4 ?_
  refine z_iconst (pc := 7) C dX5_isItem_7 ?_
  refine z_isub (pc := 8) C dX5_isItem_8 ?_
  refine z_i2l (pc := 9) C dX5_isItem_9 ?_
  refine cX5_207 (pc := 10) (st := []) (st1 := [vI (d_X5_isIn (w32 v1) 0 (w32 ((m_i M 553 v0 0) - 1)))]) C rfl (rm := { frames := 1, cells := 0, slots := 0, locals := 24 }) (ct_X5_isIn C.2.1 (w32 v1) 0 (w32 ((m_i M 553 v0 0) - 1)) M _  rfl) ⟨by decide, by decide, Nat.zero_le _, Nat.zero_le _⟩ rfl (Nat.le_of_ble_eq_true rfl) dX5_isItem_10 (c2 := 0) (s2 := 0) rfl rfl (fun _ => ?_)
  refine z_if_eq (pc := 13) C dX5_isItem_13 (tgt := 42) (by decide) (fun c2 => ?_) (fun c2 => ?_)
  · have h := itt c2 h
    refine z_iconst (pc := 42) C dX5_isItem_42 ?_
    cases h
    exact z_zret (pc := 43) C rfl (Or.inl rfl) (show 0 ≤ 0 from by decide) (show 0 ≤ 0 from by decide) dX5_isItem_43
  · have h := itf c2 h
    refine z_iload_n (pc := 16) C 2 rfl dX5_isItem_16 ?_
    refine z_i2l (pc := 17) C dX5_isItem_17 ?_
    refine z_lconst (pc := 18) C (x := 0) (by decide +kernel) dX5_isItem_18 ?_
    refine z_aload_n (pc := 19) C 0 rfl dX5_isItem_19 ?_
    refine gX5_515 (pc := 20) C rfl hv0 dX5_isItem_20 ?_
    refine z_aload_n (pc := 23) C 0 rfl dX5_isItem_23 ?_
    refine z_iload_n (pc := 24) C 1 rfl dX5_isItem_24 ?_
    obtain ⟨r3, e4, h⟩ := bRs h
    refine cX5_401 (pc := 25) (st := [.ref (v0 + 9), vL 0, vL (w32 v2)]) (st1 := [vI r3, .ref (v0 + 9), vL 0, vL (w32 v2)]) C rfl (rm := { frames := 1, cells := 0, slots := 0, locals := 24 }) (ct_X5_formOf C.2.1 v0 v1 M _ hv0 e4) ⟨by decide, by decide, Nat.zero_le _, Nat.zero_le _⟩ (Or.inl hv0) rfl (Nat.le_of_ble_eq_true rfl) dX5_isItem_25 (c2 := 0) (s2 := 0) rfl rfl (fun _ => ?_)
    obtain ⟨c5, h⟩ := ifn h
    refine z_iaO (pc := 28) (k := 5) (j := 15) C 515 rfl (by decide) (by decide) (by decide) rfl rfl rfl rfl hv0 c5 rfl dX5_isItem_28 ?_
    refine z_iconst (pc := 29) C dX5_isItem_29 ?_
    refine z_isub (pc := 30) C dX5_isItem_30 ?_
    refine z_i2l (pc := 31) C dX5_isItem_31 ?_
    refine cX5_207 (pc := 32) (st := []) (st1 := [vI (d_X5_isIn (w32 v2) 0 (w32 ((m_i M 515 v0 (ixn r3)) - 1)))]) C rfl (rm := { frames := 1, cells := 0, slots := 0, locals := 24 }) (ct_X5_isIn C.2.1 (w32 v2) 0 (w32 ((m_i M 515 v0 (ixn r3)) - 1)) M _  rfl) ⟨by decide, by decide, Nat.zero_le _, Nat.zero_le _⟩ rfl (Nat.le_of_ble_eq_true rfl) dX5_isItem_32 (c2 := 0) (s2 := 0) rfl rfl (fun _ => ?_)
    refine z_if_eq (pc := 35) C dX5_isItem_35 (tgt := 42) (by decide) (fun c7 => ?_) (fun c7 => ?_)
    · have h := itt c7 h
      refine z_iconst (pc := 42) C dX5_isItem_42 ?_
      cases h
      exact z_zret (pc := 43) C rfl (Or.inl rfl) (show 0 ≤ 0 from by decide) (show 0 ≤ 0 from by decide) dX5_isItem_43
    · have h := itf c7 h
      refine z_iconst (pc := 38) C dX5_isItem_38 ?_
      refine z_goto (pc := 39) C dX5_isItem_39 (tgt := 43) (by decide) ?_
      cases h
      exact z_zret (pc := 43) C rfl (Or.inr rfl) (show 0 ≤ 0 from by decide) (show 0 ≤ 0 from by decide) dX5_isItem_43
def d_X5_item (v0 : Nat) (v1 : Int) (v2 : Int) (M : Mem) : Option (Int × Mem) :=
  bR (d_X5_isItem v0 v1 v2 (m_si M 500 v0 0 0)) fun r1 => 
  if w32 r1 = 0 then
    bN (d_X5_fail v0 1 (m_si M 500 v0 0 0)) fun r4 M5 => 
    some (r4, M5)
  else
    if inb ((20 * v1) + v2) 1200 then 
    some (m_i M 555 v0 (ixn ((20 * v1) + v2)), (m_si M 500 v0 0 0)) else none
theorem ct_X5_item {l : Launch} {S0 : State} {D : va_G} {cA : Nat → ClassId} (hG : x_G l S0 D cA) (v0 : Nat) (v1 : Int) (v2 : Int) (M : Mem) (r : Int) (M' : Mem) (hv0 : m_kd M v0 = 5) (h : d_X5_item v0 v1 v2 M = some (r, M')) : x_Me l S0 D cA yX5_item cX5_item 3 (some .int) [] ({ frames := 3, cells := 0, slots := 0, locals := 79 }) [.ref v0, vI v1, vI v2] M (.returned (some (vI r))) M' := by
  refine x_begin (F := 3) (Lo := 79) (mc := 0) (ms := 0) hG (Nat.le_of_ble_eq_true rfl) (lv := [(0, .ref v0), (1, vI v1), (2, vI v2)]) rfl rfl rfl rfl rfl (fun X e1 e2 e3 e4 e5 C => ?_)
  unfold d_X5_item at h
  refine z_aload_n (pc := 0) C 0 rfl dX5_item_0 ?_
  refine z_iconst (pc := 1) C dX5_item_1 ?_
  refine pX5_500 (pc := 2) C rfl (Or.inl hv0) dX5_item_2 ?_
  refine z_aload_n (pc := 5) C 0 rfl dX5_item_5 ?_
  refine z_iload_n (pc := 6) C 1 rfl dX5_item_6 ?_
  refine z_iload_n (pc := 7) C 2 rfl dX5_item_7 ?_
  obtain ⟨r1, e2, h⟩ := bRs h
  refine cX5_404 (pc := 8) (st := []) (st1 := [vI r1]) C rfl (rm := { frames := 2, cells := 0, slots := 0, locals := 53 }) (ct_X5_isItem C.2.1 v0 v1 v2 (m_si M 500 v0 0 0) _ hv0 e2) ⟨by decide, by decide, Nat.zero_le _, Nat.zero_le _⟩ (Or.inl hv0) rfl (Nat.le_of_ble_eq_true rfl) dX5_item_8 (c2 := 0) (s2 := 0) rfl rfl (fun _ => ?_)
  refine z_if_eq (pc := 11) C dX5_item_11 (tgt := 28) (by decide) (fun c3 => ?_) (fun c3 => ?_)
  · have h := itt c3 h
    refine z_aload_n (pc := 28) C 0 rfl dX5_item_28 ?_
    refine z_iconst (pc := 29) C dX5_item_29 ?_
    obtain ⟨r4, M5, e6, h⟩ := bNs h
    refine cX5_213 (pc := 30) (st := []) (st1 := [vI r4]) C rfl (rm := { frames := 1, cells := 0, slots := 0, locals := 24 }) (ct_X5_fail C.2.1 v0 1 (m_si M 500 v0 0 0) _ _ hv0 e6) ⟨by decide, by decide, Nat.zero_le _, Nat.zero_le _⟩ (Or.inl hv0) rfl (Nat.le_of_ble_eq_true rfl) dX5_item_30 (c2 := 0) (s2 := 0) rfl rfl (fun x7 => ?_)
    cases h
    exact z_iret (pc := 33) C rfl (show 0 ≤ 0 from by decide) (show 0 ≤ 0 from by decide) dX5_item_33
  · have h := itf c3 h
    refine z_aload_n (pc := 14) C 0 rfl dX5_item_14 ?_
    refine gX5_555 (pc := 15) C rfl hv0 dX5_item_15 ?_
    refine z_bipush (pc := 18) C (by decide +kernel) dX5_item_18 ?_
    refine z_iload_n (pc := 20) C 1 rfl dX5_item_20 ?_
    refine z_imul (pc := 21) C dX5_item_21 ?_
    refine z_iload_n (pc := 22) C 2 rfl dX5_item_22 ?_
    refine z_iadd (pc := 23) C dX5_item_23 ?_
    obtain ⟨c8, h⟩ := ifn h
    refine z_iaO (pc := 24) (k := 5) (j := 55) C 555 rfl (by decide) (by decide) (by decide) rfl rfl rfl rfl hv0 c8 (x := m_i M 555 v0 (ixn ((20 * v1) + v2))) ((m_i_ne (by decide)).trans rfl) dX5_item_24 ?_
    refine z_goto (pc := 25) C dX5_item_25 (tgt := 33) (by decide) ?_
    cases h
    exact z_iret (pc := 33) C rfl (show 0 ≤ 0 from by decide) (show 0 ≤ 0 from by decide) dX5_item_33
def d_X5_mark (v0 : Nat) (v1 : Int) (v2 : Int) (M : Mem) : Option (Int × Mem) :=
  bR (d_X5_isItem v0 v1 v2 (m_si M 500 v0 0 0)) fun r1 => 
  if w32 r1 = 0 then
    bN (d_X5_fail v0 1 (m_si M 500 v0 0 0)) fun r4 M5 => 
    some (r4, M5)
  else
    if inb ((20 * v1) + v2) 1200 then 
    some (m_i M 556 v0 (ixn ((20 * v1) + v2)), (m_si M 500 v0 0 0)) else none
theorem ct_X5_mark {l : Launch} {S0 : State} {D : va_G} {cA : Nat → ClassId} (hG : x_G l S0 D cA) (v0 : Nat) (v1 : Int) (v2 : Int) (M : Mem) (r : Int) (M' : Mem) (hv0 : m_kd M v0 = 5) (h : d_X5_mark v0 v1 v2 M = some (r, M')) : x_Me l S0 D cA yX5_mark cX5_mark 3 (some .int) [] ({ frames := 3, cells := 0, slots := 0, locals := 79 }) [.ref v0, vI v1, vI v2] M (.returned (some (vI r))) M' := by
  refine x_begin (F := 3) (Lo := 79) (mc := 0) (ms := 0) hG (Nat.le_of_ble_eq_true rfl) (lv := [(0, .ref v0), (1, vI v1), (2, vI v2)]) rfl rfl rfl rfl rfl (fun X e1 e2 e3 e4 e5 C => ?_)
  unfold d_X5_mark at h
  refine z_aload_n (pc := 0) C 0 rfl dX5_mark_0 ?_
  refine z_iconst (pc := 1) C dX5_mark_1 ?_
  refine pX5_500 (pc := 2) C rfl (Or.inl hv0) dX5_mark_2 ?_
  refine z_aload_n (pc := 5) C 0 rfl dX5_mark_5 ?_
  refine z_iload_n (pc := 6) C 1 rfl dX5_mark_6 ?_
  refine z_iload_n (pc := 7) C 2 rfl dX5_mark_7 ?_
  obtain ⟨r1, e2, h⟩ := bRs h
  refine cX5_404 (pc := 8) (st := []) (st1 := [vI r1]) C rfl (rm := { frames := 2, cells := 0, slots := 0, locals := 53 }) (ct_X5_isItem C.2.1 v0 v1 v2 (m_si M 500 v0 0 0) _ hv0 e2) ⟨by decide, by decide, Nat.zero_le _, Nat.zero_le _⟩ (Or.inl hv0) rfl (Nat.le_of_ble_eq_true rfl) dX5_mark_8 (c2 := 0) (s2 := 0) rfl rfl (fun _ => ?_)
  refine z_if_eq (pc := 11) C dX5_mark_11 (tgt := 28) (by decide) (fun c3 => ?_) (fun c3 => ?_)
  · have h := itt c3 h
    refine z_aload_n (pc := 28) C 0 rfl dX5_mark_28 ?_
    refine z_iconst (pc := 29) C dX5_mark_29 ?_
    obtain ⟨r4, M5, e6, h⟩ := bNs h
    refine cX5_213 (pc := 30) (st := []) (st1 := [vI r4]) C rfl (rm := { frames := 1, cells := 0, slots := 0, locals := 24 }) (ct_X5_fail C.2.1 v0 1 (m_si M 500 v0 0 0) _ _ hv0 e6) ⟨by decide, by decide, Nat.zero_le _, Nat.zero_le _⟩ (Or.inl hv0) rfl (Nat.le_of_ble_eq_true rfl) dX5_mark_30 (c2 := 0) (s2 := 0) rfl rfl (fun x7 => ?_)
    cases h
    exact z_iret (pc := 33) C rfl (show 0 ≤ 0 from by decide) (show 0 ≤ 0 from by decide) dX5_mark_33
  · have h := itf c3 h
    refine z_aload_n (pc := 14) C 0 rfl dX5_mark_14 ?_
    refine gX5_556 (pc := 15) C rfl hv0 dX5_mark_15 ?_
    refine z_bipush (pc := 18) C (by decide +kernel) dX5_mark_18 ?_
    refine z_iload_n (pc := 20) C 1 rfl dX5_mark_20 ?_
    refine z_imul (pc := 21) C dX5_mark_21 ?_
    refine z_iload_n (pc := 22) C 2 rfl dX5_mark_22 ?_
    refine z_iadd (pc := 23) C dX5_mark_23 ?_
    obtain ⟨c8, h⟩ := ifn h
    refine z_iaO (pc := 24) (k := 5) (j := 56) C 556 rfl (by decide) (by decide) (by decide) rfl rfl rfl rfl hv0 c8 (x := m_i M 556 v0 (ixn ((20 * v1) + v2))) ((m_i_ne (by decide)).trans rfl) dX5_mark_24 ?_
    refine z_goto (pc := 25) C dX5_mark_25 (tgt := 33) (by decide) ?_
    cases h
    exact z_iret (pc := 33) C rfl (show 0 ≤ 0 from by decide) (show 0 ≤ 0 from by decide) dX5_mark_33
def d_X5_isAsk (v0 : Nat) (v1 : Int) (v2 : Int) (M : Mem) : Option Int :=
  if inb ((20 * v1) + v2) 120 then 
  if w32 (m_i M 516 v0 (ixn ((20 * v1) + v2))) = 0 then
    some 1
  else
    some 0 else none
theorem ct_X5_isAsk {l : Launch} {S0 : State} {D : va_G} {cA : Nat → ClassId} (hG : x_G l S0 D cA) (v0 : Nat) (v1 : Int) (v2 : Int) (M : Mem) (r : Int) (hv0 : m_kd M v0 = 5) (h : d_X5_isAsk v0 v1 v2 M = some r) : x_Me l S0 D cA yX5_isAsk cX5_isAsk 3 (some .boolean) [] ({ frames := 1, cells := 0, slots := 0, locals := 24 }) [.ref v0, vI v1, vI v2] M (.returned (some (vI r))) M := by
  refine x_begin (F := 1) (Lo := 24) (mc := 0) (ms := 0) hG (Nat.le_of_ble_eq_true rfl) (lv := [(0, .ref v0), (1, vI v1), (2, vI v2)]) rfl rfl rfl rfl rfl (fun X e1 e2 e3 e4 e5 C => ?_)
  unfold d_X5_isAsk at h
  refine z_aload_n (pc := 0) C 0 rfl dX5_isAsk_0 ?_
  refine gX5_516 (pc := 1) C rfl hv0 dX5_isAsk_1 ?_
  refine z_bipush (pc := 4) C (by decide +kernel) dX5_isAsk_4 ?_
  refine z_iload_n (pc := 6) C 1 rfl dX5_isAsk_6 ?_
  refine z_imul (pc := 7) C dX5_isAsk_7 ?_
  refine z_iload_n (pc := 8) C 2 rfl dX5_isAsk_8 ?_
  refine z_iadd (pc := 9) C dX5_isAsk_9 ?_
  obtain ⟨c1, h⟩ := ifn h
  refine z_iaO (pc := 10) (k := 5) (j := 16) C 516 rfl (by decide) (by decide) (by decide) rfl rfl rfl rfl hv0 c1 rfl dX5_isAsk_10 ?_
  refine z_if_ne (pc := 11) C dX5_isAsk_11 (tgt := 18) (by decide) (fun c2 => ?_) (fun c2 => ?_)
  · have h := itf c2 h
    refine z_iconst (pc := 18) C dX5_isAsk_18 ?_
    cases h
    exact z_zret (pc := 19) C rfl (Or.inl rfl) (show 0 ≤ 0 from by decide) (show 0 ≤ 0 from by decide) dX5_isAsk_19
  · have h := itt c2 h
    refine z_iconst (pc := 14) C dX5_isAsk_14 ?_
    refine z_goto (pc := 15) C dX5_isAsk_15 (tgt := 19) (by decide) ?_
    cases h
    exact z_zret (pc := 19) C rfl (Or.inr rfl) (show 0 ≤ 0 from by decide) (show 0 ≤ 0 from by decide) dX5_isAsk_19
def B_X5_rule_75  (v0 : Nat) (v1 : Int) (v2 : Int) (v3 : Int) (v4 : Int) (M : Mem) : Option (Int × Mem) :=
  if w32 v2 = w32 v3 then
    bN (d_X5_fail v0 2 M) fun r13 M14 => 
    some (r13, M14)
  else
    if w32 (d_X5_isIn (w32 v4) (-2000000) 2000000) = 0 then
      bN (d_X5_fail v0 2 M) fun r26 M27 => 
      some (r26, M27)
    else
      if inb v1 6 then 
      if w32 (m_i M 557 v0 (ixn v1)) = w32 16 then
        bN (d_X5_fail v0 3 M) fun r22 M23 => 
        some (r22, M23)
      else
        if inb ((16 * v1) + (m_i M 557 v0 (ixn v1))) 96 then 
        some (((m_i M 557 v0 (ixn v1)) + 1) - 1, (m_si (m_si (m_si (m_si M 558 v0 (ixn ((16 * v1) + (m_i M 557 v0 (ixn v1)))) v2) 559 v0 (ixn ((16 * v1) + (m_i M 557 v0 (ixn v1)))) v3) 560 v0 (ixn ((16 * v1) + (m_i M 557 v0 (ixn v1)))) v4) 557 v0 (ixn v1) ((m_i M 557 v0 (ixn v1)) + 1))) else none else none
def B_X5_rule_61  (v0 : Nat) (v1 : Int) (v2 : Int) (v3 : Int) (v4 : Int) (M : Mem) : Option (Int × Mem) :=
  if w32 v3 = w32 (-1) then
    B_X5_rule_75 v0 v1 v2 v3 v4 M
  else
    bR (d_X5_isAsk v0 v1 v3 M) fun r30 => 
    if w32 r30 = 0 then
      bN (d_X5_fail v0 2 M) fun r33 M34 => 
      some (r33, M34)
    else
      B_X5_rule_75 v0 v1 v2 v3 v4 M
def B_X5_rule_47  (v0 : Nat) (v1 : Int) (v2 : Int) (v3 : Int) (v4 : Int) (M : Mem) : Option (Int × Mem) :=
  if w32 v2 = w32 (-1) then
    B_X5_rule_61 v0 v1 v2 v3 v4 M
  else
    bR (d_X5_isAsk v0 v1 v2 M) fun r37 => 
    if w32 r37 = 0 then
      bN (d_X5_fail v0 2 M) fun r40 M41 => 
      some (r40, M41)
    else
      B_X5_rule_61 v0 v1 v2 v3 v4 M
def B_X5_rule_27  (v0 : Nat) (v1 : Int) (v2 : Int) (v3 : Int) (v4 : Int) (M : Mem) : Option (Int × Mem) :=
  if w32 v3 = w32 (-1) then
    B_X5_rule_47 v0 v1 v2 v3 v4 M
  else
    bR (d_X5_isStatementOf v0 v1 v3 M) fun r44 => 
    if w32 r44 = 0 then
      bN (d_X5_fail v0 1 M) fun r47 M48 => 
      some (r47, M48)
    else
      B_X5_rule_47 v0 v1 v2 v3 v4 M
def d_X5_rule (v0 : Nat) (v1 : Int) (v2 : Int) (v3 : Int) (v4 : Int) (M : Mem) : Option (Int × Mem) :=
  bR (d_X5_isForm v0 v1 (m_si M 500 v0 0 0)) fun r1 => 
  if w32 r1 = 0 then
    bN (d_X5_fail v0 1 (m_si M 500 v0 0 0)) fun r4 M5 => 
    some (r4, M5)
  else
    if w32 v2 = w32 (-1) then
      B_X5_rule_27 v0 v1 v2 v3 v4 (m_si M 500 v0 0 0)
    else
      bR (d_X5_isStatementOf v0 v1 v2 (m_si M 500 v0 0 0)) fun r51 => 
      if w32 r51 = 0 then
        bN (d_X5_fail v0 1 (m_si M 500 v0 0 0)) fun r54 M55 => 
        some (r54, M55)
      else
        B_X5_rule_27 v0 v1 v2 v3 v4 (m_si M 500 v0 0 0)
theorem cB_X5_rule_75 {X : x_Ctx} {M0 : Mem} (C : x_CC X 4 104 yX5_rule cX5_rule 6 (some .int) [])  (v0 : Nat) (v1 : Int) (v2 : Int) (v3 : Int) (v4 : Int) (M : Mem) (r : Int) (M' : Mem) (hv0 : m_kd M v0 = 5) (h : B_X5_rule_75  v0 v1 v2 v3 v4 M = some (r, M'))  : x_Z X 0 0 (x_QF X M0 (.returned (some (vI r))) M' 0 0) M0 M 6 [(0, .ref v0), (1, vI v1), (2, vI v2), (3, vI v3), (4, vI v4)] 75 [] := by
  unfold B_X5_rule_75 at h
  refine z_iload_n (pc := 75) C 2 rfl dX5_rule_75 ?_
  refine z_iload_n (pc := 76) C 3 rfl dX5_rule_76 ?_
  refine z_ic_eq (pc := 77) C dX5_rule_77 (tgt := 95) (by decide) (fun c12 => ?_) (fun c12 => ?_)
  · have h := itt c12 h
    refine z_aload_n (pc := 95) C 0 rfl dX5_rule_95 ?_
    refine z_iconst (pc := 96) C dX5_rule_96 ?_
    obtain ⟨r13, M14, e15, h⟩ := bNs h
    refine cX5_213 (pc := 97) (st := []) (st1 := [vI r13]) C rfl (rm := { frames := 1, cells := 0, slots := 0, locals := 24 }) (ct_X5_fail C.2.1 v0 2 M _ _ hv0 e15) ⟨by decide, by decide, Nat.zero_le _, Nat.zero_le _⟩ (Or.inl hv0) rfl (Nat.le_of_ble_eq_true rfl) dX5_rule_97 (c2 := 0) (s2 := 0) rfl rfl (fun x16 => ?_)
    cases h
    exact z_iret (pc := 100) C rfl (show 0 ≤ 0 from by decide) (show 0 ≤ 0 from by decide) dX5_rule_100
  · have h := itf c12 h
    refine z_iload (pc := 80) C 4 rfl dX5_rule_80 ?_
    refine z_i2l (pc := 82) C dX5_rule_82 ?_
    refine z_ldc2 (pc := 83) C (x := -2000000) q2001 (by decide +kernel) dX5_rule_83 ?_
    refine z_ldc2 (pc := 86) C (x := 2000000) q2002 (by decide +kernel) dX5_rule_86 ?_
    refine cX5_207 (pc := 89) (st := []) (st1 := [vI (d_X5_isIn (w32 v4) (-2000000) 2000000)]) C rfl (rm := { frames := 1, cells := 0, slots := 0, locals := 24 }) (ct_X5_isIn C.2.1 (w32 v4) (-2000000) 2000000 M _  rfl) ⟨by decide, by decide, Nat.zero_le _, Nat.zero_le _⟩ rfl (Nat.le_of_ble_eq_true rfl) dX5_rule_89 (c2 := 0) (s2 := 0) rfl rfl (fun _ => ?_)
    refine z_if_ne (pc := 92) C dX5_rule_92 (tgt := 101) (by decide) (fun c18 => ?_) (fun c18 => ?_)
    · have h := itf c18 h
      refine z_aload_n (pc := 101) C 0 rfl dX5_rule_101 ?_
      refine gX5_557 (pc := 102) C rfl hv0 dX5_rule_102 ?_
      refine z_iload_n (pc := 105) C 1 rfl dX5_rule_105 ?_
      obtain ⟨c19, h⟩ := ifn h
      refine z_iaO (pc := 106) (k := 5) (j := 57) C 557 rfl (by decide) (by decide) (by decide) rfl rfl rfl rfl hv0 c19 rfl dX5_rule_106 ?_
      refine z_bipush (pc := 107) C (by decide +kernel) dX5_rule_107 ?_
      refine z_ic_ne (pc := 109) C dX5_rule_109 (tgt := 118) (by decide) (fun c20 => ?_) (fun c20 => ?_)
      · have h := itf c20 h
        refine z_bipush (pc := 118) C (by decide +kernel) dX5_rule_118 ?_
        refine z_iload_n (pc := 120) C 1 rfl dX5_rule_120 ?_
        refine z_imul (pc := 121) C dX5_rule_121 ?_
        refine z_aload_n (pc := 122) C 0 rfl dX5_rule_122 ?_
        refine gX5_557 (pc := 123) C rfl hv0 dX5_rule_123 ?_
        refine z_iload_n (pc := 126) C 1 rfl dX5_rule_126 ?_
        refine z_iaO (pc := 127) (k := 5) (j := 57) C 557 rfl (by decide) (by decide) (by decide) rfl rfl rfl rfl hv0 c19 rfl dX5_rule_127 ?_
        refine z_iadd (pc := 128) C dX5_rule_128 ?_
        refine z_istore (pc := 129) C (lv' := [(0, .ref v0), (1, vI v1), (2, vI v2), (3, vI v3), (4, vI v4), (5, vI ((16 * v1) + (m_i M 557 v0 (ixn v1))))]) (by decide) rfl dX5_rule_129 ?_
        refine z_aload_n (pc := 131) C 0 rfl dX5_rule_131 ?_
        refine gX5_558 (pc := 132) C rfl hv0 dX5_rule_132 ?_
        refine z_iload (pc := 135) C 5 rfl dX5_rule_135 ?_
        refine z_iload_n (pc := 137) C 2 rfl dX5_rule_137 ?_
        obtain ⟨c21, h⟩ := ifn h
        refine z_isO (pc := 138) (k := 5) (j := 58) C 558 rfl (by decide) (by decide) (by decide) rfl rfl rfl rfl hv0 c21 dX5_rule_138 ?_
        refine z_aload_n (pc := 139) C 0 rfl dX5_rule_139 ?_
        refine gX5_559 (pc := 140) C rfl hv0 dX5_rule_140 ?_
        refine z_iload (pc := 143) C 5 rfl dX5_rule_143 ?_
        refine z_iload_n (pc := 145) C 3 rfl dX5_rule_145 ?_
        refine z_isO (pc := 146) (k := 5) (j := 59) C 559 rfl (by decide) (by decide) (by decide) rfl rfl rfl rfl hv0 c21 dX5_rule_146 ?_
        refine z_aload_n (pc := 147) C 0 rfl dX5_rule_147 ?_
        refine gX5_560 (pc := 148) C rfl hv0 dX5_rule_148 ?_
        refine z_iload (pc := 151) C 5 rfl dX5_rule_151 ?_
        refine z_iload (pc := 153) C 4 rfl dX5_rule_153 ?_
        refine z_isO (pc := 155) (k := 5) (j := 60) C 560 rfl (by decide) (by decide) (by decide) rfl rfl rfl rfl hv0 c21 dX5_rule_155 ?_
        refine z_aload_n (pc := 156) C 0 rfl dX5_rule_156 ?_
        refine gX5_557 (pc := 157) C rfl hv0 dX5_rule_157 ?_
        refine z_iload_n (pc := 160) C 1 rfl dX5_rule_160 ?_
        refine z_dup2 (pc := 161) C rfl rfl dX5_rule_161 ?_
        refine z_iaO (pc := 162) (k := 5) (j := 57) C 557 rfl (by decide) (by decide) (by decide) rfl rfl rfl rfl hv0 c19 (x := m_i M 557 v0 (ixn v1)) ((m_i_ne (by decide)).trans ((m_i_ne (by decide)).trans ((m_i_ne (by decide)).trans rfl))) dX5_rule_162 ?_
        refine z_iconst (pc := 163) C dX5_rule_163 ?_
        refine z_iadd (pc := 164) C dX5_rule_164 ?_
        refine z_isO (pc := 165) (k := 5) (j := 57) C 557 rfl (by decide) (by decide) (by decide) rfl rfl rfl rfl hv0 c19 dX5_rule_165 ?_
        refine z_aload_n (pc := 166) C 0 rfl dX5_rule_166 ?_
        refine gX5_557 (pc := 167) C rfl hv0 dX5_rule_167 ?_
        refine z_iload_n (pc := 170) C 1 rfl dX5_rule_170 ?_
        refine z_iaO (pc := 171) (k := 5) (j := 57) C 557 rfl (by decide) (by decide) (by decide) rfl rfl rfl rfl hv0 c19 (x := (m_i M 557 v0 (ixn v1)) + 1) (m_i_self _ _ _ _ _) dX5_rule_171 ?_
        refine z_iconst (pc := 172) C dX5_rule_172 ?_
        refine z_isub (pc := 173) C dX5_rule_173 ?_
        cases h
        exact z_iret (pc := 174) C rfl (show 0 ≤ 0 from by decide) (show 0 ≤ 0 from by decide) dX5_rule_174
      · have h := itt c20 h
        refine z_aload_n (pc := 112) C 0 rfl dX5_rule_112 ?_
        refine z_iconst (pc := 113) C dX5_rule_113 ?_
        obtain ⟨r22, M23, e24, h⟩ := bNs h
        refine cX5_213 (pc := 114) (st := []) (st1 := [vI r22]) C rfl (rm := { frames := 1, cells := 0, slots := 0, locals := 24 }) (ct_X5_fail C.2.1 v0 3 M _ _ hv0 e24) ⟨by decide, by decide, Nat.zero_le _, Nat.zero_le _⟩ (Or.inl hv0) rfl (Nat.le_of_ble_eq_true rfl) dX5_rule_114 (c2 := 0) (s2 := 0) rfl rfl (fun x25 => ?_)
        cases h
        exact z_iret (pc := 117) C rfl (show 0 ≤ 0 from by decide) (show 0 ≤ 0 from by decide) dX5_rule_117
    · have h := itt c18 h
      refine z_aload_n (pc := 95) C 0 rfl dX5_rule_95 ?_
      refine z_iconst (pc := 96) C dX5_rule_96 ?_
      obtain ⟨r26, M27, e28, h⟩ := bNs h
      refine cX5_213 (pc := 97) (st := []) (st1 := [vI r26]) C rfl (rm := { frames := 1, cells := 0, slots := 0, locals := 24 }) (ct_X5_fail C.2.1 v0 2 M _ _ hv0 e28) ⟨by decide, by decide, Nat.zero_le _, Nat.zero_le _⟩ (Or.inl hv0) rfl (Nat.le_of_ble_eq_true rfl) dX5_rule_97 (c2 := 0) (s2 := 0) rfl rfl (fun x29 => ?_)
      cases h
      exact z_iret (pc := 100) C rfl (show 0 ≤ 0 from by decide) (show 0 ≤ 0 from by decide) dX5_rule_100
theorem cB_X5_rule_61 {X : x_Ctx} {M0 : Mem} (C : x_CC X 4 104 yX5_rule cX5_rule 6 (some .int) [])  (v0 : Nat) (v1 : Int) (v2 : Int) (v3 : Int) (v4 : Int) (M : Mem) (r : Int) (M' : Mem) (hv0 : m_kd M v0 = 5) (h : B_X5_rule_61  v0 v1 v2 v3 v4 M = some (r, M'))  : x_Z X 0 0 (x_QF X M0 (.returned (some (vI r))) M' 0 0) M0 M 6 [(0, .ref v0), (1, vI v1), (2, vI v2), (3, vI v3), (4, vI v4)] 61 [] := by
  unfold B_X5_rule_61 at h
  refine z_iload_n (pc := 61) C 3 rfl dX5_rule_61 ?_
  refine z_iconst (pc := 62) C dX5_rule_62 ?_
  refine z_ic_eq (pc := 63) C dX5_rule_63 (tgt := 75) (by decide) (fun c11 => ?_) (fun c11 => ?_)
  · have h := itt c11 h
    exact cB_X5_rule_75 C v0 v1 v2 v3 v4 M _ _ hv0 h
  · have h := itf c11 h
    refine z_aload_n (pc := 66) C 0 rfl dX5_rule_66 ?_
    refine z_iload_n (pc := 67) C 1 rfl dX5_rule_67 ?_
    refine z_iload_n (pc := 68) C 3 rfl dX5_rule_68 ?_
    obtain ⟨r30, e31, h⟩ := bRs h
    refine cX5_407 (pc := 69) (st := []) (st1 := [vI r30]) C rfl (rm := { frames := 1, cells := 0, slots := 0, locals := 24 }) (ct_X5_isAsk C.2.1 v0 v1 v3 M _ hv0 e31) ⟨by decide, by decide, Nat.zero_le _, Nat.zero_le _⟩ (Or.inl hv0) rfl (Nat.le_of_ble_eq_true rfl) dX5_rule_69 (c2 := 0) (s2 := 0) rfl rfl (fun _ => ?_)
    refine z_if_eq (pc := 72) C dX5_rule_72 (tgt := 95) (by decide) (fun c32 => ?_) (fun c32 => ?_)
    · have h := itt c32 h
      refine z_aload_n (pc := 95) C 0 rfl dX5_rule_95 ?_
      refine z_iconst (pc := 96) C dX5_rule_96 ?_
      obtain ⟨r33, M34, e35, h⟩ := bNs h
      refine cX5_213 (pc := 97) (st := []) (st1 := [vI r33]) C rfl (rm := { frames := 1, cells := 0, slots := 0, locals := 24 }) (ct_X5_fail C.2.1 v0 2 M _ _ hv0 e35) ⟨by decide, by decide, Nat.zero_le _, Nat.zero_le _⟩ (Or.inl hv0) rfl (Nat.le_of_ble_eq_true rfl) dX5_rule_97 (c2 := 0) (s2 := 0) rfl rfl (fun x36 => ?_)
      cases h
      exact z_iret (pc := 100) C rfl (show 0 ≤ 0 from by decide) (show 0 ≤ 0 from by decide) dX5_rule_100
    · have h := itf c32 h
      exact cB_X5_rule_75 C v0 v1 v2 v3 v4 M _ _ hv0 h
theorem cB_X5_rule_47 {X : x_Ctx} {M0 : Mem} (C : x_CC X 4 104 yX5_rule cX5_rule 6 (some .int) [])  (v0 : Nat) (v1 : Int) (v2 : Int) (v3 : Int) (v4 : Int) (M : Mem) (r : Int) (M' : Mem) (hv0 : m_kd M v0 = 5) (h : B_X5_rule_47  v0 v1 v2 v3 v4 M = some (r, M'))  : x_Z X 0 0 (x_QF X M0 (.returned (some (vI r))) M' 0 0) M0 M 6 [(0, .ref v0), (1, vI v1), (2, vI v2), (3, vI v3), (4, vI v4)] 47 [] := by
  unfold B_X5_rule_47 at h
  refine z_iload_n (pc := 47) C 2 rfl dX5_rule_47 ?_
  refine z_iconst (pc := 48) C dX5_rule_48 ?_
  refine z_ic_eq (pc := 49) C dX5_rule_49 (tgt := 61) (by decide) (fun c10 => ?_) (fun c10 => ?_)
  · have h := itt c10 h
    exact cB_X5_rule_61 C v0 v1 v2 v3 v4 M _ _ hv0 h
  · have h := itf c10 h
    refine z_aload_n (pc := 52) C 0 rfl dX5_rule_52 ?_
    refine z_iload_n (pc := 53) C 1 rfl dX5_rule_53 ?_
    refine z_iload_n (pc := 54) C 2 rfl dX5_rule_54 ?_
    obtain ⟨r37, e38, h⟩ := bRs h
    refine cX5_407 (pc := 55) (st := []) (st1 := [vI r37]) C rfl (rm := { frames := 1, cells := 0, slots := 0, locals := 24 }) (ct_X5_isAsk C.2.1 v0 v1 v2 M _ hv0 e38) ⟨by decide, by decide, Nat.zero_le _, Nat.zero_le _⟩ (Or.inl hv0) rfl (Nat.le_of_ble_eq_true rfl) dX5_rule_55 (c2 := 0) (s2 := 0) rfl rfl (fun _ => ?_)
    refine z_if_eq (pc := 58) C dX5_rule_58 (tgt := 95) (by decide) (fun c39 => ?_) (fun c39 => ?_)
    · have h := itt c39 h
      refine z_aload_n (pc := 95) C 0 rfl dX5_rule_95 ?_
      refine z_iconst (pc := 96) C dX5_rule_96 ?_
      obtain ⟨r40, M41, e42, h⟩ := bNs h
      refine cX5_213 (pc := 97) (st := []) (st1 := [vI r40]) C rfl (rm := { frames := 1, cells := 0, slots := 0, locals := 24 }) (ct_X5_fail C.2.1 v0 2 M _ _ hv0 e42) ⟨by decide, by decide, Nat.zero_le _, Nat.zero_le _⟩ (Or.inl hv0) rfl (Nat.le_of_ble_eq_true rfl) dX5_rule_97 (c2 := 0) (s2 := 0) rfl rfl (fun x43 => ?_)
      cases h
      exact z_iret (pc := 100) C rfl (show 0 ≤ 0 from by decide) (show 0 ≤ 0 from by decide) dX5_rule_100
    · have h := itf c39 h
      exact cB_X5_rule_61 C v0 v1 v2 v3 v4 M _ _ hv0 h
theorem cB_X5_rule_27 {X : x_Ctx} {M0 : Mem} (C : x_CC X 4 104 yX5_rule cX5_rule 6 (some .int) [])  (v0 : Nat) (v1 : Int) (v2 : Int) (v3 : Int) (v4 : Int) (M : Mem) (r : Int) (M' : Mem) (hv0 : m_kd M v0 = 5) (h : B_X5_rule_27  v0 v1 v2 v3 v4 M = some (r, M'))  : x_Z X 0 0 (x_QF X M0 (.returned (some (vI r))) M' 0 0) M0 M 6 [(0, .ref v0), (1, vI v1), (2, vI v2), (3, vI v3), (4, vI v4)] 27 [] := by
  unfold B_X5_rule_27 at h
  refine z_iload_n (pc := 27) C 3 rfl dX5_rule_27 ?_
  refine z_iconst (pc := 28) C dX5_rule_28 ?_
  refine z_ic_eq (pc := 29) C dX5_rule_29 (tgt := 47) (by decide) (fun c9 => ?_) (fun c9 => ?_)
  · have h := itt c9 h
    exact cB_X5_rule_47 C v0 v1 v2 v3 v4 M _ _ hv0 h
  · have h := itf c9 h
    refine z_aload_n (pc := 32) C 0 rfl dX5_rule_32 ?_
    refine z_iload_n (pc := 33) C 1 rfl dX5_rule_33 ?_
    refine z_iload_n (pc := 34) C 3 rfl dX5_rule_34 ?_
    obtain ⟨r44, e45, h⟩ := bRs h
    refine cX5_352 (pc := 35) (st := []) (st1 := [vI r44]) C rfl (rm := { frames := 3, cells := 0, slots := 0, locals := 78 }) (ct_X5_isStatementOf C.2.1 v0 v1 v3 M _ hv0 e45) ⟨by decide, by decide, Nat.zero_le _, Nat.zero_le _⟩ (Or.inl hv0) rfl (Nat.le_of_ble_eq_true rfl) dX5_rule_35 (c2 := 0) (s2 := 0) rfl rfl (fun _ => ?_)
    refine z_if_ne (pc := 38) C dX5_rule_38 (tgt := 47) (by decide) (fun c46 => ?_) (fun c46 => ?_)
    · have h := itf c46 h
      exact cB_X5_rule_47 C v0 v1 v2 v3 v4 M _ _ hv0 h
    · have h := itt c46 h
      refine z_aload_n (pc := 41) C 0 rfl dX5_rule_41 ?_
      refine z_iconst (pc := 42) C dX5_rule_42 ?_
      obtain ⟨r47, M48, e49, h⟩ := bNs h
      refine cX5_213 (pc := 43) (st := []) (st1 := [vI r47]) C rfl (rm := { frames := 1, cells := 0, slots := 0, locals := 24 }) (ct_X5_fail C.2.1 v0 1 M _ _ hv0 e49) ⟨by decide, by decide, Nat.zero_le _, Nat.zero_le _⟩ (Or.inl hv0) rfl (Nat.le_of_ble_eq_true rfl) dX5_rule_43 (c2 := 0) (s2 := 0) rfl rfl (fun x50 => ?_)
      cases h
      exact z_iret (pc := 46) C rfl (show 0 ≤ 0 from by decide) (show 0 ≤ 0 from by decide) dX5_rule_46
theorem ct_X5_rule {l : Launch} {S0 : State} {D : va_G} {cA : Nat → ClassId} (hG : x_G l S0 D cA) (v0 : Nat) (v1 : Int) (v2 : Int) (v3 : Int) (v4 : Int) (M : Mem) (r : Int) (M' : Mem) (hv0 : m_kd M v0 = 5) (h : d_X5_rule v0 v1 v2 v3 v4 M = some (r, M')) : x_Me l S0 D cA yX5_rule cX5_rule 6 (some .int) [] ({ frames := 4, cells := 0, slots := 0, locals := 104 }) [.ref v0, vI v1, vI v2, vI v3, vI v4] M (.returned (some (vI r))) M' := by
  refine x_begin (F := 4) (Lo := 104) (mc := 0) (ms := 0) hG (Nat.le_of_ble_eq_true rfl) (lv := [(0, .ref v0), (1, vI v1), (2, vI v2), (3, vI v3), (4, vI v4)]) rfl rfl rfl rfl rfl (fun X e1 e2 e3 e4 e5 C => ?_)
  unfold d_X5_rule at h
  refine z_aload_n (pc := 0) C 0 rfl dX5_rule_0 ?_
  refine z_iconst (pc := 1) C dX5_rule_1 ?_
  refine pX5_500 (pc := 2) C rfl (Or.inl hv0) dX5_rule_2 ?_
  refine z_aload_n (pc := 5) C 0 rfl dX5_rule_5 ?_
  refine z_iload_n (pc := 6) C 1 rfl dX5_rule_6 ?_
  obtain ⟨r1, e2, h⟩ := bRs h
  refine cX5_349 (pc := 7) (st := []) (st1 := [vI r1]) C rfl (rm := { frames := 2, cells := 0, slots := 0, locals := 53 }) (ct_X5_isForm C.2.1 v0 v1 (m_si M 500 v0 0 0) _ hv0 e2) ⟨by decide, by decide, Nat.zero_le _, Nat.zero_le _⟩ (Or.inl hv0) rfl (Nat.le_of_ble_eq_true rfl) dX5_rule_7 (c2 := 0) (s2 := 0) rfl rfl (fun _ => ?_)
  refine z_if_eq (pc := 10) C dX5_rule_10 (tgt := 41) (by decide) (fun c3 => ?_) (fun c3 => ?_)
  · have h := itt c3 h
    refine z_aload_n (pc := 41) C 0 rfl dX5_rule_41 ?_
    refine z_iconst (pc := 42) C dX5_rule_42 ?_
    obtain ⟨r4, M5, e6, h⟩ := bNs h
    refine cX5_213 (pc := 43) (st := []) (st1 := [vI r4]) C rfl (rm := { frames := 1, cells := 0, slots := 0, locals := 24 }) (ct_X5_fail C.2.1 v0 1 (m_si M 500 v0 0 0) _ _ hv0 e6) ⟨by decide, by decide, Nat.zero_le _, Nat.zero_le _⟩ (Or.inl hv0) rfl (Nat.le_of_ble_eq_true rfl) dX5_rule_43 (c2 := 0) (s2 := 0) rfl rfl (fun x7 => ?_)
    cases h
    exact z_iret (pc := 46) C rfl (show 0 ≤ 0 from by decide) (show 0 ≤ 0 from by decide) dX5_rule_46
  · have h := itf c3 h
    refine z_iload_n (pc := 13) C 2 rfl dX5_rule_13 ?_
    refine z_iconst (pc := 14) C dX5_rule_14 ?_
    refine z_ic_eq (pc := 15) C dX5_rule_15 (tgt := 27) (by decide) (fun c8 => ?_) (fun c8 => ?_)
    · have h := itt c8 h
      exact cB_X5_rule_27 C v0 v1 v2 v3 v4 (m_si M 500 v0 0 0) _ _ hv0 h
    · have h := itf c8 h
      refine z_aload_n (pc := 18) C 0 rfl dX5_rule_18 ?_
      refine z_iload_n (pc := 19) C 1 rfl dX5_rule_19 ?_
      refine z_iload_n (pc := 20) C 2 rfl dX5_rule_20 ?_
      obtain ⟨r51, e52, h⟩ := bRs h
      refine cX5_352 (pc := 21) (st := []) (st1 := [vI r51]) C rfl (rm := { frames := 3, cells := 0, slots := 0, locals := 78 }) (ct_X5_isStatementOf C.2.1 v0 v1 v2 (m_si M 500 v0 0 0) _ hv0 e52) ⟨by decide, by decide, Nat.zero_le _, Nat.zero_le _⟩ (Or.inl hv0) rfl (Nat.le_of_ble_eq_true rfl) dX5_rule_21 (c2 := 0) (s2 := 0) rfl rfl (fun _ => ?_)
      refine z_if_eq (pc := 24) C dX5_rule_24 (tgt := 41) (by decide) (fun c53 => ?_) (fun c53 => ?_)
      · have h := itt c53 h
        refine z_aload_n (pc := 41) C 0 rfl dX5_rule_41 ?_
        refine z_iconst (pc := 42) C dX5_rule_42 ?_
        obtain ⟨r54, M55, e56, h⟩ := bNs h
        refine cX5_213 (pc := 43) (st := []) (st1 := [vI r54]) C rfl (rm := { frames := 1, cells := 0, slots := 0, locals := 24 }) (ct_X5_fail C.2.1 v0 1 (m_si M 500 v0 0 0) _ _ hv0 e56) ⟨by decide, by decide, Nat.zero_le _, Nat.zero_le _⟩ (Or.inl hv0) rfl (Nat.le_of_ble_eq_true rfl) dX5_rule_43 (c2 := 0) (s2 := 0) rfl rfl (fun x57 => ?_)
        cases h
        exact z_iret (pc := 46) C rfl (show 0 ≤ 0 from by decide) (show 0 ≤ 0 from by decide) dX5_rule_46
      · have h := itf c53 h
        exact cB_X5_rule_27 C v0 v1 v2 v3 v4 (m_si M 500 v0 0 0) _ _ hv0 h
def d_X5_cost (v0 : Nat) (v1 : Int) (v2 : Int) (v3 : Int) (M : Mem) : Option (Int × Mem) :=
  bR (d_X5_isStatementOf v0 v1 v2 (m_si M 500 v0 0 0)) fun r1 => 
  if w32 r1 = 0 then
    bN (d_X5_fail v0 1 (m_si M 500 v0 0 0)) fun r18 M19 => 
    some (r18, M19)
  else
    bR (d_X5_isAsk v0 v1 v2 (m_si M 500 v0 0 0)) fun r4 => 
    if w32 r4 = 0 then
      bN (d_X5_fail v0 2 (m_si M 500 v0 0 0)) fun r7 M8 => 
      some (r7, M8)
    else
      if w32 (d_X5_isIn (w32 v3) 1 100) = 0 then
        bN (d_X5_fail v0 2 (m_si M 500 v0 0 0)) fun r14 M15 => 
        some (r14, M15)
      else
        if inb ((20 * v1) + v2) 120 then 
        some (m_i M 520 v0 (ixn ((20 * v1) + v2)), (m_si (m_si M 500 v0 0 0) 520 v0 (ixn ((20 * v1) + v2)) v3)) else none
theorem ct_X5_cost {l : Launch} {S0 : State} {D : va_G} {cA : Nat → ClassId} (hG : x_G l S0 D cA) (v0 : Nat) (v1 : Int) (v2 : Int) (v3 : Int) (M : Mem) (r : Int) (M' : Mem) (hv0 : m_kd M v0 = 5) (h : d_X5_cost v0 v1 v2 v3 M = some (r, M')) : x_Me l S0 D cA yX5_cost cX5_cost 5 (some .int) [] ({ frames := 4, cells := 0, slots := 0, locals := 104 }) [.ref v0, vI v1, vI v2, vI v3] M (.returned (some (vI r))) M' := by
  refine x_begin (F := 4) (Lo := 104) (mc := 0) (ms := 0) hG (Nat.le_of_ble_eq_true rfl) (lv := [(0, .ref v0), (1, vI v1), (2, vI v2), (3, vI v3)]) rfl rfl rfl rfl rfl (fun X e1 e2 e3 e4 e5 C => ?_)
  unfold d_X5_cost at h
  refine z_aload_n (pc := 0) C 0 rfl dX5_cost_0 ?_
  refine z_iconst (pc := 1) C dX5_cost_1 ?_
  refine pX5_500 (pc := 2) C rfl (Or.inl hv0) dX5_cost_2 ?_
  refine z_aload_n (pc := 5) C 0 rfl dX5_cost_5 ?_
  refine z_iload_n (pc := 6) C 1 rfl dX5_cost_6 ?_
  refine z_iload_n (pc := 7) C 2 rfl dX5_cost_7 ?_
  obtain ⟨r1, e2, h⟩ := bRs h
  refine cX5_352 (pc := 8) (st := []) (st1 := [vI r1]) C rfl (rm := { frames := 3, cells := 0, slots := 0, locals := 78 }) (ct_X5_isStatementOf C.2.1 v0 v1 v2 (m_si M 500 v0 0 0) _ hv0 e2) ⟨by decide, by decide, Nat.zero_le _, Nat.zero_le _⟩ (Or.inl hv0) rfl (Nat.le_of_ble_eq_true rfl) dX5_cost_8 (c2 := 0) (s2 := 0) rfl rfl (fun _ => ?_)
  refine z_if_ne (pc := 11) C dX5_cost_11 (tgt := 20) (by decide) (fun c3 => ?_) (fun c3 => ?_)
  · have h := itf c3 h
    refine z_aload_n (pc := 20) C 0 rfl dX5_cost_20 ?_
    refine z_iload_n (pc := 21) C 1 rfl dX5_cost_21 ?_
    refine z_iload_n (pc := 22) C 2 rfl dX5_cost_22 ?_
    obtain ⟨r4, e5, h⟩ := bRs h
    refine cX5_407 (pc := 23) (st := []) (st1 := [vI r4]) C rfl (rm := { frames := 1, cells := 0, slots := 0, locals := 24 }) (ct_X5_isAsk C.2.1 v0 v1 v2 (m_si M 500 v0 0 0) _ hv0 e5) ⟨by decide, by decide, Nat.zero_le _, Nat.zero_le _⟩ (Or.inl hv0) rfl (Nat.le_of_ble_eq_true rfl) dX5_cost_23 (c2 := 0) (s2 := 0) rfl rfl (fun _ => ?_)
    refine z_if_eq (pc := 26) C dX5_cost_26 (tgt := 41) (by decide) (fun c6 => ?_) (fun c6 => ?_)
    · have h := itt c6 h
      refine z_aload_n (pc := 41) C 0 rfl dX5_cost_41 ?_
      refine z_iconst (pc := 42) C dX5_cost_42 ?_
      obtain ⟨r7, M8, e9, h⟩ := bNs h
      refine cX5_213 (pc := 43) (st := []) (st1 := [vI r7]) C rfl (rm := { frames := 1, cells := 0, slots := 0, locals := 24 }) (ct_X5_fail C.2.1 v0 2 (m_si M 500 v0 0 0) _ _ hv0 e9) ⟨by decide, by decide, Nat.zero_le _, Nat.zero_le _⟩ (Or.inl hv0) rfl (Nat.le_of_ble_eq_true rfl) dX5_cost_43 (c2 := 0) (s2 := 0) rfl rfl (fun x10 => ?_)
      cases h
      exact z_iret (pc := 46) C rfl (show 0 ≤ 0 from by decide) (show 0 ≤ 0 from by decide) dX5_cost_46
    · have h := itf c6 h
      refine z_iload_n (pc := 29) C 3 rfl dX5_cost_29 ?_
      refine z_i2l (pc := 30) C dX5_cost_30 ?_
      refine z_lconst (pc := 31) C (x := 1) (by decide +kernel) dX5_cost_31 ?_
      refine z_ldc2 (pc := 32) C (x := 100) q2007 (by decide +kernel) dX5_cost_32 ?_
      refine cX5_207 (pc := 35) (st := []) (st1 := [vI (d_X5_isIn (w32 v3) 1 100)]) C rfl (rm := { frames := 1, cells := 0, slots := 0, locals := 24 }) (ct_X5_isIn C.2.1 (w32 v3) 1 100 (m_si M 500 v0 0 0) _  rfl) ⟨by decide, by decide, Nat.zero_le _, Nat.zero_le _⟩ rfl (Nat.le_of_ble_eq_true rfl) dX5_cost_35 (c2 := 0) (s2 := 0) rfl rfl (fun _ => ?_)
      refine z_if_ne (pc := 38) C dX5_cost_38 (tgt := 47) (by decide) (fun c12 => ?_) (fun c12 => ?_)
      · have h := itf c12 h
        refine z_aload_n (pc := 47) C 0 rfl dX5_cost_47 ?_
        refine gX5_520 (pc := 48) C rfl hv0 dX5_cost_48 ?_
        refine z_bipush (pc := 51) C (by decide +kernel) dX5_cost_51 ?_
        refine z_iload_n (pc := 53) C 1 rfl dX5_cost_53 ?_
        refine z_imul (pc := 54) C dX5_cost_54 ?_
        refine z_iload_n (pc := 55) C 2 rfl dX5_cost_55 ?_
        refine z_iadd (pc := 56) C dX5_cost_56 ?_
        obtain ⟨c13, h⟩ := ifn h
        refine z_iaO (pc := 57) (k := 5) (j := 20) C 520 rfl (by decide) (by decide) (by decide) rfl rfl rfl rfl hv0 c13 (x := m_i M 520 v0 (ixn ((20 * v1) + v2))) ((m_i_ne (by decide)).trans rfl) dX5_cost_57 ?_
        refine z_istore (pc := 58) C (lv' := [(0, .ref v0), (1, vI v1), (2, vI v2), (3, vI v3), (4, vI (m_i M 520 v0 (ixn ((20 * v1) + v2))))]) (by decide) rfl dX5_cost_58 ?_
        refine z_aload_n (pc := 60) C 0 rfl dX5_cost_60 ?_
        refine gX5_520 (pc := 61) C rfl hv0 dX5_cost_61 ?_
        refine z_bipush (pc := 64) C (by decide +kernel) dX5_cost_64 ?_
        refine z_iload_n (pc := 66) C 1 rfl dX5_cost_66 ?_
        refine z_imul (pc := 67) C dX5_cost_67 ?_
        refine z_iload_n (pc := 68) C 2 rfl dX5_cost_68 ?_
        refine z_iadd (pc := 69) C dX5_cost_69 ?_
        refine z_iload_n (pc := 70) C 3 rfl dX5_cost_70 ?_
        refine z_isO (pc := 71) (k := 5) (j := 20) C 520 rfl (by decide) (by decide) (by decide) rfl rfl rfl rfl hv0 c13 dX5_cost_71 ?_
        refine z_iload (pc := 72) C 4 rfl dX5_cost_72 ?_
        cases h
        exact z_iret (pc := 74) C rfl (show 0 ≤ 0 from by decide) (show 0 ≤ 0 from by decide) dX5_cost_74
      · have h := itt c12 h
        refine z_aload_n (pc := 41) C 0 rfl dX5_cost_41 ?_
        refine z_iconst (pc := 42) C dX5_cost_42 ?_
        obtain ⟨r14, M15, e16, h⟩ := bNs h
        refine cX5_213 (pc := 43) (st := []) (st1 := [vI r14]) C rfl (rm := { frames := 1, cells := 0, slots := 0, locals := 24 }) (ct_X5_fail C.2.1 v0 2 (m_si M 500 v0 0 0) _ _ hv0 e16) ⟨by decide, by decide, Nat.zero_le _, Nat.zero_le _⟩ (Or.inl hv0) rfl (Nat.le_of_ble_eq_true rfl) dX5_cost_43 (c2 := 0) (s2 := 0) rfl rfl (fun x17 => ?_)
        cases h
        exact z_iret (pc := 46) C rfl (show 0 ≤ 0 from by decide) (show 0 ≤ 0 from by decide) dX5_cost_46
  · have h := itt c3 h
    refine z_aload_n (pc := 14) C 0 rfl dX5_cost_14 ?_
    refine z_iconst (pc := 15) C dX5_cost_15 ?_
    obtain ⟨r18, M19, e20, h⟩ := bNs h
    refine cX5_213 (pc := 16) (st := []) (st1 := [vI r18]) C rfl (rm := { frames := 1, cells := 0, slots := 0, locals := 24 }) (ct_X5_fail C.2.1 v0 1 (m_si M 500 v0 0 0) _ _ hv0 e20) ⟨by decide, by decide, Nat.zero_le _, Nat.zero_le _⟩ (Or.inl hv0) rfl (Nat.le_of_ble_eq_true rfl) dX5_cost_16 (c2 := 0) (s2 := 0) rfl rfl (fun x21 => ?_)
    cases h
    exact z_iret (pc := 19) C rfl (show 0 ≤ 0 from by decide) (show 0 ≤ 0 from by decide) dX5_cost_19
def B_X5_breaks_61  (v0 : Nat) (v2 : Int) (v3 : Int) (s0 : Int) (M : Mem) : Option Int :=
  if w32 v3 = w32 (-2000000) then
    some 0
  else
    if w32 s0 = w32 (-2000000) then
      some 0
    else
      if inb v2 96 then 
      if w32 (v3 - s0) ≤ w32 (m_i M 560 v0 (ixn v2)) then
        some 0
      else
        some 1 else none
def B_X5_breaks_30  (v0 : Nat) (v1 : Int) (v2 : Int) (s0 : Int) (M : Mem) : Option Int :=
  if inb v2 96 then 
  if w32 (m_i M 559 v0 (ixn v2)) = w32 (-1) then
    B_X5_breaks_61 v0 v2 s0 0 M
  else
    if inb ((20 * v1) + (m_i M 559 v0 (ixn v2))) 1200 then 
    B_X5_breaks_61 v0 v2 s0 (m_i M 555 v0 (ixn ((20 * v1) + (m_i M 559 v0 (ixn v2))))) M else none else none
def d_X5_breaks (v0 : Nat) (v1 : Int) (v2 : Int) (M : Mem) : Option Int :=
  if inb v2 96 then 
  if w32 (m_i M 558 v0 (ixn v2)) = w32 (-1) then
    B_X5_breaks_30 v0 v1 v2 0 M
  else
    if inb ((20 * v1) + (m_i M 558 v0 (ixn v2))) 1200 then 
    B_X5_breaks_30 v0 v1 v2 (m_i M 555 v0 (ixn ((20 * v1) + (m_i M 558 v0 (ixn v2))))) M else none else none
theorem cB_X5_breaks_61 {X : x_Ctx} {M0 : Mem} (C : x_CC X 1 24 yX5_breaks cX5_breaks 5 (some .boolean) [])  (v0 : Nat) (v2 : Int) (v3 : Int) (s0 : Int) (M : Mem) (r : Int) (hv0 : m_kd M v0 = 5) (h : B_X5_breaks_61  v0 v2 v3 s0 M = some r)  : x_Z X 0 0 (x_QF X M0 (.returned (some (vI r))) M 0 0) M0 M 5 [(0, .ref v0), (2, vI v2), (3, vI v3)] 61 [vI s0] := by
  unfold B_X5_breaks_61 at h
  refine z_istore (pc := 61) C (lv' := [(0, .ref v0), (2, vI v2), (3, vI v3), (4, vI s0)]) (by decide) rfl dX5_breaks_61 ?_
  refine z_iload_n (pc := 63) C 2 rfl dX5_breaks_63 ?_
  refine z_ldc (pc := 64) C (x := -2000000) q1829 (by decide +kernel) dX5_breaks_64 ?_
  refine z_ic_eq (pc := 66) C dX5_breaks_66 (tgt := 93) (by decide) (fun c7 => ?_) (fun c7 => ?_)
  · have h := itt c7 h
    refine z_iconst (pc := 93) C dX5_breaks_93 ?_
    cases h
    exact z_zret (pc := 94) C rfl (Or.inl rfl) (show 0 ≤ 0 from by decide) (show 0 ≤ 0 from by decide) dX5_breaks_94
  · have h := itf c7 h
    refine z_iload (pc := 69) C 3 rfl dX5_breaks_69 ?_
    refine z_ldc (pc := 71) C (x := -2000000) q1829 (by decide +kernel) dX5_breaks_71 ?_
    refine z_ic_eq (pc := 73) C dX5_breaks_73 (tgt := 93) (by decide) (fun c8 => ?_) (fun c8 => ?_)
    · have h := itt c8 h
      refine z_iconst (pc := 93) C dX5_breaks_93 ?_
      cases h
      exact z_zret (pc := 94) C rfl (Or.inl rfl) (show 0 ≤ 0 from by decide) (show 0 ≤ 0 from by decide) dX5_breaks_94
    · have h := itf c8 h
      refine z_iload_n (pc := 76) C 2 rfl dX5_breaks_76 ?_
      refine z_iload (pc := 77) C 3 rfl dX5_breaks_77 ?_
      refine z_isub (pc := 79) C dX5_breaks_79 ?_
      refine z_aload_n (pc := 80) C 0 rfl dX5_breaks_80 ?_
      refine gX5_560 (pc := 81) C rfl hv0 dX5_breaks_81 ?_
      refine z_iload_n (pc := 84) C 1 rfl dX5_breaks_84 ?_
      obtain ⟨c9, h⟩ := ifn h
      refine z_iaO (pc := 85) (k := 5) (j := 60) C 560 rfl (by decide) (by decide) (by decide) rfl rfl rfl rfl hv0 c9 rfl dX5_breaks_85 ?_
      refine z_ic_le (pc := 86) C dX5_breaks_86 (tgt := 93) (by decide) (fun c10 => ?_) (fun c10 => ?_)
      · have h := itt c10 h
        refine z_iconst (pc := 93) C dX5_breaks_93 ?_
        cases h
        exact z_zret (pc := 94) C rfl (Or.inl rfl) (show 0 ≤ 0 from by decide) (show 0 ≤ 0 from by decide) dX5_breaks_94
      · have h := itf c10 h
        refine z_iconst (pc := 89) C dX5_breaks_89 ?_
        refine z_goto (pc := 90) C dX5_breaks_90 (tgt := 94) (by decide) ?_
        cases h
        exact z_zret (pc := 94) C rfl (Or.inr rfl) (show 0 ≤ 0 from by decide) (show 0 ≤ 0 from by decide) dX5_breaks_94
theorem cB_X5_breaks_30 {X : x_Ctx} {M0 : Mem} (C : x_CC X 1 24 yX5_breaks cX5_breaks 5 (some .boolean) [])  (v0 : Nat) (v1 : Int) (v2 : Int) (s0 : Int) (M : Mem) (r : Int) (hv0 : m_kd M v0 = 5) (h : B_X5_breaks_30  v0 v1 v2 s0 M = some r)  : x_Z X 0 0 (x_QF X M0 (.returned (some (vI r))) M 0 0) M0 M 5 [(0, .ref v0), (1, vI v1), (2, vI v2)] 30 [vI s0] := by
  unfold B_X5_breaks_30 at h
  refine z_istore_n (pc := 30) C (lv' := [(0, .ref v0), (1, vI v1), (2, vI v2), (3, vI s0)]) (by decide) rfl dX5_breaks_30 ?_
  refine z_aload_n (pc := 31) C 0 rfl dX5_breaks_31 ?_
  refine gX5_559 (pc := 32) C rfl hv0 dX5_breaks_32 ?_
  refine z_iload_n (pc := 35) C 2 rfl dX5_breaks_35 ?_
  obtain ⟨c4, h⟩ := ifn h
  refine z_iaO (pc := 36) (k := 5) (j := 59) C 559 rfl (by decide) (by decide) (by decide) rfl rfl rfl rfl hv0 c4 rfl dX5_breaks_36 ?_
  refine z_iconst (pc := 37) C dX5_breaks_37 ?_
  refine z_ic_ne (pc := 38) C dX5_breaks_38 (tgt := 45) (by decide) (fun c5 => ?_) (fun c5 => ?_)
  · have h := itf c5 h
    refine z_aload_n (pc := 45) C 0 rfl dX5_breaks_45 ?_
    refine gX5_555 (pc := 46) C rfl hv0 dX5_breaks_46 ?_
    refine z_bipush (pc := 49) C (by decide +kernel) dX5_breaks_49 ?_
    refine z_iload_n (pc := 51) C 1 rfl dX5_breaks_51 ?_
    refine z_imul (pc := 52) C dX5_breaks_52 ?_
    refine z_aload_n (pc := 53) C 0 rfl dX5_breaks_53 ?_
    refine gX5_559 (pc := 54) C rfl hv0 dX5_breaks_54 ?_
    refine z_iload_n (pc := 57) C 2 rfl dX5_breaks_57 ?_
    refine z_iaO (pc := 58) (k := 5) (j := 59) C 559 rfl (by decide) (by decide) (by decide) rfl rfl rfl rfl hv0 c4 rfl dX5_breaks_58 ?_
    refine z_iadd (pc := 59) C dX5_breaks_59 ?_
    obtain ⟨c6, h⟩ := ifn h
    refine z_iaO (pc := 60) (k := 5) (j := 55) C 555 rfl (by decide) (by decide) (by decide) rfl rfl rfl rfl hv0 c6 rfl dX5_breaks_60 ?_
    exact z_lv [0, 2, 3] rfl <| cB_X5_breaks_61 C v0 v2 s0 (m_i M 555 v0 (ixn ((20 * v1) + (m_i M 559 v0 (ixn v2))))) M _ hv0 h
  · have h := itt c5 h
    refine z_iconst (pc := 41) C dX5_breaks_41 ?_
    refine z_goto (pc := 42) C dX5_breaks_42 (tgt := 61) (by decide) ?_
    exact z_lv [0, 2, 3] rfl <| cB_X5_breaks_61 C v0 v2 s0 0 M _ hv0 h
theorem ct_X5_breaks {l : Launch} {S0 : State} {D : va_G} {cA : Nat → ClassId} (hG : x_G l S0 D cA) (v0 : Nat) (v1 : Int) (v2 : Int) (M : Mem) (r : Int) (hv0 : m_kd M v0 = 5) (h : d_X5_breaks v0 v1 v2 M = some r) : x_Me l S0 D cA yX5_breaks cX5_breaks 5 (some .boolean) [] ({ frames := 1, cells := 0, slots := 0, locals := 24 }) [.ref v0, vI v1, vI v2] M (.returned (some (vI r))) M := by
  refine x_begin (F := 1) (Lo := 24) (mc := 0) (ms := 0) hG (Nat.le_of_ble_eq_true rfl) (lv := [(0, .ref v0), (1, vI v1), (2, vI v2)]) rfl rfl rfl rfl rfl (fun X e1 e2 e3 e4 e5 C => ?_)
  unfold d_X5_breaks at h
  refine z_aload_n (pc := 0) C 0 rfl dX5_breaks_0 ?_
  refine gX5_558 (pc := 1) C rfl hv0 dX5_breaks_1 ?_
  refine z_iload_n (pc := 4) C 2 rfl dX5_breaks_4 ?_
  obtain ⟨c1, h⟩ := ifn h
  refine z_iaO (pc := 5) (k := 5) (j := 58) C 558 rfl (by decide) (by decide) (by decide) rfl rfl rfl rfl hv0 c1 rfl dX5_breaks_5 ?_
  refine z_iconst (pc := 6) C dX5_breaks_6 ?_
  refine z_ic_ne (pc := 7) C dX5_breaks_7 (tgt := 14) (by decide) (fun c2 => ?_) (fun c2 => ?_)
  · have h := itf c2 h
    refine z_aload_n (pc := 14) C 0 rfl dX5_breaks_14 ?_
    refine gX5_555 (pc := 15) C rfl hv0 dX5_breaks_15 ?_
    refine z_bipush (pc := 18) C (by decide +kernel) dX5_breaks_18 ?_
    refine z_iload_n (pc := 20) C 1 rfl dX5_breaks_20 ?_
    refine z_imul (pc := 21) C dX5_breaks_21 ?_
    refine z_aload_n (pc := 22) C 0 rfl dX5_breaks_22 ?_
    refine gX5_558 (pc := 23) C rfl hv0 dX5_breaks_23 ?_
    refine z_iload_n (pc := 26) C 2 rfl dX5_breaks_26 ?_
    refine z_iaO (pc := 27) (k := 5) (j := 58) C 558 rfl (by decide) (by decide) (by decide) rfl rfl rfl rfl hv0 c1 rfl dX5_breaks_27 ?_
    refine z_iadd (pc := 28) C dX5_breaks_28 ?_
    obtain ⟨c3, h⟩ := ifn h
    refine z_iaO (pc := 29) (k := 5) (j := 55) C 555 rfl (by decide) (by decide) (by decide) rfl rfl rfl rfl hv0 c3 rfl dX5_breaks_29 ?_
    exact cB_X5_breaks_30 C v0 v1 v2 (m_i M 555 v0 (ixn ((20 * v1) + (m_i M 558 v0 (ixn v2))))) M _ hv0 h
  · have h := itt c2 h
    refine z_iconst (pc := 10) C dX5_breaks_10 ?_
    refine z_goto (pc := 11) C dX5_breaks_11 (tgt := 30) (by decide) ?_
    exact cB_X5_breaks_30 C v0 v1 v2 0 M _ hv0 h
def B_X5_broken_44 (k44 : Nat → Int → Int → Int → Int → Int → Mem → Option (Int × Mem)) (v0 : Nat) (v1 : Int) (v2 : Int) (v3 : Int) (v4 : Int) (v5 : Int) (M : Mem) : Option (Int × Mem) :=
  if inb v3 6 then 
  if w32 (m_i M 557 v0 (ixn v3)) ≤ w32 v5 then
    if w32 v2 = w32 (-1) then
      some (v4, M)
    else
      some (-1, M)
  else
    bR (d_X5_breaks v0 v1 ((16 * v3) + v5) M) fun r13 => 
    if w32 r13 = 0 then
      k44 v0 v1 v2 v3 v4 (v5 + 1) M
    else
      if w32 v4 = w32 v2 then
        some (v5, M)
      else
        k44 v0 v1 v2 v3 (v4 + 1) (v5 + 1) M else none
def L_X5_broken_44  : Nat → Nat → Int → Int → Int → Int → Int → Mem → Option (Int × Mem)
  | 0, _, _, _, _, _, _, _ => none
  | n + 1, v0, v1, v2, v3, v4, v5, M => B_X5_broken_44 (L_X5_broken_44  n) v0 v1 v2 v3 v4 v5 M
def d_X5_broken (v0 : Nat) (v1 : Int) (v2 : Int) (M : Mem) : Option (Int × Mem) :=
  if w32 (d_X5_isIn (w32 v1) 0 (w32 ((m_i M 553 v0 0) - 1))) = 0 then
    bN (d_X5_fail v0 1 (m_si M 500 v0 0 0)) fun r3 M4 => 
    some (r3, M4)
  else
    if w32 (-1) ≤ w32 v2 then
      bR (d_X5_formOf v0 v1 (m_si M 500 v0 0 0)) fun r8 => 
      L_X5_broken_44 FU v0 v1 v2 r8 0 0 (m_si M 500 v0 0 0)
    else
      bN (d_X5_fail v0 1 (m_si M 500 v0 0 0)) fun r17 M18 => 
      some (r17, M18)
theorem cB_X5_broken_44 {X : x_Ctx} {M0 : Mem} (C : x_CC X 2 53 yX5_broken cX5_broken 6 (some .int) []) {k44 : Nat → Int → Int → Int → Int → Int → Mem → Option (Int × Mem)} (hk44 : ∀ (v0 : Nat) (v1 : Int) (v2 : Int) (v3 : Int) (v4 : Int) (v5 : Int) (M : Mem) (r : Int) (M' : Mem), m_kd M v0 = 5 → k44 v0 v1 v2 v3 v4 v5 M = some (r, M') → x_Z X 0 0 (x_QF X M0 (.returned (some (vI r))) M' 0 0) M0 M 6 [(0, .ref v0), (1, vI v1), (2, vI v2), (3, vI v3), (4, vI v4), (5, vI v5)] 44 []) (v0 : Nat) (v1 : Int) (v2 : Int) (v3 : Int) (v4 : Int) (v5 : Int) (M : Mem) (r : Int) (M' : Mem) (hv0 : m_kd M v0 = 5) (h : B_X5_broken_44 k44 v0 v1 v2 v3 v4 v5 M = some (r, M'))  : x_Z X 0 0 (x_QF X M0 (.returned (some (vI r))) M' 0 0) M0 M 6 [(0, .ref v0), (1, vI v1), (2, vI v2), (3, vI v3), (4, vI v4), (5, vI v5)] 44 [] := by
  unfold B_X5_broken_44 at h
  refine z_iload (pc := 44) C 5 rfl dX5_broken_44 ?_
  refine z_aload_n (pc := 46) C 0 rfl dX5_broken_46 ?_
  refine gX5_557 (pc := 47) C rfl hv0 dX5_broken_47 ?_
  refine z_iload_n (pc := 50) C 3 rfl dX5_broken_50 ?_
  obtain ⟨c10, h⟩ := ifn h
  refine z_iaO (pc := 51) (k := 5) (j := 57) C 557 rfl (by decide) (by decide) (by decide) rfl rfl rfl rfl hv0 c10 rfl dX5_broken_51 ?_
  refine z_ic_ge (pc := 52) C dX5_broken_52 (tgt := 88) (by decide) (fun c11 => ?_) (fun c11 => ?_)
  · have h := itt c11 h
    refine z_iload_n (pc := 88) C 2 rfl dX5_broken_88 ?_
    refine z_iconst (pc := 89) C dX5_broken_89 ?_
    refine z_ic_ne (pc := 90) C dX5_broken_90 (tgt := 98) (by decide) (fun c12 => ?_) (fun c12 => ?_)
    · have h := itf c12 h
      refine z_iconst (pc := 98) C dX5_broken_98 ?_
      cases h
      exact z_iret (pc := 99) C rfl (show 0 ≤ 0 from by decide) (show 0 ≤ 0 from by decide) dX5_broken_99
    · have h := itt c12 h
      refine z_iload (pc := 93) C 4 rfl dX5_broken_93 ?_
      refine z_goto (pc := 95) C dX5_broken_95 (tgt := 99) (by decide) ?_
      cases h
      exact z_iret (pc := 99) C rfl (show 0 ≤ 0 from by decide) (show 0 ≤ 0 from by decide) dX5_broken_99
  · have h := itf c11 h
    refine z_aload_n (pc := 55) C 0 rfl dX5_broken_55 ?_
    refine z_iload_n (pc := 56) C 1 rfl dX5_broken_56 ?_
    refine z_bipush (pc := 57) C (by decide +kernel) dX5_broken_57 ?_
    refine z_iload_n (pc := 59) C 3 rfl dX5_broken_59 ?_
    refine z_imul (pc := 60) C dX5_broken_60 ?_
    refine z_iload (pc := 61) C 5 rfl dX5_broken_61 ?_
    refine z_iadd (pc := 63) C dX5_broken_63 ?_
    obtain ⟨r13, e14, h⟩ := bRs h
    refine cX5_416 (pc := 64) (st := []) (st1 := [vI r13]) C rfl (rm := { frames := 1, cells := 0, slots := 0, locals := 24 }) (ct_X5_breaks C.2.1 v0 v1 ((16 * v3) + v5) M _ hv0 e14) ⟨by decide, by decide, Nat.zero_le _, Nat.zero_le _⟩ (Or.inl hv0) rfl (Nat.le_of_ble_eq_true rfl) dX5_broken_64 (c2 := 0) (s2 := 0) rfl rfl (fun _ => ?_)
    refine z_if_eq (pc := 67) C dX5_broken_67 (tgt := 82) (by decide) (fun c15 => ?_) (fun c15 => ?_)
    · have h := itt c15 h
      refine z_iinc (pc := 82) C (lv' := [(0, .ref v0), (1, vI v1), (2, vI v2), (3, vI v3), (4, vI v4), (5, vI (v5 + 1))]) 5 rfl (by decide) rfl dX5_broken_82 ?_
      refine z_goto (pc := 85) C dX5_broken_85 (tgt := 44) (by decide) ?_
      exact hk44 v0 v1 v2 v3 v4 (v5 + 1) M _ _ hv0 h
    · have h := itf c15 h
      refine z_iload (pc := 70) C 4 rfl dX5_broken_70 ?_
      refine z_iload_n (pc := 72) C 2 rfl dX5_broken_72 ?_
      refine z_ic_ne (pc := 73) C dX5_broken_73 (tgt := 79) (by decide) (fun c16 => ?_) (fun c16 => ?_)
      · have h := itf c16 h
        refine z_iinc (pc := 79) C (lv' := [(0, .ref v0), (1, vI v1), (2, vI v2), (3, vI v3), (4, vI (v4 + 1)), (5, vI v5)]) 4 rfl (by decide) rfl dX5_broken_79 ?_
        refine z_iinc (pc := 82) C (lv' := [(0, .ref v0), (1, vI v1), (2, vI v2), (3, vI v3), (4, vI (v4 + 1)), (5, vI (v5 + 1))]) 5 rfl (by decide) rfl dX5_broken_82 ?_
        refine z_goto (pc := 85) C dX5_broken_85 (tgt := 44) (by decide) ?_
        exact hk44 v0 v1 v2 v3 (v4 + 1) (v5 + 1) M _ _ hv0 h
      · have h := itt c16 h
        refine z_iload (pc := 76) C 5 rfl dX5_broken_76 ?_
        cases h
        exact z_iret (pc := 78) C rfl (show 0 ≤ 0 from by decide) (show 0 ≤ 0 from by decide) dX5_broken_78
theorem cL_X5_broken_44 {X : x_Ctx} {M0 : Mem} (C : x_CC X 2 53 yX5_broken cX5_broken 6 (some .int) [])  : ∀ (n : Nat) (v0 : Nat) (v1 : Int) (v2 : Int) (v3 : Int) (v4 : Int) (v5 : Int) (M : Mem) (r : Int) (M' : Mem) (hv0 : m_kd M v0 = 5) (h : L_X5_broken_44  n v0 v1 v2 v3 v4 v5 M = some (r, M')) , x_Z X 0 0 (x_QF X M0 (.returned (some (vI r))) M' 0 0) M0 M 6 [(0, .ref v0), (1, vI v1), (2, vI v2), (3, vI v3), (4, vI v4), (5, vI v5)] 44 [] := by
  intro n
  induction n with
  | zero => intro v0 v1 v2 v3 v4 v5 M r M' hv0 h ; cases h
  | succ n ih => intro v0 v1 v2 v3 v4 v5 M r M' hv0 h ; exact cB_X5_broken_44 C (fun v0 v1 v2 v3 v4 v5 M r M' hv0 h  => ih v0 v1 v2 v3 v4 v5 M r M' hv0 h ) v0 v1 v2 v3 v4 v5 M r M' hv0 h 
theorem ct_X5_broken {l : Launch} {S0 : State} {D : va_G} {cA : Nat → ClassId} (hG : x_G l S0 D cA) (v0 : Nat) (v1 : Int) (v2 : Int) (M : Mem) (r : Int) (M' : Mem) (hv0 : m_kd M v0 = 5) (h : d_X5_broken v0 v1 v2 M = some (r, M')) : x_Me l S0 D cA yX5_broken cX5_broken 6 (some .int) [] ({ frames := 2, cells := 0, slots := 0, locals := 53 }) [.ref v0, vI v1, vI v2] M (.returned (some (vI r))) M' := by
  refine x_begin (F := 2) (Lo := 53) (mc := 0) (ms := 0) hG (Nat.le_of_ble_eq_true rfl) (lv := [(0, .ref v0), (1, vI v1), (2, vI v2)]) rfl rfl rfl rfl rfl (fun X e1 e2 e3 e4 e5 C => ?_)
  unfold d_X5_broken at h
  refine z_aload_n (pc := 0) C 0 rfl dX5_broken_0 ?_
  refine z_iconst (pc := 1) C dX5_broken_1 ?_
  refine pX5_500 (pc := 2) C rfl (Or.inl hv0) dX5_broken_2 ?_
  refine z_iload_n (pc := 5) C 1 rfl dX5_broken_5 ?_
  refine z_i2l (pc := 6) C dX5_broken_6 ?_
  refine z_lconst (pc := 7) C (x := 0) (by decide +kernel) dX5_broken_7 ?_
  refine z_aload_n (pc := 8) C 0 rfl dX5_broken_8 ?_
  refine gX5_553 (pc := 9) C rfl (Or.inl hv0) (x := m_i M 553 v0 0) ((m_i_ne (by decide)).trans rfl) dX5_broken_9 ?_
  refine z_iconst (pc := 12) C dX5_broken_12 ?_
  refine z_isub (pc := 13) C dX5_broken_13 ?_
  refine z_i2l (pc := 14) C dX5_broken_14 ?_
  refine cX5_207 (pc := 15) (st := []) (st1 := [vI (d_X5_isIn (w32 v1) 0 (w32 ((m_i M 553 v0 0) - 1)))]) C rfl (rm := { frames := 1, cells := 0, slots := 0, locals := 24 }) (ct_X5_isIn C.2.1 (w32 v1) 0 (w32 ((m_i M 553 v0 0) - 1)) (m_si M 500 v0 0 0) _  rfl) ⟨by decide, by decide, Nat.zero_le _, Nat.zero_le _⟩ rfl (Nat.le_of_ble_eq_true rfl) dX5_broken_15 (c2 := 0) (s2 := 0) rfl rfl (fun _ => ?_)
  refine z_if_eq (pc := 18) C dX5_broken_18 (tgt := 26) (by decide) (fun c2 => ?_) (fun c2 => ?_)
  · have h := itt c2 h
    refine z_aload_n (pc := 26) C 0 rfl dX5_broken_26 ?_
    refine z_iconst (pc := 27) C dX5_broken_27 ?_
    obtain ⟨r3, M4, e5, h⟩ := bNs h
    refine cX5_213 (pc := 28) (st := []) (st1 := [vI r3]) C rfl (rm := { frames := 1, cells := 0, slots := 0, locals := 24 }) (ct_X5_fail C.2.1 v0 1 (m_si M 500 v0 0 0) _ _ hv0 e5) ⟨by decide, by decide, Nat.zero_le _, Nat.zero_le _⟩ (Or.inl hv0) rfl (Nat.le_of_ble_eq_true rfl) dX5_broken_28 (c2 := 0) (s2 := 0) rfl rfl (fun x6 => ?_)
    cases h
    exact z_iret (pc := 31) C rfl (show 0 ≤ 0 from by decide) (show 0 ≤ 0 from by decide) dX5_broken_31
  · have h := itf c2 h
    refine z_iload_n (pc := 21) C 2 rfl dX5_broken_21 ?_
    refine z_iconst (pc := 22) C dX5_broken_22 ?_
    refine z_ic_ge (pc := 23) C dX5_broken_23 (tgt := 32) (by decide) (fun c7 => ?_) (fun c7 => ?_)
    · have h := itt c7 h
      refine z_aload_n (pc := 32) C 0 rfl dX5_broken_32 ?_
      refine z_iload_n (pc := 33) C 1 rfl dX5_broken_33 ?_
      obtain ⟨r8, e9, h⟩ := bRs h
      refine cX5_401 (pc := 34) (st := []) (st1 := [vI r8]) C rfl (rm := { frames := 1, cells := 0, slots := 0, locals := 24 }) (ct_X5_formOf C.2.1 v0 v1 (m_si M 500 v0 0 0) _ hv0 e9) ⟨by decide, by decide, Nat.zero_le _, Nat.zero_le _⟩ (Or.inl hv0) rfl (Nat.le_of_ble_eq_true rfl) dX5_broken_34 (c2 := 0) (s2 := 0) rfl rfl (fun _ => ?_)
      refine z_istore_n (pc := 37) C (lv' := [(0, .ref v0), (1, vI v1), (2, vI v2), (3, vI r8)]) (by decide) rfl dX5_broken_37 ?_
      refine z_iconst (pc := 38) C dX5_broken_38 ?_
      refine z_istore (pc := 39) C (lv' := [(0, .ref v0), (1, vI v1), (2, vI v2), (3, vI r8), (4, vI 0)]) (by decide) rfl dX5_broken_39 ?_
      refine z_iconst (pc := 41) C dX5_broken_41 ?_
      refine z_istore (pc := 42) C (lv' := [(0, .ref v0), (1, vI v1), (2, vI v2), (3, vI r8), (4, vI 0), (5, vI 0)]) (by decide) rfl dX5_broken_42 ?_
      exact cL_X5_broken_44 C FU v0 v1 v2 r8 0 0 (m_si M 500 v0 0 0) _ _ hv0 h
    · have h := itf c7 h
      refine z_aload_n (pc := 26) C 0 rfl dX5_broken_26 ?_
      refine z_iconst (pc := 27) C dX5_broken_27 ?_
      obtain ⟨r17, M18, e19, h⟩ := bNs h
      refine cX5_213 (pc := 28) (st := []) (st1 := [vI r17]) C rfl (rm := { frames := 1, cells := 0, slots := 0, locals := 24 }) (ct_X5_fail C.2.1 v0 1 (m_si M 500 v0 0 0) _ _ hv0 e19) ⟨by decide, by decide, Nat.zero_le _, Nat.zero_le _⟩ (Or.inl hv0) rfl (Nat.le_of_ble_eq_true rfl) dX5_broken_28 (c2 := 0) (s2 := 0) rfl rfl (fun x20 => ?_)
      cases h
      exact z_iret (pc := 31) C rfl (show 0 ≤ 0 from by decide) (show 0 ≤ 0 from by decide) dX5_broken_31
def d_X5_side (v0 : Nat) (v1 : Int) (v2 : Int) (v3 : Int) (M : Mem) : Option Int :=
  if w32 v2 = w32 (-1) then
    some 0
  else
    if w32 (a32 (s32 v3 v2) 1) = w32 1 then
      if inb v2 20 then 
      some (m_i M 561 v0 (ixn v2)) else none
    else
      if inb ((20 * v1) + v2) 1200 then 
      some (m_i M 555 v0 (ixn ((20 * v1) + v2))) else none
theorem ct_X5_side {l : Launch} {S0 : State} {D : va_G} {cA : Nat → ClassId} (hG : x_G l S0 D cA) (v0 : Nat) (v1 : Int) (v2 : Int) (v3 : Int) (M : Mem) (r : Int) (hv0 : m_kd M v0 = 5) (h : d_X5_side v0 v1 v2 v3 M = some r) : x_Me l S0 D cA yX5_side cX5_side 4 (some .int) [] ({ frames := 1, cells := 0, slots := 0, locals := 24 }) [.ref v0, vI v1, vI v2, vI v3] M (.returned (some (vI r))) M := by
  refine x_begin (F := 1) (Lo := 24) (mc := 0) (ms := 0) hG (Nat.le_of_ble_eq_true rfl) (lv := [(0, .ref v0), (1, vI v1), (2, vI v2), (3, vI v3)]) rfl rfl rfl rfl rfl (fun X e1 e2 e3 e4 e5 C => ?_)
  unfold d_X5_side at h
  refine z_iload_n (pc := 0) C 2 rfl dX5_side_0 ?_
  refine z_iconst (pc := 1) C dX5_side_1 ?_
  refine z_ic_ne (pc := 2) C dX5_side_2 (tgt := 9) (by decide) (fun c1 => ?_) (fun c1 => ?_)
  · have h := itf c1 h
    refine z_iload_n (pc := 9) C 3 rfl dX5_side_9 ?_
    refine z_iload_n (pc := 10) C 2 rfl dX5_side_10 ?_
    refine z_ishr (pc := 11) C dX5_side_11 ?_
    refine z_iconst (pc := 12) C dX5_side_12 ?_
    refine z_iand (pc := 13) C dX5_side_13 ?_
    refine z_iconst (pc := 14) C dX5_side_14 ?_
    refine z_ic_ne (pc := 15) C dX5_side_15 (tgt := 27) (by decide) (fun c2 => ?_) (fun c2 => ?_)
    · have h := itf c2 h
      refine z_aload_n (pc := 27) C 0 rfl dX5_side_27 ?_
      refine gX5_555 (pc := 28) C rfl hv0 dX5_side_28 ?_
      refine z_bipush (pc := 31) C (by decide +kernel) dX5_side_31 ?_
      refine z_iload_n (pc := 33) C 1 rfl dX5_side_33 ?_
      refine z_imul (pc := 34) C dX5_side_34 ?_
      refine z_iload_n (pc := 35) C 2 rfl dX5_side_35 ?_
      refine z_iadd (pc := 36) C dX5_side_36 ?_
      obtain ⟨c3, h⟩ := ifn h
      refine z_iaO (pc := 37) (k := 5) (j := 55) C 555 rfl (by decide) (by decide) (by decide) rfl rfl rfl rfl hv0 c3 rfl dX5_side_37 ?_
      cases h
      exact z_iret (pc := 38) C rfl (show 0 ≤ 0 from by decide) (show 0 ≤ 0 from by decide) dX5_side_38
    · have h := itt c2 h
      refine z_aload_n (pc := 18) C 0 rfl dX5_side_18 ?_
      refine gX5_561 (pc := 19) C rfl hv0 dX5_side_19 ?_
      refine z_iload_n (pc := 22) C 2 rfl dX5_side_22 ?_
      obtain ⟨c4, h⟩ := ifn h
      refine z_iaO (pc := 23) (k := 5) (j := 61) C 561 rfl (by decide) (by decide) (by decide) rfl rfl rfl rfl hv0 c4 rfl dX5_side_23 ?_
      refine z_goto (pc := 24) C dX5_side_24 (tgt := 38) (by decide) ?_
      cases h
      exact z_iret (pc := 38) C rfl (show 0 ≤ 0 from by decide) (show 0 ≤ 0 from by decide) dX5_side_38
  · have h := itt c1 h
    refine z_iconst (pc := 5) C dX5_side_5 ?_
    refine z_goto (pc := 6) C dX5_side_6 (tgt := 38) (by decide) ?_
    cases h
    exact z_iret (pc := 38) C rfl (show 0 ≤ 0 from by decide) (show 0 ≤ 0 from by decide) dX5_side_38
def B_X5_fits_74 (k51 : Nat → Int → Int → Int → Int → Int → Mem → Option (Int × Mem)) (k74 : Nat → Int → Int → Int → Int → Int → Int → Mem → Option (Int × Mem)) (v0 : Nat) (v1 : Int) (v2 : Int) (v3 : Int) (v4 : Int) (v5 : Int) (v6 : Int) (M : Mem) : Option (Int × Mem) :=
  if inb v3 6 then 
  if w32 (m_i M 557 v0 (ixn v3)) ≤ w32 v6 then
    k51 v0 v1 v2 v3 v4 v5 M
  else
    if inb ((16 * v3) + v6) 96 then 
    bR (d_X5_side v0 v1 (m_i M 558 v0 (ixn ((16 * v3) + v6))) v2 M) fun r10 => 
    bR (d_X5_side v0 v1 (m_i M 559 v0 (ixn ((16 * v3) + v6))) v2 M) fun r12 => 
    if w32 r10 = w32 (-2000000) then
      k74 v0 v1 v2 v3 v4 v5 (v6 + 1) M
    else
      if w32 r12 = w32 (-2000000) then
        k74 v0 v1 v2 v3 v4 v5 (v6 + 1) M
      else
        if w32 (m_i M 560 v0 (ixn ((16 * v3) + v6))) < w32 (r10 - r12) then
          if w32 (m_i M 558 v0 (ixn ((16 * v3) + v6))) = w32 (-1) then
            some (0, M)
          else
            if w32 (a32 (s32 v2 (m_i M 558 v0 (ixn ((16 * v3) + v6)))) 1) = 0 then
              some (0, M)
            else
              if inb (m_i M 558 v0 (ixn ((16 * v3) + v6))) 20 then 
              if inb ((20 * v3) + (m_i M 558 v0 (ixn ((16 * v3) + v6)))) 120 then 
              if w32 (m_i M 518 v0 (ixn ((20 * v3) + (m_i M 558 v0 (ixn ((16 * v3) + v6)))))) ≤ w32 (r12 + (m_i M 560 v0 (ixn ((16 * v3) + v6)))) then
                k74 v0 v1 v2 v3 1 v5 (v6 + 1) (m_si M 561 v0 (ixn (m_i M 558 v0 (ixn ((16 * v3) + v6)))) (r12 + (m_i M 560 v0 (ixn ((16 * v3) + v6)))))
              else
                some (0, (m_si M 561 v0 (ixn (m_i M 558 v0 (ixn ((16 * v3) + v6)))) (r12 + (m_i M 560 v0 (ixn ((16 * v3) + v6)))))) else none else none
        else
          k74 v0 v1 v2 v3 v4 v5 (v6 + 1) M else none else none
def L_X5_fits_74 (k51 : Nat → Int → Int → Int → Int → Int → Mem → Option (Int × Mem)) : Nat → Nat → Int → Int → Int → Int → Int → Int → Mem → Option (Int × Mem)
  | 0, _, _, _, _, _, _, _, _ => none
  | n + 1, v0, v1, v2, v3, v4, v5, v6, M => B_X5_fits_74 k51 (L_X5_fits_74 k51 n) v0 v1 v2 v3 v4 v5 v6 M
def B_X5_fits_51 (k51 : Nat → Int → Int → Int → Int → Int → Mem → Option (Int × Mem)) (v0 : Nat) (v1 : Int) (v2 : Int) (v3 : Int) (v4 : Int) (v5 : Int) (M : Mem) : Option (Int × Mem) :=
  if w32 v4 = 0 then
    some (1, M)
  else
    if w32 (v5 + 1) ≤ w32 12 then
      L_X5_fits_74 k51 FU v0 v1 v2 v3 0 (v5 + 1) 0 M
    else
      some (0, M)
def L_X5_fits_51  : Nat → Nat → Int → Int → Int → Int → Int → Mem → Option (Int × Mem)
  | 0, _, _, _, _, _, _, _ => none
  | n + 1, v0, v1, v2, v3, v4, v5, M => B_X5_fits_51 (L_X5_fits_51  n) v0 v1 v2 v3 v4 v5 M
def B_X5_fits_9 (k9 : Nat → Int → Int → Int → Int → Mem → Option (Int × Mem)) (v0 : Nat) (v1 : Int) (v2 : Int) (v3 : Int) (v4 : Int) (M : Mem) : Option (Int × Mem) :=
  if inb v3 6 then 
  if w32 (m_i M 515 v0 (ixn v3)) ≤ w32 v4 then
    L_X5_fits_51 FU v0 v1 v2 v3 1 0 M
  else
    if inb ((20 * v3) + v4) 120 then 
    if inb v4 20 then 
    k9 v0 v1 v2 v3 (v4 + 1) (m_si M 561 v0 (ixn v4) (m_i M 519 v0 (ixn ((20 * v3) + v4)))) else none else none else none
def L_X5_fits_9  : Nat → Nat → Int → Int → Int → Int → Mem → Option (Int × Mem)
  | 0, _, _, _, _, _, _ => none
  | n + 1, v0, v1, v2, v3, v4, M => B_X5_fits_9 (L_X5_fits_9  n) v0 v1 v2 v3 v4 M
def d_X5_fits (v0 : Nat) (v1 : Int) (v2 : Int) (M : Mem) : Option (Int × Mem) :=
  bR (d_X5_formOf v0 v1 M) fun r1 => 
  L_X5_fits_9 FU v0 v1 v2 r1 0 M
theorem cB_X5_fits_74 {X : x_Ctx} {M0 : Mem} (C : x_CC X 2 51 yX5_fits cX5_fits 11 (some .boolean) []) {k51 : Nat → Int → Int → Int → Int → Int → Mem → Option (Int × Mem)} (hk51 : ∀ (v0 : Nat) (v1 : Int) (v2 : Int) (v3 : Int) (v4 : Int) (v5 : Int) (M : Mem) (r : Int) (M' : Mem), m_kd M v0 = 5 → k51 v0 v1 v2 v3 v4 v5 M = some (r, M') → x_Z X 0 0 (x_QF X M0 (.returned (some (vI r))) M' 0 0) M0 M 11 [(0, .ref v0), (1, vI v1), (2, vI v2), (3, vI v3), (4, vI v4), (5, vI v5)] 51 []) {k74 : Nat → Int → Int → Int → Int → Int → Int → Mem → Option (Int × Mem)} (hk74 : ∀ (v0 : Nat) (v1 : Int) (v2 : Int) (v3 : Int) (v4 : Int) (v5 : Int) (v6 : Int) (M : Mem) (r : Int) (M' : Mem), m_kd M v0 = 5 → k74 v0 v1 v2 v3 v4 v5 v6 M = some (r, M') → x_Z X 0 0 (x_QF X M0 (.returned (some (vI r))) M' 0 0) M0 M 11 [(0, .ref v0), (1, vI v1), (2, vI v2), (3, vI v3), (4, vI v4), (5, vI v5), (6, vI v6)] 74 []) (v0 : Nat) (v1 : Int) (v2 : Int) (v3 : Int) (v4 : Int) (v5 : Int) (v6 : Int) (M : Mem) (r : Int) (M' : Mem) (hv0 : m_kd M v0 = 5) (h : B_X5_fits_74 k51 k74 v0 v1 v2 v3 v4 v5 v6 M = some (r, M'))  : x_Z X 0 0 (x_QF X M0 (.returned (some (vI r))) M' 0 0) M0 M 11 [(0, .ref v0), (1, vI v1), (2, vI v2), (3, vI v3), (4, vI v4), (5, vI v5), (6, vI v6)] 74 [] := by
  unfold B_X5_fits_74 at h
  refine z_iload (pc := 74) C 6 rfl dX5_fits_74 ?_
  refine z_aload_n (pc := 76) C 0 rfl dX5_fits_76 ?_
  refine gX5_557 (pc := 77) C rfl hv0 dX5_fits_77 ?_
  refine z_iload_n (pc := 80) C 3 rfl dX5_fits_80 ?_
  obtain ⟨c7, h⟩ := ifn h
  refine z_iaO (pc := 81) (k := 5) (j := 57) C 557 rfl (by decide) (by decide) (by decide) rfl rfl rfl rfl hv0 c7 rfl dX5_fits_81 ?_
  refine z_ic_ge (pc := 82) C dX5_fits_82 (tgt := 232) (by decide) (fun c8 => ?_) (fun c8 => ?_)
  · have h := itt c8 h
    refine z_goto (pc := 232) C dX5_fits_232 (tgt := 51) (by decide) ?_
    exact z_lv [0, 1, 2, 3, 4, 5] rfl <| hk51 v0 v1 v2 v3 v4 v5 M _ _ hv0 h
  · have h := itf c8 h
    refine z_bipush (pc := 85) C (by decide +kernel) dX5_fits_85 ?_
    refine z_iload_n (pc := 87) C 3 rfl dX5_fits_87 ?_
    refine z_imul (pc := 88) C dX5_fits_88 ?_
    refine z_iload (pc := 89) C 6 rfl dX5_fits_89 ?_
    refine z_iadd (pc := 91) C dX5_fits_91 ?_
    refine z_istore (pc := 92) C (lv' := [(0, .ref v0), (1, vI v1), (2, vI v2), (3, vI v3), (4, vI v4), (5, vI v5), (6, vI v6), (7, vI ((16 * v3) + v6))]) (by decide) rfl dX5_fits_92 ?_
    refine z_aload_n (pc := 94) C 0 rfl dX5_fits_94 ?_
    refine z_iload_n (pc := 95) C 1 rfl dX5_fits_95 ?_
    refine z_aload_n (pc := 96) C 0 rfl dX5_fits_96 ?_
    refine gX5_558 (pc := 97) C rfl hv0 dX5_fits_97 ?_
    refine z_iload (pc := 100) C 7 rfl dX5_fits_100 ?_
    obtain ⟨c9, h⟩ := ifn h
    refine z_iaO (pc := 102) (k := 5) (j := 58) C 558 rfl (by decide) (by decide) (by decide) rfl rfl rfl rfl hv0 c9 rfl dX5_fits_102 ?_
    refine z_iload_n (pc := 103) C 2 rfl dX5_fits_103 ?_
    obtain ⟨r10, e11, h⟩ := bRs h
    refine cX5_419 (pc := 104) (st := []) (st1 := [vI r10]) C rfl (rm := { frames := 1, cells := 0, slots := 0, locals := 24 }) (ct_X5_side C.2.1 v0 v1 (m_i M 558 v0 (ixn ((16 * v3) + v6))) v2 M _ hv0 e11) ⟨by decide, by decide, Nat.zero_le _, Nat.zero_le _⟩ (Or.inl hv0) rfl (Nat.le_of_ble_eq_true rfl) dX5_fits_104 (c2 := 0) (s2 := 0) rfl rfl (fun _ => ?_)
    refine z_istore (pc := 107) C (lv' := [(0, .ref v0), (1, vI v1), (2, vI v2), (3, vI v3), (4, vI v4), (5, vI v5), (6, vI v6), (7, vI ((16 * v3) + v6)), (8, vI r10)]) (by decide) rfl dX5_fits_107 ?_
    refine z_aload_n (pc := 109) C 0 rfl dX5_fits_109 ?_
    refine z_iload_n (pc := 110) C 1 rfl dX5_fits_110 ?_
    refine z_aload_n (pc := 111) C 0 rfl dX5_fits_111 ?_
    refine gX5_559 (pc := 112) C rfl hv0 dX5_fits_112 ?_
    refine z_iload (pc := 115) C 7 rfl dX5_fits_115 ?_
    refine z_iaO (pc := 117) (k := 5) (j := 59) C 559 rfl (by decide) (by decide) (by decide) rfl rfl rfl rfl hv0 c9 rfl dX5_fits_117 ?_
    refine z_iload_n (pc := 118) C 2 rfl dX5_fits_118 ?_
    obtain ⟨r12, e13, h⟩ := bRs h
    refine cX5_419 (pc := 119) (st := []) (st1 := [vI r12]) C rfl (rm := { frames := 1, cells := 0, slots := 0, locals := 24 }) (ct_X5_side C.2.1 v0 v1 (m_i M 559 v0 (ixn ((16 * v3) + v6))) v2 M _ hv0 e13) ⟨by decide, by decide, Nat.zero_le _, Nat.zero_le _⟩ (Or.inl hv0) rfl (Nat.le_of_ble_eq_true rfl) dX5_fits_119 (c2 := 0) (s2 := 0) rfl rfl (fun _ => ?_)
    refine z_istore (pc := 122) C (lv' := [(0, .ref v0), (1, vI v1), (2, vI v2), (3, vI v3), (4, vI v4), (5, vI v5), (6, vI v6), (7, vI ((16 * v3) + v6)), (8, vI r10), (9, vI r12)]) (by decide) rfl dX5_fits_122 ?_
    refine z_iload (pc := 124) C 8 rfl dX5_fits_124 ?_
    refine z_ldc (pc := 126) C (x := -2000000) q1829 (by decide +kernel) dX5_fits_126 ?_
    refine z_ic_eq (pc := 128) C dX5_fits_128 (tgt := 226) (by decide) (fun c14 => ?_) (fun c14 => ?_)
    · have h := itt c14 h
      refine z_iinc (pc := 226) C (lv' := [(0, .ref v0), (1, vI v1), (2, vI v2), (3, vI v3), (4, vI v4), (5, vI v5), (6, vI (v6 + 1)), (7, vI ((16 * v3) + v6)), (8, vI r10), (9, vI r12)]) 6 rfl (by decide) rfl dX5_fits_226 ?_
      refine z_goto (pc := 229) C dX5_fits_229 (tgt := 74) (by decide) ?_
      exact z_lv [0, 1, 2, 3, 4, 5, 6] rfl <| hk74 v0 v1 v2 v3 v4 v5 (v6 + 1) M _ _ hv0 h
    · have h := itf c14 h
      refine z_iload (pc := 131) C 9 rfl dX5_fits_131 ?_
      refine z_ldc (pc := 133) C (x := -2000000) q1829 (by decide +kernel) dX5_fits_133 ?_
      refine z_ic_eq (pc := 135) C dX5_fits_135 (tgt := 226) (by decide) (fun c15 => ?_) (fun c15 => ?_)
      · have h := itt c15 h
        refine z_iinc (pc := 226) C (lv' := [(0, .ref v0), (1, vI v1), (2, vI v2), (3, vI v3), (4, vI v4), (5, vI v5), (6, vI (v6 + 1)), (7, vI ((16 * v3) + v6)), (8, vI r10), (9, vI r12)]) 6 rfl (by decide) rfl dX5_fits_226 ?_
        refine z_goto (pc := 229) C dX5_fits_229 (tgt := 74) (by decide) ?_
        exact z_lv [0, 1, 2, 3, 4, 5, 6] rfl <| hk74 v0 v1 v2 v3 v4 v5 (v6 + 1) M _ _ hv0 h
      · have h := itf c15 h
        refine z_iload (pc := 138) C 8 rfl dX5_fits_138 ?_
        refine z_iload (pc := 140) C 9 rfl dX5_fits_140 ?_
        refine z_isub (pc := 142) C dX5_fits_142 ?_
        refine z_aload_n (pc := 143) C 0 rfl dX5_fits_143 ?_
        refine gX5_560 (pc := 144) C rfl hv0 dX5_fits_144 ?_
        refine z_iload (pc := 147) C 7 rfl dX5_fits_147 ?_
        refine z_iaO (pc := 149) (k := 5) (j := 60) C 560 rfl (by decide) (by decide) (by decide) rfl rfl rfl rfl hv0 c9 rfl dX5_fits_149 ?_
        refine z_ic_gt (pc := 150) C dX5_fits_150 (tgt := 156) (by decide) (fun c16 => ?_) (fun c16 => ?_)
        · have h := itt c16 h
          refine z_aload_n (pc := 156) C 0 rfl dX5_fits_156 ?_
          refine gX5_558 (pc := 157) C rfl hv0 dX5_fits_157 ?_
          refine z_iload (pc := 160) C 7 rfl dX5_fits_160 ?_
          refine z_iaO (pc := 162) (k := 5) (j := 58) C 558 rfl (by decide) (by decide) (by decide) rfl rfl rfl rfl hv0 c9 rfl dX5_fits_162 ?_
          refine z_istore (pc := 163) C (lv' := [(0, .ref v0), (1, vI v1), (2, vI v2), (3, vI v3), (4, vI v4), (5, vI v5), (6, vI v6), (7, vI ((16 * v3) + v6)), (8, vI r10), (9, vI r12), (10, vI (m_i M 558 v0 (ixn ((16 * v3) + v6))))]) (by decide) rfl dX5_fits_163 ?_
          refine z_iload (pc := 165) C 10 rfl dX5_fits_165 ?_
          refine z_iconst (pc := 167) C dX5_fits_167 ?_
          refine z_ic_eq (pc := 168) C dX5_fits_168 (tgt := 180) (by decide) (fun c17 => ?_) (fun c17 => ?_)
          · have h := itt c17 h
            refine z_iconst (pc := 180) C dX5_fits_180 ?_
            cases h
            exact z_zret (pc := 181) C rfl (Or.inl rfl) (show 0 ≤ 0 from by decide) (show 0 ≤ 0 from by decide) dX5_fits_181
          · have h := itf c17 h
            refine z_iload_n (pc := 171) C 2 rfl dX5_fits_171 ?_
            refine z_iload (pc := 172) C 10 rfl dX5_fits_172 ?_
            refine z_ishr (pc := 174) C dX5_fits_174 ?_
            refine z_iconst (pc := 175) C dX5_fits_175 ?_
            refine z_iand (pc := 176) C dX5_fits_176 ?_
            refine z_if_ne (pc := 177) C dX5_fits_177 (tgt := 182) (by decide) (fun c18 => ?_) (fun c18 => ?_)
            · have h := itf c18 h
              refine z_aload_n (pc := 182) C 0 rfl dX5_fits_182 ?_
              refine gX5_561 (pc := 183) C rfl hv0 dX5_fits_183 ?_
              refine z_iload (pc := 186) C 10 rfl dX5_fits_186 ?_
              refine z_iload (pc := 188) C 9 rfl dX5_fits_188 ?_
              refine z_aload_n (pc := 190) C 0 rfl dX5_fits_190 ?_
              refine gX5_560 (pc := 191) C rfl hv0 dX5_fits_191 ?_
              refine z_iload (pc := 194) C 7 rfl dX5_fits_194 ?_
              refine z_iaO (pc := 196) (k := 5) (j := 60) C 560 rfl (by decide) (by decide) (by decide) rfl rfl rfl rfl hv0 c9 rfl dX5_fits_196 ?_
              refine z_iadd (pc := 197) C dX5_fits_197 ?_
              obtain ⟨c19, h⟩ := ifn h
              refine z_isO (pc := 198) (k := 5) (j := 61) C 561 rfl (by decide) (by decide) (by decide) rfl rfl rfl rfl hv0 c19 dX5_fits_198 ?_
              refine z_iconst (pc := 199) C dX5_fits_199 ?_
              refine z_istore (pc := 200) C (lv' := [(0, .ref v0), (1, vI v1), (2, vI v2), (3, vI v3), (4, vI 1), (5, vI v5), (6, vI v6), (7, vI ((16 * v3) + v6)), (8, vI r10), (9, vI r12), (10, vI (m_i M 558 v0 (ixn ((16 * v3) + v6))))]) (by decide) rfl dX5_fits_200 ?_
              refine z_aload_n (pc := 202) C 0 rfl dX5_fits_202 ?_
              refine gX5_561 (pc := 203) C rfl hv0 dX5_fits_203 ?_
              refine z_iload (pc := 206) C 10 rfl dX5_fits_206 ?_
              refine z_iaO (pc := 208) (k := 5) (j := 61) C 561 rfl (by decide) (by decide) (by decide) rfl rfl rfl rfl hv0 c19 (x := r12 + (m_i M 560 v0 (ixn ((16 * v3) + v6)))) (m_i_self _ _ _ _ _) dX5_fits_208 ?_
              refine z_aload_n (pc := 209) C 0 rfl dX5_fits_209 ?_
              refine gX5_518 (pc := 210) C rfl hv0 dX5_fits_210 ?_
              refine z_bipush (pc := 213) C (by decide +kernel) dX5_fits_213 ?_
              refine z_iload_n (pc := 215) C 3 rfl dX5_fits_215 ?_
              refine z_imul (pc := 216) C dX5_fits_216 ?_
              refine z_iload (pc := 217) C 10 rfl dX5_fits_217 ?_
              refine z_iadd (pc := 219) C dX5_fits_219 ?_
              obtain ⟨c20, h⟩ := ifn h
              refine z_iaO (pc := 220) (k := 5) (j := 18) C 518 rfl (by decide) (by decide) (by decide) rfl rfl rfl rfl hv0 c20 (x := m_i M 518 v0 (ixn ((20 * v3) + (m_i M 558 v0 (ixn ((16 * v3) + v6)))))) ((m_i_ne (by decide)).trans rfl) dX5_fits_220 ?_
              refine z_ic_ge (pc := 221) C dX5_fits_221 (tgt := 226) (by decide) (fun c21 => ?_) (fun c21 => ?_)
              · have h := itt c21 h
                refine z_iinc (pc := 226) C (lv' := [(0, .ref v0), (1, vI v1), (2, vI v2), (3, vI v3), (4, vI 1), (5, vI v5), (6, vI (v6 + 1)), (7, vI ((16 * v3) + v6)), (8, vI r10), (9, vI r12), (10, vI (m_i M 558 v0 (ixn ((16 * v3) + v6))))]) 6 rfl (by decide) rfl dX5_fits_226 ?_
                refine z_goto (pc := 229) C dX5_fits_229 (tgt := 74) (by decide) ?_
                exact z_lv [0, 1, 2, 3, 4, 5, 6] rfl <| hk74 v0 v1 v2 v3 1 v5 (v6 + 1) (m_si M 561 v0 (ixn (m_i M 558 v0 (ixn ((16 * v3) + v6)))) (r12 + (m_i M 560 v0 (ixn ((16 * v3) + v6))))) _ _ hv0 h
              · have h := itf c21 h
                refine z_iconst (pc := 224) C dX5_fits_224 ?_
                cases h
                exact z_zret (pc := 225) C rfl (Or.inl rfl) (show 0 ≤ 0 from by decide) (show 0 ≤ 0 from by decide) dX5_fits_225
            · have h := itt c18 h
              refine z_iconst (pc := 180) C dX5_fits_180 ?_
              cases h
              exact z_zret (pc := 181) C rfl (Or.inl rfl) (show 0 ≤ 0 from by decide) (show 0 ≤ 0 from by decide) dX5_fits_181
        · have h := itf c16 h
          refine z_goto (pc := 153) C dX5_fits_153 (tgt := 226) (by decide) ?_
          refine z_iinc (pc := 226) C (lv' := [(0, .ref v0), (1, vI v1), (2, vI v2), (3, vI v3), (4, vI v4), (5, vI v5), (6, vI (v6 + 1)), (7, vI ((16 * v3) + v6)), (8, vI r10), (9, vI r12)]) 6 rfl (by decide) rfl dX5_fits_226 ?_
          refine z_goto (pc := 229) C dX5_fits_229 (tgt := 74) (by decide) ?_
          exact z_lv [0, 1, 2, 3, 4, 5, 6] rfl <| hk74 v0 v1 v2 v3 v4 v5 (v6 + 1) M _ _ hv0 h
theorem cL_X5_fits_74 {X : x_Ctx} {M0 : Mem} (C : x_CC X 2 51 yX5_fits cX5_fits 11 (some .boolean) []) {k51 : Nat → Int → Int → Int → Int → Int → Mem → Option (Int × Mem)} (hk51 : ∀ (v0 : Nat) (v1 : Int) (v2 : Int) (v3 : Int) (v4 : Int) (v5 : Int) (M : Mem) (r : Int) (M' : Mem), m_kd M v0 = 5 → k51 v0 v1 v2 v3 v4 v5 M = some (r, M') → x_Z X 0 0 (x_QF X M0 (.returned (some (vI r))) M' 0 0) M0 M 11 [(0, .ref v0), (1, vI v1), (2, vI v2), (3, vI v3), (4, vI v4), (5, vI v5)] 51 []) : ∀ (n : Nat) (v0 : Nat) (v1 : Int) (v2 : Int) (v3 : Int) (v4 : Int) (v5 : Int) (v6 : Int) (M : Mem) (r : Int) (M' : Mem) (hv0 : m_kd M v0 = 5) (h : L_X5_fits_74 k51 n v0 v1 v2 v3 v4 v5 v6 M = some (r, M')) , x_Z X 0 0 (x_QF X M0 (.returned (some (vI r))) M' 0 0) M0 M 11 [(0, .ref v0), (1, vI v1), (2, vI v2), (3, vI v3), (4, vI v4), (5, vI v5), (6, vI v6)] 74 [] := by
  intro n
  induction n with
  | zero => intro v0 v1 v2 v3 v4 v5 v6 M r M' hv0 h ; cases h
  | succ n ih => intro v0 v1 v2 v3 v4 v5 v6 M r M' hv0 h ; exact cB_X5_fits_74 C hk51 (fun v0 v1 v2 v3 v4 v5 v6 M r M' hv0 h  => ih v0 v1 v2 v3 v4 v5 v6 M r M' hv0 h ) v0 v1 v2 v3 v4 v5 v6 M r M' hv0 h 
theorem cB_X5_fits_51 {X : x_Ctx} {M0 : Mem} (C : x_CC X 2 51 yX5_fits cX5_fits 11 (some .boolean) []) {k51 : Nat → Int → Int → Int → Int → Int → Mem → Option (Int × Mem)} (hk51 : ∀ (v0 : Nat) (v1 : Int) (v2 : Int) (v3 : Int) (v4 : Int) (v5 : Int) (M : Mem) (r : Int) (M' : Mem), m_kd M v0 = 5 → k51 v0 v1 v2 v3 v4 v5 M = some (r, M') → x_Z X 0 0 (x_QF X M0 (.returned (some (vI r))) M' 0 0) M0 M 11 [(0, .ref v0), (1, vI v1), (2, vI v2), (3, vI v3), (4, vI v4), (5, vI v5)] 51 []) (v0 : Nat) (v1 : Int) (v2 : Int) (v3 : Int) (v4 : Int) (v5 : Int) (M : Mem) (r : Int) (M' : Mem) (hv0 : m_kd M v0 = 5) (h : B_X5_fits_51 k51 v0 v1 v2 v3 v4 v5 M = some (r, M'))  : x_Z X 0 0 (x_QF X M0 (.returned (some (vI r))) M' 0 0) M0 M 11 [(0, .ref v0), (1, vI v1), (2, vI v2), (3, vI v3), (4, vI v4), (5, vI v5)] 51 [] := by
  unfold B_X5_fits_51 at h
  refine z_iload (pc := 51) C 4 rfl dX5_fits_51 ?_
  refine z_if_eq (pc := 53) C dX5_fits_53 (tgt := 235) (by decide) (fun c5 => ?_) (fun c5 => ?_)
  · have h := itt c5 h
    refine z_iconst (pc := 235) C dX5_fits_235 ?_
    cases h
    exact z_zret (pc := 236) C rfl (Or.inr rfl) (show 0 ≤ 0 from by decide) (show 0 ≤ 0 from by decide) dX5_fits_236
  · have h := itf c5 h
    refine z_iconst (pc := 56) C dX5_fits_56 ?_
    refine z_istore (pc := 57) C (lv' := [(0, .ref v0), (1, vI v1), (2, vI v2), (3, vI v3), (4, vI 0), (5, vI v5)]) (by decide) rfl dX5_fits_57 ?_
    refine z_iinc (pc := 59) C (lv' := [(0, .ref v0), (1, vI v1), (2, vI v2), (3, vI v3), (4, vI 0), (5, vI (v5 + 1))]) 5 rfl (by decide) rfl dX5_fits_59 ?_
    refine z_iload (pc := 62) C 5 rfl dX5_fits_62 ?_
    refine z_bipush (pc := 64) C (by decide +kernel) dX5_fits_64 ?_
    refine z_ic_le (pc := 66) C dX5_fits_66 (tgt := 71) (by decide) (fun c6 => ?_) (fun c6 => ?_)
    · have h := itt c6 h
      refine z_iconst (pc := 71) C dX5_fits_71 ?_
      refine z_istore (pc := 72) C (lv' := [(0, .ref v0), (1, vI v1), (2, vI v2), (3, vI v3), (4, vI 0), (5, vI (v5 + 1)), (6, vI 0)]) (by decide) rfl dX5_fits_72 ?_
      exact cL_X5_fits_74 C hk51 FU v0 v1 v2 v3 0 (v5 + 1) 0 M _ _ hv0 h
    · have h := itf c6 h
      refine z_iconst (pc := 69) C dX5_fits_69 ?_
      cases h
      exact z_zret (pc := 70) C rfl (Or.inl rfl) (show 0 ≤ 0 from by decide) (show 0 ≤ 0 from by decide) dX5_fits_70
theorem cL_X5_fits_51 {X : x_Ctx} {M0 : Mem} (C : x_CC X 2 51 yX5_fits cX5_fits 11 (some .boolean) [])  : ∀ (n : Nat) (v0 : Nat) (v1 : Int) (v2 : Int) (v3 : Int) (v4 : Int) (v5 : Int) (M : Mem) (r : Int) (M' : Mem) (hv0 : m_kd M v0 = 5) (h : L_X5_fits_51  n v0 v1 v2 v3 v4 v5 M = some (r, M')) , x_Z X 0 0 (x_QF X M0 (.returned (some (vI r))) M' 0 0) M0 M 11 [(0, .ref v0), (1, vI v1), (2, vI v2), (3, vI v3), (4, vI v4), (5, vI v5)] 51 [] := by
  intro n
  induction n with
  | zero => intro v0 v1 v2 v3 v4 v5 M r M' hv0 h ; cases h
  | succ n ih => intro v0 v1 v2 v3 v4 v5 M r M' hv0 h ; exact cB_X5_fits_51 C (fun v0 v1 v2 v3 v4 v5 M r M' hv0 h  => ih v0 v1 v2 v3 v4 v5 M r M' hv0 h ) v0 v1 v2 v3 v4 v5 M r M' hv0 h 
theorem cB_X5_fits_9 {X : x_Ctx} {M0 : Mem} (C : x_CC X 2 51 yX5_fits cX5_fits 11 (some .boolean) []) {k9 : Nat → Int → Int → Int → Int → Mem → Option (Int × Mem)} (hk9 : ∀ (v0 : Nat) (v1 : Int) (v2 : Int) (v3 : Int) (v4 : Int) (M : Mem) (r : Int) (M' : Mem), m_kd M v0 = 5 → k9 v0 v1 v2 v3 v4 M = some (r, M') → x_Z X 0 0 (x_QF X M0 (.returned (some (vI r))) M' 0 0) M0 M 11 [(0, .ref v0), (1, vI v1), (2, vI v2), (3, vI v3), (4, vI v4)] 9 []) (v0 : Nat) (v1 : Int) (v2 : Int) (v3 : Int) (v4 : Int) (M : Mem) (r : Int) (M' : Mem) (hv0 : m_kd M v0 = 5) (h : B_X5_fits_9 k9 v0 v1 v2 v3 v4 M = some (r, M'))  : x_Z X 0 0 (x_QF X M0 (.returned (some (vI r))) M' 0 0) M0 M 11 [(0, .ref v0), (1, vI v1), (2, vI v2), (3, vI v3), (4, vI v4)] 9 [] := by
  unfold B_X5_fits_9 at h
  refine z_iload (pc := 9) C 4 rfl dX5_fits_9 ?_
  refine z_aload_n (pc := 11) C 0 rfl dX5_fits_11 ?_
  refine gX5_515 (pc := 12) C rfl hv0 dX5_fits_12 ?_
  refine z_iload_n (pc := 15) C 3 rfl dX5_fits_15 ?_
  obtain ⟨c3, h⟩ := ifn h
  refine z_iaO (pc := 16) (k := 5) (j := 15) C 515 rfl (by decide) (by decide) (by decide) rfl rfl rfl rfl hv0 c3 rfl dX5_fits_16 ?_
  refine z_ic_ge (pc := 17) C dX5_fits_17 (tgt := 45) (by decide) (fun c4 => ?_) (fun c4 => ?_)
  · have h := itt c4 h
    refine z_iconst (pc := 45) C dX5_fits_45 ?_
    refine z_istore (pc := 46) C (lv' := [(0, .ref v0), (1, vI v1), (2, vI v2), (3, vI v3), (4, vI 1)]) (by decide) rfl dX5_fits_46 ?_
    refine z_iconst (pc := 48) C dX5_fits_48 ?_
    refine z_istore (pc := 49) C (lv' := [(0, .ref v0), (1, vI v1), (2, vI v2), (3, vI v3), (4, vI 1), (5, vI 0)]) (by decide) rfl dX5_fits_49 ?_
    exact cL_X5_fits_51 C FU v0 v1 v2 v3 1 0 M _ _ hv0 h
  · have h := itf c4 h
    refine z_aload_n (pc := 20) C 0 rfl dX5_fits_20 ?_
    refine gX5_561 (pc := 21) C rfl hv0 dX5_fits_21 ?_
    refine z_iload (pc := 24) C 4 rfl dX5_fits_24 ?_
    refine z_aload_n (pc := 26) C 0 rfl dX5_fits_26 ?_
    refine gX5_519 (pc := 27) C rfl hv0 dX5_fits_27 ?_
    refine z_bipush (pc := 30) C (by decide +kernel) dX5_fits_30 ?_
    refine z_iload_n (pc := 32) C 3 rfl dX5_fits_32 ?_
    refine z_imul (pc := 33) C dX5_fits_33 ?_
    refine z_iload (pc := 34) C 4 rfl dX5_fits_34 ?_
    refine z_iadd (pc := 36) C dX5_fits_36 ?_
    obtain ⟨c22, h⟩ := ifn h
    refine z_iaO (pc := 37) (k := 5) (j := 19) C 519 rfl (by decide) (by decide) (by decide) rfl rfl rfl rfl hv0 c22 rfl dX5_fits_37 ?_
    obtain ⟨c23, h⟩ := ifn h
    refine z_isO (pc := 38) (k := 5) (j := 61) C 561 rfl (by decide) (by decide) (by decide) rfl rfl rfl rfl hv0 c23 dX5_fits_38 ?_
    refine z_iinc (pc := 39) C (lv' := [(0, .ref v0), (1, vI v1), (2, vI v2), (3, vI v3), (4, vI (v4 + 1))]) 4 rfl (by decide) rfl dX5_fits_39 ?_
    refine z_goto (pc := 42) C dX5_fits_42 (tgt := 9) (by decide) ?_
    exact hk9 v0 v1 v2 v3 (v4 + 1) (m_si M 561 v0 (ixn v4) (m_i M 519 v0 (ixn ((20 * v3) + v4)))) _ _ hv0 h
theorem cL_X5_fits_9 {X : x_Ctx} {M0 : Mem} (C : x_CC X 2 51 yX5_fits cX5_fits 11 (some .boolean) [])  : ∀ (n : Nat) (v0 : Nat) (v1 : Int) (v2 : Int) (v3 : Int) (v4 : Int) (M : Mem) (r : Int) (M' : Mem) (hv0 : m_kd M v0 = 5) (h : L_X5_fits_9  n v0 v1 v2 v3 v4 M = some (r, M')) , x_Z X 0 0 (x_QF X M0 (.returned (some (vI r))) M' 0 0) M0 M 11 [(0, .ref v0), (1, vI v1), (2, vI v2), (3, vI v3), (4, vI v4)] 9 [] := by
  intro n
  induction n with
  | zero => intro v0 v1 v2 v3 v4 M r M' hv0 h ; cases h
  | succ n ih => intro v0 v1 v2 v3 v4 M r M' hv0 h ; exact cB_X5_fits_9 C (fun v0 v1 v2 v3 v4 M r M' hv0 h  => ih v0 v1 v2 v3 v4 M r M' hv0 h ) v0 v1 v2 v3 v4 M r M' hv0 h 
theorem ct_X5_fits {l : Launch} {S0 : State} {D : va_G} {cA : Nat → ClassId} (hG : x_G l S0 D cA) (v0 : Nat) (v1 : Int) (v2 : Int) (M : Mem) (r : Int) (M' : Mem) (hv0 : m_kd M v0 = 5) (h : d_X5_fits v0 v1 v2 M = some (r, M')) : x_Me l S0 D cA yX5_fits cX5_fits 11 (some .boolean) [] ({ frames := 2, cells := 0, slots := 0, locals := 51 }) [.ref v0, vI v1, vI v2] M (.returned (some (vI r))) M' := by
  refine x_begin (F := 2) (Lo := 51) (mc := 0) (ms := 0) hG (Nat.le_of_ble_eq_true rfl) (lv := [(0, .ref v0), (1, vI v1), (2, vI v2)]) rfl rfl rfl rfl rfl (fun X e1 e2 e3 e4 e5 C => ?_)
  unfold d_X5_fits at h
  refine z_aload_n (pc := 0) C 0 rfl dX5_fits_0 ?_
  refine z_iload_n (pc := 1) C 1 rfl dX5_fits_1 ?_
  obtain ⟨r1, e2, h⟩ := bRs h
  refine cX5_401 (pc := 2) (st := []) (st1 := [vI r1]) C rfl (rm := { frames := 1, cells := 0, slots := 0, locals := 24 }) (ct_X5_formOf C.2.1 v0 v1 M _ hv0 e2) ⟨by decide, by decide, Nat.zero_le _, Nat.zero_le _⟩ (Or.inl hv0) rfl (Nat.le_of_ble_eq_true rfl) dX5_fits_2 (c2 := 0) (s2 := 0) rfl rfl (fun _ => ?_)
  refine z_istore_n (pc := 5) C (lv' := [(0, .ref v0), (1, vI v1), (2, vI v2), (3, vI r1)]) (by decide) rfl dX5_fits_5 ?_
  refine z_iconst (pc := 6) C dX5_fits_6 ?_
  refine z_istore (pc := 7) C (lv' := [(0, .ref v0), (1, vI v1), (2, vI v2), (3, vI r1), (4, vI 0)]) (by decide) rfl dX5_fits_7 ?_
  exact cL_X5_fits_9 C FU v0 v1 v2 r1 0 M _ _ hv0 h
