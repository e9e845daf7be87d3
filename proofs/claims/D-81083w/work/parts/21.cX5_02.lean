set_option maxRecDepth 100000
def B_X5_open_80 (k80 : Nat → Int → Int → Mem → Option (Int × Mem)) (v0 : Nat) (v2 : Int) (v3 : Int) (M : Mem) : Option (Int × Mem) :=
  if w32 6 ≤ w32 v3 then
    if inb (m_i M 538 v0 0) 60 then 
    some (((m_i M 538 v0 0) + 1) - 1, (m_si (m_si M 548 v0 (ixn (m_i M 538 v0 0)) (-1)) 538 v0 0 ((m_i M 538 v0 0) + 1))) else none
  else
    bR (d_X5_valueOf v0 v2 v3 (d_X5_today v0 M) (d_X5_today v0 M) M) fun r19 => 
    if inb ((6 * (m_i M 538 v0 0)) + v3) 360 then 
    k80 v0 v2 (v3 + 1) (m_si M 541 v0 (ixn ((6 * (m_i M 538 v0 0)) + v3)) r19) else none
def L_X5_open_80  : Nat → Nat → Int → Int → Mem → Option (Int × Mem)
  | 0, _, _, _, _ => none
  | n + 1, v0, v2, v3, M => B_X5_open_80 (L_X5_open_80  n) v0 v2 v3 M
def d_X5_open (v0 : Nat) (v1 : Int) (v2 : Int) (M : Mem) : Option (Int × Mem) :=
  bR (d_X5_isForm v0 v1 (m_si M 500 v0 0 0)) fun r1 => 
  if w32 r1 = 0 then
    bN (d_X5_fail v0 1 (m_si M 500 v0 0 0)) fun r4 M5 => 
    some (r4, M5)
  else
    bR (d_X5_isUnit v0 v2 (m_si M 500 v0 0 0)) fun r8 => 
    if w32 r8 = 0 then
      bN (d_X5_fail v0 1 (m_si M 500 v0 0 0)) fun r30 M31 => 
      some (r30, M31)
    else
      if inb v2 100 then 
      if w32 (m_i M 503 v0 (ixn v2)) = w32 (-1) then
        if w32 (m_i M 538 v0 0) = w32 60 then
          bN (d_X5_fail v0 3 (m_si M 500 v0 0 0)) fun r22 M23 => 
          some (r22, M23)
        else
          if inb (m_i M 538 v0 0) 60 then 
          L_X5_open_80 FU v0 v2 0 (m_si (m_si (m_si M 500 v0 0 0) 539 v0 (ixn (m_i M 538 v0 0)) v1) 540 v0 (ixn (m_i M 538 v0 0)) v2) else none
      else
        bN (d_X5_fail v0 2 (m_si M 500 v0 0 0)) fun r26 M27 => 
        some (r26, M27) else none
theorem cB_X5_open_80 {X : x_Ctx} {M0 : Mem} (C : x_CC X 3 82 yX5_open cX5_open 4 (some .int) []) {k80 : Nat → Int → Int → Mem → Option (Int × Mem)} (hk80 : ∀ (v0 : Nat) (v2 : Int) (v3 : Int) (M : Mem) (r : Int) (M' : Mem), m_kd M v0 = 5 → k80 v0 v2 v3 M = some (r, M') → x_Z X 0 0 (x_QF X M0 (.returned (some (vI r))) M' 0 0) M0 M 4 [(0, .ref v0), (2, vI v2), (3, vI v3)] 80 []) (v0 : Nat) (v2 : Int) (v3 : Int) (M : Mem) (r : Int) (M' : Mem) (hv0 : m_kd M v0 = 5) (h : B_X5_open_80 k80 v0 v2 v3 M = some (r, M'))  : x_Z X 0 0 (x_QF X M0 (.returned (some (vI r))) M' 0 0) M0 M 4 [(0, .ref v0), (2, vI v2), (3, vI v3)] 80 [] := by
  unfold B_X5_open_80 at h
  refine z_iload_n (pc := 80) C 2 rfl dX5_open_80 ?_
  refine z_bipush (pc := 81) C (by decide +kernel) dX5_open_81 ?_
  refine z_ic_ge (pc := 83) C dX5_open_83 (tgt := 120) (by decide) (fun c15 => ?_) (fun c15 => ?_)
  · have h := itt c15 h
    refine z_aload_n (pc := 120) C 0 rfl dX5_open_120 ?_
    refine gX5_548 (pc := 121) C rfl hv0 dX5_open_121 ?_
    refine z_aload_n (pc := 124) C 0 rfl dX5_open_124 ?_
    refine gX5_538 (pc := 125) C rfl (Or.inl hv0) rfl dX5_open_125 ?_
    refine z_iconst (pc := 128) C dX5_open_128 ?_
    obtain ⟨c16, h⟩ := ifn h
    refine z_isO (pc := 129) (k := 5) (j := 48) C 548 rfl (by decide) (by decide) (by decide) rfl rfl rfl rfl hv0 c16 dX5_open_129 ?_
    refine z_aload_n (pc := 130) C 0 rfl dX5_open_130 ?_
    refine z_dup (pc := 131) C rfl dX5_open_131 ?_
    refine gX5_538 (pc := 132) C rfl (Or.inl hv0) (x := m_i M 538 v0 0) ((m_i_ne (by decide)).trans rfl) dX5_open_132 ?_
    refine z_iconst (pc := 135) C dX5_open_135 ?_
    refine z_iadd (pc := 136) C dX5_open_136 ?_
    refine pX5_538 (pc := 137) C rfl (Or.inl hv0) dX5_open_137 ?_
    refine z_aload_n (pc := 140) C 0 rfl dX5_open_140 ?_
    refine gX5_538 (pc := 141) C rfl (Or.inl hv0) (x := (m_i M 538 v0 0) + 1) (m_i_self _ _ _ _ _) dX5_open_141 ?_
    refine z_iconst (pc := 144) C dX5_open_144 ?_
    refine z_isub (pc := 145) C dX5_open_145 ?_
    cases h
    exact z_iret (pc := 146) C rfl (show 0 ≤ 0 from by decide) (show 0 ≤ 0 from by decide) dX5_open_146
  · have h := itf c15 h
    refine z_aload_n (pc := 86) C 0 rfl dX5_open_86 ?_
    refine gX5_541 (pc := 87) C rfl hv0 dX5_open_87 ?_
    refine z_bipush (pc := 90) C (by decide +kernel) dX5_open_90 ?_
    refine z_aload_n (pc := 92) C 0 rfl dX5_open_92 ?_
    refine gX5_538 (pc := 93) C rfl (Or.inl hv0) rfl dX5_open_93 ?_
    refine z_imul (pc := 96) C dX5_open_96 ?_
    refine z_iload_n (pc := 97) C 2 rfl dX5_open_97 ?_
    refine z_iadd (pc := 98) C dX5_open_98 ?_
    refine z_aload_n (pc := 99) C 0 rfl dX5_open_99 ?_
    refine z_iload_n (pc := 100) C 1 rfl dX5_open_100 ?_
    refine z_iload_n (pc := 101) C 2 rfl dX5_open_101 ?_
    refine z_aload_n (pc := 102) C 0 rfl dX5_open_102 ?_
    refine cX5_233 (pc := 103) (st := [vI v3, vI v2, .ref v0, vI ((6 * (m_i M 538 v0 0)) + v3), .ref (v0 + 25)]) (st1 := [vI (d_X5_today v0 M), vI v3, vI v2, .ref v0, vI ((6 * (m_i M 538 v0 0)) + v3), .ref (v0 + 25)]) C rfl (rm := { frames := 1, cells := 0, slots := 0, locals := 24 }) (ct_X5_today C.2.1 v0 M _ hv0 rfl) ⟨by decide, by decide, Nat.zero_le _, Nat.zero_le _⟩ (Or.inl hv0) rfl (Nat.le_of_ble_eq_true rfl) dX5_open_103 (c2 := 0) (s2 := 0) rfl rfl (fun _ => ?_)
    refine z_aload_n (pc := 106) C 0 rfl dX5_open_106 ?_
    refine cX5_233 (pc := 107) (st := [vI (d_X5_today v0 M), vI v3, vI v2, .ref v0, vI ((6 * (m_i M 538 v0 0)) + v3), .ref (v0 + 25)]) (st1 := [vI (d_X5_today v0 M), vI (d_X5_today v0 M), vI v3, vI v2, .ref v0, vI ((6 * (m_i M 538 v0 0)) + v3), .ref (v0 + 25)]) C rfl (rm := { frames := 1, cells := 0, slots := 0, locals := 24 }) (ct_X5_today C.2.1 v0 M _ hv0 rfl) ⟨by decide, by decide, Nat.zero_le _, Nat.zero_le _⟩ (Or.inl hv0) rfl (Nat.le_of_ble_eq_true rfl) dX5_open_107 (c2 := 0) (s2 := 0) rfl rfl (fun _ => ?_)
    obtain ⟨r19, e20, h⟩ := bRs h
    refine cX5_245 (pc := 110) (st := [vI ((6 * (m_i M 538 v0 0)) + v3), .ref (v0 + 25)]) (st1 := [vI r19, vI ((6 * (m_i M 538 v0 0)) + v3), .ref (v0 + 25)]) C rfl (rm := { frames := 2, cells := 0, slots := 0, locals := 51 }) (ct_X5_valueOf C.2.1 v0 v2 v3 (d_X5_today v0 M) (d_X5_today v0 M) M _ hv0 e20) ⟨by decide, by decide, Nat.zero_le _, Nat.zero_le _⟩ (Or.inl hv0) rfl (Nat.le_of_ble_eq_true rfl) dX5_open_110 (c2 := 0) (s2 := 0) rfl rfl (fun _ => ?_)
    obtain ⟨c21, h⟩ := ifn h
    refine z_isO (pc := 113) (k := 5) (j := 41) C 541 rfl (by decide) (by decide) (by decide) rfl rfl rfl rfl hv0 c21 dX5_open_113 ?_
    refine z_iinc (pc := 114) C (lv' := [(0, .ref v0), (2, vI v2), (3, vI (v3 + 1))]) 2 rfl (by decide) rfl dX5_open_114 ?_
    refine z_goto (pc := 117) C dX5_open_117 (tgt := 80) (by decide) ?_
    exact hk80 v0 v2 (v3 + 1) (m_si M 541 v0 (ixn ((6 * (m_i M 538 v0 0)) + v3)) r19) _ _ hv0 h
theorem cL_X5_open_80 {X : x_Ctx} {M0 : Mem} (C : x_CC X 3 82 yX5_open cX5_open 4 (some .int) [])  : ∀ (n : Nat) (v0 : Nat) (v2 : Int) (v3 : Int) (M : Mem) (r : Int) (M' : Mem) (hv0 : m_kd M v0 = 5) (h : L_X5_open_80  n v0 v2 v3 M = some (r, M')) , x_Z X 0 0 (x_QF X M0 (.returned (some (vI r))) M' 0 0) M0 M 4 [(0, .ref v0), (2, vI v2), (3, vI v3)] 80 [] := by
  intro n
  induction n with
  | zero => intro v0 v2 v3 M r M' hv0 h ; cases h
  | succ n ih => intro v0 v2 v3 M r M' hv0 h ; exact cB_X5_open_80 C (fun v0 v2 v3 M r M' hv0 h  => ih v0 v2 v3 M r M' hv0 h ) v0 v2 v3 M r M' hv0 h 
theorem ct_X5_open {l : Launch} {S0 : State} {D : va_G} {cA : Nat → ClassId} (hG : x_G l S0 D cA) (v0 : Nat) (v1 : Int) (v2 : Int) (M : Mem) (r : Int) (M' : Mem) (hv0 : m_kd M v0 = 5) (h : d_X5_open v0 v1 v2 M = some (r, M')) : x_Me l S0 D cA yX5_open cX5_open 4 (some .int) [] ({ frames := 3, cells := 0, slots := 0, locals := 82 }) [.ref v0, vI v1, vI v2] M (.returned (some (vI r))) M' := by
  refine x_begin (F := 3) (Lo := 82) (mc := 0) (ms := 0) hG (Nat.le_of_ble_eq_true rfl) (lv := [(0, .ref v0), (1, vI v1), (2, vI v2)]) rfl rfl rfl rfl rfl (fun X e1 e2 e3 e4 e5 C => ?_)
  unfold d_X5_open at h
  refine z_aload_n (pc := 0) C 0 rfl dX5_open_0 ?_
  refine z_iconst (pc := 1) C dX5_open_1 ?_
  refine pX5_500 (pc := 2) C rfl (Or.inl hv0) dX5_open_2 ?_
  refine z_aload_n (pc := 5) C 0 rfl dX5_open_5 ?_
  refine z_iload_n (pc := 6) C 1 rfl dX5_open_6 ?_
  obtain ⟨r1, e2, h⟩ := bRs h
  refine cX5_349 (pc := 7) (st := []) (st1 := [vI r1]) C rfl (rm := { frames := 2, cells := 0, slots := 0, locals := 53 }) (ct_X5_isForm C.2.1 v0 v1 (m_si M 500 v0 0 0) _ hv0 e2) ⟨by decide, by decide, Nat.zero_le _, Nat.zero_le _⟩ (Or.inl hv0) rfl (Nat.le_of_ble_eq_true rfl) dX5_open_7 (c2 := 0) (s2 := 0) rfl rfl (fun _ => ?_)
  refine z_if_eq (pc := 10) C dX5_open_10 (tgt := 21) (by decide) (fun c3 => ?_) (fun c3 => ?_)
  · have h := itt c3 h
    refine z_aload_n (pc := 21) C 0 rfl dX5_open_21 ?_
    refine z_iconst (pc := 22) C dX5_open_22 ?_
    obtain ⟨r4, M5, e6, h⟩ := bNs h
    refine cX5_213 (pc := 23) (st := []) (st1 := [vI r4]) C rfl (rm := { frames := 1, cells := 0, slots := 0, locals := 24 }) (ct_X5_fail C.2.1 v0 1 (m_si M 500 v0 0 0) _ _ hv0 e6) ⟨by decide, by decide, Nat.zero_le _, Nat.zero_le _⟩ (Or.inl hv0) rfl (Nat.le_of_ble_eq_true rfl) dX5_open_23 (c2 := 0) (s2 := 0) rfl rfl (fun x7 => ?_)
    cases h
    exact z_iret (pc := 26) C rfl (show 0 ≤ 0 from by decide) (show 0 ≤ 0 from by decide) dX5_open_26
  · have h := itf c3 h
    refine z_aload_n (pc := 13) C 0 rfl dX5_open_13 ?_
    refine z_iload_n (pc := 14) C 2 rfl dX5_open_14 ?_
    obtain ⟨r8, e9, h⟩ := bRs h
    refine cX5_220 (pc := 15) (st := []) (st1 := [vI r8]) C rfl (rm := { frames := 2, cells := 0, slots := 0, locals := 53 }) (ct_X5_isUnit C.2.1 v0 v2 (m_si M 500 v0 0 0) _ hv0 e9) ⟨by decide, by decide, Nat.zero_le _, Nat.zero_le _⟩ (Or.inl hv0) rfl (Nat.le_of_ble_eq_true rfl) dX5_open_15 (c2 := 0) (s2 := 0) rfl rfl (fun _ => ?_)
    refine z_if_ne (pc := 18) C dX5_open_18 (tgt := 27) (by decide) (fun c10 => ?_) (fun c10 => ?_)
    · have h := itf c10 h
      refine z_aload_n (pc := 27) C 0 rfl dX5_open_27 ?_
      refine gX5_503 (pc := 28) C rfl hv0 dX5_open_28 ?_
      refine z_iload_n (pc := 31) C 2 rfl dX5_open_31 ?_
      obtain ⟨c11, h⟩ := ifn h
      refine z_iaO (pc := 32) (k := 5) (j := 3) C 503 rfl (by decide) (by decide) (by decide) rfl rfl rfl rfl hv0 c11 (x := m_i M 503 v0 (ixn v2)) ((m_i_ne (by decide)).trans rfl) dX5_open_32 ?_
      refine z_iconst (pc := 33) C dX5_open_33 ?_
      refine z_ic_eq (pc := 34) C dX5_open_34 (tgt := 43) (by decide) (fun c12 => ?_) (fun c12 => ?_)
      · have h := itt c12 h
        refine z_aload_n (pc := 43) C 0 rfl dX5_open_43 ?_
        refine gX5_538 (pc := 44) C rfl (Or.inl hv0) (x := m_i M 538 v0 0) ((m_i_ne (by decide)).trans rfl) dX5_open_44 ?_
        refine z_bipush (pc := 47) C (by decide +kernel) dX5_open_47 ?_
        refine z_ic_ne (pc := 49) C dX5_open_49 (tgt := 58) (by decide) (fun c13 => ?_) (fun c13 => ?_)
        · have h := itf c13 h
          refine z_aload_n (pc := 58) C 0 rfl dX5_open_58 ?_
          refine gX5_539 (pc := 59) C rfl hv0 dX5_open_59 ?_
          refine z_aload_n (pc := 62) C 0 rfl dX5_open_62 ?_
          refine gX5_538 (pc := 63) C rfl (Or.inl hv0) (x := m_i M 538 v0 0) ((m_i_ne (by decide)).trans rfl) dX5_open_63 ?_
          refine z_iload_n (pc := 66) C 1 rfl dX5_open_66 ?_
          obtain ⟨c14, h⟩ := ifn h
          refine z_isO (pc := 67) (k := 5) (j := 39) C 539 rfl (by decide) (by decide) (by decide) rfl rfl rfl rfl hv0 c14 dX5_open_67 ?_
          refine z_aload_n (pc := 68) C 0 rfl dX5_open_68 ?_
          refine gX5_540 (pc := 69) C rfl hv0 dX5_open_69 ?_
          refine z_aload_n (pc := 72) C 0 rfl dX5_open_72 ?_
          refine gX5_538 (pc := 73) C rfl (Or.inl hv0) (x := m_i M 538 v0 0) ((m_i_ne (by decide)).trans ((m_i_ne (by decide)).trans rfl)) dX5_open_73 ?_
          refine z_iload_n (pc := 76) C 2 rfl dX5_open_76 ?_
          refine z_isO (pc := 77) (k := 5) (j := 40) C 540 rfl (by decide) (by decide) (by decide) rfl rfl rfl rfl hv0 c14 dX5_open_77 ?_
          refine z_iconst (pc := 78) C dX5_open_78 ?_
          refine z_istore_n (pc := 79) C (lv' := [(0, .ref v0), (1, vI v1), (2, vI v2), (3, vI 0)]) (by decide) rfl dX5_open_79 ?_
          exact z_lv [0, 2, 3] rfl <| cL_X5_open_80 C FU v0 v2 0 (m_si (m_si (m_si M 500 v0 0 0) 539 v0 (ixn (m_i M 538 v0 0)) v1) 540 v0 (ixn (m_i M 538 v0 0)) v2) _ _ hv0 h
        · have h := itt c13 h
          refine z_aload_n (pc := 52) C 0 rfl dX5_open_52 ?_
          refine z_iconst (pc := 53) C dX5_open_53 ?_
          obtain ⟨r22, M23, e24, h⟩ := bNs h
          refine cX5_213 (pc := 54) (st := []) (st1 := [vI r22]) C rfl (rm := { frames := 1, cells := 0, slots := 0, locals := 24 }) (ct_X5_fail C.2.1 v0 3 (m_si M 500 v0 0 0) _ _ hv0 e24) ⟨by decide, by decide, Nat.zero_le _, Nat.zero_le _⟩ (Or.inl hv0) rfl (Nat.le_of_ble_eq_true rfl) dX5_open_54 (c2 := 0) (s2 := 0) rfl rfl (fun x25 => ?_)
          cases h
          exact z_iret (pc := 57) C rfl (show 0 ≤ 0 from by decide) (show 0 ≤ 0 from by decide) dX5_open_57
      · have h := itf c12 h
        refine z_aload_n (pc := 37) C 0 rfl dX5_open_37 ?_
        refine z_iconst (pc := 38) C dX5_open_38 ?_
        obtain ⟨r26, M27, e28, h⟩ := bNs h
        refine cX5_213 (pc := 39) (st := []) (st1 := [vI r26]) C rfl (rm := { frames := 1, cells := 0, slots := 0, locals := 24 }) (ct_X5_fail C.2.1 v0 2 (m_si M 500 v0 0 0) _ _ hv0 e28) ⟨by decide, by decide, Nat.zero_le _, Nat.zero_le _⟩ (Or.inl hv0) rfl (Nat.le_of_ble_eq_true rfl) dX5_open_39 (c2 := 0) (s2 := 0) rfl rfl (fun x29 => ?_)
        cases h
        exact z_iret (pc := 42) C rfl (show 0 ≤ 0 from by decide) (show 0 ≤ 0 from by decide) dX5_open_42
    · have h := itt c10 h
      refine z_aload_n (pc := 21) C 0 rfl dX5_open_21 ?_
      refine z_iconst (pc := 22) C dX5_open_22 ?_
      obtain ⟨r30, M31, e32, h⟩ := bNs h
      refine cX5_213 (pc := 23) (st := []) (st1 := [vI r30]) C rfl (rm := { frames := 1, cells := 0, slots := 0, locals := 24 }) (ct_X5_fail C.2.1 v0 1 (m_si M 500 v0 0 0) _ _ hv0 e32) ⟨by decide, by decide, Nat.zero_le _, Nat.zero_le _⟩ (Or.inl hv0) rfl (Nat.le_of_ble_eq_true rfl) dX5_open_23 (c2 := 0) (s2 := 0) rfl rfl (fun x33 => ?_)
      cases h
      exact z_iret (pc := 26) C rfl (show 0 ≤ 0 from by decide) (show 0 ≤ 0 from by decide) dX5_open_26
def d_X5_isSession (v0 : Nat) (v1 : Int) (M : Mem) : Option Int :=
  if (d_X5_isIn (w32 v1) 0 (w32 ((m_i M 538 v0 0) - 1))) = 0 ∨ (d_X5_isIn (w32 v1) 0 (w32 ((m_i M 538 v0 0) - 1))) = 1 then 
  some (d_X5_isIn (w32 v1) 0 (w32 ((m_i M 538 v0 0) - 1))) else none
theorem ct_X5_isSession {l : Launch} {S0 : State} {D : va_G} {cA : Nat → ClassId} (hG : x_G l S0 D cA) (v0 : Nat) (v1 : Int) (M : Mem) (r : Int) (hv0 : m_kd M v0 = 5) (h : d_X5_isSession v0 v1 M = some r) : x_Me l S0 D cA yX5_isSession cX5_isSession 2 (some .boolean) [] ({ frames := 2, cells := 0, slots := 0, locals := 53 }) [.ref v0, vI v1] M (.returned (some (vI r))) M := by
  refine x_begin (F := 2) (Lo := 53) (mc := 0) (ms := 0) hG (Nat.le_of_ble_eq_true rfl) (lv := [(0, .ref v0), (1, vI v1)]) rfl rfl rfl rfl rfl (fun X e1 e2 e3 e4 e5 C => ?_)
  unfold d_X5_isSession at h
  refine z_iload_n (pc := 0) C 1 rfl dX5_isSession_0 ?_
  refine z_i2l (pc := 1) C dX5_isSession_1 ?_
  refine z_lconst (pc := 2) C (x := 0) (by decide +kernel) dX5_isSession_2 ?_
  refine z_aload_n (pc := 3) C 0 rfl dX5_isSession_3 ?_
  refine gX5_538 (pc := 4) C rfl (Or.inl hv0) rfl dX5_isSession_4 ?_
  refine z_iconst (pc := 7) C dX5_isSession_7 ?_
  refine z_isub (pc := 8) C dX5_isSession_8 ?_
  refine z_i2l (pc := 9) C dX5_isSession_9 ?_
  refine cX5_207 (pc := 10) (st := []) (st1 := [vI (d_X5_isIn (w32 v1) 0 (w32 ((m_i M 538 v0 0) - 1)))]) C rfl (rm := { frames := 1, cells := 0, slots := 0, locals := 24 }) (ct_X5_isIn C.2.1 (w32 v1) 0 (w32 ((m_i M 538 v0 0) - 1)) M _  rfl) ⟨by decide, by decide, Nat.zero_le _, Nat.zero_le _⟩ rfl (Nat.le_of_ble_eq_true rfl) dX5_isSession_10 (c2 := 0) (s2 := 0) rfl rfl (fun _ => ?_)
  obtain ⟨c2, h⟩ := ifn h
  cases h
  exact z_zret (pc := 13) C rfl c2 (show 0 ≤ 0 from by decide) (show 0 ≤ 0 from by decide) dX5_isSession_13
def B_X5_sum_182  (v3 : Int) (v5 : Int) (M : Mem) : Option (Int × Mem) :=
  if w32 v5 = 0 then
    if w32 (d_X5_isIn v3 (-1000000) 1000000) = 0 then
      some (-2000000, M)
    else
      some (v3, M)
  else
    some (-2000000, M)
def B_X5_sum_157 (k13 : Nat → Int → Int → Int → Int → Mem → Option (Int × Mem)) (v0 : Nat) (v2 : Int) (v3 : Int) (v6 : Int) (v7 : Int) (s0 : Int) (M : Mem) : Option (Int × Mem) :=
  k13 v0 v2 (v3 + ((w32 v6) * (w32 v7))) s0 v6 (m_si M 536 v0 0 ((m_i M 536 v0 0) + 1))
def B_X5_sum_152 (k13 : Nat → Int → Int → Int → Int → Mem → Option (Int × Mem)) (v0 : Nat) (v2 : Int) (v3 : Int) (v6 : Int) (v7 : Int) (M : Mem) : Option (Int × Mem) :=
  B_X5_sum_157 k13 v0 v2 v3 v6 v7 1 M
def B_X5_sum_138 (k13 : Nat → Int → Int → Int → Int → Mem → Option (Int × Mem)) (v0 : Nat) (v2 : Int) (v3 : Int) (v5 : Int) (v6 : Int) (s0 : Int) (M : Mem) : Option (Int × Mem) :=
  if w32 v5 = 0 then
    if w32 s0 = w32 (-2000000) then
      B_X5_sum_152 k13 v0 v2 v3 v6 s0 M
    else
      B_X5_sum_157 k13 v0 v2 v3 v6 s0 0 M
  else
    B_X5_sum_152 k13 v0 v2 v3 v6 s0 M
def B_X5_sum_13 (k13 : Nat → Int → Int → Int → Int → Mem → Option (Int × Mem)) (v0 : Nat) (v2 : Int) (v3 : Int) (v5 : Int) (v6 : Int) (M : Mem) : Option (Int × Mem) :=
  if w32 v2 ≤ w32 (m_i M 536 v0 0) then
    B_X5_sum_182 v3 v5 M
  else
    if inb (m_i M 536 v0 0) 7200 then 
    if w32 4 < w32 (m_i M 525 v0 (ixn (m_i M 536 v0 0))) then
      B_X5_sum_182 v3 v5 M
    else
      if w32 (m_i M 525 v0 (ixn (m_i M 536 v0 0))) < w32 3 then
        if w32 (m_i M 525 v0 (ixn (m_i M 536 v0 0))) = 0 then
          B_X5_sum_138 k13 v0 v2 v3 v5 v6 (m_i M 526 v0 (ixn (m_i M 536 v0 0))) M
        else
          if w32 (m_i M 525 v0 (ixn (m_i M 536 v0 0))) = w32 1 then
            if inb (m_i M 526 v0 (ixn (m_i M 536 v0 0))) 20 then 
            B_X5_sum_138 k13 v0 v2 v3 v5 v6 (m_i M 534 v0 (ixn (m_i M 526 v0 (ixn (m_i M 536 v0 0))))) M else none
          else
            if inb (m_i M 526 v0 (ixn (m_i M 536 v0 0))) 6 then 
            B_X5_sum_138 k13 v0 v2 v3 v5 v6 (m_i M 535 v0 (ixn (m_i M 526 v0 (ixn (m_i M 536 v0 0))))) M else none
      else
        if w32 (m_i M 525 v0 (ixn (m_i M 536 v0 0))) = w32 3 then
          k13 v0 v2 v3 v5 1 (m_si M 536 v0 0 ((m_i M 536 v0 0) + 1))
        else
          k13 v0 v2 v3 v5 (-1) (m_si M 536 v0 0 ((m_i M 536 v0 0) + 1)) else none
def L_X5_sum_13  : Nat → Nat → Int → Int → Int → Int → Mem → Option (Int × Mem)
  | 0, _, _, _, _, _, _ => none
  | n + 1, v0, v2, v3, v5, v6, M => B_X5_sum_13 (L_X5_sum_13  n) v0 v2 v3 v5 v6 M
def d_X5_sum (v0 : Nat) (v1 : Int) (v2 : Int) (M : Mem) : Option (Int × Mem) :=
  L_X5_sum_13 FU v0 v2 0 0 1 (m_si M 536 v0 0 v1)
theorem cB_X5_sum_182 {X : x_Ctx} {M0 : Mem} (C : x_CC X 2 53 yX5_sum cX5_sum 8 (some .int) [])  (v3 : Int) (v5 : Int) (M : Mem) (r : Int) (M' : Mem)  (h : B_X5_sum_182  v3 v5 M = some (r, M'))  : x_Z X 0 0 (x_QF X M0 (.returned (some (vI r))) M' 0 0) M0 M 8 [(3, vL v3), (5, vI v5)] 182 [] := by
  unfold B_X5_sum_182 at h
  refine z_iload (pc := 182) C 1 rfl dX5_sum_182 ?_
  refine z_if_ne (pc := 184) C dX5_sum_184 (tgt := 200) (by decide) (fun c2 => ?_) (fun c2 => ?_)
  · have h := itf c2 h
    refine z_ldc (pc := 200) C (x := -2000000) q1829 (by decide +kernel) dX5_sum_200 ?_
    refine z_goto (pc := 202) C dX5_sum_202 (tgt := 207) (by decide) ?_
    cases h
    exact z_iret (pc := 207) C rfl (show 0 ≤ 0 from by decide) (show 0 ≤ 0 from by decide) dX5_sum_207
  · have h := itt c2 h
    refine z_lload_n (pc := 187) C 0 rfl dX5_sum_187 ?_
    refine z_ldc2 (pc := 188) C (x := -1000000) q1808 (by decide +kernel) dX5_sum_188 ?_
    refine z_ldc2 (pc := 191) C (x := 1000000) q1785 (by decide +kernel) dX5_sum_191 ?_
    refine cX5_207 (pc := 194) (st := []) (st1 := [vI (d_X5_isIn v3 (-1000000) 1000000)]) C rfl (rm := { frames := 1, cells := 0, slots := 0, locals := 24 }) (ct_X5_isIn C.2.1 v3 (-1000000) 1000000 M _  rfl) ⟨by decide, by decide, Nat.zero_le _, Nat.zero_le _⟩ rfl (Nat.le_of_ble_eq_true rfl) dX5_sum_194 (c2 := 0) (s2 := 0) rfl rfl (fun _ => ?_)
    refine z_if_ne (pc := 197) C dX5_sum_197 (tgt := 205) (by decide) (fun c4 => ?_) (fun c4 => ?_)
    · have h := itf c4 h
      refine z_lload_n (pc := 205) C 0 rfl dX5_sum_205 ?_
      refine z_l2i (pc := 206) C dX5_sum_206 ?_
      cases h
      exact z_iret (pc := 207) C rfl (show 0 ≤ 0 from by decide) (show 0 ≤ 0 from by decide) dX5_sum_207
    · have h := itt c4 h
      refine z_ldc (pc := 200) C (x := -2000000) q1829 (by decide +kernel) dX5_sum_200 ?_
      refine z_goto (pc := 202) C dX5_sum_202 (tgt := 207) (by decide) ?_
      cases h
      exact z_iret (pc := 207) C rfl (show 0 ≤ 0 from by decide) (show 0 ≤ 0 from by decide) dX5_sum_207
theorem cB_X5_sum_157 {X : x_Ctx} {M0 : Mem} (C : x_CC X 2 53 yX5_sum cX5_sum 8 (some .int) []) {k13 : Nat → Int → Int → Int → Int → Mem → Option (Int × Mem)} (hk13 : ∀ (v0 : Nat) (v2 : Int) (v3 : Int) (v5 : Int) (v6 : Int) (M : Mem) (r : Int) (M' : Mem), m_kd M v0 = 5 → k13 v0 v2 v3 v5 v6 M = some (r, M') → x_Z X 0 0 (x_QF X M0 (.returned (some (vI r))) M' 0 0) M0 M 8 [(0, .ref v0), (2, vI v2), (3, vL v3), (5, vI v5), (6, vI v6)] 13 []) (v0 : Nat) (v2 : Int) (v3 : Int) (v6 : Int) (v7 : Int) (s0 : Int) (M : Mem) (r : Int) (M' : Mem) (hv0 : m_kd M v0 = 5) (h : B_X5_sum_157 k13 v0 v2 v3 v6 v7 s0 M = some (r, M'))  : x_Z X 0 0 (x_QF X M0 (.returned (some (vI r))) M' 0 0) M0 M 8 [(0, .ref v0), (2, vI v2), (3, vL v3), (6, vI v6), (7, vI v7)] 157 [vI s0] := by
  unfold B_X5_sum_157 at h
  refine z_istore (pc := 157) C (lv' := [(0, .ref v0), (2, vI v2), (3, vL v3), (5, vI s0), (6, vI v6), (7, vI v7)]) (by decide) rfl dX5_sum_157 ?_
  refine z_lload_n (pc := 159) C 2 rfl dX5_sum_159 ?_
  refine z_iload (pc := 160) C 4 rfl dX5_sum_160 ?_
  refine z_i2l (pc := 162) C dX5_sum_162 ?_
  refine z_iload (pc := 163) C 5 rfl dX5_sum_163 ?_
  refine z_i2l (pc := 165) C dX5_sum_165 ?_
  refine z_lmul (pc := 166) C dX5_sum_166 ?_
  refine z_ladd (pc := 167) C dX5_sum_167 ?_
  refine z_lstore_n (pc := 168) C (lv' := [(0, .ref v0), (2, vI v2), (3, vL (v3 + ((w32 v6) * (w32 v7)))), (5, vI s0), (6, vI v6), (7, vI v7)]) (by decide) rfl dX5_sum_168 ?_
  refine z_aload_n (pc := 169) C 0 rfl dX5_sum_169 ?_
  refine z_dup (pc := 170) C rfl dX5_sum_170 ?_
  refine gX5_536 (pc := 171) C rfl (Or.inl hv0) rfl dX5_sum_171 ?_
  refine z_iconst (pc := 174) C dX5_sum_174 ?_
  refine z_iadd (pc := 175) C dX5_sum_175 ?_
  refine pX5_536 (pc := 176) C rfl (Or.inl hv0) dX5_sum_176 ?_
  refine z_goto (pc := 179) C dX5_sum_179 (tgt := 13) (by decide) ?_
  exact z_lv [0, 1, 2, 3, 4] rfl <| hk13 v0 v2 (v3 + ((w32 v6) * (w32 v7))) s0 v6 (m_si M 536 v0 0 ((m_i M 536 v0 0) + 1)) _ _ hv0 h
theorem cB_X5_sum_152 {X : x_Ctx} {M0 : Mem} (C : x_CC X 2 53 yX5_sum cX5_sum 8 (some .int) []) {k13 : Nat → Int → Int → Int → Int → Mem → Option (Int × Mem)} (hk13 : ∀ (v0 : Nat) (v2 : Int) (v3 : Int) (v5 : Int) (v6 : Int) (M : Mem) (r : Int) (M' : Mem), m_kd M v0 = 5 → k13 v0 v2 v3 v5 v6 M = some (r, M') → x_Z X 0 0 (x_QF X M0 (.returned (some (vI r))) M' 0 0) M0 M 8 [(0, .ref v0), (2, vI v2), (3, vL v3), (5, vI v5), (6, vI v6)] 13 []) (v0 : Nat) (v2 : Int) (v3 : Int) (v6 : Int) (v7 : Int) (M : Mem) (r : Int) (M' : Mem) (hv0 : m_kd M v0 = 5) (h : B_X5_sum_152 k13 v0 v2 v3 v6 v7 M = some (r, M'))  : x_Z X 0 0 (x_QF X M0 (.returned (some (vI r))) M' 0 0) M0 M 8 [(0, .ref v0), (2, vI v2), (3, vL v3), (6, vI v6), (7, vI v7)] 152 [] := by
  unfold B_X5_sum_152 at h
  refine z_iconst (pc := 152) C dX5_sum_152 ?_
  refine z_goto (pc := 153) C dX5_sum_153 (tgt := 157) (by decide) ?_
  exact cB_X5_sum_157 C hk13 v0 v2 v3 v6 v7 1 M _ _ hv0 h
theorem cB_X5_sum_138 {X : x_Ctx} {M0 : Mem} (C : x_CC X 2 53 yX5_sum cX5_sum 8 (some .int) []) {k13 : Nat → Int → Int → Int → Int → Mem → Option (Int × Mem)} (hk13 : ∀ (v0 : Nat) (v2 : Int) (v3 : Int) (v5 : Int) (v6 : Int) (M : Mem) (r : Int) (M' : Mem), m_kd M v0 = 5 → k13 v0 v2 v3 v5 v6 M = some (r, M') → x_Z X 0 0 (x_QF X M0 (.returned (some (vI r))) M' 0 0) M0 M 8 [(0, .ref v0), (2, vI v2), (3, vL v3), (5, vI v5), (6, vI v6)] 13 []) (v0 : Nat) (v2 : Int) (v3 : Int) (v5 : Int) (v6 : Int) (s0 : Int) (M : Mem) (r : Int) (M' : Mem) (hv0 : m_kd M v0 = 5) (h : B_X5_sum_138 k13 v0 v2 v3 v5 v6 s0 M = some (r, M'))  : x_Z X 0 0 (x_QF X M0 (.returned (some (vI r))) M' 0 0) M0 M 8 [(0, .ref v0), (2, vI v2), (3, vL v3), (5, vI v5), (6, vI v6)] 138 [vI s0] := by
  unfold B_X5_sum_138 at h
  refine z_istore (pc := 138) C (lv' := [(0, .ref v0), (2, vI v2), (3, vL v3), (5, vI v5), (6, vI v6), (7, vI s0)]) (by decide) rfl dX5_sum_138 ?_
  refine z_iload (pc := 140) C 3 rfl dX5_sum_140 ?_
  refine z_if_ne (pc := 142) C dX5_sum_142 (tgt := 152) (by decide) (fun c11 => ?_) (fun c11 => ?_)
  · have h := itf c11 h
    exact z_lv [0, 1, 2, 4, 5] rfl <| cB_X5_sum_152 C hk13 v0 v2 v3 v6 s0 M _ _ hv0 h
  · have h := itt c11 h
    refine z_iload (pc := 145) C 5 rfl dX5_sum_145 ?_
    refine z_ldc (pc := 147) C (x := -2000000) q1829 (by decide +kernel) dX5_sum_147 ?_
    refine z_ic_ne (pc := 149) C dX5_sum_149 (tgt := 156) (by decide) (fun c12 => ?_) (fun c12 => ?_)
    · have h := itf c12 h
      refine z_iconst (pc := 156) C dX5_sum_156 ?_
      exact z_lv [0, 1, 2, 4, 5] rfl <| cB_X5_sum_157 C hk13 v0 v2 v3 v6 s0 0 M _ _ hv0 h
    · have h := itt c12 h
      exact z_lv [0, 1, 2, 4, 5] rfl <| cB_X5_sum_152 C hk13 v0 v2 v3 v6 s0 M _ _ hv0 h
theorem cB_X5_sum_13 {X : x_Ctx} {M0 : Mem} (C : x_CC X 2 53 yX5_sum cX5_sum 8 (some .int) []) {k13 : Nat → Int → Int → Int → Int → Mem → Option (Int × Mem)} (hk13 : ∀ (v0 : Nat) (v2 : Int) (v3 : Int) (v5 : Int) (v6 : Int) (M : Mem) (r : Int) (M' : Mem), m_kd M v0 = 5 → k13 v0 v2 v3 v5 v6 M = some (r, M') → x_Z X 0 0 (x_QF X M0 (.returned (some (vI r))) M' 0 0) M0 M 8 [(0, .ref v0), (2, vI v2), (3, vL v3), (5, vI v5), (6, vI v6)] 13 []) (v0 : Nat) (v2 : Int) (v3 : Int) (v5 : Int) (v6 : Int) (M : Mem) (r : Int) (M' : Mem) (hv0 : m_kd M v0 = 5) (h : B_X5_sum_13 k13 v0 v2 v3 v5 v6 M = some (r, M'))  : x_Z X 0 0 (x_QF X M0 (.returned (some (vI r))) M' 0 0) M0 M 8 [(0, .ref v0), (2, vI v2), (3, vL v3), (5, vI v5), (6, vI v6)] 13 [] := by
  unfold B_X5_sum_13 at h
  refine z_aload_n (pc := 13) C 0 rfl dX5_sum_13 ?_
  refine gX5_536 (pc := 14) C rfl (Or.inl hv0) rfl dX5_sum_14 ?_
  refine z_iload_n (pc := 17) C 1 rfl dX5_sum_17 ?_
  refine z_ic_ge (pc := 18) C dX5_sum_18 (tgt := 182) (by decide) (fun c1 => ?_) (fun c1 => ?_)
  · have h := itt c1 h
    exact z_lv [2, 3] rfl <| cB_X5_sum_182 C v3 v5 M _ _ h
  · have h := itf c1 h
    refine z_aload_n (pc := 21) C 0 rfl dX5_sum_21 ?_
    refine gX5_525 (pc := 22) C rfl hv0 dX5_sum_22 ?_
    refine z_aload_n (pc := 25) C 0 rfl dX5_sum_25 ?_
    refine gX5_536 (pc := 26) C rfl (Or.inl hv0) rfl dX5_sum_26 ?_
    obtain ⟨c5, h⟩ := ifn h
    refine z_iaO (pc := 29) (k := 5) (j := 25) C 525 rfl (by decide) (by decide) (by decide) rfl rfl rfl rfl hv0 c5 rfl dX5_sum_29 ?_
    refine z_iconst (pc := 30) C dX5_sum_30 ?_
    refine z_ic_gt (pc := 31) C dX5_sum_31 (tgt := 182) (by decide) (fun c6 => ?_) (fun c6 => ?_)
    · have h := itt c6 h
      exact z_lv [2, 3] rfl <| cB_X5_sum_182 C v3 v5 M _ _ h
    · have h := itf c6 h
      refine z_aload_n (pc := 34) C 0 rfl dX5_sum_34 ?_
      refine gX5_525 (pc := 35) C rfl hv0 dX5_sum_35 ?_
      refine z_aload_n (pc := 38) C 0 rfl dX5_sum_38 ?_
      refine gX5_536 (pc := 39) C rfl (Or.inl hv0) rfl dX5_sum_39 ?_
      refine z_iaO (pc := 42) (k := 5) (j := 25) C 525 rfl (by decide) (by decide) (by decide) rfl rfl rfl rfl hv0 c5 rfl dX5_sum_42 ?_
      refine z_iconst (pc := 43) C dX5_sum_43 ?_
      refine z_ic_lt (pc := 44) C dX5_sum_44 (tgt := 70) (by decide) (fun c7 => ?_) (fun c7 => ?_)
      · have h := itt c7 h
        refine z_aload_n (pc := 70) C 0 rfl dX5_sum_70 ?_
        refine gX5_525 (pc := 71) C rfl hv0 dX5_sum_71 ?_
        refine z_aload_n (pc := 74) C 0 rfl dX5_sum_74 ?_
        refine gX5_536 (pc := 75) C rfl (Or.inl hv0) rfl dX5_sum_75 ?_
        refine z_iaO (pc := 78) (k := 5) (j := 25) C 525 rfl (by decide) (by decide) (by decide) rfl rfl rfl rfl hv0 c5 rfl dX5_sum_78 ?_
        refine z_if_ne (pc := 79) C dX5_sum_79 (tgt := 94) (by decide) (fun c8 => ?_) (fun c8 => ?_)
        · have h := itf c8 h
          refine z_aload_n (pc := 94) C 0 rfl dX5_sum_94 ?_
          refine gX5_525 (pc := 95) C rfl hv0 dX5_sum_95 ?_
          refine z_aload_n (pc := 98) C 0 rfl dX5_sum_98 ?_
          refine gX5_536 (pc := 99) C rfl (Or.inl hv0) rfl dX5_sum_99 ?_
          refine z_iaO (pc := 102) (k := 5) (j := 25) C 525 rfl (by decide) (by decide) (by decide) rfl rfl rfl rfl hv0 c5 rfl dX5_sum_102 ?_
          refine z_iconst (pc := 103) C dX5_sum_103 ?_
          refine z_ic_ne (pc := 104) C dX5_sum_104 (tgt := 124) (by decide) (fun c9 => ?_) (fun c9 => ?_)
          · have h := itf c9 h
            refine z_aload_n (pc := 124) C 0 rfl dX5_sum_124 ?_
            refine gX5_535 (pc := 125) C rfl hv0 dX5_sum_125 ?_
            refine z_aload_n (pc := 128) C 0 rfl dX5_sum_128 ?_
            refine gX5_526 (pc := 129) C rfl hv0 dX5_sum_129 ?_
            refine z_aload_n (pc := 132) C 0 rfl dX5_sum_132 ?_
            refine gX5_536 (pc := 133) C rfl (Or.inl hv0) rfl dX5_sum_133 ?_
            refine z_iaO (pc := 136) (k := 5) (j := 26) C 526 rfl (by decide) (by decide) (by decide) rfl rfl rfl rfl hv0 c5 rfl dX5_sum_136 ?_
            obtain ⟨c10, h⟩ := ifn h
            refine z_iaO (pc := 137) (k := 5) (j := 35) C 535 rfl (by decide) (by decide) (by decide) rfl rfl rfl rfl hv0 c10 rfl dX5_sum_137 ?_
            exact cB_X5_sum_138 C hk13 v0 v2 v3 v5 v6 (m_i M 535 v0 (ixn (m_i M 526 v0 (ixn (m_i M 536 v0 0))))) M _ _ hv0 h
          · have h := itt c9 h
            refine z_aload_n (pc := 107) C 0 rfl dX5_sum_107 ?_
            refine gX5_534 (pc := 108) C rfl hv0 dX5_sum_108 ?_
            refine z_aload_n (pc := 111) C 0 rfl dX5_sum_111 ?_
            refine gX5_526 (pc := 112) C rfl hv0 dX5_sum_112 ?_
            refine z_aload_n (pc := 115) C 0 rfl dX5_sum_115 ?_
            refine gX5_536 (pc := 116) C rfl (Or.inl hv0) rfl dX5_sum_116 ?_
            refine z_iaO (pc := 119) (k := 5) (j := 26) C 526 rfl (by decide) (by decide) (by decide) rfl rfl rfl rfl hv0 c5 rfl dX5_sum_119 ?_
            obtain ⟨c13, h⟩ := ifn h
            refine z_iaO (pc := 120) (k := 5) (j := 34) C 534 rfl (by decide) (by decide) (by decide) rfl rfl rfl rfl hv0 c13 rfl dX5_sum_120 ?_
            refine z_goto (pc := 121) C dX5_sum_121 (tgt := 138) (by decide) ?_
            exact cB_X5_sum_138 C hk13 v0 v2 v3 v5 v6 (m_i M 534 v0 (ixn (m_i M 526 v0 (ixn (m_i M 536 v0 0))))) M _ _ hv0 h
        · have h := itt c8 h
          refine z_aload_n (pc := 82) C 0 rfl dX5_sum_82 ?_
          refine gX5_526 (pc := 83) C rfl hv0 dX5_sum_83 ?_
          refine z_aload_n (pc := 86) C 0 rfl dX5_sum_86 ?_
          refine gX5_536 (pc := 87) C rfl (Or.inl hv0) rfl dX5_sum_87 ?_
          refine z_iaO (pc := 90) (k := 5) (j := 26) C 526 rfl (by decide) (by decide) (by decide) rfl rfl rfl rfl hv0 c5 rfl dX5_sum_90 ?_
          refine z_goto (pc := 91) C dX5_sum_91 (tgt := 138) (by decide) ?_
          exact cB_X5_sum_138 C hk13 v0 v2 v3 v5 v6 (m_i M 526 v0 (ixn (m_i M 536 v0 0))) M _ _ hv0 h
      · have h := itf c7 h
        refine z_aload_n (pc := 47) C 0 rfl dX5_sum_47 ?_
        refine gX5_525 (pc := 48) C rfl hv0 dX5_sum_48 ?_
        refine z_aload_n (pc := 51) C 0 rfl dX5_sum_51 ?_
        refine gX5_536 (pc := 52) C rfl (Or.inl hv0) rfl dX5_sum_52 ?_
        refine z_iaO (pc := 55) (k := 5) (j := 25) C 525 rfl (by decide) (by decide) (by decide) rfl rfl rfl rfl hv0 c5 rfl dX5_sum_55 ?_
        refine z_iconst (pc := 56) C dX5_sum_56 ?_
        refine z_ic_ne (pc := 57) C dX5_sum_57 (tgt := 64) (by decide) (fun c14 => ?_) (fun c14 => ?_)
        · have h := itf c14 h
          refine z_iconst (pc := 64) C dX5_sum_64 ?_
          refine z_istore (pc := 65) C (lv' := [(0, .ref v0), (2, vI v2), (3, vL v3), (5, vI v5), (6, vI (-1))]) (by decide) rfl dX5_sum_65 ?_
          refine z_goto (pc := 67) C dX5_sum_67 (tgt := 169) (by decide) ?_
          refine z_aload_n (pc := 169) C 0 rfl dX5_sum_169 ?_
          refine z_dup (pc := 170) C rfl dX5_sum_170 ?_
          refine gX5_536 (pc := 171) C rfl (Or.inl hv0) rfl dX5_sum_171 ?_
          refine z_iconst (pc := 174) C dX5_sum_174 ?_
          refine z_iadd (pc := 175) C dX5_sum_175 ?_
          refine pX5_536 (pc := 176) C rfl (Or.inl hv0) dX5_sum_176 ?_
          refine z_goto (pc := 179) C dX5_sum_179 (tgt := 13) (by decide) ?_
          exact hk13 v0 v2 v3 v5 (-1) (m_si M 536 v0 0 ((m_i M 536 v0 0) + 1)) _ _ hv0 h
        · have h := itt c14 h
          refine z_iconst (pc := 60) C dX5_sum_60 ?_
          refine z_goto (pc := 61) C dX5_sum_61 (tgt := 65) (by decide) ?_
          refine z_istore (pc := 65) C (lv' := [(0, .ref v0), (2, vI v2), (3, vL v3), (5, vI v5), (6, vI 1)]) (by decide) rfl dX5_sum_65 ?_
          refine z_goto (pc := 67) C dX5_sum_67 (tgt := 169) (by decide) ?_
          refine z_aload_n (pc := 169) C 0 rfl dX5_sum_169 ?_
          refine z_dup (pc := 170) C rfl dX5_sum_170 ?_
          refine gX5_536 (pc := 171) C rfl (Or.inl hv0) rfl dX5_sum_171 ?_
          refine z_iconst (pc := 174) C dX5_sum_174 ?_
          refine z_iadd (pc := 175) C dX5_sum_175 ?_
          refine pX5_536 (pc := 176) C rfl (Or.inl hv0) dX5_sum_176 ?_
          refine z_goto (pc := 179) C dX5_sum_179 (tgt := 13) (by decide) ?_
          exact hk13 v0 v2 v3 v5 1 (m_si M 536 v0 0 ((m_i M 536 v0 0) + 1)) _ _ hv0 h
theorem cL_X5_sum_13 {X : x_Ctx} {M0 : Mem} (C : x_CC X 2 53 yX5_sum cX5_sum 8 (some .int) [])  : ∀ (n : Nat) (v0 : Nat) (v2 : Int) (v3 : Int) (v5 : Int) (v6 : Int) (M : Mem) (r : Int) (M' : Mem) (hv0 : m_kd M v0 = 5) (h : L_X5_sum_13  n v0 v2 v3 v5 v6 M = some (r, M')) , x_Z X 0 0 (x_QF X M0 (.returned (some (vI r))) M' 0 0) M0 M 8 [(0, .ref v0), (2, vI v2), (3, vL v3), (5, vI v5), (6, vI v6)] 13 [] := by
  intro n
  induction n with
  | zero => intro v0 v2 v3 v5 v6 M r M' hv0 h ; cases h
  | succ n ih => intro v0 v2 v3 v5 v6 M r M' hv0 h ; exact cB_X5_sum_13 C (fun v0 v2 v3 v5 v6 M r M' hv0 h  => ih v0 v2 v3 v5 v6 M r M' hv0 h ) v0 v2 v3 v5 v6 M r M' hv0 h 
theorem ct_X5_sum {l : Launch} {S0 : State} {D : va_G} {cA : Nat → ClassId} (hG : x_G l S0 D cA) (v0 : Nat) (v1 : Int) (v2 : Int) (M : Mem) (r : Int) (M' : Mem) (hv0 : m_kd M v0 = 5) (h : d_X5_sum v0 v1 v2 M = some (r, M')) : x_Me l S0 D cA yX5_sum cX5_sum 8 (some .int) [] ({ frames := 2, cells := 0, slots := 0, locals := 53 }) [.ref v0, vI v1, vI v2] M (.returned (some (vI r))) M' := by
  refine x_begin (F := 2) (Lo := 53) (mc := 0) (ms := 0) hG (Nat.le_of_ble_eq_true rfl) (lv := [(0, .ref v0), (1, vI v1), (2, vI v2)]) rfl rfl rfl rfl rfl (fun X e1 e2 e3 e4 e5 C => ?_)
  unfold d_X5_sum at h
  refine z_lconst (pc := 0) C (x := 0) (by decide +kernel) dX5_sum_0 ?_
  refine z_lstore_n (pc := 1) C (lv' := [(0, .ref v0), (1, vI v1), (2, vI v2), (3, vL 0)]) (by decide) rfl dX5_sum_1 ?_
  refine z_iconst (pc := 2) C dX5_sum_2 ?_
  refine z_istore (pc := 3) C (lv' := [(0, .ref v0), (1, vI v1), (2, vI v2), (3, vL 0), (5, vI 0)]) (by decide) rfl dX5_sum_3 ?_
  refine z_iconst (pc := 5) C dX5_sum_5 ?_
  refine z_istore (pc := 6) C (lv' := [(0, .ref v0), (1, vI v1), (2, vI v2), (3, vL 0), (5, vI 0), (6, vI 1)]) (by decide) rfl dX5_sum_6 ?_
  refine z_aload_n (pc := 8) C 0 rfl dX5_sum_8 ?_
  refine z_iload_n (pc := 9) C 1 rfl dX5_sum_9 ?_
  refine pX5_536 (pc := 10) C rfl (Or.inl hv0) dX5_sum_10 ?_
  exact z_lv [0, 2, 3, 4, 5] rfl <| cL_X5_sum_13 C FU v0 v2 0 0 1 (m_si M 536 v0 0 v1) _ _ hv0 h
def B_X5_holds_242 (k13 : Nat → Int → Int → Int → Int → Mem → Option (Int × Mem)) (v0 : Nat) (v2 : Int) (M : Mem) : Option (Int × Mem) :=
  k13 v0 v2 1 1 ((m_i M 536 v0 0) + 1) M
def B_X5_holds_209 (k13 : Nat → Int → Int → Int → Int → Mem → Option (Int × Mem)) (v0 : Nat) (v2 : Int) (v3 : Int) (s0 : Int) (M : Mem) : Option (Int × Mem) :=
  if w32 v2 ≤ w32 (m_i M 536 v0 0) then
    k13 v0 v2 v3 s0 ((m_i M 536 v0 0) + 1) M
  else
    if inb (m_i M 536 v0 0) 7200 then 
    if w32 (m_i M 525 v0 (ixn (m_i M 536 v0 0))) = w32 12 then
      if w32 v3 = 0 then
        if w32 s0 = 0 then
          k13 v0 v2 0 1 ((m_i M 536 v0 0) + 1) M
        else
          B_X5_holds_242 k13 v0 v2 M
      else
        B_X5_holds_242 k13 v0 v2 M
    else
      k13 v0 v2 v3 s0 ((m_i M 536 v0 0) + 1) M else none
def B_X5_holds_208 (k13 : Nat → Int → Int → Int → Int → Mem → Option (Int × Mem)) (v0 : Nat) (v2 : Int) (v3 : Int) (M : Mem) : Option (Int × Mem) :=
  B_X5_holds_209 k13 v0 v2 v3 0 M
def B_X5_holds_192 (k13 : Nat → Int → Int → Int → Int → Mem → Option (Int × Mem)) (v0 : Nat) (v2 : Int) (v3 : Int) (v4 : Int) (s0 : Int) (M : Mem) : Option (Int × Mem) :=
  if w32 v4 = 0 then
    B_X5_holds_208 k13 v0 v2 v3 M
  else
    if w32 s0 = 0 then
      B_X5_holds_208 k13 v0 v2 v3 M
    else
      B_X5_holds_209 k13 v0 v2 v3 1 M
def B_X5_holds_191 (k13 : Nat → Int → Int → Int → Int → Mem → Option (Int × Mem)) (v0 : Nat) (v2 : Int) (v3 : Int) (v4 : Int) (M : Mem) : Option (Int × Mem) :=
  B_X5_holds_192 k13 v0 v2 v3 v4 0 M
def B_X5_holds_187 (k13 : Nat → Int → Int → Int → Int → Mem → Option (Int × Mem)) (v0 : Nat) (v2 : Int) (v3 : Int) (v4 : Int) (M : Mem) : Option (Int × Mem) :=
  B_X5_holds_192 k13 v0 v2 v3 v4 1 M
def B_X5_holds_79 (k13 : Nat → Int → Int → Int → Int → Mem → Option (Int × Mem)) (v0 : Nat) (v2 : Int) (v3 : Int) (v4 : Int) (v6 : Int) (v7 : Int) (v8 : Int) (s0 : Nat) (s1 : Int) (M : Mem) : Option (Int × Mem) :=
  if s1 = 0 ∨ s1 = 1 then 
  if w32 v6 = w32 (-2000000) then
    B_X5_holds_191 k13 v0 v2 v3 v4 (m_si M 537 s0 0 s1)
  else
    if w32 v8 = w32 (-2000000) then
      B_X5_holds_191 k13 v0 v2 v3 v4 (m_si M 537 s0 0 s1)
    else
      if w32 v7 = w32 5 then
        if w32 v8 ≤ w32 v6 then
          B_X5_holds_191 k13 v0 v2 v3 v4 (m_si M 537 s0 0 s1)
        else
          B_X5_holds_187 k13 v0 v2 v3 v4 (m_si M 537 s0 0 s1)
      else
        if w32 v7 = w32 6 then
          if w32 v8 < w32 v6 then
            B_X5_holds_191 k13 v0 v2 v3 v4 (m_si M 537 s0 0 s1)
          else
            B_X5_holds_187 k13 v0 v2 v3 v4 (m_si M 537 s0 0 s1)
        else
          if w32 v7 = w32 7 then
            if w32 v6 = w32 v8 then
              B_X5_holds_187 k13 v0 v2 v3 v4 (m_si M 537 s0 0 s1)
            else
              B_X5_holds_191 k13 v0 v2 v3 v4 (m_si M 537 s0 0 s1)
          else
            if w32 v7 = w32 8 then
              if w32 v6 = w32 v8 then
                B_X5_holds_191 k13 v0 v2 v3 v4 (m_si M 537 s0 0 s1)
              else
                B_X5_holds_187 k13 v0 v2 v3 v4 (m_si M 537 s0 0 s1)
            else
              if w32 v7 = w32 9 then
                if w32 v6 < w32 v8 then
                  B_X5_holds_191 k13 v0 v2 v3 v4 (m_si M 537 s0 0 s1)
                else
                  B_X5_holds_187 k13 v0 v2 v3 v4 (m_si M 537 s0 0 s1)
              else
                if w32 v6 ≤ w32 v8 then
                  B_X5_holds_191 k13 v0 v2 v3 v4 (m_si M 537 s0 0 s1)
                else
                  B_X5_holds_187 k13 v0 v2 v3 v4 (m_si M 537 s0 0 s1) else none
def B_X5_holds_74 (k13 : Nat → Int → Int → Int → Int → Mem → Option (Int × Mem)) (v0 : Nat) (v2 : Int) (v3 : Int) (v4 : Int) (v6 : Int) (v7 : Int) (v8 : Int) (s0 : Nat) (M : Mem) : Option (Int × Mem) :=
  B_X5_holds_79 k13 v0 v2 v3 v4 v6 v7 v8 s0 1 M
def B_X5_holds_13 (k13 : Nat → Int → Int → Int → Int → Mem → Option (Int × Mem)) (v0 : Nat) (v2 : Int) (v3 : Int) (v4 : Int) (v5 : Int) (M : Mem) : Option (Int × Mem) :=
  if w32 v2 ≤ w32 v5 then
    if w32 v3 = 0 then
      if w32 v4 = 0 then
        some (0, M)
      else
        some (1, M)
    else
      some (1, M)
  else
    bN (d_X5_sum v0 v5 v2 M) fun r4 M5 => 
    if inb (m_i M5 536 v0 0) 7200 then 
    bN (d_X5_sum v0 ((m_i M5 536 v0 0) + 1) v2 M5) fun r10 M11 => 
    if w32 (m_i M11 537 v0 0) = 0 then
      if w32 r4 = w32 (-2000000) then
        B_X5_holds_74 k13 v0 v2 v3 v4 r4 (m_i M5 525 v0 (ixn (m_i M5 536 v0 0))) r10 v0 M11
      else
        if w32 r10 = w32 (-2000000) then
          B_X5_holds_74 k13 v0 v2 v3 v4 r4 (m_i M5 525 v0 (ixn (m_i M5 536 v0 0))) r10 v0 M11
        else
          B_X5_holds_79 k13 v0 v2 v3 v4 r4 (m_i M5 525 v0 (ixn (m_i M5 536 v0 0))) r10 v0 0 M11
    else
      B_X5_holds_74 k13 v0 v2 v3 v4 r4 (m_i M5 525 v0 (ixn (m_i M5 536 v0 0))) r10 v0 M11 else none
def L_X5_holds_13  : Nat → Nat → Int → Int → Int → Int → Mem → Option (Int × Mem)
  | 0, _, _, _, _, _, _ => none
  | n + 1, v0, v2, v3, v4, v5, M => B_X5_holds_13 (L_X5_holds_13  n) v0 v2 v3 v4 v5 M
def d_X5_holds (v0 : Nat) (v1 : Int) (v2 : Int) (M : Mem) : Option (Int × Mem) :=
  L_X5_holds_13 FU v0 v2 0 1 v1 (m_si M 537 v0 0 0)
theorem cB_X5_holds_242 {X : x_Ctx} {M0 : Mem} (C : x_CC X 3 84 yX5_holds cX5_holds 10 (some .boolean) []) {k13 : Nat → Int → Int → Int → Int → Mem → Option (Int × Mem)} (hk13 : ∀ (v0 : Nat) (v2 : Int) (v3 : Int) (v4 : Int) (v5 : Int) (M : Mem) (r : Int) (M' : Mem), m_kd M v0 = 5 → k13 v0 v2 v3 v4 v5 M = some (r, M') → x_Z X 0 0 (x_QF X M0 (.returned (some (vI r))) M' 0 0) M0 M 10 [(0, .ref v0), (2, vI v2), (3, vI v3), (4, vI v4), (5, vI v5)] 13 []) (v0 : Nat) (v2 : Int) (M : Mem) (r : Int) (M' : Mem) (hv0 : m_kd M v0 = 5) (h : B_X5_holds_242 k13 v0 v2 M = some (r, M'))  : x_Z X 0 0 (x_QF X M0 (.returned (some (vI r))) M' 0 0) M0 M 10 [(0, .ref v0), (2, vI v2)] 242 [] := by
  unfold B_X5_holds_242 at h
  refine z_iconst (pc := 242) C dX5_holds_242 ?_
  refine z_goto (pc := 243) C dX5_holds_243 (tgt := 247) (by decide) ?_
  refine z_istore_n (pc := 247) C (lv' := [(0, .ref v0), (2, vI v2), (3, vI 1)]) (by decide) rfl dX5_holds_247 ?_
  refine z_iconst (pc := 248) C dX5_holds_248 ?_
  refine z_istore (pc := 249) C (lv' := [(0, .ref v0), (2, vI v2), (3, vI 1), (4, vI 1)]) (by decide) rfl dX5_holds_249 ?_
  refine z_aload_n (pc := 251) C 0 rfl dX5_holds_251 ?_
  refine gX5_536 (pc := 252) C rfl (Or.inl hv0) rfl dX5_holds_252 ?_
  refine z_iconst (pc := 255) C dX5_holds_255 ?_
  refine z_iadd (pc := 256) C dX5_holds_256 ?_
  refine z_istore (pc := 257) C (lv' := [(0, .ref v0), (2, vI v2), (3, vI 1), (4, vI 1), (5, vI ((m_i M 536 v0 0) + 1))]) (by decide) rfl dX5_holds_257 ?_
  refine z_goto (pc := 259) C dX5_holds_259 (tgt := 13) (by decide) ?_
  exact hk13 v0 v2 1 1 ((m_i M 536 v0 0) + 1) M _ _ hv0 h
theorem cB_X5_holds_209 {X : x_Ctx} {M0 : Mem} (C : x_CC X 3 84 yX5_holds cX5_holds 10 (some .boolean) []) {k13 : Nat → Int → Int → Int → Int → Mem → Option (Int × Mem)} (hk13 : ∀ (v0 : Nat) (v2 : Int) (v3 : Int) (v4 : Int) (v5 : Int) (M : Mem) (r : Int) (M' : Mem), m_kd M v0 = 5 → k13 v0 v2 v3 v4 v5 M = some (r, M') → x_Z X 0 0 (x_QF X M0 (.returned (some (vI r))) M' 0 0) M0 M 10 [(0, .ref v0), (2, vI v2), (3, vI v3), (4, vI v4), (5, vI v5)] 13 []) (v0 : Nat) (v2 : Int) (v3 : Int) (s0 : Int) (M : Mem) (r : Int) (M' : Mem) (hv0 : m_kd M v0 = 5) (h : B_X5_holds_209 k13 v0 v2 v3 s0 M = some (r, M'))  : x_Z X 0 0 (x_QF X M0 (.returned (some (vI r))) M' 0 0) M0 M 10 [(0, .ref v0), (2, vI v2), (3, vI v3)] 209 [vI s0] := by
  unfold B_X5_holds_209 at h
  refine z_istore (pc := 209) C (lv' := [(0, .ref v0), (2, vI v2), (3, vI v3), (4, vI s0)]) (by decide) rfl dX5_holds_209 ?_
  refine z_aload_n (pc := 211) C 0 rfl dX5_holds_211 ?_
  refine gX5_536 (pc := 212) C rfl (Or.inl hv0) rfl dX5_holds_212 ?_
  refine z_iload_n (pc := 215) C 1 rfl dX5_holds_215 ?_
  refine z_ic_ge (pc := 216) C dX5_holds_216 (tgt := 251) (by decide) (fun c19 => ?_) (fun c19 => ?_)
  · have h := itt c19 h
    refine z_aload_n (pc := 251) C 0 rfl dX5_holds_251 ?_
    refine gX5_536 (pc := 252) C rfl (Or.inl hv0) rfl dX5_holds_252 ?_
    refine z_iconst (pc := 255) C dX5_holds_255 ?_
    refine z_iadd (pc := 256) C dX5_holds_256 ?_
    refine z_istore (pc := 257) C (lv' := [(0, .ref v0), (2, vI v2), (3, vI v3), (4, vI s0), (5, vI ((m_i M 536 v0 0) + 1))]) (by decide) rfl dX5_holds_257 ?_
    refine z_goto (pc := 259) C dX5_holds_259 (tgt := 13) (by decide) ?_
    exact hk13 v0 v2 v3 s0 ((m_i M 536 v0 0) + 1) M _ _ hv0 h
  · have h := itf c19 h
    refine z_aload_n (pc := 219) C 0 rfl dX5_holds_219 ?_
    refine gX5_525 (pc := 220) C rfl hv0 dX5_holds_220 ?_
    refine z_aload_n (pc := 223) C 0 rfl dX5_holds_223 ?_
    refine gX5_536 (pc := 224) C rfl (Or.inl hv0) rfl dX5_holds_224 ?_
    obtain ⟨c20, h⟩ := ifn h
    refine z_iaO (pc := 227) (k := 5) (j := 25) C 525 rfl (by decide) (by decide) (by decide) rfl rfl rfl rfl hv0 c20 rfl dX5_holds_227 ?_
    refine z_bipush (pc := 228) C (by decide +kernel) dX5_holds_228 ?_
    refine z_ic_ne (pc := 230) C dX5_holds_230 (tgt := 251) (by decide) (fun c21 => ?_) (fun c21 => ?_)
    · have h := itf c21 h
      refine z_aload_n (pc := 251) C 0 rfl dX5_holds_251 ?_
      refine gX5_536 (pc := 252) C rfl (Or.inl hv0) rfl dX5_holds_252 ?_
      refine z_iconst (pc := 255) C dX5_holds_255 ?_
      refine z_iadd (pc := 256) C dX5_holds_256 ?_
      refine z_istore (pc := 257) C (lv' := [(0, .ref v0), (2, vI v2), (3, vI v3), (4, vI s0), (5, vI ((m_i M 536 v0 0) + 1))]) (by decide) rfl dX5_holds_257 ?_
      refine z_goto (pc := 259) C dX5_holds_259 (tgt := 13) (by decide) ?_
      exact hk13 v0 v2 v3 s0 ((m_i M 536 v0 0) + 1) M _ _ hv0 h
    · have h := itt c21 h
      refine z_iload_n (pc := 233) C 2 rfl dX5_holds_233 ?_
      refine z_if_ne (pc := 234) C dX5_holds_234 (tgt := 242) (by decide) (fun c22 => ?_) (fun c22 => ?_)
      · have h := itf c22 h
        exact z_lv [0, 1] rfl <| cB_X5_holds_242 C hk13 v0 v2 M _ _ hv0 h
      · have h := itt c22 h
        refine z_iload (pc := 237) C 3 rfl dX5_holds_237 ?_
        refine z_if_eq (pc := 239) C dX5_holds_239 (tgt := 246) (by decide) (fun c23 => ?_) (fun c23 => ?_)
        · have h := itt c23 h
          refine z_iconst (pc := 246) C dX5_holds_246 ?_
          refine z_istore_n (pc := 247) C (lv' := [(0, .ref v0), (2, vI v2), (3, vI 0), (4, vI s0)]) (by decide) rfl dX5_holds_247 ?_
          refine z_iconst (pc := 248) C dX5_holds_248 ?_
          refine z_istore (pc := 249) C (lv' := [(0, .ref v0), (2, vI v2), (3, vI 0), (4, vI 1)]) (by decide) rfl dX5_holds_249 ?_
          refine z_aload_n (pc := 251) C 0 rfl dX5_holds_251 ?_
          refine gX5_536 (pc := 252) C rfl (Or.inl hv0) rfl dX5_holds_252 ?_
          refine z_iconst (pc := 255) C dX5_holds_255 ?_
          refine z_iadd (pc := 256) C dX5_holds_256 ?_
          refine z_istore (pc := 257) C (lv' := [(0, .ref v0), (2, vI v2), (3, vI 0), (4, vI 1), (5, vI ((m_i M 536 v0 0) + 1))]) (by decide) rfl dX5_holds_257 ?_
          refine z_goto (pc := 259) C dX5_holds_259 (tgt := 13) (by decide) ?_
          exact hk13 v0 v2 0 1 ((m_i M 536 v0 0) + 1) M _ _ hv0 h
        · have h := itf c23 h
          exact z_lv [0, 1] rfl <| cB_X5_holds_242 C hk13 v0 v2 M _ _ hv0 h
theorem cB_X5_holds_208 {X : x_Ctx} {M0 : Mem} (C : x_CC X 3 84 yX5_holds cX5_holds 10 (some .boolean) []) {k13 : Nat → Int → Int → Int → Int → Mem → Option (Int × Mem)} (hk13 : ∀ (v0 : Nat) (v2 : Int) (v3 : Int) (v4 : Int) (v5 : Int) (M : Mem) (r : Int) (M' : Mem), m_kd M v0 = 5 → k13 v0 v2 v3 v4 v5 M = some (r, M') → x_Z X 0 0 (x_QF X M0 (.returned (some (vI r))) M' 0 0) M0 M 10 [(0, .ref v0), (2, vI v2), (3, vI v3), (4, vI v4), (5, vI v5)] 13 []) (v0 : Nat) (v2 : Int) (v3 : Int) (M : Mem) (r : Int) (M' : Mem) (hv0 : m_kd M v0 = 5) (h : B_X5_holds_208 k13 v0 v2 v3 M = some (r, M'))  : x_Z X 0 0 (x_QF X M0 (.returned (some (vI r))) M' 0 0) M0 M 10 [(0, .ref v0), (2, vI v2), (3, vI v3)] 208 [] := by
  unfold B_X5_holds_208 at h
  refine z_iconst (pc := 208) C dX5_holds_208 ?_
  exact cB_X5_holds_209 C hk13 v0 v2 v3 0 M _ _ hv0 h
theorem cB_X5_holds_192 {X : x_Ctx} {M0 : Mem} (C : x_CC X 3 84 yX5_holds cX5_holds 10 (some .boolean) []) {k13 : Nat → Int → Int → Int → Int → Mem → Option (Int × Mem)} (hk13 : ∀ (v0 : Nat) (v2 : Int) (v3 : Int) (v4 : Int) (v5 : Int) (M : Mem) (r : Int) (M' : Mem), m_kd M v0 = 5 → k13 v0 v2 v3 v4 v5 M = some (r, M') → x_Z X 0 0 (x_QF X M0 (.returned (some (vI r))) M' 0 0) M0 M 10 [(0, .ref v0), (2, vI v2), (3, vI v3), (4, vI v4), (5, vI v5)] 13 []) (v0 : Nat) (v2 : Int) (v3 : Int) (v4 : Int) (s0 : Int) (M : Mem) (r : Int) (M' : Mem) (hv0 : m_kd M v0 = 5) (h : B_X5_holds_192 k13 v0 v2 v3 v4 s0 M = some (r, M'))  : x_Z X 0 0 (x_QF X M0 (.returned (some (vI r))) M' 0 0) M0 M 10 [(0, .ref v0), (2, vI v2), (3, vI v3), (4, vI v4)] 192 [vI s0] := by
  unfold B_X5_holds_192 at h
  refine z_istore (pc := 192) C (lv' := [(0, .ref v0), (2, vI v2), (3, vI v3), (4, vI v4), (9, vI s0)]) (by decide) rfl dX5_holds_192 ?_
  refine z_iload (pc := 194) C 3 rfl dX5_holds_194 ?_
  refine z_if_eq (pc := 196) C dX5_holds_196 (tgt := 208) (by decide) (fun c18 => ?_) (fun c18 => ?_)
  · have h := itt c18 h
    exact z_lv [0, 1, 2] rfl <| cB_X5_holds_208 C hk13 v0 v2 v3 M _ _ hv0 h
  · have h := itf c18 h
    refine z_iload (pc := 199) C 4 rfl dX5_holds_199 ?_
    refine z_if_eq (pc := 201) C dX5_holds_201 (tgt := 208) (by decide) (fun c24 => ?_) (fun c24 => ?_)
    · have h := itt c24 h
      exact z_lv [0, 1, 2] rfl <| cB_X5_holds_208 C hk13 v0 v2 v3 M _ _ hv0 h
    · have h := itf c24 h
      refine z_iconst (pc := 204) C dX5_holds_204 ?_
      refine z_goto (pc := 205) C dX5_holds_205 (tgt := 209) (by decide) ?_
      exact z_lv [0, 1, 2] rfl <| cB_X5_holds_209 C hk13 v0 v2 v3 1 M _ _ hv0 h
theorem cB_X5_holds_191 {X : x_Ctx} {M0 : Mem} (C : x_CC X 3 84 yX5_holds cX5_holds 10 (some .boolean) []) {k13 : Nat → Int → Int → Int → Int → Mem → Option (Int × Mem)} (hk13 : ∀ (v0 : Nat) (v2 : Int) (v3 : Int) (v4 : Int) (v5 : Int) (M : Mem) (r : Int) (M' : Mem), m_kd M v0 = 5 → k13 v0 v2 v3 v4 v5 M = some (r, M') → x_Z X 0 0 (x_QF X M0 (.returned (some (vI r))) M' 0 0) M0 M 10 [(0, .ref v0), (2, vI v2), (3, vI v3), (4, vI v4), (5, vI v5)] 13 []) (v0 : Nat) (v2 : Int) (v3 : Int) (v4 : Int) (M : Mem) (r : Int) (M' : Mem) (hv0 : m_kd M v0 = 5) (h : B_X5_holds_191 k13 v0 v2 v3 v4 M = some (r, M'))  : x_Z X 0 0 (x_QF X M0 (.returned (some (vI r))) M' 0 0) M0 M 10 [(0, .ref v0), (2, vI v2), (3, vI v3), (4, vI v4)] 191 [] := by
  unfold B_X5_holds_191 at h
  refine z_iconst (pc := 191) C dX5_holds_191 ?_
  exact cB_X5_holds_192 C hk13 v0 v2 v3 v4 0 M _ _ hv0 h
theorem cB_X5_holds_187 {X : x_Ctx} {M0 : Mem} (C : x_CC X 3 84 yX5_holds cX5_holds 10 (some .boolean) []) {k13 : Nat → Int → Int → Int → Int → Mem → Option (Int × Mem)} (hk13 : ∀ (v0 : Nat) (v2 : Int) (v3 : Int) (v4 : Int) (v5 : Int) (M : Mem) (r : Int) (M' : Mem), m_kd M v0 = 5 → k13 v0 v2 v3 v4 v5 M = some (r, M') → x_Z X 0 0 (x_QF X M0 (.returned (some (vI r))) M' 0 0) M0 M 10 [(0, .ref v0), (2, vI v2), (3, vI v3), (4, vI v4), (5, vI v5)] 13 []) (v0 : Nat) (v2 : Int) (v3 : Int) (v4 : Int) (M : Mem) (r : Int) (M' : Mem) (hv0 : m_kd M v0 = 5) (h : B_X5_holds_187 k13 v0 v2 v3 v4 M = some (r, M'))  : x_Z X 0 0 (x_QF X M0 (.returned (some (vI r))) M' 0 0) M0 M 10 [(0, .ref v0), (2, vI v2), (3, vI v3), (4, vI v4)] 187 [] := by
  unfold B_X5_holds_187 at h
  refine z_iconst (pc := 187) C dX5_holds_187 ?_
  refine z_goto (pc := 188) C dX5_holds_188 (tgt := 192) (by decide) ?_
  exact cB_X5_holds_192 C hk13 v0 v2 v3 v4 1 M _ _ hv0 h
theorem cB_X5_holds_79 {X : x_Ctx} {M0 : Mem} (C : x_CC X 3 84 yX5_holds cX5_holds 10 (some .boolean) []) {k13 : Nat → Int → Int → Int → Int → Mem → Option (Int × Mem)} (hk13 : ∀ (v0 : Nat) (v2 : Int) (v3 : Int) (v4 : Int) (v5 : Int) (M : Mem) (r : Int) (M' : Mem), m_kd M v0 = 5 → k13 v0 v2 v3 v4 v5 M = some (r, M') → x_Z X 0 0 (x_QF X M0 (.returned (some (vI r))) M' 0 0) M0 M 10 [(0, .ref v0), (2, vI v2), (3, vI v3), (4, vI v4), (5, vI v5)] 13 []) (v0 : Nat) (v2 : Int) (v3 : Int) (v4 : Int) (v6 : Int) (v7 : Int) (v8 : Int) (s0 : Nat) (s1 : Int) (M : Mem) (r : Int) (M' : Mem) (hv0 : m_kd M v0 = 5) (hs0 : m_kd M s0 = 5) (h : B_X5_holds_79 k13 v0 v2 v3 v4 v6 v7 v8 s0 s1 M = some (r, M'))  : x_Z X 0 0 (x_QF X M0 (.returned (some (vI r))) M' 0 0) M0 M 10 [(0, .ref v0), (2, vI v2), (3, vI v3), (4, vI v4), (6, vI v6), (7, vI v7), (8, vI v8)] 79 [vI s1, .ref s0] := by
  unfold B_X5_holds_79 at h
  obtain ⟨c16, h⟩ := ifn h
  refine pX5_537 (pc := 79) C rfl (Or.inl hs0) c16 dX5_holds_79 ?_
  refine z_iload (pc := 82) C 4 rfl dX5_holds_82 ?_
  refine z_ldc (pc := 84) C (x := -2000000) q1829 (by decide +kernel) dX5_holds_84 ?_
  refine z_ic_eq (pc := 86) C dX5_holds_86 (tgt := 191) (by decide) (fun c17 => ?_) (fun c17 => ?_)
  · have h := itt c17 h
    exact z_lv [0, 1, 2, 3] rfl <| cB_X5_holds_191 C hk13 v0 v2 v3 v4 (m_si M 537 s0 0 s1) _ _ hv0 h
  · have h := itf c17 h
    refine z_iload (pc := 89) C 6 rfl dX5_holds_89 ?_
    refine z_ldc (pc := 91) C (x := -2000000) q1829 (by decide +kernel) dX5_holds_91 ?_
    refine z_ic_eq (pc := 93) C dX5_holds_93 (tgt := 191) (by decide) (fun c25 => ?_) (fun c25 => ?_)
    · have h := itt c25 h
      exact z_lv [0, 1, 2, 3] rfl <| cB_X5_holds_191 C hk13 v0 v2 v3 v4 (m_si M 537 s0 0 s1) _ _ hv0 h
    · have h := itf c25 h
      refine z_iload (pc := 96) C 5 rfl dX5_holds_96 ?_
      refine z_iconst (pc := 98) C dX5_holds_98 ?_
      refine z_ic_ne (pc := 99) C dX5_holds_99 (tgt := 112) (by decide) (fun c26 => ?_) (fun c26 => ?_)
      · have h := itf c26 h
        refine z_iload (pc := 112) C 5 rfl dX5_holds_112 ?_
        refine z_bipush (pc := 114) C (by decide +kernel) dX5_holds_114 ?_
        refine z_ic_ne (pc := 116) C dX5_holds_116 (tgt := 129) (by decide) (fun c27 => ?_) (fun c27 => ?_)
        · have h := itf c27 h
          refine z_iload (pc := 129) C 5 rfl dX5_holds_129 ?_
          refine z_bipush (pc := 131) C (by decide +kernel) dX5_holds_131 ?_
          refine z_ic_ne (pc := 133) C dX5_holds_133 (tgt := 146) (by decide) (fun c28 => ?_) (fun c28 => ?_)
          · have h := itf c28 h
            refine z_iload (pc := 146) C 5 rfl dX5_holds_146 ?_
            refine z_bipush (pc := 148) C (by decide +kernel) dX5_holds_148 ?_
            refine z_ic_ne (pc := 150) C dX5_holds_150 (tgt := 163) (by decide) (fun c29 => ?_) (fun c29 => ?_)
            · have h := itf c29 h
              refine z_iload (pc := 163) C 5 rfl dX5_holds_163 ?_
              refine z_bipush (pc := 165) C (by decide +kernel) dX5_holds_165 ?_
              refine z_ic_ne (pc := 167) C dX5_holds_167 (tgt := 180) (by decide) (fun c30 => ?_) (fun c30 => ?_)
              · have h := itf c30 h
                refine z_iload (pc := 180) C 4 rfl dX5_holds_180 ?_
                refine z_iload (pc := 182) C 6 rfl dX5_holds_182 ?_
                refine z_ic_le (pc := 184) C dX5_holds_184 (tgt := 191) (by decide) (fun c31 => ?_) (fun c31 => ?_)
                · have h := itt c31 h
                  exact z_lv [0, 1, 2, 3] rfl <| cB_X5_holds_191 C hk13 v0 v2 v3 v4 (m_si M 537 s0 0 s1) _ _ hv0 h
                · have h := itf c31 h
                  exact z_lv [0, 1, 2, 3] rfl <| cB_X5_holds_187 C hk13 v0 v2 v3 v4 (m_si M 537 s0 0 s1) _ _ hv0 h
              · have h := itt c30 h
                refine z_iload (pc := 170) C 4 rfl dX5_holds_170 ?_
                refine z_iload (pc := 172) C 6 rfl dX5_holds_172 ?_
                refine z_ic_lt (pc := 174) C dX5_holds_174 (tgt := 191) (by decide) (fun c32 => ?_) (fun c32 => ?_)
                · have h := itt c32 h
                  exact z_lv [0, 1, 2, 3] rfl <| cB_X5_holds_191 C hk13 v0 v2 v3 v4 (m_si M 537 s0 0 s1) _ _ hv0 h
                · have h := itf c32 h
                  refine z_goto (pc := 177) C dX5_holds_177 (tgt := 187) (by decide) ?_
                  exact z_lv [0, 1, 2, 3] rfl <| cB_X5_holds_187 C hk13 v0 v2 v3 v4 (m_si M 537 s0 0 s1) _ _ hv0 h
            · have h := itt c29 h
              refine z_iload (pc := 153) C 4 rfl dX5_holds_153 ?_
              refine z_iload (pc := 155) C 6 rfl dX5_holds_155 ?_
              refine z_ic_eq (pc := 157) C dX5_holds_157 (tgt := 191) (by decide) (fun c33 => ?_) (fun c33 => ?_)
              · have h := itt c33 h
                exact z_lv [0, 1, 2, 3] rfl <| cB_X5_holds_191 C hk13 v0 v2 v3 v4 (m_si M 537 s0 0 s1) _ _ hv0 h
              · have h := itf c33 h
                refine z_goto (pc := 160) C dX5_holds_160 (tgt := 187) (by decide) ?_
                exact z_lv [0, 1, 2, 3] rfl <| cB_X5_holds_187 C hk13 v0 v2 v3 v4 (m_si M 537 s0 0 s1) _ _ hv0 h
          · have h := itt c28 h
            refine z_iload (pc := 136) C 4 rfl dX5_holds_136 ?_
            refine z_iload (pc := 138) C 6 rfl dX5_holds_138 ?_
            refine z_ic_ne (pc := 140) C dX5_holds_140 (tgt := 191) (by decide) (fun c34 => ?_) (fun c34 => ?_)
            · have h := itf c34 h
              exact z_lv [0, 1, 2, 3] rfl <| cB_X5_holds_191 C hk13 v0 v2 v3 v4 (m_si M 537 s0 0 s1) _ _ hv0 h
            · have h := itt c34 h
              refine z_goto (pc := 143) C dX5_holds_143 (tgt := 187) (by decide) ?_
              exact z_lv [0, 1, 2, 3] rfl <| cB_X5_holds_187 C hk13 v0 v2 v3 v4 (m_si M 537 s0 0 s1) _ _ hv0 h
        · have h := itt c27 h
          refine z_iload (pc := 119) C 4 rfl dX5_holds_119 ?_
          refine z_iload (pc := 121) C 6 rfl dX5_holds_121 ?_
          refine z_ic_gt (pc := 123) C dX5_holds_123 (tgt := 191) (by decide) (fun c35 => ?_) (fun c35 => ?_)
          · have h := itt c35 h
            exact z_lv [0, 1, 2, 3] rfl <| cB_X5_holds_191 C hk13 v0 v2 v3 v4 (m_si M 537 s0 0 s1) _ _ hv0 h
          · have h := itf c35 h
            refine z_goto (pc := 126) C dX5_holds_126 (tgt := 187) (by decide) ?_
            exact z_lv [0, 1, 2, 3] rfl <| cB_X5_holds_187 C hk13 v0 v2 v3 v4 (m_si M 537 s0 0 s1) _ _ hv0 h
      · have h := itt c26 h
        refine z_iload (pc := 102) C 4 rfl dX5_holds_102 ?_
        refine z_iload (pc := 104) C 6 rfl dX5_holds_104 ?_
        refine z_ic_ge (pc := 106) C dX5_holds_106 (tgt := 191) (by decide) (fun c36 => ?_) (fun c36 => ?_)
        · have h := itt c36 h
          exact z_lv [0, 1, 2, 3] rfl <| cB_X5_holds_191 C hk13 v0 v2 v3 v4 (m_si M 537 s0 0 s1) _ _ hv0 h
        · have h := itf c36 h
          refine z_goto (pc := 109) C dX5_holds_109 (tgt := 187) (by decide) ?_
          exact z_lv [0, 1, 2, 3] rfl <| cB_X5_holds_187 C hk13 v0 v2 v3 v4 (m_si M 537 s0 0 s1) _ _ hv0 h
theorem cB_X5_holds_74 {X : x_Ctx} {M0 : Mem} (C : x_CC X 3 84 yX5_holds cX5_holds 10 (some .boolean) []) {k13 : Nat → Int → Int → Int → Int → Mem → Option (Int × Mem)} (hk13 : ∀ (v0 : Nat) (v2 : Int) (v3 : Int) (v4 : Int) (v5 : Int) (M : Mem) (r : Int) (M' : Mem), m_kd M v0 = 5 → k13 v0 v2 v3 v4 v5 M = some (r, M') → x_Z X 0 0 (x_QF X M0 (.returned (some (vI r))) M' 0 0) M0 M 10 [(0, .ref v0), (2, vI v2), (3, vI v3), (4, vI v4), (5, vI v5)] 13 []) (v0 : Nat) (v2 : Int) (v3 : Int) (v4 : Int) (v6 : Int) (v7 : Int) (v8 : Int) (s0 : Nat) (M : Mem) (r : Int) (M' : Mem) (hv0 : m_kd M v0 = 5) (hs0 : m_kd M s0 = 5) (h : B_X5_holds_74 k13 v0 v2 v3 v4 v6 v7 v8 s0 M = some (r, M'))  : x_Z X 0 0 (x_QF X M0 (.returned (some (vI r))) M' 0 0) M0 M 10 [(0, .ref v0), (2, vI v2), (3, vI v3), (4, vI v4), (6, vI v6), (7, vI v7), (8, vI v8)] 74 [.ref s0] := by
  unfold B_X5_holds_74 at h
  refine z_iconst (pc := 74) C dX5_holds_74 ?_
  refine z_goto (pc := 75) C dX5_holds_75 (tgt := 79) (by decide) ?_
  exact cB_X5_holds_79 C hk13 v0 v2 v3 v4 v6 v7 v8 s0 1 M _ _ hv0 hs0 h
theorem cB_X5_holds_13 {X : x_Ctx} {M0 : Mem} (C : x_CC X 3 84 yX5_holds cX5_holds 10 (some .boolean) []) {k13 : Nat → Int → Int → Int → Int → Mem → Option (Int × Mem)} (hk13 : ∀ (v0 : Nat) (v2 : Int) (v3 : Int) (v4 : Int) (v5 : Int) (M : Mem) (r : Int) (M' : Mem), m_kd M v0 = 5 → k13 v0 v2 v3 v4 v5 M = some (r, M') → x_Z X 0 0 (x_QF X M0 (.returned (some (vI r))) M' 0 0) M0 M 10 [(0, .ref v0), (2, vI v2), (3, vI v3), (4, vI v4), (5, vI v5)] 13 []) (v0 : Nat) (v2 : Int) (v3 : Int) (v4 : Int) (v5 : Int) (M : Mem) (r : Int) (M' : Mem) (hv0 : m_kd M v0 = 5) (h : B_X5_holds_13 k13 v0 v2 v3 v4 v5 M = some (r, M'))  : x_Z X 0 0 (x_QF X M0 (.returned (some (vI r))) M' 0 0) M0 M 10 [(0, .ref v0), (2, vI v2), (3, vI v3), (4, vI v4), (5, vI v5)] 13 [] := by
  unfold B_X5_holds_13 at h
  refine z_iload (pc := 13) C 4 rfl dX5_holds_13 ?_
  refine z_iload_n (pc := 15) C 1 rfl dX5_holds_15 ?_
  refine z_ic_ge (pc := 16) C dX5_holds_16 (tgt := 262) (by decide) (fun c1 => ?_) (fun c1 => ?_)
  · have h := itt c1 h
    refine z_iload_n (pc := 262) C 2 rfl dX5_holds_262 ?_
    refine z_if_ne (pc := 263) C dX5_holds_263 (tgt := 271) (by decide) (fun c2 => ?_) (fun c2 => ?_)
    · have h := itf c2 h
      refine z_iconst (pc := 271) C dX5_holds_271 ?_
      refine z_goto (pc := 272) C dX5_holds_272 (tgt := 276) (by decide) ?_
      cases h
      exact z_zret (pc := 276) C rfl (Or.inr rfl) (show 0 ≤ 0 from by decide) (show 0 ≤ 0 from by decide) dX5_holds_276
    · have h := itt c2 h
      refine z_iload (pc := 266) C 3 rfl dX5_holds_266 ?_
      refine z_if_eq (pc := 268) C dX5_holds_268 (tgt := 275) (by decide) (fun c3 => ?_) (fun c3 => ?_)
      · have h := itt c3 h
        refine z_iconst (pc := 275) C dX5_holds_275 ?_
        cases h
        exact z_zret (pc := 276) C rfl (Or.inl rfl) (show 0 ≤ 0 from by decide) (show 0 ≤ 0 from by decide) dX5_holds_276
      · have h := itf c3 h
        refine z_iconst (pc := 271) C dX5_holds_271 ?_
        refine z_goto (pc := 272) C dX5_holds_272 (tgt := 276) (by decide) ?_
        cases h
        exact z_zret (pc := 276) C rfl (Or.inr rfl) (show 0 ≤ 0 from by decide) (show 0 ≤ 0 from by decide) dX5_holds_276
  · have h := itf c1 h
    refine z_aload_n (pc := 19) C 0 rfl dX5_holds_19 ?_
    refine z_iload (pc := 20) C 4 rfl dX5_holds_20 ?_
    refine z_iload_n (pc := 22) C 1 rfl dX5_holds_22 ?_
    obtain ⟨r4, M5, e6, h⟩ := bNs h
    refine cX5_365 (pc := 23) (st := []) (st1 := [vI r4]) C rfl (rm := { frames := 2, cells := 0, slots := 0, locals := 53 }) (ct_X5_sum C.2.1 v0 v5 v2 M _ _ hv0 e6) ⟨by decide, by decide, Nat.zero_le _, Nat.zero_le _⟩ (Or.inl hv0) rfl (Nat.le_of_ble_eq_true rfl) dX5_holds_23 (c2 := 0) (s2 := 0) rfl rfl (fun x7 => ?_)
    have k8 := x7 _ 5 (by decide) (Or.inl (by decide)) hv0
    refine z_istore (pc := 26) C (lv' := [(0, .ref v0), (2, vI v2), (3, vI v3), (4, vI v4), (5, vI v5), (6, vI r4)]) (by decide) rfl dX5_holds_26 ?_
    refine z_aload_n (pc := 28) C 0 rfl dX5_holds_28 ?_
    refine gX5_525 (pc := 29) C rfl k8 dX5_holds_29 ?_
    refine z_aload_n (pc := 32) C 0 rfl dX5_holds_32 ?_
    refine gX5_536 (pc := 33) C rfl (Or.inl k8) rfl dX5_holds_33 ?_
    obtain ⟨c9, h⟩ := ifn h
    refine z_iaO (pc := 36) (k := 5) (j := 25) C 525 rfl (by decide) (by decide) (by decide) rfl rfl rfl rfl k8 c9 rfl dX5_holds_36 ?_
    refine z_istore (pc := 37) C (lv' := [(0, .ref v0), (2, vI v2), (3, vI v3), (4, vI v4), (5, vI v5), (6, vI r4), (7, vI (m_i M5 525 v0 (ixn (m_i M5 536 v0 0))))]) (by decide) rfl dX5_holds_37 ?_
    refine z_aload_n (pc := 39) C 0 rfl dX5_holds_39 ?_
    refine z_aload_n (pc := 40) C 0 rfl dX5_holds_40 ?_
    refine gX5_536 (pc := 41) C rfl (Or.inl k8) rfl dX5_holds_41 ?_
    refine z_iconst (pc := 44) C dX5_holds_44 ?_
    refine z_iadd (pc := 45) C dX5_holds_45 ?_
    refine z_iload_n (pc := 46) C 1 rfl dX5_holds_46 ?_
    obtain ⟨r10, M11, e12, h⟩ := bNs h
    refine cX5_365 (pc := 47) (st := []) (st1 := [vI r10]) C rfl (rm := { frames := 2, cells := 0, slots := 0, locals := 53 }) (ct_X5_sum C.2.1 v0 ((m_i M5 536 v0 0) + 1) v2 M5 _ _ k8 e12) ⟨by decide, by decide, Nat.zero_le _, Nat.zero_le _⟩ (Or.inl k8) rfl (Nat.le_of_ble_eq_true rfl) dX5_holds_47 (c2 := 0) (s2 := 0) rfl rfl (fun x13 => ?_)
    have k14 := x13 _ 5 (by decide) (Or.inl (by decide)) k8
    refine z_istore (pc := 50) C (lv' := [(0, .ref v0), (2, vI v2), (3, vI v3), (4, vI v4), (5, vI v5), (6, vI r4), (7, vI (m_i M5 525 v0 (ixn (m_i M5 536 v0 0)))), (8, vI r10)]) (by decide) rfl dX5_holds_50 ?_
    refine z_aload_n (pc := 52) C 0 rfl dX5_holds_52 ?_
    refine z_aload_n (pc := 53) C 0 rfl dX5_holds_53 ?_
    refine gX5_537 (pc := 54) C rfl (Or.inl k14) rfl dX5_holds_54 ?_
    refine z_if_ne (pc := 57) C dX5_holds_57 (tgt := 74) (by decide) (fun c15 => ?_) (fun c15 => ?_)
    · have h := itf c15 h
      exact z_lv [0, 1, 2, 3, 5, 6, 7] rfl <| cB_X5_holds_74 C hk13 v0 v2 v3 v4 r4 (m_i M5 525 v0 (ixn (m_i M5 536 v0 0))) r10 v0 M11 _ _ k14 k14 h
    · have h := itt c15 h
      refine z_iload (pc := 60) C 5 rfl dX5_holds_60 ?_
      refine z_ldc (pc := 62) C (x := -2000000) q1829 (by decide +kernel) dX5_holds_62 ?_
      refine z_ic_eq (pc := 64) C dX5_holds_64 (tgt := 74) (by decide) (fun c37 => ?_) (fun c37 => ?_)
      · have h := itt c37 h
        exact z_lv [0, 1, 2, 3, 5, 6, 7] rfl <| cB_X5_holds_74 C hk13 v0 v2 v3 v4 r4 (m_i M5 525 v0 (ixn (m_i M5 536 v0 0))) r10 v0 M11 _ _ k14 k14 h
      · have h := itf c37 h
        refine z_iload (pc := 67) C 7 rfl dX5_holds_67 ?_
        refine z_ldc (pc := 69) C (x := -2000000) q1829 (by decide +kernel) dX5_holds_69 ?_
        refine z_ic_ne (pc := 71) C dX5_holds_71 (tgt := 78) (by decide) (fun c38 => ?_) (fun c38 => ?_)
        · have h := itf c38 h
          refine z_iconst (pc := 78) C dX5_holds_78 ?_
          exact z_lv [0, 1, 2, 3, 5, 6, 7] rfl <| cB_X5_holds_79 C hk13 v0 v2 v3 v4 r4 (m_i M5 525 v0 (ixn (m_i M5 536 v0 0))) r10 v0 0 M11 _ _ k14 k14 h
        · have h := itt c38 h
          exact z_lv [0, 1, 2, 3, 5, 6, 7] rfl <| cB_X5_holds_74 C hk13 v0 v2 v3 v4 r4 (m_i M5 525 v0 (ixn (m_i M5 536 v0 0))) r10 v0 M11 _ _ k14 k14 h
theorem cL_X5_holds_13 {X : x_Ctx} {M0 : Mem} (C : x_CC X 3 84 yX5_holds cX5_holds 10 (some .boolean) [])  : ∀ (n : Nat) (v0 : Nat) (v2 : Int) (v3 : Int) (v4 : Int) (v5 : Int) (M : Mem) (r : Int) (M' : Mem) (hv0 : m_kd M v0 = 5) (h : L_X5_holds_13  n v0 v2 v3 v4 v5 M = some (r, M')) , x_Z X 0 0 (x_QF X M0 (.returned (some (vI r))) M' 0 0) M0 M 10 [(0, .ref v0), (2, vI v2), (3, vI v3), (4, vI v4), (5, vI v5)] 13 [] := by
  intro n
  induction n with
  | zero => intro v0 v2 v3 v4 v5 M r M' hv0 h ; cases h
  | succ n ih => intro v0 v2 v3 v4 v5 M r M' hv0 h ; exact cB_X5_holds_13 C (fun v0 v2 v3 v4 v5 M r M' hv0 h  => ih v0 v2 v3 v4 v5 M r M' hv0 h ) v0 v2 v3 v4 v5 M r M' hv0 h 
theorem ct_X5_holds {l : Launch} {S0 : State} {D : va_G} {cA : Nat → ClassId} (hG : x_G l S0 D cA) (v0 : Nat) (v1 : Int) (v2 : Int) (M : Mem) (r : Int) (M' : Mem) (hv0 : m_kd M v0 = 5) (h : d_X5_holds v0 v1 v2 M = some (r, M')) : x_Me l S0 D cA yX5_holds cX5_holds 10 (some .boolean) [] ({ frames := 3, cells := 0, slots := 0, locals := 84 }) [.ref v0, vI v1, vI v2] M (.returned (some (vI r))) M' := by
  refine x_begin (F := 3) (Lo := 84) (mc := 0) (ms := 0) hG (Nat.le_of_ble_eq_true rfl) (lv := [(0, .ref v0), (1, vI v1), (2, vI v2)]) rfl rfl rfl rfl rfl (fun X e1 e2 e3 e4 e5 C => ?_)
  unfold d_X5_holds at h
  refine z_aload_n (pc := 0) C 0 rfl dX5_holds_0 ?_
  refine z_iconst (pc := 1) C dX5_holds_1 ?_
  refine pX5_537 (pc := 2) C rfl (Or.inl hv0) (Or.inl rfl) dX5_holds_2 ?_
  refine z_iconst (pc := 5) C dX5_holds_5 ?_
  refine z_istore_n (pc := 6) C (lv' := [(0, .ref v0), (1, vI v1), (2, vI v2), (3, vI 0)]) (by decide) rfl dX5_holds_6 ?_
  refine z_iconst (pc := 7) C dX5_holds_7 ?_
  refine z_istore (pc := 8) C (lv' := [(0, .ref v0), (1, vI v1), (2, vI v2), (3, vI 0), (4, vI 1)]) (by decide) rfl dX5_holds_8 ?_
  refine z_iload_n (pc := 10) C 1 rfl dX5_holds_10 ?_
  refine z_istore (pc := 11) C (lv' := [(0, .ref v0), (1, vI v1), (2, vI v2), (3, vI 0), (4, vI 1), (5, vI v1)]) (by decide) rfl dX5_holds_11 ?_
  exact z_lv [0, 2, 3, 4, 5] rfl <| cL_X5_holds_13 C FU v0 v2 0 1 v1 (m_si M 537 v0 0 0) _ _ hv0 h
def B_X5_walk_386 (k82 : Nat → Int → Int → Int → Mem → Option (Int × Mem)) (v0 : Nat) (v1 : Int) (v2 : Int) (v3 : Int) (s0 : Nat) (M : Mem) : Option (Int × Mem) :=
  k82 v0 v1 v2 v3 (m_si (m_si M 552 s0 0 (m_i M 552 v0 0)) 550 v0 0 ((m_i M 550 v0 0) + 1))
def B_X5_walk_351 (k82 : Nat → Int → Int → Int → Mem → Option (Int × Mem)) (v0 : Nat) (v1 : Int) (v2 : Int) (v3 : Int) (v4 : Int) (v6 : Int) (s0 : Nat) (s1 : Int) (M : Mem) : Option (Int × Mem) :=
  if inb v4 120 then 
  if w32 (m_i M 516 v0 (ixn v4)) = w32 3 then
    if w32 (m_i M 552 v0 0) = w32 (-1) then
      if w32 v6 = 0 then
        B_X5_walk_386 k82 v0 v1 v2 v3 v0 (m_si M 551 s0 0 s1)
      else
        k82 v0 v1 v2 v3 (m_si (m_si (m_si M 551 s0 0 s1) 552 v0 0 (m_i M 550 v0 0)) 550 v0 0 ((m_i M 550 v0 0) + 1))
    else
      B_X5_walk_386 k82 v0 v1 v2 v3 v0 (m_si M 551 s0 0 s1)
  else
    B_X5_walk_386 k82 v0 v1 v2 v3 v0 (m_si M 551 s0 0 s1) else none
def B_X5_walk_347 (k82 : Nat → Int → Int → Int → Mem → Option (Int × Mem)) (v0 : Nat) (v1 : Int) (v2 : Int) (v3 : Int) (v4 : Int) (v6 : Int) (s0 : Nat) (M : Mem) : Option (Int × Mem) :=
  B_X5_walk_351 k82 v0 v1 v2 v3 v4 v6 s0 (m_i M 551 v0 0) M
def B_X5_walk_318 (k82 : Nat → Int → Int → Int → Mem → Option (Int × Mem)) (v0 : Nat) (v1 : Int) (v2 : Int) (v3 : Int) (v4 : Int) (s0 : Int) (M : Mem) : Option (Int × Mem) :=
  if inb v4 120 then 
  if w32 (m_i M 516 v0 (ixn v4)) = w32 2 then
    if w32 (m_i M 551 v0 0) = w32 (-1) then
      B_X5_walk_351 k82 v0 v1 v2 v3 v4 s0 v0 (m_i M 550 v0 0) M
    else
      B_X5_walk_347 k82 v0 v1 v2 v3 v4 s0 v0 M
  else
    B_X5_walk_347 k82 v0 v1 v2 v3 v4 s0 v0 M else none
def B_X5_walk_313 (k82 : Nat → Int → Int → Int → Mem → Option (Int × Mem)) (v0 : Nat) (v1 : Int) (v2 : Int) (v3 : Int) (v4 : Int) (M : Mem) : Option (Int × Mem) :=
  B_X5_walk_318 k82 v0 v1 v2 v3 v4 1 M
def B_X5_walk_178 (k82 : Nat → Int → Int → Int → Mem → Option (Int × Mem)) (v0 : Nat) (v1 : Int) (v2 : Int) (v3 : Int) (v5 : Int) (M : Mem) : Option (Int × Mem) :=
  if w32 v5 = 0 then
    if inb (m_i M 550 v0 0) 20 then 
    k82 v0 v1 v2 v3 (m_si (m_si M 534 v0 (ixn (m_i M 550 v0 0)) (-2000000)) 550 v0 0 ((m_i M 550 v0 0) + 1)) else none
  else
    if inb ((20 * v1) + (m_i M 550 v0 0)) 1200 then 
    if inb (m_i M 550 v0 0) 20 then 
    k82 v0 v1 v2 v3 (m_si (m_si M 534 v0 (ixn (m_i M 550 v0 0)) (m_i M 544 v0 (ixn ((20 * v1) + (m_i M 550 v0 0))))) 550 v0 0 ((m_i M 550 v0 0) + 1)) else none else none
def B_X5_walk_143 (k82 : Nat → Int → Int → Int → Mem → Option (Int × Mem)) (v0 : Nat) (v1 : Int) (v2 : Int) (v3 : Int) (v4 : Int) (s0 : Int) (M : Mem) : Option (Int × Mem) :=
  if inb v4 120 then 
  if w32 (m_i M 516 v0 (ixn v4)) = 0 then
    if w32 s0 = 0 then
      B_X5_walk_178 k82 v0 v1 v2 v3 s0 M
    else
      if inb ((20 * v1) + (m_i M 550 v0 0)) 1200 then 
      if w32 (m_i M 543 v0 (ixn ((20 * v1) + (m_i M 550 v0 0)))) = 0 then
        some (0, M)
      else
        B_X5_walk_178 k82 v0 v1 v2 v3 s0 M else none
  else
    if w32 (m_i M 516 v0 (ixn v4)) = w32 1 then
      if w32 s0 = 0 then
        if inb (m_i M 550 v0 0) 20 then 
        k82 v0 v1 v2 v3 (m_si (m_si M 534 v0 (ixn (m_i M 550 v0 0)) (-2000000)) 550 v0 0 ((m_i M 550 v0 0) + 1)) else none
      else
        bN (d_X5_sum v0 (m_i M 521 v0 (ixn v4)) (m_i M 522 v0 (ixn v4)) M) fun r26 M27 => 
        if inb (m_i M 550 v0 0) 20 then 
        k82 v0 v1 v2 v3 (m_si (m_si M27 534 v0 (ixn (m_i M 550 v0 0)) r26) 550 v0 0 ((m_i M27 550 v0 0) + 1)) else none
    else
      if w32 s0 = 0 then
        if w32 (m_i M 537 v0 0) = 0 then
          if w32 (m_i M 550 v0 0) ≤ w32 v2 then
            k82 v0 v1 v2 v3 (m_si M 550 v0 0 ((m_i M 550 v0 0) + 1))
          else
            if w32 (m_i M 516 v0 (ixn v4)) = w32 2 then
              B_X5_walk_313 k82 v0 v1 v2 v3 v4 M
            else
              if inb ((20 * v1) + (m_i M 550 v0 0)) 1200 then 
              if w32 (m_i M 547 v0 (ixn ((20 * v1) + (m_i M 550 v0 0)))) = 0 then
                B_X5_walk_313 k82 v0 v1 v2 v3 v4 M
              else
                B_X5_walk_318 k82 v0 v1 v2 v3 v4 0 M else none
        else
          k82 v0 v1 v2 v3 (m_si M 550 v0 0 ((m_i M 550 v0 0) + 1))
      else
        k82 v0 v1 v2 v3 (m_si M 550 v0 0 ((m_i M 550 v0 0) + 1)) else none
def B_X5_walk_138 (k82 : Nat → Int → Int → Int → Mem → Option (Int × Mem)) (v0 : Nat) (v1 : Int) (v2 : Int) (v3 : Int) (v4 : Int) (M : Mem) : Option (Int × Mem) :=
  B_X5_walk_143 k82 v0 v1 v2 v3 v4 1 M
def B_X5_walk_82 (k82 : Nat → Int → Int → Int → Mem → Option (Int × Mem)) (v0 : Nat) (v1 : Int) (v2 : Int) (v3 : Int) (M : Mem) : Option (Int × Mem) :=
  if inb v3 6 then 
  if w32 (m_i M 515 v0 (ixn v3)) ≤ w32 (m_i M 550 v0 0) then
    some (0, M)
  else
    if inb ((20 * v3) + (m_i M 550 v0 0)) 120 then 
    if w32 (m_i M 523 v0 (ixn ((20 * v3) + (m_i M 550 v0 0)))) = w32 (-1) then
      B_X5_walk_138 k82 v0 v1 v2 v3 ((20 * v3) + (m_i M 550 v0 0)) M
    else
      bN (d_X5_holds v0 (m_i M 523 v0 (ixn ((20 * v3) + (m_i M 550 v0 0)))) (m_i M 524 v0 (ixn ((20 * v3) + (m_i M 550 v0 0)))) M) fun r40 M41 => 
      if w32 r40 = 0 then
        B_X5_walk_143 k82 v0 v1 v2 v3 ((20 * v3) + (m_i M 550 v0 0)) 0 M41
      else
        B_X5_walk_138 k82 v0 v1 v2 v3 ((20 * v3) + (m_i M 550 v0 0)) M41 else none else none
def L_X5_walk_82  : Nat → Nat → Int → Int → Int → Mem → Option (Int × Mem)
  | 0, _, _, _, _, _ => none
  | n + 1, v0, v1, v2, v3, M => B_X5_walk_82 (L_X5_walk_82  n) v0 v1 v2 v3 M
def B_X5_walk_35 (k35 : Nat → Int → Int → Int → Int → Mem → Option (Int × Mem)) (v0 : Nat) (v1 : Int) (v2 : Int) (v3 : Int) (v4 : Int) (M : Mem) : Option (Int × Mem) :=
  if w32 6 ≤ w32 v4 then
    L_X5_walk_82 FU v0 v1 v2 v3 (m_si (m_si (m_si M 551 v0 0 (-1)) 552 v0 0 (-1)) 550 v0 0 0)
  else
    if inb ((6 * v1) + v4) 360 then 
    if inb v4 6 then 
    k35 v0 v1 v2 v3 (v4 + 1) (m_si M 535 v0 (ixn v4) (m_i M 541 v0 (ixn ((6 * v1) + v4)))) else none else none
def L_X5_walk_35  : Nat → Nat → Int → Int → Int → Int → Mem → Option (Int × Mem)
  | 0, _, _, _, _, _, _ => none
  | n + 1, v0, v1, v2, v3, v4, M => B_X5_walk_35 (L_X5_walk_35  n) v0 v1 v2 v3 v4 M
def B_X5_walk_10 (k10 : Nat → Int → Int → Int → Int → Mem → Option (Int × Mem)) (v0 : Nat) (v1 : Int) (v2 : Int) (v3 : Int) (v4 : Int) (M : Mem) : Option (Int × Mem) :=
  if w32 20 ≤ w32 v4 then
    L_X5_walk_35 FU v0 v1 v2 v3 0 M
  else
    if inb v4 20 then 
    k10 v0 v1 v2 v3 (v4 + 1) (m_si M 534 v0 (ixn v4) (-2000000)) else none
def L_X5_walk_10  : Nat → Nat → Int → Int → Int → Int → Mem → Option (Int × Mem)
  | 0, _, _, _, _, _, _ => none
  | n + 1, v0, v1, v2, v3, v4, M => B_X5_walk_10 (L_X5_walk_10  n) v0 v1 v2 v3 v4 M
def d_X5_walk (v0 : Nat) (v1 : Int) (v2 : Int) (M : Mem) : Option (Int × Mem) :=
  if inb v1 60 then 
  L_X5_walk_10 FU v0 v1 v2 (m_i M 539 v0 (ixn v1)) 0 M else none
theorem cB_X5_walk_386 {X : x_Ctx} {M0 : Mem} (C : x_CC X 4 117 yX5_walk cX5_walk 7 none []) {k82 : Nat → Int → Int → Int → Mem → Option (Int × Mem)} (hk82 : ∀ (v0 : Nat) (v1 : Int) (v2 : Int) (v3 : Int) (M : Mem) (r : Int) (M' : Mem), m_kd M v0 = 5 → k82 v0 v1 v2 v3 M = some (r, M') → x_Z X 0 0 (x_QF X M0 (.returned none) M' 0 0) M0 M 7 [(0, .ref v0), (1, vI v1), (2, vI v2), (3, vI v3)] 82 []) (v0 : Nat) (v1 : Int) (v2 : Int) (v3 : Int) (s0 : Nat) (M : Mem) (r : Int) (M' : Mem) (hv0 : m_kd M v0 = 5) (hs0 : m_kd M s0 = 5) (h : B_X5_walk_386 k82 v0 v1 v2 v3 s0 M = some (r, M'))  : x_Z X 0 0 (x_QF X M0 (.returned none) M' 0 0) M0 M 7 [(0, .ref v0), (1, vI v1), (2, vI v2), (3, vI v3)] 386 [.ref s0] := by
  unfold B_X5_walk_386 at h
  refine z_aload_n (pc := 386) C 0 rfl dX5_walk_386 ?_
  refine gX5_552 (pc := 387) C rfl (Or.inl hv0) rfl dX5_walk_387 ?_
  refine pX5_552 (pc := 390) C rfl (Or.inl hs0) dX5_walk_390 ?_
  refine z_aload_n (pc := 393) C 0 rfl dX5_walk_393 ?_
  refine z_dup (pc := 394) C rfl dX5_walk_394 ?_
  refine gX5_550 (pc := 395) C rfl (Or.inl hv0) (x := m_i M 550 v0 0) ((m_i_ne (by decide)).trans rfl) dX5_walk_395 ?_
  refine z_iconst (pc := 398) C dX5_walk_398 ?_
  refine z_iadd (pc := 399) C dX5_walk_399 ?_
  refine pX5_550 (pc := 400) C rfl (Or.inl hv0) dX5_walk_400 ?_
  refine z_goto (pc := 403) C dX5_walk_403 (tgt := 82) (by decide) ?_
  exact hk82 v0 v1 v2 v3 (m_si (m_si M 552 s0 0 (m_i M 552 v0 0)) 550 v0 0 ((m_i M 550 v0 0) + 1)) _ _ hv0 h
theorem cB_X5_walk_351 {X : x_Ctx} {M0 : Mem} (C : x_CC X 4 117 yX5_walk cX5_walk 7 none []) {k82 : Nat → Int → Int → Int → Mem → Option (Int × Mem)} (hk82 : ∀ (v0 : Nat) (v1 : Int) (v2 : Int) (v3 : Int) (M : Mem) (r : Int) (M' : Mem), m_kd M v0 = 5 → k82 v0 v1 v2 v3 M = some (r, M') → x_Z X 0 0 (x_QF X M0 (.returned none) M' 0 0) M0 M 7 [(0, .ref v0), (1, vI v1), (2, vI v2), (3, vI v3)] 82 []) (v0 : Nat) (v1 : Int) (v2 : Int) (v3 : Int) (v4 : Int) (v6 : Int) (s0 : Nat) (s1 : Int) (M : Mem) (r : Int) (M' : Mem) (hv0 : m_kd M v0 = 5) (hs0 : m_kd M s0 = 5) (h : B_X5_walk_351 k82 v0 v1 v2 v3 v4 v6 s0 s1 M = some (r, M'))  : x_Z X 0 0 (x_QF X M0 (.returned none) M' 0 0) M0 M 7 [(0, .ref v0), (1, vI v1), (2, vI v2), (3, vI v3), (4, vI v4), (6, vI v6)] 351 [vI s1, .ref s0] := by
  unfold B_X5_walk_351 at h
  refine pX5_551 (pc := 351) C rfl (Or.inl hs0) dX5_walk_351 ?_
  refine z_aload_n (pc := 354) C 0 rfl dX5_walk_354 ?_
  refine z_aload_n (pc := 355) C 0 rfl dX5_walk_355 ?_
  refine gX5_516 (pc := 356) C rfl hv0 dX5_walk_356 ?_
  refine z_iload (pc := 359) C 4 rfl dX5_walk_359 ?_
  obtain ⟨c17, h⟩ := ifn h
  refine z_iaO (pc := 361) (k := 5) (j := 16) C 516 rfl (by decide) (by decide) (by decide) rfl rfl rfl rfl hv0 c17 (x := m_i M 516 v0 (ixn v4)) ((m_i_ne (by decide)).trans rfl) dX5_walk_361 ?_
  refine z_iconst (pc := 362) C dX5_walk_362 ?_
  refine z_ic_ne (pc := 363) C dX5_walk_363 (tgt := 386) (by decide) (fun c18 => ?_) (fun c18 => ?_)
  · have h := itf c18 h
    exact z_lv [0, 1, 2, 3] rfl <| cB_X5_walk_386 C hk82 v0 v1 v2 v3 v0 (m_si M 551 s0 0 s1) _ _ hv0 hv0 h
  · have h := itt c18 h
    refine z_aload_n (pc := 366) C 0 rfl dX5_walk_366 ?_
    refine gX5_552 (pc := 367) C rfl (Or.inl hv0) (x := m_i M 552 v0 0) ((m_i_ne (by decide)).trans rfl) dX5_walk_367 ?_
    refine z_iconst (pc := 370) C dX5_walk_370 ?_
    refine z_ic_ne (pc := 371) C dX5_walk_371 (tgt := 386) (by decide) (fun c19 => ?_) (fun c19 => ?_)
    · have h := itf c19 h
      exact z_lv [0, 1, 2, 3] rfl <| cB_X5_walk_386 C hk82 v0 v1 v2 v3 v0 (m_si M 551 s0 0 s1) _ _ hv0 hv0 h
    · have h := itt c19 h
      refine z_iload (pc := 374) C 5 rfl dX5_walk_374 ?_
      refine z_if_eq (pc := 376) C dX5_walk_376 (tgt := 386) (by decide) (fun c20 => ?_) (fun c20 => ?_)
      · have h := itt c20 h
        exact z_lv [0, 1, 2, 3] rfl <| cB_X5_walk_386 C hk82 v0 v1 v2 v3 v0 (m_si M 551 s0 0 s1) _ _ hv0 hv0 h
      · have h := itf c20 h
        refine z_aload_n (pc := 379) C 0 rfl dX5_walk_379 ?_
        refine gX5_550 (pc := 380) C rfl (Or.inl hv0) (x := m_i M 550 v0 0) ((m_i_ne (by decide)).trans rfl) dX5_walk_380 ?_
        refine z_goto (pc := 383) C dX5_walk_383 (tgt := 390) (by decide) ?_
        refine pX5_552 (pc := 390) C rfl (Or.inl hv0) dX5_walk_390 ?_
        refine z_aload_n (pc := 393) C 0 rfl dX5_walk_393 ?_
        refine z_dup (pc := 394) C rfl dX5_walk_394 ?_
        refine gX5_550 (pc := 395) C rfl (Or.inl hv0) (x := m_i M 550 v0 0) ((m_i_ne (by decide)).trans ((m_i_ne (by decide)).trans rfl)) dX5_walk_395 ?_
        refine z_iconst (pc := 398) C dX5_walk_398 ?_
        refine z_iadd (pc := 399) C dX5_walk_399 ?_
        refine pX5_550 (pc := 400) C rfl (Or.inl hv0) dX5_walk_400 ?_
        refine z_goto (pc := 403) C dX5_walk_403 (tgt := 82) (by decide) ?_
        exact z_lv [0, 1, 2, 3] rfl <| hk82 v0 v1 v2 v3 (m_si (m_si (m_si M 551 s0 0 s1) 552 v0 0 (m_i M 550 v0 0)) 550 v0 0 ((m_i M 550 v0 0) + 1)) _ _ hv0 h
theorem cB_X5_walk_347 {X : x_Ctx} {M0 : Mem} (C : x_CC X 4 117 yX5_walk cX5_walk 7 none []) {k82 : Nat → Int → Int → Int → Mem → Option (Int × Mem)} (hk82 : ∀ (v0 : Nat) (v1 : Int) (v2 : Int) (v3 : Int) (M : Mem) (r : Int) (M' : Mem), m_kd M v0 = 5 → k82 v0 v1 v2 v3 M = some (r, M') → x_Z X 0 0 (x_QF X M0 (.returned none) M' 0 0) M0 M 7 [(0, .ref v0), (1, vI v1), (2, vI v2), (3, vI v3)] 82 []) (v0 : Nat) (v1 : Int) (v2 : Int) (v3 : Int) (v4 : Int) (v6 : Int) (s0 : Nat) (M : Mem) (r : Int) (M' : Mem) (hv0 : m_kd M v0 = 5) (hs0 : m_kd M s0 = 5) (h : B_X5_walk_347 k82 v0 v1 v2 v3 v4 v6 s0 M = some (r, M'))  : x_Z X 0 0 (x_QF X M0 (.returned none) M' 0 0) M0 M 7 [(0, .ref v0), (1, vI v1), (2, vI v2), (3, vI v3), (4, vI v4), (6, vI v6)] 347 [.ref s0] := by
  unfold B_X5_walk_347 at h
  refine z_aload_n (pc := 347) C 0 rfl dX5_walk_347 ?_
  refine gX5_551 (pc := 348) C rfl (Or.inl hv0) rfl dX5_walk_348 ?_
  exact cB_X5_walk_351 C hk82 v0 v1 v2 v3 v4 v6 s0 (m_i M 551 v0 0) M _ _ hv0 hs0 h
theorem cB_X5_walk_318 {X : x_Ctx} {M0 : Mem} (C : x_CC X 4 117 yX5_walk cX5_walk 7 none []) {k82 : Nat → Int → Int → Int → Mem → Option (Int × Mem)} (hk82 : ∀ (v0 : Nat) (v1 : Int) (v2 : Int) (v3 : Int) (M : Mem) (r : Int) (M' : Mem), m_kd M v0 = 5 → k82 v0 v1 v2 v3 M = some (r, M') → x_Z X 0 0 (x_QF X M0 (.returned none) M' 0 0) M0 M 7 [(0, .ref v0), (1, vI v1), (2, vI v2), (3, vI v3)] 82 []) (v0 : Nat) (v1 : Int) (v2 : Int) (v3 : Int) (v4 : Int) (s0 : Int) (M : Mem) (r : Int) (M' : Mem) (hv0 : m_kd M v0 = 5) (h : B_X5_walk_318 k82 v0 v1 v2 v3 v4 s0 M = some (r, M'))  : x_Z X 0 0 (x_QF X M0 (.returned none) M' 0 0) M0 M 7 [(0, .ref v0), (1, vI v1), (2, vI v2), (3, vI v3), (4, vI v4)] 318 [vI s0] := by
  unfold B_X5_walk_318 at h
  refine z_istore (pc := 318) C (lv' := [(0, .ref v0), (1, vI v1), (2, vI v2), (3, vI v3), (4, vI v4), (6, vI s0)]) (by decide) rfl dX5_walk_318 ?_
  refine z_aload_n (pc := 320) C 0 rfl dX5_walk_320 ?_
  refine z_aload_n (pc := 321) C 0 rfl dX5_walk_321 ?_
  refine gX5_516 (pc := 322) C rfl hv0 dX5_walk_322 ?_
  refine z_iload (pc := 325) C 4 rfl dX5_walk_325 ?_
  obtain ⟨c15, h⟩ := ifn h
  refine z_iaO (pc := 327) (k := 5) (j := 16) C 516 rfl (by decide) (by decide) (by decide) rfl rfl rfl rfl hv0 c15 rfl dX5_walk_327 ?_
  refine z_iconst (pc := 328) C dX5_walk_328 ?_
  refine z_ic_ne (pc := 329) C dX5_walk_329 (tgt := 347) (by decide) (fun c16 => ?_) (fun c16 => ?_)
  · have h := itf c16 h
    exact cB_X5_walk_347 C hk82 v0 v1 v2 v3 v4 s0 v0 M _ _ hv0 hv0 h
  · have h := itt c16 h
    refine z_aload_n (pc := 332) C 0 rfl dX5_walk_332 ?_
    refine gX5_551 (pc := 333) C rfl (Or.inl hv0) rfl dX5_walk_333 ?_
    refine z_iconst (pc := 336) C dX5_walk_336 ?_
    refine z_ic_ne (pc := 337) C dX5_walk_337 (tgt := 347) (by decide) (fun c21 => ?_) (fun c21 => ?_)
    · have h := itf c21 h
      exact cB_X5_walk_347 C hk82 v0 v1 v2 v3 v4 s0 v0 M _ _ hv0 hv0 h
    · have h := itt c21 h
      refine z_aload_n (pc := 340) C 0 rfl dX5_walk_340 ?_
      refine gX5_550 (pc := 341) C rfl (Or.inl hv0) rfl dX5_walk_341 ?_
      refine z_goto (pc := 344) C dX5_walk_344 (tgt := 351) (by decide) ?_
      exact cB_X5_walk_351 C hk82 v0 v1 v2 v3 v4 s0 v0 (m_i M 550 v0 0) M _ _ hv0 hv0 h
theorem cB_X5_walk_313 {X : x_Ctx} {M0 : Mem} (C : x_CC X 4 117 yX5_walk cX5_walk 7 none []) {k82 : Nat → Int → Int → Int → Mem → Option (Int × Mem)} (hk82 : ∀ (v0 : Nat) (v1 : Int) (v2 : Int) (v3 : Int) (M : Mem) (r : Int) (M' : Mem), m_kd M v0 = 5 → k82 v0 v1 v2 v3 M = some (r, M') → x_Z X 0 0 (x_QF X M0 (.returned none) M' 0 0) M0 M 7 [(0, .ref v0), (1, vI v1), (2, vI v2), (3, vI v3)] 82 []) (v0 : Nat) (v1 : Int) (v2 : Int) (v3 : Int) (v4 : Int) (M : Mem) (r : Int) (M' : Mem) (hv0 : m_kd M v0 = 5) (h : B_X5_walk_313 k82 v0 v1 v2 v3 v4 M = some (r, M'))  : x_Z X 0 0 (x_QF X M0 (.returned none) M' 0 0) M0 M 7 [(0, .ref v0), (1, vI v1), (2, vI v2), (3, vI v3), (4, vI v4)] 313 [] := by
  unfold B_X5_walk_313 at h
  refine z_iconst (pc := 313) C dX5_walk_313 ?_
  refine z_goto (pc := 314) C dX5_walk_314 (tgt := 318) (by decide) ?_
  exact cB_X5_walk_318 C hk82 v0 v1 v2 v3 v4 1 M _ _ hv0 h
theorem cB_X5_walk_178 {X : x_Ctx} {M0 : Mem} (C : x_CC X 4 117 yX5_walk cX5_walk 7 none []) {k82 : Nat → Int → Int → Int → Mem → Option (Int × Mem)} (hk82 : ∀ (v0 : Nat) (v1 : Int) (v2 : Int) (v3 : Int) (M : Mem) (r : Int) (M' : Mem), m_kd M v0 = 5 → k82 v0 v1 v2 v3 M = some (r, M') → x_Z X 0 0 (x_QF X M0 (.returned none) M' 0 0) M0 M 7 [(0, .ref v0), (1, vI v1), (2, vI v2), (3, vI v3)] 82 []) (v0 : Nat) (v1 : Int) (v2 : Int) (v3 : Int) (v5 : Int) (M : Mem) (r : Int) (M' : Mem) (hv0 : m_kd M v0 = 5) (h : B_X5_walk_178 k82 v0 v1 v2 v3 v5 M = some (r, M'))  : x_Z X 0 0 (x_QF X M0 (.returned none) M' 0 0) M0 M 7 [(0, .ref v0), (1, vI v1), (2, vI v2), (3, vI v3), (5, vI v5)] 178 [] := by
  unfold B_X5_walk_178 at h
  refine z_aload_n (pc := 178) C 0 rfl dX5_walk_178 ?_
  refine gX5_534 (pc := 179) C rfl hv0 dX5_walk_179 ?_
  refine z_aload_n (pc := 182) C 0 rfl dX5_walk_182 ?_
  refine gX5_550 (pc := 183) C rfl (Or.inl hv0) rfl dX5_walk_183 ?_
  refine z_iload (pc := 186) C 4 rfl dX5_walk_186 ?_
  refine z_if_eq (pc := 188) C dX5_walk_188 (tgt := 208) (by decide) (fun c34 => ?_) (fun c34 => ?_)
  · have h := itt c34 h
    refine z_ldc (pc := 208) C (x := -2000000) q1829 (by decide +kernel) dX5_walk_208 ?_
    obtain ⟨c35, h⟩ := ifn h
    refine z_isO (pc := 210) (k := 5) (j := 34) C 534 rfl (by decide) (by decide) (by decide) rfl rfl rfl rfl hv0 c35 dX5_walk_210 ?_
    refine z_goto (pc := 211) C dX5_walk_211 (tgt := 393) (by decide) ?_
    refine z_aload_n (pc := 393) C 0 rfl dX5_walk_393 ?_
    refine z_dup (pc := 394) C rfl dX5_walk_394 ?_
    refine gX5_550 (pc := 395) C rfl (Or.inl hv0) (x := m_i M 550 v0 0) ((m_i_ne (by decide)).trans rfl) dX5_walk_395 ?_
    refine z_iconst (pc := 398) C dX5_walk_398 ?_
    refine z_iadd (pc := 399) C dX5_walk_399 ?_
    refine pX5_550 (pc := 400) C rfl (Or.inl hv0) dX5_walk_400 ?_
    refine z_goto (pc := 403) C dX5_walk_403 (tgt := 82) (by decide) ?_
    exact z_lv [0, 1, 2, 3] rfl <| hk82 v0 v1 v2 v3 (m_si (m_si M 534 v0 (ixn (m_i M 550 v0 0)) (-2000000)) 550 v0 0 ((m_i M 550 v0 0) + 1)) _ _ hv0 h
  · have h := itf c34 h
    refine z_aload_n (pc := 191) C 0 rfl dX5_walk_191 ?_
    refine gX5_544 (pc := 192) C rfl hv0 dX5_walk_192 ?_
    refine z_bipush (pc := 195) C (by decide +kernel) dX5_walk_195 ?_
    refine z_iload_n (pc := 197) C 1 rfl dX5_walk_197 ?_
    refine z_imul (pc := 198) C dX5_walk_198 ?_
    refine z_aload_n (pc := 199) C 0 rfl dX5_walk_199 ?_
    refine gX5_550 (pc := 200) C rfl (Or.inl hv0) rfl dX5_walk_200 ?_
    refine z_iadd (pc := 203) C dX5_walk_203 ?_
    obtain ⟨c36, h⟩ := ifn h
    refine z_iaO (pc := 204) (k := 5) (j := 44) C 544 rfl (by decide) (by decide) (by decide) rfl rfl rfl rfl hv0 c36 rfl dX5_walk_204 ?_
    refine z_goto (pc := 205) C dX5_walk_205 (tgt := 210) (by decide) ?_
    obtain ⟨c37, h⟩ := ifn h
    refine z_isO (pc := 210) (k := 5) (j := 34) C 534 rfl (by decide) (by decide) (by decide) rfl rfl rfl rfl hv0 c37 dX5_walk_210 ?_
    refine z_goto (pc := 211) C dX5_walk_211 (tgt := 393) (by decide) ?_
    refine z_aload_n (pc := 393) C 0 rfl dX5_walk_393 ?_
    refine z_dup (pc := 394) C rfl dX5_walk_394 ?_
    refine gX5_550 (pc := 395) C rfl (Or.inl hv0) (x := m_i M 550 v0 0) ((m_i_ne (by decide)).trans rfl) dX5_walk_395 ?_
    refine z_iconst (pc := 398) C dX5_walk_398 ?_
    refine z_iadd (pc := 399) C dX5_walk_399 ?_
    refine pX5_550 (pc := 400) C rfl (Or.inl hv0) dX5_walk_400 ?_
    refine z_goto (pc := 403) C dX5_walk_403 (tgt := 82) (by decide) ?_
    exact z_lv [0, 1, 2, 3] rfl <| hk82 v0 v1 v2 v3 (m_si (m_si M 534 v0 (ixn (m_i M 550 v0 0)) (m_i M 544 v0 (ixn ((20 * v1) + (m_i M 550 v0 0))))) 550 v0 0 ((m_i M 550 v0 0) + 1)) _ _ hv0 h
theorem cB_X5_walk_143 {X : x_Ctx} {M0 : Mem} (C : x_CC X 4 117 yX5_walk cX5_walk 7 none []) {k82 : Nat → Int → Int → Int → Mem → Option (Int × Mem)} (hk82 : ∀ (v0 : Nat) (v1 : Int) (v2 : Int) (v3 : Int) (M : Mem) (r : Int) (M' : Mem), m_kd M v0 = 5 → k82 v0 v1 v2 v3 M = some (r, M') → x_Z X 0 0 (x_QF X M0 (.returned none) M' 0 0) M0 M 7 [(0, .ref v0), (1, vI v1), (2, vI v2), (3, vI v3)] 82 []) (v0 : Nat) (v1 : Int) (v2 : Int) (v3 : Int) (v4 : Int) (s0 : Int) (M : Mem) (r : Int) (M' : Mem) (hv0 : m_kd M v0 = 5) (h : B_X5_walk_143 k82 v0 v1 v2 v3 v4 s0 M = some (r, M'))  : x_Z X 0 0 (x_QF X M0 (.returned none) M' 0 0) M0 M 7 [(0, .ref v0), (1, vI v1), (2, vI v2), (3, vI v3), (4, vI v4)] 143 [vI s0] := by
  unfold B_X5_walk_143 at h
  refine z_istore (pc := 143) C (lv' := [(0, .ref v0), (1, vI v1), (2, vI v2), (3, vI v3), (4, vI v4), (5, vI s0)]) (by decide) rfl dX5_walk_143 ?_
  refine z_aload_n (pc := 145) C 0 rfl dX5_walk_145 ?_
  refine gX5_516 (pc := 146) C rfl hv0 dX5_walk_146 ?_
  refine z_iload (pc := 149) C 4 rfl dX5_walk_149 ?_
  obtain ⟨c8, h⟩ := ifn h
  refine z_iaO (pc := 151) (k := 5) (j := 16) C 516 rfl (by decide) (by decide) (by decide) rfl rfl rfl rfl hv0 c8 rfl dX5_walk_151 ?_
  refine z_if_ne (pc := 152) C dX5_walk_152 (tgt := 214) (by decide) (fun c9 => ?_) (fun c9 => ?_)
  · have h := itf c9 h
    refine z_aload_n (pc := 214) C 0 rfl dX5_walk_214 ?_
    refine gX5_516 (pc := 215) C rfl hv0 dX5_walk_215 ?_
    refine z_iload (pc := 218) C 4 rfl dX5_walk_218 ?_
    refine z_iaO (pc := 220) (k := 5) (j := 16) C 516 rfl (by decide) (by decide) (by decide) rfl rfl rfl rfl hv0 c8 rfl dX5_walk_220 ?_
    refine z_iconst (pc := 221) C dX5_walk_221 ?_
    refine z_ic_ne (pc := 222) C dX5_walk_222 (tgt := 265) (by decide) (fun c10 => ?_) (fun c10 => ?_)
    · have h := itf c10 h
      refine z_iload (pc := 265) C 5 rfl dX5_walk_265 ?_
      refine z_if_ne (pc := 267) C dX5_walk_267 (tgt := 393) (by decide) (fun c11 => ?_) (fun c11 => ?_)
      · have h := itf c11 h
        refine z_aload_n (pc := 393) C 0 rfl dX5_walk_393 ?_
        refine z_dup (pc := 394) C rfl dX5_walk_394 ?_
        refine gX5_550 (pc := 395) C rfl (Or.inl hv0) rfl dX5_walk_395 ?_
        refine z_iconst (pc := 398) C dX5_walk_398 ?_
        refine z_iadd (pc := 399) C dX5_walk_399 ?_
        refine pX5_550 (pc := 400) C rfl (Or.inl hv0) dX5_walk_400 ?_
        refine z_goto (pc := 403) C dX5_walk_403 (tgt := 82) (by decide) ?_
        exact z_lv [0, 1, 2, 3] rfl <| hk82 v0 v1 v2 v3 (m_si M 550 v0 0 ((m_i M 550 v0 0) + 1)) _ _ hv0 h
      · have h := itt c11 h
        refine z_aload_n (pc := 270) C 0 rfl dX5_walk_270 ?_
        refine gX5_537 (pc := 271) C rfl (Or.inl hv0) rfl dX5_walk_271 ?_
        refine z_if_ne (pc := 274) C dX5_walk_274 (tgt := 393) (by decide) (fun c12 => ?_) (fun c12 => ?_)
        · have h := itf c12 h
          refine z_aload_n (pc := 393) C 0 rfl dX5_walk_393 ?_
          refine z_dup (pc := 394) C rfl dX5_walk_394 ?_
          refine gX5_550 (pc := 395) C rfl (Or.inl hv0) rfl dX5_walk_395 ?_
          refine z_iconst (pc := 398) C dX5_walk_398 ?_
          refine z_iadd (pc := 399) C dX5_walk_399 ?_
          refine pX5_550 (pc := 400) C rfl (Or.inl hv0) dX5_walk_400 ?_
          refine z_goto (pc := 403) C dX5_walk_403 (tgt := 82) (by decide) ?_
          exact z_lv [0, 1, 2, 3] rfl <| hk82 v0 v1 v2 v3 (m_si M 550 v0 0 ((m_i M 550 v0 0) + 1)) _ _ hv0 h
        · have h := itt c12 h
          refine z_aload_n (pc := 277) C 0 rfl dX5_walk_277 ?_
          refine gX5_550 (pc := 278) C rfl (Or.inl hv0) rfl dX5_walk_278 ?_
          refine z_iload_n (pc := 281) C 2 rfl dX5_walk_281 ?_
          refine z_ic_le (pc := 282) C dX5_walk_282 (tgt := 393) (by decide) (fun c13 => ?_) (fun c13 => ?_)
          · have h := itt c13 h
            refine z_aload_n (pc := 393) C 0 rfl dX5_walk_393 ?_
            refine z_dup (pc := 394) C rfl dX5_walk_394 ?_
            refine gX5_550 (pc := 395) C rfl (Or.inl hv0) rfl dX5_walk_395 ?_
            refine z_iconst (pc := 398) C dX5_walk_398 ?_
            refine z_iadd (pc := 399) C dX5_walk_399 ?_
            refine pX5_550 (pc := 400) C rfl (Or.inl hv0) dX5_walk_400 ?_
            refine z_goto (pc := 403) C dX5_walk_403 (tgt := 82) (by decide) ?_
            exact z_lv [0, 1, 2, 3] rfl <| hk82 v0 v1 v2 v3 (m_si M 550 v0 0 ((m_i M 550 v0 0) + 1)) _ _ hv0 h
          · have h := itf c13 h
            refine z_aload_n (pc := 285) C 0 rfl dX5_walk_285 ?_
            refine gX5_516 (pc := 286) C rfl hv0 dX5_walk_286 ?_
            refine z_iload (pc := 289) C 4 rfl dX5_walk_289 ?_
            refine z_iaO (pc := 291) (k := 5) (j := 16) C 516 rfl (by decide) (by decide) (by decide) rfl rfl rfl rfl hv0 c8 rfl dX5_walk_291 ?_
            refine z_iconst (pc := 292) C dX5_walk_292 ?_
            refine z_ic_eq (pc := 293) C dX5_walk_293 (tgt := 313) (by decide) (fun c14 => ?_) (fun c14 => ?_)
            · have h := itt c14 h
              exact z_lv [0, 1, 2, 3, 4] rfl <| cB_X5_walk_313 C hk82 v0 v1 v2 v3 v4 M _ _ hv0 h
            · have h := itf c14 h
              refine z_aload_n (pc := 296) C 0 rfl dX5_walk_296 ?_
              refine gX5_547 (pc := 297) C rfl hv0 dX5_walk_297 ?_
              refine z_bipush (pc := 300) C (by decide +kernel) dX5_walk_300 ?_
              refine z_iload_n (pc := 302) C 1 rfl dX5_walk_302 ?_
              refine z_imul (pc := 303) C dX5_walk_303 ?_
              refine z_aload_n (pc := 304) C 0 rfl dX5_walk_304 ?_
              refine gX5_550 (pc := 305) C rfl (Or.inl hv0) rfl dX5_walk_305 ?_
              refine z_iadd (pc := 308) C dX5_walk_308 ?_
              obtain ⟨c22, h⟩ := ifn h
              refine z_zaO (pc := 309) (k := 5) (j := 47) C 547 rfl (by decide) (by decide) (by decide) rfl rfl rfl rfl hv0 c22 rfl dX5_walk_309 ?_
              refine z_if_ne (pc := 310) C dX5_walk_310 (tgt := 317) (by decide) (fun c23 => ?_) (fun c23 => ?_)
              · have h := itf c23 h
                refine z_iconst (pc := 317) C dX5_walk_317 ?_
                exact z_lv [0, 1, 2, 3, 4] rfl <| cB_X5_walk_318 C hk82 v0 v1 v2 v3 v4 0 M _ _ hv0 h
              · have h := itt c23 h
                exact z_lv [0, 1, 2, 3, 4] rfl <| cB_X5_walk_313 C hk82 v0 v1 v2 v3 v4 M _ _ hv0 h
    · have h := itt c10 h
      refine z_aload_n (pc := 225) C 0 rfl dX5_walk_225 ?_
      refine gX5_534 (pc := 226) C rfl hv0 dX5_walk_226 ?_
      refine z_aload_n (pc := 229) C 0 rfl dX5_walk_229 ?_
      refine gX5_550 (pc := 230) C rfl (Or.inl hv0) rfl dX5_walk_230 ?_
      refine z_iload (pc := 233) C 5 rfl dX5_walk_233 ?_
      refine z_if_eq (pc := 235) C dX5_walk_235 (tgt := 259) (by decide) (fun c24 => ?_) (fun c24 => ?_)
      · have h := itt c24 h
        refine z_ldc (pc := 259) C (x := -2000000) q1829 (by decide +kernel) dX5_walk_259 ?_
        obtain ⟨c25, h⟩ := ifn h
        refine z_isO (pc := 261) (k := 5) (j := 34) C 534 rfl (by decide) (by decide) (by decide) rfl rfl rfl rfl hv0 c25 dX5_walk_261 ?_
        refine z_goto (pc := 262) C dX5_walk_262 (tgt := 393) (by decide) ?_
        refine z_aload_n (pc := 393) C 0 rfl dX5_walk_393 ?_
        refine z_dup (pc := 394) C rfl dX5_walk_394 ?_
        refine gX5_550 (pc := 395) C rfl (Or.inl hv0) (x := m_i M 550 v0 0) ((m_i_ne (by decide)).trans rfl) dX5_walk_395 ?_
        refine z_iconst (pc := 398) C dX5_walk_398 ?_
        refine z_iadd (pc := 399) C dX5_walk_399 ?_
        refine pX5_550 (pc := 400) C rfl (Or.inl hv0) dX5_walk_400 ?_
        refine z_goto (pc := 403) C dX5_walk_403 (tgt := 82) (by decide) ?_
        exact z_lv [0, 1, 2, 3] rfl <| hk82 v0 v1 v2 v3 (m_si (m_si M 534 v0 (ixn (m_i M 550 v0 0)) (-2000000)) 550 v0 0 ((m_i M 550 v0 0) + 1)) _ _ hv0 h
      · have h := itf c24 h
        refine z_aload_n (pc := 238) C 0 rfl dX5_walk_238 ?_
        refine z_aload_n (pc := 239) C 0 rfl dX5_walk_239 ?_
        refine gX5_521 (pc := 240) C rfl hv0 dX5_walk_240 ?_
        refine z_iload (pc := 243) C 4 rfl dX5_walk_243 ?_
        refine z_iaO (pc := 245) (k := 5) (j := 21) C 521 rfl (by decide) (by decide) (by decide) rfl rfl rfl rfl hv0 c8 rfl dX5_walk_245 ?_
        refine z_aload_n (pc := 246) C 0 rfl dX5_walk_246 ?_
        refine gX5_522 (pc := 247) C rfl hv0 dX5_walk_247 ?_
        refine z_iload (pc := 250) C 4 rfl dX5_walk_250 ?_
        refine z_iaO (pc := 252) (k := 5) (j := 22) C 522 rfl (by decide) (by decide) (by decide) rfl rfl rfl rfl hv0 c8 rfl dX5_walk_252 ?_
        obtain ⟨r26, M27, e28, h⟩ := bNs h
        refine cX5_365 (pc := 253) (st := [vI (m_i M 550 v0 0), .ref (v0 + 21)]) (st1 := [vI r26, vI (m_i M 550 v0 0), .ref (v0 + 21)]) C rfl (rm := { frames := 2, cells := 0, slots := 0, locals := 53 }) (ct_X5_sum C.2.1 v0 (m_i M 521 v0 (ixn v4)) (m_i M 522 v0 (ixn v4)) M _ _ hv0 e28) ⟨by decide, by decide, Nat.zero_le _, Nat.zero_le _⟩ (Or.inl hv0) rfl (Nat.le_of_ble_eq_true rfl) dX5_walk_253 (c2 := 0) (s2 := 0) rfl rfl (fun x29 => ?_)
        have k30 := x29 _ 5 (by decide) (Or.inl (by decide)) hv0
        have k31 := x29 _ 5 (by decide) (Or.inl (by decide)) hv0
        refine z_goto (pc := 256) C dX5_walk_256 (tgt := 261) (by decide) ?_
        obtain ⟨c32, h⟩ := ifn h
        refine z_isO (pc := 261) (k := 5) (j := 34) C 534 rfl (by decide) (by decide) (by decide) rfl rfl rfl rfl k30 c32 dX5_walk_261 ?_
        refine z_goto (pc := 262) C dX5_walk_262 (tgt := 393) (by decide) ?_
        refine z_aload_n (pc := 393) C 0 rfl dX5_walk_393 ?_
        refine z_dup (pc := 394) C rfl dX5_walk_394 ?_
        refine gX5_550 (pc := 395) C rfl (Or.inl k31) (x := m_i M27 550 v0 0) ((m_i_ne (by decide)).trans rfl) dX5_walk_395 ?_
        refine z_iconst (pc := 398) C dX5_walk_398 ?_
        refine z_iadd (pc := 399) C dX5_walk_399 ?_
        refine pX5_550 (pc := 400) C rfl (Or.inl k31) dX5_walk_400 ?_
        refine z_goto (pc := 403) C dX5_walk_403 (tgt := 82) (by decide) ?_
        exact z_lv [0, 1, 2, 3] rfl <| hk82 v0 v1 v2 v3 (m_si (m_si M27 534 v0 (ixn (m_i M 550 v0 0)) r26) 550 v0 0 ((m_i M27 550 v0 0) + 1)) _ _ k31 h
  · have h := itt c9 h
    refine z_iload (pc := 155) C 5 rfl dX5_walk_155 ?_
    refine z_if_eq (pc := 157) C dX5_walk_157 (tgt := 178) (by decide) (fun c33 => ?_) (fun c33 => ?_)
    · have h := itt c33 h
      exact z_lv [0, 1, 2, 3, 5] rfl <| cB_X5_walk_178 C hk82 v0 v1 v2 v3 s0 M _ _ hv0 h
    · have h := itf c33 h
      refine z_aload_n (pc := 160) C 0 rfl dX5_walk_160 ?_
      refine gX5_543 (pc := 161) C rfl hv0 dX5_walk_161 ?_
      refine z_bipush (pc := 164) C (by decide +kernel) dX5_walk_164 ?_
      refine z_iload_n (pc := 166) C 1 rfl dX5_walk_166 ?_
      refine z_imul (pc := 167) C dX5_walk_167 ?_
      refine z_aload_n (pc := 168) C 0 rfl dX5_walk_168 ?_
      refine gX5_550 (pc := 169) C rfl (Or.inl hv0) rfl dX5_walk_169 ?_
      refine z_iadd (pc := 172) C dX5_walk_172 ?_
      obtain ⟨c38, h⟩ := ifn h
      refine z_zaO (pc := 173) (k := 5) (j := 43) C 543 rfl (by decide) (by decide) (by decide) rfl rfl rfl rfl hv0 c38 rfl dX5_walk_173 ?_
      refine z_if_ne (pc := 174) C dX5_walk_174 (tgt := 178) (by decide) (fun c39 => ?_) (fun c39 => ?_)
      · have h := itf c39 h
        exact z_lv [0, 1, 2, 3, 5] rfl <| cB_X5_walk_178 C hk82 v0 v1 v2 v3 s0 M _ _ hv0 h
      · have h := itt c39 h
        cases h
        exact z_vret (pc := 177) C rfl (show 0 ≤ 0 from by decide) (show 0 ≤ 0 from by decide) dX5_walk_177
theorem cB_X5_walk_138 {X : x_Ctx} {M0 : Mem} (C : x_CC X 4 117 yX5_walk cX5_walk 7 none []) {k82 : Nat → Int → Int → Int → Mem → Option (Int × Mem)} (hk82 : ∀ (v0 : Nat) (v1 : Int) (v2 : Int) (v3 : Int) (M : Mem) (r : Int) (M' : Mem), m_kd M v0 = 5 → k82 v0 v1 v2 v3 M = some (r, M') → x_Z X 0 0 (x_QF X M0 (.returned none) M' 0 0) M0 M 7 [(0, .ref v0), (1, vI v1), (2, vI v2), (3, vI v3)] 82 []) (v0 : Nat) (v1 : Int) (v2 : Int) (v3 : Int) (v4 : Int) (M : Mem) (r : Int) (M' : Mem) (hv0 : m_kd M v0 = 5) (h : B_X5_walk_138 k82 v0 v1 v2 v3 v4 M = some (r, M'))  : x_Z X 0 0 (x_QF X M0 (.returned none) M' 0 0) M0 M 7 [(0, .ref v0), (1, vI v1), (2, vI v2), (3, vI v3), (4, vI v4)] 138 [] := by
  unfold B_X5_walk_138 at h
  refine z_iconst (pc := 138) C dX5_walk_138 ?_
  refine z_goto (pc := 139) C dX5_walk_139 (tgt := 143) (by decide) ?_
  exact cB_X5_walk_143 C hk82 v0 v1 v2 v3 v4 1 M _ _ hv0 h
theorem cB_X5_walk_82 {X : x_Ctx} {M0 : Mem} (C : x_CC X 4 117 yX5_walk cX5_walk 7 none []) {k82 : Nat → Int → Int → Int → Mem → Option (Int × Mem)} (hk82 : ∀ (v0 : Nat) (v1 : Int) (v2 : Int) (v3 : Int) (M : Mem) (r : Int) (M' : Mem), m_kd M v0 = 5 → k82 v0 v1 v2 v3 M = some (r, M') → x_Z X 0 0 (x_QF X M0 (.returned none) M' 0 0) M0 M 7 [(0, .ref v0), (1, vI v1), (2, vI v2), (3, vI v3)] 82 []) (v0 : Nat) (v1 : Int) (v2 : Int) (v3 : Int) (M : Mem) (r : Int) (M' : Mem) (hv0 : m_kd M v0 = 5) (h : B_X5_walk_82 k82 v0 v1 v2 v3 M = some (r, M'))  : x_Z X 0 0 (x_QF X M0 (.returned none) M' 0 0) M0 M 7 [(0, .ref v0), (1, vI v1), (2, vI v2), (3, vI v3)] 82 [] := by
  unfold B_X5_walk_82 at h
  refine z_aload_n (pc := 82) C 0 rfl dX5_walk_82 ?_
  refine gX5_550 (pc := 83) C rfl (Or.inl hv0) rfl dX5_walk_83 ?_
  refine z_aload_n (pc := 86) C 0 rfl dX5_walk_86 ?_
  refine gX5_515 (pc := 87) C rfl hv0 dX5_walk_87 ?_
  refine z_iload_n (pc := 90) C 3 rfl dX5_walk_90 ?_
  obtain ⟨c4, h⟩ := ifn h
  refine z_iaO (pc := 91) (k := 5) (j := 15) C 515 rfl (by decide) (by decide) (by decide) rfl rfl rfl rfl hv0 c4 rfl dX5_walk_91 ?_
  refine z_ic_ge (pc := 92) C dX5_walk_92 (tgt := 406) (by decide) (fun c5 => ?_) (fun c5 => ?_)
  · have h := itt c5 h
    cases h
    exact z_vret (pc := 406) C rfl (show 0 ≤ 0 from by decide) (show 0 ≤ 0 from by decide) dX5_walk_406
  · have h := itf c5 h
    refine z_bipush (pc := 95) C (by decide +kernel) dX5_walk_95 ?_
    refine z_iload_n (pc := 97) C 3 rfl dX5_walk_97 ?_
    refine z_imul (pc := 98) C dX5_walk_98 ?_
    refine z_aload_n (pc := 99) C 0 rfl dX5_walk_99 ?_
    refine gX5_550 (pc := 100) C rfl (Or.inl hv0) rfl dX5_walk_100 ?_
    refine z_iadd (pc := 103) C dX5_walk_103 ?_
    refine z_istore (pc := 104) C (lv' := [(0, .ref v0), (1, vI v1), (2, vI v2), (3, vI v3), (4, vI ((20 * v3) + (m_i M 550 v0 0)))]) (by decide) rfl dX5_walk_104 ?_
    refine z_aload_n (pc := 106) C 0 rfl dX5_walk_106 ?_
    refine gX5_523 (pc := 107) C rfl hv0 dX5_walk_107 ?_
    refine z_iload (pc := 110) C 4 rfl dX5_walk_110 ?_
    obtain ⟨c6, h⟩ := ifn h
    refine z_iaO (pc := 112) (k := 5) (j := 23) C 523 rfl (by decide) (by decide) (by decide) rfl rfl rfl rfl hv0 c6 rfl dX5_walk_112 ?_
    refine z_iconst (pc := 113) C dX5_walk_113 ?_
    refine z_ic_eq (pc := 114) C dX5_walk_114 (tgt := 138) (by decide) (fun c7 => ?_) (fun c7 => ?_)
    · have h := itt c7 h
      exact cB_X5_walk_138 C hk82 v0 v1 v2 v3 ((20 * v3) + (m_i M 550 v0 0)) M _ _ hv0 h
    · have h := itf c7 h
      refine z_aload_n (pc := 117) C 0 rfl dX5_walk_117 ?_
      refine z_aload_n (pc := 118) C 0 rfl dX5_walk_118 ?_
      refine gX5_523 (pc := 119) C rfl hv0 dX5_walk_119 ?_
      refine z_iload (pc := 122) C 4 rfl dX5_walk_122 ?_
      refine z_iaO (pc := 124) (k := 5) (j := 23) C 523 rfl (by decide) (by decide) (by decide) rfl rfl rfl rfl hv0 c6 rfl dX5_walk_124 ?_
      refine z_aload_n (pc := 125) C 0 rfl dX5_walk_125 ?_
      refine gX5_524 (pc := 126) C rfl hv0 dX5_walk_126 ?_
      refine z_iload (pc := 129) C 4 rfl dX5_walk_129 ?_
      refine z_iaO (pc := 131) (k := 5) (j := 24) C 524 rfl (by decide) (by decide) (by decide) rfl rfl rfl rfl hv0 c6 rfl dX5_walk_131 ?_
      obtain ⟨r40, M41, e42, h⟩ := bNs h
      refine cX5_380 (pc := 132) (st := []) (st1 := [vI r40]) C rfl (rm := { frames := 3, cells := 0, slots := 0, locals := 84 }) (ct_X5_holds C.2.1 v0 (m_i M 523 v0 (ixn ((20 * v3) + (m_i M 550 v0 0)))) (m_i M 524 v0 (ixn ((20 * v3) + (m_i M 550 v0 0)))) M _ _ hv0 e42) ⟨by decide, by decide, Nat.zero_le _, Nat.zero_le _⟩ (Or.inl hv0) rfl (Nat.le_of_ble_eq_true rfl) dX5_walk_132 (c2 := 0) (s2 := 0) rfl rfl (fun x43 => ?_)
      have k44 := x43 _ 5 (by decide) (Or.inl (by decide)) hv0
      refine z_if_eq (pc := 135) C dX5_walk_135 (tgt := 142) (by decide) (fun c45 => ?_) (fun c45 => ?_)
      · have h := itt c45 h
        refine z_iconst (pc := 142) C dX5_walk_142 ?_
        exact cB_X5_walk_143 C hk82 v0 v1 v2 v3 ((20 * v3) + (m_i M 550 v0 0)) 0 M41 _ _ k44 h
      · have h := itf c45 h
        exact cB_X5_walk_138 C hk82 v0 v1 v2 v3 ((20 * v3) + (m_i M 550 v0 0)) M41 _ _ k44 h
theorem cL_X5_walk_82 {X : x_Ctx} {M0 : Mem} (C : x_CC X 4 117 yX5_walk cX5_walk 7 none [])  : ∀ (n : Nat) (v0 : Nat) (v1 : Int) (v2 : Int) (v3 : Int) (M : Mem) (r : Int) (M' : Mem) (hv0 : m_kd M v0 = 5) (h : L_X5_walk_82  n v0 v1 v2 v3 M = some (r, M')) , x_Z X 0 0 (x_QF X M0 (.returned none) M' 0 0) M0 M 7 [(0, .ref v0), (1, vI v1), (2, vI v2), (3, vI v3)] 82 [] := by
  intro n
  induction n with
  | zero => intro v0 v1 v2 v3 M r M' hv0 h ; cases h
  | succ n ih => intro v0 v1 v2 v3 M r M' hv0 h ; exact cB_X5_walk_82 C (fun v0 v1 v2 v3 M r M' hv0 h  => ih v0 v1 v2 v3 M r M' hv0 h ) v0 v1 v2 v3 M r M' hv0 h 
theorem cB_X5_walk_35 {X : x_Ctx} {M0 : Mem} (C : x_CC X 4 117 yX5_walk cX5_walk 7 none []) {k35 : Nat → Int → Int → Int → Int → Mem → Option (Int × Mem)} (hk35 : ∀ (v0 : Nat) (v1 : Int) (v2 : Int) (v3 : Int) (v4 : Int) (M : Mem) (r : Int) (M' : Mem), m_kd M v0 = 5 → k35 v0 v1 v2 v3 v4 M = some (r, M') → x_Z X 0 0 (x_QF X M0 (.returned none) M' 0 0) M0 M 7 [(0, .ref v0), (1, vI v1), (2, vI v2), (3, vI v3), (4, vI v4)] 35 []) (v0 : Nat) (v1 : Int) (v2 : Int) (v3 : Int) (v4 : Int) (M : Mem) (r : Int) (M' : Mem) (hv0 : m_kd M v0 = 5) (h : B_X5_walk_35 k35 v0 v1 v2 v3 v4 M = some (r, M'))  : x_Z X 0 0 (x_QF X M0 (.returned none) M' 0 0) M0 M 7 [(0, .ref v0), (1, vI v1), (2, vI v2), (3, vI v3), (4, vI v4)] 35 [] := by
  unfold B_X5_walk_35 at h
  refine z_iload (pc := 35) C 4 rfl dX5_walk_35 ?_
  refine z_bipush (pc := 37) C (by decide +kernel) dX5_walk_37 ?_
  refine z_ic_ge (pc := 39) C dX5_walk_39 (tgt := 67) (by decide) (fun c3 => ?_) (fun c3 => ?_)
  · have h := itt c3 h
    refine z_aload_n (pc := 67) C 0 rfl dX5_walk_67 ?_
    refine z_iconst (pc := 68) C dX5_walk_68 ?_
    refine pX5_551 (pc := 69) C rfl (Or.inl hv0) dX5_walk_69 ?_
    refine z_aload_n (pc := 72) C 0 rfl dX5_walk_72 ?_
    refine z_iconst (pc := 73) C dX5_walk_73 ?_
    refine pX5_552 (pc := 74) C rfl (Or.inl hv0) dX5_walk_74 ?_
    refine z_aload_n (pc := 77) C 0 rfl dX5_walk_77 ?_
    refine z_iconst (pc := 78) C dX5_walk_78 ?_
    refine pX5_550 (pc := 79) C rfl (Or.inl hv0) dX5_walk_79 ?_
    exact z_lv [0, 1, 2, 3] rfl <| cL_X5_walk_82 C FU v0 v1 v2 v3 (m_si (m_si (m_si M 551 v0 0 (-1)) 552 v0 0 (-1)) 550 v0 0 0) _ _ hv0 h
  · have h := itf c3 h
    refine z_aload_n (pc := 42) C 0 rfl dX5_walk_42 ?_
    refine gX5_535 (pc := 43) C rfl hv0 dX5_walk_43 ?_
    refine z_iload (pc := 46) C 4 rfl dX5_walk_46 ?_
    refine z_aload_n (pc := 48) C 0 rfl dX5_walk_48 ?_
    refine gX5_541 (pc := 49) C rfl hv0 dX5_walk_49 ?_
    refine z_bipush (pc := 52) C (by decide +kernel) dX5_walk_52 ?_
    refine z_iload_n (pc := 54) C 1 rfl dX5_walk_54 ?_
    refine z_imul (pc := 55) C dX5_walk_55 ?_
    refine z_iload (pc := 56) C 4 rfl dX5_walk_56 ?_
    refine z_iadd (pc := 58) C dX5_walk_58 ?_
    obtain ⟨c46, h⟩ := ifn h
    refine z_iaO (pc := 59) (k := 5) (j := 41) C 541 rfl (by decide) (by decide) (by decide) rfl rfl rfl rfl hv0 c46 rfl dX5_walk_59 ?_
    obtain ⟨c47, h⟩ := ifn h
    refine z_isO (pc := 60) (k := 5) (j := 35) C 535 rfl (by decide) (by decide) (by decide) rfl rfl rfl rfl hv0 c47 dX5_walk_60 ?_
    refine z_iinc (pc := 61) C (lv' := [(0, .ref v0), (1, vI v1), (2, vI v2), (3, vI v3), (4, vI (v4 + 1))]) 4 rfl (by decide) rfl dX5_walk_61 ?_
    refine z_goto (pc := 64) C dX5_walk_64 (tgt := 35) (by decide) ?_
    exact hk35 v0 v1 v2 v3 (v4 + 1) (m_si M 535 v0 (ixn v4) (m_i M 541 v0 (ixn ((6 * v1) + v4)))) _ _ hv0 h
theorem cL_X5_walk_35 {X : x_Ctx} {M0 : Mem} (C : x_CC X 4 117 yX5_walk cX5_walk 7 none [])  : ∀ (n : Nat) (v0 : Nat) (v1 : Int) (v2 : Int) (v3 : Int) (v4 : Int) (M : Mem) (r : Int) (M' : Mem) (hv0 : m_kd M v0 = 5) (h : L_X5_walk_35  n v0 v1 v2 v3 v4 M = some (r, M')) , x_Z X 0 0 (x_QF X M0 (.returned none) M' 0 0) M0 M 7 [(0, .ref v0), (1, vI v1), (2, vI v2), (3, vI v3), (4, vI v4)] 35 [] := by
  intro n
  induction n with
  | zero => intro v0 v1 v2 v3 v4 M r M' hv0 h ; cases h
  | succ n ih => intro v0 v1 v2 v3 v4 M r M' hv0 h ; exact cB_X5_walk_35 C (fun v0 v1 v2 v3 v4 M r M' hv0 h  => ih v0 v1 v2 v3 v4 M r M' hv0 h ) v0 v1 v2 v3 v4 M r M' hv0 h 
theorem cB_X5_walk_10 {X : x_Ctx} {M0 : Mem} (C : x_CC X 4 117 yX5_walk cX5_walk 7 none []) {k10 : Nat → Int → Int → Int → Int → Mem → Option (Int × Mem)} (hk10 : ∀ (v0 : Nat) (v1 : Int) (v2 : Int) (v3 : Int) (v4 : Int) (M : Mem) (r : Int) (M' : Mem), m_kd M v0 = 5 → k10 v0 v1 v2 v3 v4 M = some (r, M') → x_Z X 0 0 (x_QF X M0 (.returned none) M' 0 0) M0 M 7 [(0, .ref v0), (1, vI v1), (2, vI v2), (3, vI v3), (4, vI v4)] 10 []) (v0 : Nat) (v1 : Int) (v2 : Int) (v3 : Int) (v4 : Int) (M : Mem) (r : Int) (M' : Mem) (hv0 : m_kd M v0 = 5) (h : B_X5_walk_10 k10 v0 v1 v2 v3 v4 M = some (r, M'))  : x_Z X 0 0 (x_QF X M0 (.returned none) M' 0 0) M0 M 7 [(0, .ref v0), (1, vI v1), (2, vI v2), (3, vI v3), (4, vI v4)] 10 [] := by
  unfold B_X5_walk_10 at h
  refine z_iload (pc := 10) C 4 rfl dX5_walk_10 ?_
  refine z_bipush (pc := 12) C (by decide +kernel) dX5_walk_12 ?_
  refine z_ic_ge (pc := 14) C dX5_walk_14 (tgt := 32) (by decide) (fun c2 => ?_) (fun c2 => ?_)
  · have h := itt c2 h
    refine z_iconst (pc := 32) C dX5_walk_32 ?_
    refine z_istore (pc := 33) C (lv' := [(0, .ref v0), (1, vI v1), (2, vI v2), (3, vI v3), (4, vI 0)]) (by decide) rfl dX5_walk_33 ?_
    exact cL_X5_walk_35 C FU v0 v1 v2 v3 0 M _ _ hv0 h
  · have h := itf c2 h
    refine z_aload_n (pc := 17) C 0 rfl dX5_walk_17 ?_
    refine gX5_534 (pc := 18) C rfl hv0 dX5_walk_18 ?_
    refine z_iload (pc := 21) C 4 rfl dX5_walk_21 ?_
    refine z_ldc (pc := 23) C (x := -2000000) q1829 (by decide +kernel) dX5_walk_23 ?_
    obtain ⟨c48, h⟩ := ifn h
    refine z_isO (pc := 25) (k := 5) (j := 34) C 534 rfl (by decide) (by decide) (by decide) rfl rfl rfl rfl hv0 c48 dX5_walk_25 ?_
    refine z_iinc (pc := 26) C (lv' := [(0, .ref v0), (1, vI v1), (2, vI v2), (3, vI v3), (4, vI (v4 + 1))]) 4 rfl (by decide) rfl dX5_walk_26 ?_
    refine z_goto (pc := 29) C dX5_walk_29 (tgt := 10) (by decide) ?_
    exact hk10 v0 v1 v2 v3 (v4 + 1) (m_si M 534 v0 (ixn v4) (-2000000)) _ _ hv0 h
theorem cL_X5_walk_10 {X : x_Ctx} {M0 : Mem} (C : x_CC X 4 117 yX5_walk cX5_walk 7 none [])  : ∀ (n : Nat) (v0 : Nat) (v1 : Int) (v2 : Int) (v3 : Int) (v4 : Int) (M : Mem) (r : Int) (M' : Mem) (hv0 : m_kd M v0 = 5) (h : L_X5_walk_10  n v0 v1 v2 v3 v4 M = some (r, M')) , x_Z X 0 0 (x_QF X M0 (.returned none) M' 0 0) M0 M 7 [(0, .ref v0), (1, vI v1), (2, vI v2), (3, vI v3), (4, vI v4)] 10 [] := by
  intro n
  induction n with
  | zero => intro v0 v1 v2 v3 v4 M r M' hv0 h ; cases h
  | succ n ih => intro v0 v1 v2 v3 v4 M r M' hv0 h ; exact cB_X5_walk_10 C (fun v0 v1 v2 v3 v4 M r M' hv0 h  => ih v0 v1 v2 v3 v4 M r M' hv0 h ) v0 v1 v2 v3 v4 M r M' hv0 h 
theorem ct_X5_walk {l : Launch} {S0 : State} {D : va_G} {cA : Nat → ClassId} (hG : x_G l S0 D cA) (v0 : Nat) (v1 : Int) (v2 : Int) (M : Mem) (r : Int) (M' : Mem) (hv0 : m_kd M v0 = 5) (h : d_X5_walk v0 v1 v2 M = some (r, M')) : x_Me l S0 D cA yX5_walk cX5_walk 7 none [] ({ frames := 4, cells := 0, slots := 0, locals := 117 }) [.ref v0, vI v1, vI v2] M (.returned none) M' := by
  refine x_begin (F := 4) (Lo := 117) (mc := 0) (ms := 0) hG (Nat.le_of_ble_eq_true rfl) (lv := [(0, .ref v0), (1, vI v1), (2, vI v2)]) rfl rfl rfl rfl rfl (fun X e1 e2 e3 e4 e5 C => ?_)
  unfold d_X5_walk at h
  refine z_aload_n (pc := 0) C 0 rfl dX5_walk_0 ?_
  refine gX5_539 (pc := 1) C rfl hv0 dX5_walk_1 ?_
  refine z_iload_n (pc := 4) C 1 rfl dX5_walk_4 ?_
  obtain ⟨c1, h⟩ := ifn h
  refine z_iaO (pc := 5) (k := 5) (j := 39) C 539 rfl (by decide) (by decide) (by decide) rfl rfl rfl rfl hv0 c1 rfl dX5_walk_5 ?_
  refine z_istore_n (pc := 6) C (lv' := [(0, .ref v0), (1, vI v1), (2, vI v2), (3, vI (m_i M 539 v0 (ixn v1)))]) (by decide) rfl dX5_walk_6 ?_
  refine z_iconst (pc := 7) C dX5_walk_7 ?_
  refine z_istore (pc := 8) C (lv' := [(0, .ref v0), (1, vI v1), (2, vI v2), (3, vI (m_i M 539 v0 (ixn v1))), (4, vI 0)]) (by decide) rfl dX5_walk_8 ?_
  exact cL_X5_walk_10 C FU v0 v1 v2 (m_i M 539 v0 (ixn v1)) 0 M _ _ hv0 h
def d_X5_questionOf (v0 : Nat) (v1 : Int) (M : Mem) : Option (Int × Mem) :=
  bN (d_X5_walk v0 v1 (-1) M) fun r1 M2 => 
  if inb v1 60 then 
  if w32 (m_i M2 542 v0 (ixn v1)) = 0 then
    if inb (m_i M2 539 v0 (ixn v1)) 6 then 
    if w32 (m_i M2 550 v0 0) = w32 (m_i M2 515 v0 (ixn (m_i M2 539 v0 (ixn v1)))) then
      some (-1, M2)
    else
      some (m_i M2 550 v0 0, M2) else none
  else
    some (-1, M2) else none
theorem ct_X5_questionOf {l : Launch} {S0 : State} {D : va_G} {cA : Nat → ClassId} (hG : x_G l S0 D cA) (v0 : Nat) (v1 : Int) (M : Mem) (r : Int) (M' : Mem) (hv0 : m_kd M v0 = 5) (h : d_X5_questionOf v0 v1 M = some (r, M')) : x_Me l S0 D cA yX5_questionOf cX5_questionOf 2 (some .int) [] ({ frames := 5, cells := 0, slots := 0, locals := 147 }) [.ref v0, vI v1] M (.returned (some (vI r))) M' := by
  refine x_begin (F := 5) (Lo := 147) (mc := 0) (ms := 0) hG (Nat.le_of_ble_eq_true rfl) (lv := [(0, .ref v0), (1, vI v1)]) rfl rfl rfl rfl rfl (fun X e1 e2 e3 e4 e5 C => ?_)
  unfold d_X5_questionOf at h
  refine z_aload_n (pc := 0) C 0 rfl dX5_questionOf_0 ?_
  refine z_iload_n (pc := 1) C 1 rfl dX5_questionOf_1 ?_
  refine z_iconst (pc := 2) C dX5_questionOf_2 ?_
  obtain ⟨r1, M2, e3, h⟩ := bNs h
  refine cX5_383 (pc := 3) (st := []) (st1 := []) C rfl (rm := { frames := 4, cells := 0, slots := 0, locals := 117 }) (ct_X5_walk C.2.1 v0 v1 (-1) M _ _ hv0 e3) ⟨by decide, by decide, Nat.zero_le _, Nat.zero_le _⟩ (Or.inl hv0) rfl (Nat.le_of_ble_eq_true rfl) dX5_questionOf_3 (c2 := 0) (s2 := 0) rfl rfl (fun x4 => ?_)
  have k5 := x4 _ 5 (by decide) (Or.inl (by decide)) hv0
  refine z_aload_n (pc := 6) C 0 rfl dX5_questionOf_6 ?_
  refine gX5_542 (pc := 7) C rfl k5 dX5_questionOf_7 ?_
  refine z_iload_n (pc := 10) C 1 rfl dX5_questionOf_10 ?_
  obtain ⟨c6, h⟩ := ifn h
  refine z_zaO (pc := 11) (k := 5) (j := 42) C 542 rfl (by decide) (by decide) (by decide) rfl rfl rfl rfl k5 c6 rfl dX5_questionOf_11 ?_
  refine z_if_ne (pc := 12) C dX5_questionOf_12 (tgt := 33) (by decide) (fun c7 => ?_) (fun c7 => ?_)
  · have h := itf c7 h
    refine z_iconst (pc := 33) C dX5_questionOf_33 ?_
    refine z_goto (pc := 34) C dX5_questionOf_34 (tgt := 41) (by decide) ?_
    cases h
    exact z_iret (pc := 41) C rfl (show 0 ≤ 0 from by decide) (show 0 ≤ 0 from by decide) dX5_questionOf_41
  · have h := itt c7 h
    refine z_aload_n (pc := 15) C 0 rfl dX5_questionOf_15 ?_
    refine gX5_550 (pc := 16) C rfl (Or.inl k5) rfl dX5_questionOf_16 ?_
    refine z_aload_n (pc := 19) C 0 rfl dX5_questionOf_19 ?_
    refine gX5_515 (pc := 20) C rfl k5 dX5_questionOf_20 ?_
    refine z_aload_n (pc := 23) C 0 rfl dX5_questionOf_23 ?_
    refine gX5_539 (pc := 24) C rfl k5 dX5_questionOf_24 ?_
    refine z_iload_n (pc := 27) C 1 rfl dX5_questionOf_27 ?_
    refine z_iaO (pc := 28) (k := 5) (j := 39) C 539 rfl (by decide) (by decide) (by decide) rfl rfl rfl rfl k5 c6 rfl dX5_questionOf_28 ?_
    obtain ⟨c8, h⟩ := ifn h
    refine z_iaO (pc := 29) (k := 5) (j := 15) C 515 rfl (by decide) (by decide) (by decide) rfl rfl rfl rfl k5 c8 rfl dX5_questionOf_29 ?_
    refine z_ic_ne (pc := 30) C dX5_questionOf_30 (tgt := 37) (by decide) (fun c9 => ?_) (fun c9 => ?_)
    · have h := itf c9 h
      refine z_aload_n (pc := 37) C 0 rfl dX5_questionOf_37 ?_
      refine gX5_550 (pc := 38) C rfl (Or.inl k5) rfl dX5_questionOf_38 ?_
      cases h
      exact z_iret (pc := 41) C rfl (show 0 ≤ 0 from by decide) (show 0 ≤ 0 from by decide) dX5_questionOf_41
    · have h := itt c9 h
      refine z_iconst (pc := 33) C dX5_questionOf_33 ?_
      refine z_goto (pc := 34) C dX5_questionOf_34 (tgt := 41) (by decide) ?_
      cases h
      exact z_iret (pc := 41) C rfl (show 0 ≤ 0 from by decide) (show 0 ≤ 0 from by decide) dX5_questionOf_41
def d_X5_question (v0 : Nat) (v1 : Int) (M : Mem) : Option (Int × Mem) :=
  bR (d_X5_isSession v0 v1 (m_si M 500 v0 0 0)) fun r1 => 
  if w32 r1 = 0 then
    bN (d_X5_fail v0 1 (m_si M 500 v0 0 0)) fun r4 M5 => 
    some (r4, M5)
  else
    bN (d_X5_questionOf v0 v1 (m_si M 500 v0 0 0)) fun r8 M9 => 
    some (r8, M9)
theorem ct_X5_question {l : Launch} {S0 : State} {D : va_G} {cA : Nat → ClassId} (hG : x_G l S0 D cA) (v0 : Nat) (v1 : Int) (M : Mem) (r : Int) (M' : Mem) (hv0 : m_kd M v0 = 5) (h : d_X5_question v0 v1 M = some (r, M')) : x_Me l S0 D cA yX5_question cX5_question 2 (some .int) [] ({ frames := 6, cells := 0, slots := 0, locals := 172 }) [.ref v0, vI v1] M (.returned (some (vI r))) M' := by
  refine x_begin (F := 6) (Lo := 172) (mc := 0) (ms := 0) hG (Nat.le_of_ble_eq_true rfl) (lv := [(0, .ref v0), (1, vI v1)]) rfl rfl rfl rfl rfl (fun X e1 e2 e3 e4 e5 C => ?_)
  unfold d_X5_question at h
  refine z_aload_n (pc := 0) C 0 rfl dX5_question_0 ?_
  refine z_iconst (pc := 1) C dX5_question_1 ?_
  refine pX5_500 (pc := 2) C rfl (Or.inl hv0) dX5_question_2 ?_
  refine z_aload_n (pc := 5) C 0 rfl dX5_question_5 ?_
  refine z_iload_n (pc := 6) C 1 rfl dX5_question_6 ?_
  obtain ⟨r1, e2, h⟩ := bRs h
  refine cX5_386 (pc := 7) (st := []) (st1 := [vI r1]) C rfl (rm := { frames := 2, cells := 0, slots := 0, locals := 53 }) (ct_X5_isSession C.2.1 v0 v1 (m_si M 500 v0 0 0) _ hv0 e2) ⟨by decide, by decide, Nat.zero_le _, Nat.zero_le _⟩ (Or.inl hv0) rfl (Nat.le_of_ble_eq_true rfl) dX5_question_7 (c2 := 0) (s2 := 0) rfl rfl (fun _ => ?_)
  refine z_if_eq (pc := 10) C dX5_question_10 (tgt := 21) (by decide) (fun c3 => ?_) (fun c3 => ?_)
  · have h := itt c3 h
    refine z_aload_n (pc := 21) C 0 rfl dX5_question_21 ?_
    refine z_iconst (pc := 22) C dX5_question_22 ?_
    obtain ⟨r4, M5, e6, h⟩ := bNs h
    refine cX5_213 (pc := 23) (st := []) (st1 := [vI r4]) C rfl (rm := { frames := 1, cells := 0, slots := 0, locals := 24 }) (ct_X5_fail C.2.1 v0 1 (m_si M 500 v0 0 0) _ _ hv0 e6) ⟨by decide, by decide, Nat.zero_le _, Nat.zero_le _⟩ (Or.inl hv0) rfl (Nat.le_of_ble_eq_true rfl) dX5_question_23 (c2 := 0) (s2 := 0) rfl rfl (fun x7 => ?_)
    cases h
    exact z_iret (pc := 26) C rfl (show 0 ≤ 0 from by decide) (show 0 ≤ 0 from by decide) dX5_question_26
  · have h := itf c3 h
    refine z_aload_n (pc := 13) C 0 rfl dX5_question_13 ?_
    refine z_iload_n (pc := 14) C 1 rfl dX5_question_14 ?_
    obtain ⟨r8, M9, e10, h⟩ := bNs h
    refine cX5_389 (pc := 15) (st := []) (st1 := [vI r8]) C rfl (rm := { frames := 5, cells := 0, slots := 0, locals := 147 }) (ct_X5_questionOf C.2.1 v0 v1 (m_si M 500 v0 0 0) _ _ hv0 e10) ⟨by decide, by decide, Nat.zero_le _, Nat.zero_le _⟩ (Or.inl hv0) rfl (Nat.le_of_ble_eq_true rfl) dX5_question_15 (c2 := 0) (s2 := 0) rfl rfl (fun x11 => ?_)
    refine z_goto (pc := 18) C dX5_question_18 (tgt := 26) (by decide) ?_
    cases h
    exact z_iret (pc := 26) C rfl (show 0 ≤ 0 from by decide) (show 0 ≤ 0 from by decide) dX5_question_26
def B_X5_forgetNotes_2 (k2 : Nat → Int → Int → Mem → Option (Int × Mem)) (v0 : Nat) (v1 : Int) (v2 : Int) (M : Mem) : Option (Int × Mem) :=
  if w32 20 ≤ w32 v2 then
    some (0, M)
  else
    if inb ((20 * v1) + v2) 1200 then 
    k2 v0 v1 (v2 + 1) (m_si M 547 v0 (ixn ((20 * v1) + v2)) (bz 0)) else none
def L_X5_forgetNotes_2  : Nat → Nat → Int → Int → Mem → Option (Int × Mem)
  | 0, _, _, _, _ => none
  | n + 1, v0, v1, v2, M => B_X5_forgetNotes_2 (L_X5_forgetNotes_2  n) v0 v1 v2 M
def d_X5_forgetNotes (v0 : Nat) (v1 : Int) (M : Mem) : Option (Int × Mem) :=
  L_X5_forgetNotes_2 FU v0 v1 0 M
theorem cB_X5_forgetNotes_2 {X : x_Ctx} {M0 : Mem} (C : x_CC X 1 24 yX5_forgetNotes cX5_forgetNotes 3 none []) {k2 : Nat → Int → Int → Mem → Option (Int × Mem)} (hk2 : ∀ (v0 : Nat) (v1 : Int) (v2 : Int) (M : Mem) (r : Int) (M' : Mem), m_kd M v0 = 5 → k2 v0 v1 v2 M = some (r, M') → x_Z X 0 0 (x_QF X M0 (.returned none) M' 0 0) M0 M 3 [(0, .ref v0), (1, vI v1), (2, vI v2)] 2 []) (v0 : Nat) (v1 : Int) (v2 : Int) (M : Mem) (r : Int) (M' : Mem) (hv0 : m_kd M v0 = 5) (h : B_X5_forgetNotes_2 k2 v0 v1 v2 M = some (r, M'))  : x_Z X 0 0 (x_QF X M0 (.returned none) M' 0 0) M0 M 3 [(0, .ref v0), (1, vI v1), (2, vI v2)] 2 [] := by
  unfold B_X5_forgetNotes_2 at h
  refine z_iload_n (pc := 2) C 2 rfl dX5_forgetNotes_2 ?_
  refine z_bipush (pc := 3) C (by decide +kernel) dX5_forgetNotes_3 ?_
  refine z_ic_ge (pc := 5) C dX5_forgetNotes_5 (tgt := 26) (by decide) (fun c1 => ?_) (fun c1 => ?_)
  · have h := itt c1 h
    cases h
    exact z_vret (pc := 26) C rfl (show 0 ≤ 0 from by decide) (show 0 ≤ 0 from by decide) dX5_forgetNotes_26
  · have h := itf c1 h
    refine z_aload_n (pc := 8) C 0 rfl dX5_forgetNotes_8 ?_
    refine gX5_547 (pc := 9) C rfl hv0 dX5_forgetNotes_9 ?_
    refine z_bipush (pc := 12) C (by decide +kernel) dX5_forgetNotes_12 ?_
    refine z_iload_n (pc := 14) C 1 rfl dX5_forgetNotes_14 ?_
    refine z_imul (pc := 15) C dX5_forgetNotes_15 ?_
    refine z_iload_n (pc := 16) C 2 rfl dX5_forgetNotes_16 ?_
    refine z_iadd (pc := 17) C dX5_forgetNotes_17 ?_
    refine z_iconst (pc := 18) C dX5_forgetNotes_18 ?_
    obtain ⟨c2, h⟩ := ifn h
    refine z_zsO (pc := 19) (k := 5) (j := 47) C 547 rfl (by decide) (by decide) (by decide) rfl rfl rfl rfl hv0 c2 dX5_forgetNotes_19 ?_
    refine z_iinc (pc := 20) C (lv' := [(0, .ref v0), (1, vI v1), (2, vI (v2 + 1))]) 2 rfl (by decide) rfl dX5_forgetNotes_20 ?_
    refine z_goto (pc := 23) C dX5_forgetNotes_23 (tgt := 2) (by decide) ?_
    exact hk2 v0 v1 (v2 + 1) (m_si M 547 v0 (ixn ((20 * v1) + v2)) (bz 0)) _ _ hv0 h
theorem cL_X5_forgetNotes_2 {X : x_Ctx} {M0 : Mem} (C : x_CC X 1 24 yX5_forgetNotes cX5_forgetNotes 3 none [])  : ∀ (n : Nat) (v0 : Nat) (v1 : Int) (v2 : Int) (M : Mem) (r : Int) (M' : Mem) (hv0 : m_kd M v0 = 5) (h : L_X5_forgetNotes_2  n v0 v1 v2 M = some (r, M')) , x_Z X 0 0 (x_QF X M0 (.returned none) M' 0 0) M0 M 3 [(0, .ref v0), (1, vI v1), (2, vI v2)] 2 [] := by
  intro n
  induction n with
  | zero => intro v0 v1 v2 M r M' hv0 h ; cases h
  | succ n ih => intro v0 v1 v2 M r M' hv0 h ; exact cB_X5_forgetNotes_2 C (fun v0 v1 v2 M r M' hv0 h  => ih v0 v1 v2 M r M' hv0 h ) v0 v1 v2 M r M' hv0 h 
theorem ct_X5_forgetNotes {l : Launch} {S0 : State} {D : va_G} {cA : Nat → ClassId} (hG : x_G l S0 D cA) (v0 : Nat) (v1 : Int) (M : Mem) (r : Int) (M' : Mem) (hv0 : m_kd M v0 = 5) (h : d_X5_forgetNotes v0 v1 M = some (r, M')) : x_Me l S0 D cA yX5_forgetNotes cX5_forgetNotes 3 none [] ({ frames := 1, cells := 0, slots := 0, locals := 24 }) [.ref v0, vI v1] M (.returned none) M' := by
  refine x_begin (F := 1) (Lo := 24) (mc := 0) (ms := 0) hG (Nat.le_of_ble_eq_true rfl) (lv := [(0, .ref v0), (1, vI v1)]) rfl rfl rfl rfl rfl (fun X e1 e2 e3 e4 e5 C => ?_)
  unfold d_X5_forgetNotes at h
  refine z_iconst (pc := 0) C dX5_forgetNotes_0 ?_
  refine z_istore_n (pc := 1) C (lv' := [(0, .ref v0), (1, vI v1), (2, vI 0)]) (by decide) rfl dX5_forgetNotes_1 ?_
  exact cL_X5_forgetNotes_2 C FU v0 v1 0 M _ _ hv0 h
def B_X5_takeUp_81  (v0 : Nat) (v1 : Int) (v2 : Int) (M : Mem) : Option (Int × Mem) :=
  if inb ((20 * v1) + v2) 1200 then 
  some (0, (m_si M 543 v0 (ixn ((20 * v1) + v2)) (bz 0))) else none
def B_X5_takeUp_6 (k6 : Nat → Int → Int → Mem → Option (Int × Mem)) (v0 : Nat) (v1 : Int) (v2 : Int) (M : Mem) : Option (Int × Mem) :=
  if w32 v2 = w32 (-1) then
    some (0, M)
  else
    if inb ((20 * v1) + v2) 1200 then 
    if w32 (m_i M 545 v0 (ixn ((20 * v1) + v2))) = 0 then
      some (0, M)
    else
      bN (d_X5_walk v0 v1 v2 (m_si (m_si M 543 v0 (ixn ((20 * v1) + v2)) (bz 1)) 544 v0 (ixn ((20 * v1) + v2)) (m_i M 546 v0 (ixn ((20 * v1) + v2))))) fun r9 M10 => 
      if w32 (m_i M10 551 v0 0) = w32 (-1) then
        if w32 (m_i M10 552 v0 0) = w32 (-1) then
          bN (d_X5_questionOf v0 v1 (m_si M10 545 v0 (ixn ((20 * v1) + v2)) (bz 0))) fun r17 M18 => 
          k6 v0 v1 r17 M18
        else
          B_X5_takeUp_81 v0 v1 v2 M10
      else
        B_X5_takeUp_81 v0 v1 v2 M10 else none
def L_X5_takeUp_6  : Nat → Nat → Int → Int → Mem → Option (Int × Mem)
  | 0, _, _, _, _ => none
  | n + 1, v0, v1, v2, M => B_X5_takeUp_6 (L_X5_takeUp_6  n) v0 v1 v2 M
def d_X5_takeUp (v0 : Nat) (v1 : Int) (M : Mem) : Option (Int × Mem) :=
  bN (d_X5_questionOf v0 v1 M) fun r1 M2 => 
  L_X5_takeUp_6 FU v0 v1 r1 M2
theorem cB_X5_takeUp_81 {X : x_Ctx} {M0 : Mem} (C : x_CC X 6 172 yX5_takeUp cX5_takeUp 3 none [])  (v0 : Nat) (v1 : Int) (v2 : Int) (M : Mem) (r : Int) (M' : Mem) (hv0 : m_kd M v0 = 5) (h : B_X5_takeUp_81  v0 v1 v2 M = some (r, M'))  : x_Z X 0 0 (x_QF X M0 (.returned none) M' 0 0) M0 M 3 [(0, .ref v0), (1, vI v1), (2, vI v2)] 81 [] := by
  unfold B_X5_takeUp_81 at h
  refine z_aload_n (pc := 81) C 0 rfl dX5_takeUp_81 ?_
  refine gX5_543 (pc := 82) C rfl hv0 dX5_takeUp_82 ?_
  refine z_bipush (pc := 85) C (by decide +kernel) dX5_takeUp_85 ?_
  refine z_iload_n (pc := 87) C 1 rfl dX5_takeUp_87 ?_
  refine z_imul (pc := 88) C dX5_takeUp_88 ?_
  refine z_iload_n (pc := 89) C 2 rfl dX5_takeUp_89 ?_
  refine z_iadd (pc := 90) C dX5_takeUp_90 ?_
  refine z_iconst (pc := 91) C dX5_takeUp_91 ?_
  obtain ⟨c15, h⟩ := ifn h
  refine z_zsO (pc := 92) (k := 5) (j := 43) C 543 rfl (by decide) (by decide) (by decide) rfl rfl rfl rfl hv0 c15 dX5_takeUp_92 ?_
  cases h
  exact z_vret (pc := 93) C rfl (show 0 ≤ 0 from by decide) (show 0 ≤ 0 from by decide) dX5_takeUp_93
theorem cB_X5_takeUp_6 {X : x_Ctx} {M0 : Mem} (C : x_CC X 6 172 yX5_takeUp cX5_takeUp 3 none []) {k6 : Nat → Int → Int → Mem → Option (Int × Mem)} (hk6 : ∀ (v0 : Nat) (v1 : Int) (v2 : Int) (M : Mem) (r : Int) (M' : Mem), m_kd M v0 = 5 → k6 v0 v1 v2 M = some (r, M') → x_Z X 0 0 (x_QF X M0 (.returned none) M' 0 0) M0 M 3 [(0, .ref v0), (1, vI v1), (2, vI v2)] 6 []) (v0 : Nat) (v1 : Int) (v2 : Int) (M : Mem) (r : Int) (M' : Mem) (hv0 : m_kd M v0 = 5) (h : B_X5_takeUp_6 k6 v0 v1 v2 M = some (r, M'))  : x_Z X 0 0 (x_QF X M0 (.returned none) M' 0 0) M0 M 3 [(0, .ref v0), (1, vI v1), (2, vI v2)] 6 [] := by
  unfold B_X5_takeUp_6 at h
  refine z_iload_n (pc := 6) C 2 rfl dX5_takeUp_6 ?_
  refine z_iconst (pc := 7) C dX5_takeUp_7 ?_
  refine z_ic_eq (pc := 8) C dX5_takeUp_8 (tgt := 115) (by decide) (fun c6 => ?_) (fun c6 => ?_)
  · have h := itt c6 h
    cases h
    exact z_vret (pc := 115) C rfl (show 0 ≤ 0 from by decide) (show 0 ≤ 0 from by decide) dX5_takeUp_115
  · have h := itf c6 h
    refine z_aload_n (pc := 11) C 0 rfl dX5_takeUp_11 ?_
    refine gX5_545 (pc := 12) C rfl hv0 dX5_takeUp_12 ?_
    refine z_bipush (pc := 15) C (by decide +kernel) dX5_takeUp_15 ?_
    refine z_iload_n (pc := 17) C 1 rfl dX5_takeUp_17 ?_
    refine z_imul (pc := 18) C dX5_takeUp_18 ?_
    refine z_iload_n (pc := 19) C 2 rfl dX5_takeUp_19 ?_
    refine z_iadd (pc := 20) C dX5_takeUp_20 ?_
    obtain ⟨c7, h⟩ := ifn h
    refine z_zaO (pc := 21) (k := 5) (j := 45) C 545 rfl (by decide) (by decide) (by decide) rfl rfl rfl rfl hv0 c7 rfl dX5_takeUp_21 ?_
    refine z_if_eq (pc := 22) C dX5_takeUp_22 (tgt := 115) (by decide) (fun c8 => ?_) (fun c8 => ?_)
    · have h := itt c8 h
      cases h
      exact z_vret (pc := 115) C rfl (show 0 ≤ 0 from by decide) (show 0 ≤ 0 from by decide) dX5_takeUp_115
    · have h := itf c8 h
      refine z_aload_n (pc := 25) C 0 rfl dX5_takeUp_25 ?_
      refine gX5_543 (pc := 26) C rfl hv0 dX5_takeUp_26 ?_
      refine z_bipush (pc := 29) C (by decide +kernel) dX5_takeUp_29 ?_
      refine z_iload_n (pc := 31) C 1 rfl dX5_takeUp_31 ?_
      refine z_imul (pc := 32) C dX5_takeUp_32 ?_
      refine z_iload_n (pc := 33) C 2 rfl dX5_takeUp_33 ?_
      refine z_iadd (pc := 34) C dX5_takeUp_34 ?_
      refine z_iconst (pc := 35) C dX5_takeUp_35 ?_
      refine z_zsO (pc := 36) (k := 5) (j := 43) C 543 rfl (by decide) (by decide) (by decide) rfl rfl rfl rfl hv0 c7 dX5_takeUp_36 ?_
      refine z_aload_n (pc := 37) C 0 rfl dX5_takeUp_37 ?_
      refine gX5_544 (pc := 38) C rfl hv0 dX5_takeUp_38 ?_
      refine z_bipush (pc := 41) C (by decide +kernel) dX5_takeUp_41 ?_
      refine z_iload_n (pc := 43) C 1 rfl dX5_takeUp_43 ?_
      refine z_imul (pc := 44) C dX5_takeUp_44 ?_
      refine z_iload_n (pc := 45) C 2 rfl dX5_takeUp_45 ?_
      refine z_iadd (pc := 46) C dX5_takeUp_46 ?_
      refine z_aload_n (pc := 47) C 0 rfl dX5_takeUp_47 ?_
      refine gX5_546 (pc := 48) C rfl hv0 dX5_takeUp_48 ?_
      refine z_bipush (pc := 51) C (by decide +kernel) dX5_takeUp_51 ?_
      refine z_iload_n (pc := 53) C 1 rfl dX5_takeUp_53 ?_
      refine z_imul (pc := 54) C dX5_takeUp_54 ?_
      refine z_iload_n (pc := 55) C 2 rfl dX5_takeUp_55 ?_
      refine z_iadd (pc := 56) C dX5_takeUp_56 ?_
      refine z_iaO (pc := 57) (k := 5) (j := 46) C 546 rfl (by decide) (by decide) (by decide) rfl rfl rfl rfl hv0 c7 (x := m_i M 546 v0 (ixn ((20 * v1) + v2))) ((m_i_ne (by decide)).trans rfl) dX5_takeUp_57 ?_
      refine z_isO (pc := 58) (k := 5) (j := 44) C 544 rfl (by decide) (by decide) (by decide) rfl rfl rfl rfl hv0 c7 dX5_takeUp_58 ?_
      refine z_aload_n (pc := 59) C 0 rfl dX5_takeUp_59 ?_
      refine z_iload_n (pc := 60) C 1 rfl dX5_takeUp_60 ?_
      refine z_iload_n (pc := 61) C 2 rfl dX5_takeUp_61 ?_
      obtain ⟨r9, M10, e11, h⟩ := bNs h
      refine cX5_383 (pc := 62) (st := []) (st1 := []) C rfl (rm := { frames := 4, cells := 0, slots := 0, locals := 117 }) (ct_X5_walk C.2.1 v0 v1 v2 (m_si (m_si M 543 v0 (ixn ((20 * v1) + v2)) (bz 1)) 544 v0 (ixn ((20 * v1) + v2)) (m_i M 546 v0 (ixn ((20 * v1) + v2)))) _ _ hv0 e11) ⟨by decide, by decide, Nat.zero_le _, Nat.zero_le _⟩ (Or.inl hv0) rfl (Nat.le_of_ble_eq_true rfl) dX5_takeUp_62 (c2 := 0) (s2 := 0) rfl rfl (fun x12 => ?_)
      have k13 := x12 _ 5 (by decide) (Or.inl (by decide)) hv0
      refine z_aload_n (pc := 65) C 0 rfl dX5_takeUp_65 ?_
      refine gX5_551 (pc := 66) C rfl (Or.inl k13) rfl dX5_takeUp_66 ?_
      refine z_iconst (pc := 69) C dX5_takeUp_69 ?_
      refine z_ic_ne (pc := 70) C dX5_takeUp_70 (tgt := 81) (by decide) (fun c14 => ?_) (fun c14 => ?_)
      · have h := itf c14 h
        exact cB_X5_takeUp_81 C v0 v1 v2 M10 _ _ k13 h
      · have h := itt c14 h
        refine z_aload_n (pc := 73) C 0 rfl dX5_takeUp_73 ?_
        refine gX5_552 (pc := 74) C rfl (Or.inl k13) rfl dX5_takeUp_74 ?_
        refine z_iconst (pc := 77) C dX5_takeUp_77 ?_
        refine z_ic_eq (pc := 78) C dX5_takeUp_78 (tgt := 94) (by decide) (fun c16 => ?_) (fun c16 => ?_)
        · have h := itt c16 h
          refine z_aload_n (pc := 94) C 0 rfl dX5_takeUp_94 ?_
          refine gX5_545 (pc := 95) C rfl k13 dX5_takeUp_95 ?_
          refine z_bipush (pc := 98) C (by decide +kernel) dX5_takeUp_98 ?_
          refine z_iload_n (pc := 100) C 1 rfl dX5_takeUp_100 ?_
          refine z_imul (pc := 101) C dX5_takeUp_101 ?_
          refine z_iload_n (pc := 102) C 2 rfl dX5_takeUp_102 ?_
          refine z_iadd (pc := 103) C dX5_takeUp_103 ?_
          refine z_iconst (pc := 104) C dX5_takeUp_104 ?_
          refine z_zsO (pc := 105) (k := 5) (j := 45) C 545 rfl (by decide) (by decide) (by decide) rfl rfl rfl rfl k13 c7 dX5_takeUp_105 ?_
          refine z_aload_n (pc := 106) C 0 rfl dX5_takeUp_106 ?_
          refine z_iload_n (pc := 107) C 1 rfl dX5_takeUp_107 ?_
          obtain ⟨r17, M18, e19, h⟩ := bNs h
          refine cX5_389 (pc := 108) (st := []) (st1 := [vI r17]) C rfl (rm := { frames := 5, cells := 0, slots := 0, locals := 147 }) (ct_X5_questionOf C.2.1 v0 v1 (m_si M10 545 v0 (ixn ((20 * v1) + v2)) (bz 0)) _ _ k13 e19) ⟨by decide, by decide, Nat.zero_le _, Nat.zero_le _⟩ (Or.inl k13) rfl (Nat.le_of_ble_eq_true rfl) dX5_takeUp_108 (c2 := 0) (s2 := 0) rfl rfl (fun x20 => ?_)
          have k21 := x20 _ 5 (by decide) (Or.inl (by decide)) k13
          refine z_istore_n (pc := 111) C (lv' := [(0, .ref v0), (1, vI v1), (2, vI r17)]) (by decide) rfl dX5_takeUp_111 ?_
          refine z_goto (pc := 112) C dX5_takeUp_112 (tgt := 6) (by decide) ?_
          exact hk6 v0 v1 r17 M18 _ _ k21 h
        · have h := itf c16 h
          exact cB_X5_takeUp_81 C v0 v1 v2 M10 _ _ k13 h
theorem cL_X5_takeUp_6 {X : x_Ctx} {M0 : Mem} (C : x_CC X 6 172 yX5_takeUp cX5_takeUp 3 none [])  : ∀ (n : Nat) (v0 : Nat) (v1 : Int) (v2 : Int) (M : Mem) (r : Int) (M' : Mem) (hv0 : m_kd M v0 = 5) (h : L_X5_takeUp_6  n v0 v1 v2 M = some (r, M')) , x_Z X 0 0 (x_QF X M0 (.returned none) M' 0 0) M0 M 3 [(0, .ref v0), (1, vI v1), (2, vI v2)] 6 [] := by
  intro n
  induction n with
  | zero => intro v0 v1 v2 M r M' hv0 h ; cases h
  | succ n ih => intro v0 v1 v2 M r M' hv0 h ; exact cB_X5_takeUp_6 C (fun v0 v1 v2 M r M' hv0 h  => ih v0 v1 v2 M r M' hv0 h ) v0 v1 v2 M r M' hv0 h 
theorem ct_X5_takeUp {l : Launch} {S0 : State} {D : va_G} {cA : Nat → ClassId} (hG : x_G l S0 D cA) (v0 : Nat) (v1 : Int) (M : Mem) (r : Int) (M' : Mem) (hv0 : m_kd M v0 = 5) (h : d_X5_takeUp v0 v1 M = some (r, M')) : x_Me l S0 D cA yX5_takeUp cX5_takeUp 3 none [] ({ frames := 6, cells := 0, slots := 0, locals := 172 }) [.ref v0, vI v1] M (.returned none) M' := by
  refine x_begin (F := 6) (Lo := 172) (mc := 0) (ms := 0) hG (Nat.le_of_ble_eq_true rfl) (lv := [(0, .ref v0), (1, vI v1)]) rfl rfl rfl rfl rfl (fun X e1 e2 e3 e4 e5 C => ?_)
  unfold d_X5_takeUp at h
  refine z_aload_n (pc := 0) C 0 rfl dX5_takeUp_0 ?_
  refine z_iload_n (pc := 1) C 1 rfl dX5_takeUp_1 ?_
  obtain ⟨r1, M2, e3, h⟩ := bNs h
  refine cX5_389 (pc := 2) (st := []) (st1 := [vI r1]) C rfl (rm := { frames := 5, cells := 0, slots := 0, locals := 147 }) (ct_X5_questionOf C.2.1 v0 v1 M _ _ hv0 e3) ⟨by decide, by decide, Nat.zero_le _, Nat.zero_le _⟩ (Or.inl hv0) rfl (Nat.le_of_ble_eq_true rfl) dX5_takeUp_2 (c2 := 0) (s2 := 0) rfl rfl (fun x4 => ?_)
  have k5 := x4 _ 5 (by decide) (Or.inl (by decide)) hv0
  refine z_istore_n (pc := 5) C (lv' := [(0, .ref v0), (1, vI v1), (2, vI r1)]) (by decide) rfl dX5_takeUp_5 ?_
  exact cL_X5_takeUp_6 C FU v0 v1 r1 M2 _ _ k5 h
def B_X5_answer_109  (v0 : Nat) (v1 : Int) (v2 : Int) (v3 : Int) (M : Mem) : Option (Int × Mem) :=
  if inb v1 60 then 
  if inb ((20 * v1) + v3) 1200 then 
  bN (d_X5_walk v0 v1 v3 (m_si (m_si (m_si (m_si M 548 v0 (ixn v1) v3) 549 v0 (ixn v1) v2) 543 v0 (ixn ((20 * v1) + v3)) (bz 1)) 544 v0 (ixn ((20 * v1) + v3)) v2)) fun r22 M23 => 
  if w32 (m_i M23 551 v0 0) = w32 (-1) then
    if w32 (m_i M23 552 v0 0) = w32 (-1) then
      bN (d_X5_forgetNotes v0 v1 M23) fun r29 M30 => 
      bN (d_X5_takeUp v0 v1 (m_si (m_si M30 548 v0 (ixn v1) (-1)) 545 v0 (ixn ((20 * v1) + v3)) (bz 0))) fun r34 M35 => 
      some (0, M35)
    else
      if inb ((20 * v1) + (m_i M23 552 v0 0)) 1200 then 
      some (200 + (m_i M23 552 v0 0), (m_si (m_si M23 543 v0 (ixn ((20 * v1) + v3)) (bz 0)) 547 v0 (ixn ((20 * v1) + (m_i M23 552 v0 0))) (bz 1))) else none
  else
    some (100 + (m_i M23 551 v0 0), (m_si M23 543 v0 (ixn ((20 * v1) + v3)) (bz 0))) else none else none
def B_X5_answer_104  (v0 : Nat) (v1 : Int) (v2 : Int) (v3 : Int) (M : Mem) : Option (Int × Mem) :=
  bN (d_X5_forgetNotes v0 v1 M) fun r15 M16 => 
  B_X5_answer_109 v0 v1 v2 v3 M16
def d_X5_answer (v0 : Nat) (v1 : Int) (v2 : Int) (M : Mem) : Option (Int × Mem) :=
  bR (d_X5_isSession v0 v1 (m_si M 500 v0 0 0)) fun r1 => 
  if w32 r1 = 0 then
    bN (d_X5_fail v0 1 (m_si M 500 v0 0 0)) fun r48 M49 => 
    some (r48, M49)
  else
    bN (d_X5_questionOf v0 v1 (m_si M 500 v0 0 0)) fun r4 M5 => 
    if w32 r4 = w32 (-1) then
      bN (d_X5_fail v0 2 M5) fun r44 M45 => 
      some (r44, M45)
    else
      if inb v1 60 then 
      if inb ((20 * (m_i M5 539 v0 (ixn v1))) + r4) 120 then 
      if w32 (d_X5_isIn (w32 v2) (w32 (m_i M5 518 v0 (ixn ((20 * (m_i M5 539 v0 (ixn v1))) + r4)))) (w32 (m_i M5 519 v0 (ixn ((20 * (m_i M5 539 v0 (ixn v1))) + r4))))) = 0 then
        bN (d_X5_fail v0 3 M5) fun r40 M41 => 
        some (r40, M41)
      else
        if w32 (m_i M5 548 v0 (ixn v1)) = w32 r4 then
          if w32 (m_i M5 549 v0 (ixn v1)) = w32 v2 then
            B_X5_answer_109 v0 v1 v2 r4 M5
          else
            B_X5_answer_104 v0 v1 v2 r4 M5
        else
          B_X5_answer_104 v0 v1 v2 r4 M5 else none else none
theorem cB_X5_answer_109 {X : x_Ctx} {M0 : Mem} (C : x_CC X 7 198 yX5_answer cX5_answer 5 (some .int) [])  (v0 : Nat) (v1 : Int) (v2 : Int) (v3 : Int) (M : Mem) (r : Int) (M' : Mem) (hv0 : m_kd M v0 = 5) (h : B_X5_answer_109  v0 v1 v2 v3 M = some (r, M'))  : x_Z X 0 0 (x_QF X M0 (.returned (some (vI r))) M' 0 0) M0 M 5 [(0, .ref v0), (1, vI v1), (2, vI v2), (3, vI v3)] 109 [] := by
  unfold B_X5_answer_109 at h
  refine z_aload_n (pc := 109) C 0 rfl dX5_answer_109 ?_
  refine gX5_548 (pc := 110) C rfl hv0 dX5_answer_110 ?_
  refine z_iload_n (pc := 113) C 1 rfl dX5_answer_113 ?_
  refine z_iload_n (pc := 114) C 3 rfl dX5_answer_114 ?_
  obtain ⟨c20, h⟩ := ifn h
  refine z_isO (pc := 115) (k := 5) (j := 48) C 548 rfl (by decide) (by decide) (by decide) rfl rfl rfl rfl hv0 c20 dX5_answer_115 ?_
  refine z_aload_n (pc := 116) C 0 rfl dX5_answer_116 ?_
  refine gX5_549 (pc := 117) C rfl hv0 dX5_answer_117 ?_
  refine z_iload_n (pc := 120) C 1 rfl dX5_answer_120 ?_
  refine z_iload_n (pc := 121) C 2 rfl dX5_answer_121 ?_
  refine z_isO (pc := 122) (k := 5) (j := 49) C 549 rfl (by decide) (by decide) (by decide) rfl rfl rfl rfl hv0 c20 dX5_answer_122 ?_
  refine z_aload_n (pc := 123) C 0 rfl dX5_answer_123 ?_
  refine gX5_543 (pc := 124) C rfl hv0 dX5_answer_124 ?_
  refine z_bipush (pc := 127) C (by decide +kernel) dX5_answer_127 ?_
  refine z_iload_n (pc := 129) C 1 rfl dX5_answer_129 ?_
  refine z_imul (pc := 130) C dX5_answer_130 ?_
  refine z_iload_n (pc := 131) C 3 rfl dX5_answer_131 ?_
  refine z_iadd (pc := 132) C dX5_answer_132 ?_
  refine z_iconst (pc := 133) C dX5_answer_133 ?_
  obtain ⟨c21, h⟩ := ifn h
  refine z_zsO (pc := 134) (k := 5) (j := 43) C 543 rfl (by decide) (by decide) (by decide) rfl rfl rfl rfl hv0 c21 dX5_answer_134 ?_
  refine z_aload_n (pc := 135) C 0 rfl dX5_answer_135 ?_
  refine gX5_544 (pc := 136) C rfl hv0 dX5_answer_136 ?_
  refine z_bipush (pc := 139) C (by decide +kernel) dX5_answer_139 ?_
  refine z_iload_n (pc := 141) C 1 rfl dX5_answer_141 ?_
  refine z_imul (pc := 142) C dX5_answer_142 ?_
  refine z_iload_n (pc := 143) C 3 rfl dX5_answer_143 ?_
  refine z_iadd (pc := 144) C dX5_answer_144 ?_
  refine z_iload_n (pc := 145) C 2 rfl dX5_answer_145 ?_
  refine z_isO (pc := 146) (k := 5) (j := 44) C 544 rfl (by decide) (by decide) (by decide) rfl rfl rfl rfl hv0 c21 dX5_answer_146 ?_
  refine z_aload_n (pc := 147) C 0 rfl dX5_answer_147 ?_
  refine z_iload_n (pc := 148) C 1 rfl dX5_answer_148 ?_
  refine z_iload_n (pc := 149) C 3 rfl dX5_answer_149 ?_
  obtain ⟨r22, M23, e24, h⟩ := bNs h
  refine cX5_383 (pc := 150) (st := []) (st1 := []) C rfl (rm := { frames := 4, cells := 0, slots := 0, locals := 117 }) (ct_X5_walk C.2.1 v0 v1 v3 (m_si (m_si (m_si (m_si M 548 v0 (ixn v1) v3) 549 v0 (ixn v1) v2) 543 v0 (ixn ((20 * v1) + v3)) (bz 1)) 544 v0 (ixn ((20 * v1) + v3)) v2) _ _ hv0 e24) ⟨by decide, by decide, Nat.zero_le _, Nat.zero_le _⟩ (Or.inl hv0) rfl (Nat.le_of_ble_eq_true rfl) dX5_answer_150 (c2 := 0) (s2 := 0) rfl rfl (fun x25 => ?_)
  have k26 := x25 _ 5 (by decide) (Or.inl (by decide)) hv0
  refine z_aload_n (pc := 153) C 0 rfl dX5_answer_153 ?_
  refine gX5_551 (pc := 154) C rfl (Or.inl k26) rfl dX5_answer_154 ?_
  refine z_iconst (pc := 157) C dX5_answer_157 ?_
  refine z_ic_eq (pc := 158) C dX5_answer_158 (tgt := 181) (by decide) (fun c27 => ?_) (fun c27 => ?_)
  · have h := itt c27 h
    refine z_aload_n (pc := 181) C 0 rfl dX5_answer_181 ?_
    refine gX5_552 (pc := 182) C rfl (Or.inl k26) rfl dX5_answer_182 ?_
    refine z_iconst (pc := 185) C dX5_answer_185 ?_
    refine z_ic_eq (pc := 186) C dX5_answer_186 (tgt := 225) (by decide) (fun c28 => ?_) (fun c28 => ?_)
    · have h := itt c28 h
      refine z_aload_n (pc := 225) C 0 rfl dX5_answer_225 ?_
      refine z_iload_n (pc := 226) C 1 rfl dX5_answer_226 ?_
      obtain ⟨r29, M30, e31, h⟩ := bNs h
      refine cX5_392 (pc := 227) (st := []) (st1 := []) C rfl (rm := { frames := 1, cells := 0, slots := 0, locals := 24 }) (ct_X5_forgetNotes C.2.1 v0 v1 M23 _ _ k26 e31) ⟨by decide, by decide, Nat.zero_le _, Nat.zero_le _⟩ (Or.inl k26) rfl (Nat.le_of_ble_eq_true rfl) dX5_answer_227 (c2 := 0) (s2 := 0) rfl rfl (fun x32 => ?_)
      have k33 := x32 _ 5 (by decide) (Or.inl (by decide)) k26
      refine z_aload_n (pc := 230) C 0 rfl dX5_answer_230 ?_
      refine gX5_548 (pc := 231) C rfl k33 dX5_answer_231 ?_
      refine z_iload_n (pc := 234) C 1 rfl dX5_answer_234 ?_
      refine z_iconst (pc := 235) C dX5_answer_235 ?_
      refine z_isO (pc := 236) (k := 5) (j := 48) C 548 rfl (by decide) (by decide) (by decide) rfl rfl rfl rfl k33 c20 dX5_answer_236 ?_
      refine z_aload_n (pc := 237) C 0 rfl dX5_answer_237 ?_
      refine gX5_545 (pc := 238) C rfl k33 dX5_answer_238 ?_
      refine z_bipush (pc := 241) C (by decide +kernel) dX5_answer_241 ?_
      refine z_iload_n (pc := 243) C 1 rfl dX5_answer_243 ?_
      refine z_imul (pc := 244) C dX5_answer_244 ?_
      refine z_iload_n (pc := 245) C 3 rfl dX5_answer_245 ?_
      refine z_iadd (pc := 246) C dX5_answer_246 ?_
      refine z_iconst (pc := 247) C dX5_answer_247 ?_
      refine z_zsO (pc := 248) (k := 5) (j := 45) C 545 rfl (by decide) (by decide) (by decide) rfl rfl rfl rfl k33 c21 dX5_answer_248 ?_
      refine z_aload_n (pc := 249) C 0 rfl dX5_answer_249 ?_
      refine z_iload_n (pc := 250) C 1 rfl dX5_answer_250 ?_
      obtain ⟨r34, M35, e36, h⟩ := bNs h
      refine cX5_395 (pc := 251) (st := []) (st1 := []) C rfl (rm := { frames := 6, cells := 0, slots := 0, locals := 172 }) (ct_X5_takeUp C.2.1 v0 v1 (m_si (m_si M30 548 v0 (ixn v1) (-1)) 545 v0 (ixn ((20 * v1) + v3)) (bz 0)) _ _ k33 e36) ⟨by decide, by decide, Nat.zero_le _, Nat.zero_le _⟩ (Or.inl k33) rfl (Nat.le_of_ble_eq_true rfl) dX5_answer_251 (c2 := 0) (s2 := 0) rfl rfl (fun x37 => ?_)
      refine z_iconst (pc := 254) C dX5_answer_254 ?_
      cases h
      exact z_iret (pc := 255) C rfl (show 0 ≤ 0 from by decide) (show 0 ≤ 0 from by decide) dX5_answer_255
    · have h := itf c28 h
      refine z_aload_n (pc := 189) C 0 rfl dX5_answer_189 ?_
      refine gX5_543 (pc := 190) C rfl k26 dX5_answer_190 ?_
      refine z_bipush (pc := 193) C (by decide +kernel) dX5_answer_193 ?_
      refine z_iload_n (pc := 195) C 1 rfl dX5_answer_195 ?_
      refine z_imul (pc := 196) C dX5_answer_196 ?_
      refine z_iload_n (pc := 197) C 3 rfl dX5_answer_197 ?_
      refine z_iadd (pc := 198) C dX5_answer_198 ?_
      refine z_iconst (pc := 199) C dX5_answer_199 ?_
      refine z_zsO (pc := 200) (k := 5) (j := 43) C 543 rfl (by decide) (by decide) (by decide) rfl rfl rfl rfl k26 c21 dX5_answer_200 ?_
      refine z_aload_n (pc := 201) C 0 rfl dX5_answer_201 ?_
      refine gX5_547 (pc := 202) C rfl k26 dX5_answer_202 ?_
      refine z_bipush (pc := 205) C (by decide +kernel) dX5_answer_205 ?_
      refine z_iload_n (pc := 207) C 1 rfl dX5_answer_207 ?_
      refine z_imul (pc := 208) C dX5_answer_208 ?_
      refine z_aload_n (pc := 209) C 0 rfl dX5_answer_209 ?_
      refine gX5_552 (pc := 210) C rfl (Or.inl k26) (x := m_i M23 552 v0 0) ((m_i_ne (by decide)).trans rfl) dX5_answer_210 ?_
      refine z_iadd (pc := 213) C dX5_answer_213 ?_
      refine z_iconst (pc := 214) C dX5_answer_214 ?_
      obtain ⟨c38, h⟩ := ifn h
      refine z_zsO (pc := 215) (k := 5) (j := 47) C 547 rfl (by decide) (by decide) (by decide) rfl rfl rfl rfl k26 c38 dX5_answer_215 ?_
      refine z_sipush (pc := 216) C (by decide +kernel) dX5_answer_216 ?_
      refine z_aload_n (pc := 219) C 0 rfl dX5_answer_219 ?_
      refine gX5_552 (pc := 220) C rfl (Or.inl k26) (x := m_i M23 552 v0 0) ((m_i_ne (by decide)).trans ((m_i_ne (by decide)).trans rfl)) dX5_answer_220 ?_
      refine z_iadd (pc := 223) C dX5_answer_223 ?_
      cases h
      exact z_iret (pc := 224) C rfl (show 0 ≤ 0 from by decide) (show 0 ≤ 0 from by decide) dX5_answer_224
  · have h := itf c27 h
    refine z_aload_n (pc := 161) C 0 rfl dX5_answer_161 ?_
    refine gX5_543 (pc := 162) C rfl k26 dX5_answer_162 ?_
    refine z_bipush (pc := 165) C (by decide +kernel) dX5_answer_165 ?_
    refine z_iload_n (pc := 167) C 1 rfl dX5_answer_167 ?_
    refine z_imul (pc := 168) C dX5_answer_168 ?_
    refine z_iload_n (pc := 169) C 3 rfl dX5_answer_169 ?_
    refine z_iadd (pc := 170) C dX5_answer_170 ?_
    refine z_iconst (pc := 171) C dX5_answer_171 ?_
    refine z_zsO (pc := 172) (k := 5) (j := 43) C 543 rfl (by decide) (by decide) (by decide) rfl rfl rfl rfl k26 c21 dX5_answer_172 ?_
    refine z_bipush (pc := 173) C (by decide +kernel) dX5_answer_173 ?_
    refine z_aload_n (pc := 175) C 0 rfl dX5_answer_175 ?_
    refine gX5_551 (pc := 176) C rfl (Or.inl k26) (x := m_i M23 551 v0 0) ((m_i_ne (by decide)).trans rfl) dX5_answer_176 ?_
    refine z_iadd (pc := 179) C dX5_answer_179 ?_
    cases h
    exact z_iret (pc := 180) C rfl (show 0 ≤ 0 from by decide) (show 0 ≤ 0 from by decide) dX5_answer_180
theorem cB_X5_answer_104 {X : x_Ctx} {M0 : Mem} (C : x_CC X 7 198 yX5_answer cX5_answer 5 (some .int) [])  (v0 : Nat) (v1 : Int) (v2 : Int) (v3 : Int) (M : Mem) (r : Int) (M' : Mem) (hv0 : m_kd M v0 = 5) (h : B_X5_answer_104  v0 v1 v2 v3 M = some (r, M'))  : x_Z X 0 0 (x_QF X M0 (.returned (some (vI r))) M' 0 0) M0 M 5 [(0, .ref v0), (1, vI v1), (2, vI v2), (3, vI v3)] 104 [] := by
  unfold B_X5_answer_104 at h
  refine z_aload_n (pc := 104) C 0 rfl dX5_answer_104 ?_
  refine z_iload_n (pc := 105) C 1 rfl dX5_answer_105 ?_
  obtain ⟨r15, M16, e17, h⟩ := bNs h
  refine cX5_392 (pc := 106) (st := []) (st1 := []) C rfl (rm := { frames := 1, cells := 0, slots := 0, locals := 24 }) (ct_X5_forgetNotes C.2.1 v0 v1 M _ _ hv0 e17) ⟨by decide, by decide, Nat.zero_le _, Nat.zero_le _⟩ (Or.inl hv0) rfl (Nat.le_of_ble_eq_true rfl) dX5_answer_106 (c2 := 0) (s2 := 0) rfl rfl (fun x18 => ?_)
  have k19 := x18 _ 5 (by decide) (Or.inl (by decide)) hv0
  exact cB_X5_answer_109 C v0 v1 v2 v3 M16 _ _ k19 h
theorem ct_X5_answer {l : Launch} {S0 : State} {D : va_G} {cA : Nat → ClassId} (hG : x_G l S0 D cA) (v0 : Nat) (v1 : Int) (v2 : Int) (M : Mem) (r : Int) (M' : Mem) (hv0 : m_kd M v0 = 5) (h : d_X5_answer v0 v1 v2 M = some (r, M')) : x_Me l S0 D cA yX5_answer cX5_answer 5 (some .int) [] ({ frames := 7, cells := 0, slots := 0, locals := 198 }) [.ref v0, vI v1, vI v2] M (.returned (some (vI r))) M' := by
  refine x_begin (F := 7) (Lo := 198) (mc := 0) (ms := 0) hG (Nat.le_of_ble_eq_true rfl) (lv := [(0, .ref v0), (1, vI v1), (2, vI v2)]) rfl rfl rfl rfl rfl (fun X e1 e2 e3 e4 e5 C => ?_)
  unfold d_X5_answer at h
  refine z_aload_n (pc := 0) C 0 rfl dX5_answer_0 ?_
  refine z_iconst (pc := 1) C dX5_answer_1 ?_
  refine pX5_500 (pc := 2) C rfl (Or.inl hv0) dX5_answer_2 ?_
  refine z_aload_n (pc := 5) C 0 rfl dX5_answer_5 ?_
  refine z_iload_n (pc := 6) C 1 rfl dX5_answer_6 ?_
  obtain ⟨r1, e2, h⟩ := bRs h
  refine cX5_386 (pc := 7) (st := []) (st1 := [vI r1]) C rfl (rm := { frames := 2, cells := 0, slots := 0, locals := 53 }) (ct_X5_isSession C.2.1 v0 v1 (m_si M 500 v0 0 0) _ hv0 e2) ⟨by decide, by decide, Nat.zero_le _, Nat.zero_le _⟩ (Or.inl hv0) rfl (Nat.le_of_ble_eq_true rfl) dX5_answer_7 (c2 := 0) (s2 := 0) rfl rfl (fun _ => ?_)
  refine z_if_ne (pc := 10) C dX5_answer_10 (tgt := 19) (by decide) (fun c3 => ?_) (fun c3 => ?_)
  · have h := itf c3 h
    refine z_aload_n (pc := 19) C 0 rfl dX5_answer_19 ?_
    refine z_iload_n (pc := 20) C 1 rfl dX5_answer_20 ?_
    obtain ⟨r4, M5, e6, h⟩ := bNs h
    refine cX5_389 (pc := 21) (st := []) (st1 := [vI r4]) C rfl (rm := { frames := 5, cells := 0, slots := 0, locals := 147 }) (ct_X5_questionOf C.2.1 v0 v1 (m_si M 500 v0 0 0) _ _ hv0 e6) ⟨by decide, by decide, Nat.zero_le _, Nat.zero_le _⟩ (Or.inl hv0) rfl (Nat.le_of_ble_eq_true rfl) dX5_answer_21 (c2 := 0) (s2 := 0) rfl rfl (fun x7 => ?_)
    have k8 := x7 _ 5 (by decide) (Or.inl (by decide)) hv0
    refine z_istore_n (pc := 24) C (lv' := [(0, .ref v0), (1, vI v1), (2, vI v2), (3, vI r4)]) (by decide) rfl dX5_answer_24 ?_
    refine z_iload_n (pc := 25) C 3 rfl dX5_answer_25 ?_
    refine z_iconst (pc := 26) C dX5_answer_26 ?_
    refine z_ic_ne (pc := 27) C dX5_answer_27 (tgt := 36) (by decide) (fun c9 => ?_) (fun c9 => ?_)
    · have h := itf c9 h
      refine z_aload_n (pc := 36) C 0 rfl dX5_answer_36 ?_
      refine gX5_539 (pc := 37) C rfl k8 dX5_answer_37 ?_
      refine z_iload_n (pc := 40) C 1 rfl dX5_answer_40 ?_
      obtain ⟨c10, h⟩ := ifn h
      refine z_iaO (pc := 41) (k := 5) (j := 39) C 539 rfl (by decide) (by decide) (by decide) rfl rfl rfl rfl k8 c10 rfl dX5_answer_41 ?_
      refine z_istore (pc := 42) C (lv' := [(0, .ref v0), (1, vI v1), (2, vI v2), (3, vI r4), (4, vI (m_i M5 539 v0 (ixn v1)))]) (by decide) rfl dX5_answer_42 ?_
      refine z_iload_n (pc := 44) C 2 rfl dX5_answer_44 ?_
      refine z_i2l (pc := 45) C dX5_answer_45 ?_
      refine z_aload_n (pc := 46) C 0 rfl dX5_answer_46 ?_
      refine gX5_518 (pc := 47) C rfl k8 dX5_answer_47 ?_
      refine z_bipush (pc := 50) C (by decide +kernel) dX5_answer_50 ?_
      refine z_iload (pc := 52) C 4 rfl dX5_answer_52 ?_
      refine z_imul (pc := 54) C dX5_answer_54 ?_
      refine z_iload_n (pc := 55) C 3 rfl dX5_answer_55 ?_
      refine z_iadd (pc := 56) C dX5_answer_56 ?_
      obtain ⟨c11, h⟩ := ifn h
      refine z_iaO (pc := 57) (k := 5) (j := 18) C 518 rfl (by decide) (by decide) (by decide) rfl rfl rfl rfl k8 c11 rfl dX5_answer_57 ?_
      refine z_i2l (pc := 58) C dX5_answer_58 ?_
      refine z_aload_n (pc := 59) C 0 rfl dX5_answer_59 ?_
      refine gX5_519 (pc := 60) C rfl k8 dX5_answer_60 ?_
      refine z_bipush (pc := 63) C (by decide +kernel) dX5_answer_63 ?_
      refine z_iload (pc := 65) C 4 rfl dX5_answer_65 ?_
      refine z_imul (pc := 67) C dX5_answer_67 ?_
      refine z_iload_n (pc := 68) C 3 rfl dX5_answer_68 ?_
      refine z_iadd (pc := 69) C dX5_answer_69 ?_
      refine z_iaO (pc := 70) (k := 5) (j := 19) C 519 rfl (by decide) (by decide) (by decide) rfl rfl rfl rfl k8 c11 rfl dX5_answer_70 ?_
      refine z_i2l (pc := 71) C dX5_answer_71 ?_
      refine cX5_207 (pc := 72) (st := []) (st1 := [vI (d_X5_isIn (w32 v2) (w32 (m_i M5 518 v0 (ixn ((20 * (m_i M5 539 v0 (ixn v1))) + r4)))) (w32 (m_i M5 519 v0 (ixn ((20 * (m_i M5 539 v0 (ixn v1))) + r4)))))]) C rfl (rm := { frames := 1, cells := 0, slots := 0, locals := 24 }) (ct_X5_isIn C.2.1 (w32 v2) (w32 (m_i M5 518 v0 (ixn ((20 * (m_i M5 539 v0 (ixn v1))) + r4)))) (w32 (m_i M5 519 v0 (ixn ((20 * (m_i M5 539 v0 (ixn v1))) + r4)))) M5 _  rfl) ⟨by decide, by decide, Nat.zero_le _, Nat.zero_le _⟩ rfl (Nat.le_of_ble_eq_true rfl) dX5_answer_72 (c2 := 0) (s2 := 0) rfl rfl (fun _ => ?_)
      refine z_if_ne (pc := 75) C dX5_answer_75 (tgt := 84) (by decide) (fun c13 => ?_) (fun c13 => ?_)
      · have h := itf c13 h
        refine z_aload_n (pc := 84) C 0 rfl dX5_answer_84 ?_
        refine gX5_548 (pc := 85) C rfl k8 dX5_answer_85 ?_
        refine z_iload_n (pc := 88) C 1 rfl dX5_answer_88 ?_
        refine z_iaO (pc := 89) (k := 5) (j := 48) C 548 rfl (by decide) (by decide) (by decide) rfl rfl rfl rfl k8 c10 rfl dX5_answer_89 ?_
        refine z_iload_n (pc := 90) C 3 rfl dX5_answer_90 ?_
        refine z_ic_ne (pc := 91) C dX5_answer_91 (tgt := 104) (by decide) (fun c14 => ?_) (fun c14 => ?_)
        · have h := itf c14 h
          exact z_lv [0, 1, 2, 3] rfl <| cB_X5_answer_104 C v0 v1 v2 r4 M5 _ _ k8 h
        · have h := itt c14 h
          refine z_aload_n (pc := 94) C 0 rfl dX5_answer_94 ?_
          refine gX5_549 (pc := 95) C rfl k8 dX5_answer_95 ?_
          refine z_iload_n (pc := 98) C 1 rfl dX5_answer_98 ?_
          refine z_iaO (pc := 99) (k := 5) (j := 49) C 549 rfl (by decide) (by decide) (by decide) rfl rfl rfl rfl k8 c10 rfl dX5_answer_99 ?_
          refine z_iload_n (pc := 100) C 2 rfl dX5_answer_100 ?_
          refine z_ic_eq (pc := 101) C dX5_answer_101 (tgt := 109) (by decide) (fun c39 => ?_) (fun c39 => ?_)
          · have h := itt c39 h
            exact z_lv [0, 1, 2, 3] rfl <| cB_X5_answer_109 C v0 v1 v2 r4 M5 _ _ k8 h
          · have h := itf c39 h
            exact z_lv [0, 1, 2, 3] rfl <| cB_X5_answer_104 C v0 v1 v2 r4 M5 _ _ k8 h
      · have h := itt c13 h
        refine z_aload_n (pc := 78) C 0 rfl dX5_answer_78 ?_
        refine z_iconst (pc := 79) C dX5_answer_79 ?_
        obtain ⟨r40, M41, e42, h⟩ := bNs h
        refine cX5_213 (pc := 80) (st := []) (st1 := [vI r40]) C rfl (rm := { frames := 1, cells := 0, slots := 0, locals := 24 }) (ct_X5_fail C.2.1 v0 3 M5 _ _ k8 e42) ⟨by decide, by decide, Nat.zero_le _, Nat.zero_le _⟩ (Or.inl k8) rfl (Nat.le_of_ble_eq_true rfl) dX5_answer_80 (c2 := 0) (s2 := 0) rfl rfl (fun x43 => ?_)
        cases h
        exact z_iret (pc := 83) C rfl (show 0 ≤ 0 from by decide) (show 0 ≤ 0 from by decide) dX5_answer_83
    · have h := itt c9 h
      refine z_aload_n (pc := 30) C 0 rfl dX5_answer_30 ?_
      refine z_iconst (pc := 31) C dX5_answer_31 ?_
      obtain ⟨r44, M45, e46, h⟩ := bNs h
      refine cX5_213 (pc := 32) (st := []) (st1 := [vI r44]) C rfl (rm := { frames := 1, cells := 0, slots := 0, locals := 24 }) (ct_X5_fail C.2.1 v0 2 M5 _ _ k8 e46) ⟨by decide, by decide, Nat.zero_le _, Nat.zero_le _⟩ (Or.inl k8) rfl (Nat.le_of_ble_eq_true rfl) dX5_answer_32 (c2 := 0) (s2 := 0) rfl rfl (fun x47 => ?_)
      cases h
      exact z_iret (pc := 35) C rfl (show 0 ≤ 0 from by decide) (show 0 ≤ 0 from by decide) dX5_answer_35
  · have h := itt c3 h
    refine z_aload_n (pc := 13) C 0 rfl dX5_answer_13 ?_
    refine z_iconst (pc := 14) C dX5_answer_14 ?_
    obtain ⟨r48, M49, e50, h⟩ := bNs h
    refine cX5_213 (pc := 15) (st := []) (st1 := [vI r48]) C rfl (rm := { frames := 1, cells := 0, slots := 0, locals := 24 }) (ct_X5_fail C.2.1 v0 1 (m_si M 500 v0 0 0) _ _ hv0 e50) ⟨by decide, by decide, Nat.zero_le _, Nat.zero_le _⟩ (Or.inl hv0) rfl (Nat.le_of_ble_eq_true rfl) dX5_answer_15 (c2 := 0) (s2 := 0) rfl rfl (fun x51 => ?_)
    cases h
    exact z_iret (pc := 18) C rfl (show 0 ≤ 0 from by decide) (show 0 ≤ 0 from by decide) dX5_answer_18
