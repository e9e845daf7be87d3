set_option maxRecDepth 100000
def d_X5_thrown (v0 : Nat) (M : Mem) : Int :=
  m_i M 500 v0 0
theorem ct_X5_thrown {l : Launch} {S0 : State} {D : va_G} {cA : Nat → ClassId} (hG : x_G l S0 D cA) (v0 : Nat) (M : Mem) (r : Int) (hv0 : m_kd M v0 = 5) (h : d_X5_thrown v0 M = r) : x_Me l S0 D cA yX5_thrown cX5_thrown 1 (some .int) [] ({ frames := 1, cells := 0, slots := 0, locals := 24 }) [.ref v0] M (.returned (some (vI r))) M := by
  refine x_begin (F := 1) (Lo := 24) (mc := 0) (ms := 0) hG (Nat.le_of_ble_eq_true rfl) (lv := [(0, .ref v0)]) rfl rfl rfl rfl rfl (fun X e1 e2 e3 e4 e5 C => ?_)
  unfold d_X5_thrown at h
  refine z_aload_n (pc := 0) C 0 rfl dX5_thrown_0 ?_
  refine gX5_500 (pc := 1) C rfl (Or.inl hv0) rfl dX5_thrown_1 ?_
  subst h
  exact z_iret (pc := 4) C rfl (show 0 ≤ 0 from by decide) (show 0 ≤ 0 from by decide) dX5_thrown_4
def d_X5_isIn (v0 : Int) (v2 : Int) (v4 : Int) : Int :=
  if w64 v0 < w64 v2 then
    0
  else
    if w64 v4 < w64 v0 then
      0
    else
      1
theorem ct_X5_isIn {l : Launch} {S0 : State} {D : va_G} {cA : Nat → ClassId} (hG : x_G l S0 D cA) (v0 : Int) (v2 : Int) (v4 : Int) (M : Mem) (r : Int)  (h : d_X5_isIn v0 v2 v4 = r) : x_Me l S0 D cA yX5_isIn cX5_isIn 6 (some .boolean) [] ({ frames := 1, cells := 0, slots := 0, locals := 24 }) [vL v0, vL v2, vL v4] M (.returned (some (vI r))) M := by
  refine x_begin (F := 1) (Lo := 24) (mc := 0) (ms := 0) hG (Nat.le_of_ble_eq_true rfl) (lv := [(0, vL v0), (2, vL v2), (4, vL v4)]) rfl rfl rfl rfl rfl (fun X e1 e2 e3 e4 e5 C => ?_)
  unfold d_X5_isIn at h
  refine z_lload_n (pc := 0) C 0 rfl dX5_isIn_0 ?_
  refine z_lload_n (pc := 1) C 1 rfl dX5_isIn_1 ?_
  refine z_lc_lt (pc := 2) C dX5_isIn_2 dX5_isIn_3 (tgt := 17) (by decide) (fun c1 => ?_) (fun c1 => ?_)
  · have h := itt c1 h
    refine z_iconst (pc := 17) C dX5_isIn_17 ?_
    subst h
    exact z_zret (pc := 18) C rfl (Or.inl rfl) (show 0 ≤ 0 from by decide) (show 0 ≤ 0 from by decide) dX5_isIn_18
  · have h := itf c1 h
    refine z_lload_n (pc := 6) C 0 rfl dX5_isIn_6 ?_
    refine z_lload (pc := 7) C 2 rfl dX5_isIn_7 ?_
    refine z_lc_gt (pc := 9) C dX5_isIn_9 dX5_isIn_10 (tgt := 17) (by decide) (fun c2 => ?_) (fun c2 => ?_)
    · have h := itt c2 h
      refine z_iconst (pc := 17) C dX5_isIn_17 ?_
      subst h
      exact z_zret (pc := 18) C rfl (Or.inl rfl) (show 0 ≤ 0 from by decide) (show 0 ≤ 0 from by decide) dX5_isIn_18
    · have h := itf c2 h
      refine z_iconst (pc := 13) C dX5_isIn_13 ?_
      refine z_goto (pc := 14) C dX5_isIn_14 (tgt := 18) (by decide) ?_
      subst h
      exact z_zret (pc := 18) C rfl (Or.inr rfl) (show 0 ≤ 0 from by decide) (show 0 ≤ 0 from by decide) dX5_isIn_18
def d_X5_fail (v0 : Nat) (v1 : Int) (M : Mem) : Option (Int × Mem) :=
  some (0, (m_si M 500 v0 0 v1))
theorem ct_X5_fail {l : Launch} {S0 : State} {D : va_G} {cA : Nat → ClassId} (hG : x_G l S0 D cA) (v0 : Nat) (v1 : Int) (M : Mem) (r : Int) (M' : Mem) (hv0 : m_kd M v0 = 5) (h : d_X5_fail v0 v1 M = some (r, M')) : x_Me l S0 D cA yX5_fail cX5_fail 2 (some .int) [] ({ frames := 1, cells := 0, slots := 0, locals := 24 }) [.ref v0, vI v1] M (.returned (some (vI r))) M' := by
  refine x_begin (F := 1) (Lo := 24) (mc := 0) (ms := 0) hG (Nat.le_of_ble_eq_true rfl) (lv := [(0, .ref v0), (1, vI v1)]) rfl rfl rfl rfl rfl (fun X e1 e2 e3 e4 e5 C => ?_)
  unfold d_X5_fail at h
  refine z_aload_n (pc := 0) C 0 rfl dX5_fail_0 ?_
  refine z_iload_n (pc := 1) C 1 rfl dX5_fail_1 ?_
  refine pX5_500 (pc := 2) C rfl (Or.inl hv0) dX5_fail_2 ?_
  refine z_iconst (pc := 5) C dX5_fail_5 ?_
  cases h
  exact z_iret (pc := 6) C rfl (show 0 ≤ 0 from by decide) (show 0 ≤ 0 from by decide) dX5_fail_6
def d_X5_tick (v0 : Nat) (v1 : Int) (M : Mem) : Option (Int × Mem) :=
  if w32 (d_X5_isIn (w32 v1) 0 1000000) = 0 then
    bN (d_X5_fail v0 1 (m_si M 500 v0 0 0)) fun r3 M4 => 
    some (r3, M4)
  else
    if w64 ((w32 (m_i M 501 v0 0)) + (w32 v1)) ≤ w64 100000000 then
      some ((m_i M 501 v0 0) + v1, (m_si (m_si M 500 v0 0 0) 501 v0 0 ((m_i M 501 v0 0) + v1)))
    else
      bN (d_X5_fail v0 1 (m_si M 500 v0 0 0)) fun r8 M9 => 
      some (r8, M9)
theorem ct_X5_tick {l : Launch} {S0 : State} {D : va_G} {cA : Nat → ClassId} (hG : x_G l S0 D cA) (v0 : Nat) (v1 : Int) (M : Mem) (r : Int) (M' : Mem) (hv0 : m_kd M v0 = 5) (h : d_X5_tick v0 v1 M = some (r, M')) : x_Me l S0 D cA yX5_tick cX5_tick 2 (some .int) [] ({ frames := 2, cells := 0, slots := 0, locals := 53 }) [.ref v0, vI v1] M (.returned (some (vI r))) M' := by
  refine x_begin (F := 2) (Lo := 53) (mc := 0) (ms := 0) hG (Nat.le_of_ble_eq_true rfl) (lv := [(0, .ref v0), (1, vI v1)]) rfl rfl rfl rfl rfl (fun X e1 e2 e3 e4 e5 C => ?_)
  unfold d_X5_tick at h
  refine z_aload_n (pc := 0) C 0 rfl dX5_tick_0 ?_
  refine z_iconst (pc := 1) C dX5_tick_1 ?_
  refine pX5_500 (pc := 2) C rfl (Or.inl hv0) dX5_tick_2 ?_
  refine z_iload_n (pc := 5) C 1 rfl dX5_tick_5 ?_
  refine z_i2l (pc := 6) C dX5_tick_6 ?_
  refine z_lconst (pc := 7) C (x := 0) (by decide +kernel) dX5_tick_7 ?_
  refine z_ldc2 (pc := 8) C (x := 1000000) q1785 (by decide +kernel) dX5_tick_8 ?_
  refine cX5_207 (pc := 11) (st := []) (st1 := [vI (d_X5_isIn (w32 v1) 0 1000000)]) C rfl (rm := { frames := 1, cells := 0, slots := 0, locals := 24 }) (ct_X5_isIn C.2.1 (w32 v1) 0 1000000 (m_si M 500 v0 0 0) _  rfl) ⟨by decide, by decide, Nat.zero_le _, Nat.zero_le _⟩ rfl (Nat.le_of_ble_eq_true rfl) dX5_tick_11 (c2 := 0) (s2 := 0) rfl rfl (fun _ => ?_)
  refine z_if_eq (pc := 14) C dX5_tick_14 (tgt := 32) (by decide) (fun c2 => ?_) (fun c2 => ?_)
  · have h := itt c2 h
    refine z_aload_n (pc := 32) C 0 rfl dX5_tick_32 ?_
    refine z_iconst (pc := 33) C dX5_tick_33 ?_
    obtain ⟨r3, M4, e5, h⟩ := bNs h
    refine cX5_213 (pc := 34) (st := []) (st1 := [vI r3]) C rfl (rm := { frames := 1, cells := 0, slots := 0, locals := 24 }) (ct_X5_fail C.2.1 v0 1 (m_si M 500 v0 0 0) _ _ hv0 e5) ⟨by decide, by decide, Nat.zero_le _, Nat.zero_le _⟩ (Or.inl hv0) rfl (Nat.le_of_ble_eq_true rfl) dX5_tick_34 (c2 := 0) (s2 := 0) rfl rfl (fun x6 => ?_)
    cases h
    exact z_iret (pc := 37) C rfl (show 0 ≤ 0 from by decide) (show 0 ≤ 0 from by decide) dX5_tick_37
  · have h := itf c2 h
    refine z_aload_n (pc := 17) C 0 rfl dX5_tick_17 ?_
    refine gX5_501 (pc := 18) C rfl (Or.inl hv0) (x := m_i M 501 v0 0) ((m_i_ne (by decide)).trans rfl) dX5_tick_18 ?_
    refine z_i2l (pc := 21) C dX5_tick_21 ?_
    refine z_iload_n (pc := 22) C 1 rfl dX5_tick_22 ?_
    refine z_i2l (pc := 23) C dX5_tick_23 ?_
    refine z_ladd (pc := 24) C dX5_tick_24 ?_
    refine z_ldc2 (pc := 25) C (x := 100000000) q1789 (by decide +kernel) dX5_tick_25 ?_
    refine z_lc_le (pc := 28) C dX5_tick_28 dX5_tick_29 (tgt := 38) (by decide) (fun c7 => ?_) (fun c7 => ?_)
    · have h := itt c7 h
      refine z_aload_n (pc := 38) C 0 rfl dX5_tick_38 ?_
      refine z_dup (pc := 39) C rfl dX5_tick_39 ?_
      refine gX5_501 (pc := 40) C rfl (Or.inl hv0) (x := m_i M 501 v0 0) ((m_i_ne (by decide)).trans rfl) dX5_tick_40 ?_
      refine z_iload_n (pc := 43) C 1 rfl dX5_tick_43 ?_
      refine z_iadd (pc := 44) C dX5_tick_44 ?_
      refine pX5_501 (pc := 45) C rfl (Or.inl hv0) dX5_tick_45 ?_
      refine z_aload_n (pc := 48) C 0 rfl dX5_tick_48 ?_
      refine gX5_501 (pc := 49) C rfl (Or.inl hv0) (x := (m_i M 501 v0 0) + v1) (m_i_self _ _ _ _ _) dX5_tick_49 ?_
      cases h
      exact z_iret (pc := 52) C rfl (show 0 ≤ 0 from by decide) (show 0 ≤ 0 from by decide) dX5_tick_52
    · have h := itf c7 h
      refine z_aload_n (pc := 32) C 0 rfl dX5_tick_32 ?_
      refine z_iconst (pc := 33) C dX5_tick_33 ?_
      obtain ⟨r8, M9, e10, h⟩ := bNs h
      refine cX5_213 (pc := 34) (st := []) (st1 := [vI r8]) C rfl (rm := { frames := 1, cells := 0, slots := 0, locals := 24 }) (ct_X5_fail C.2.1 v0 1 (m_si M 500 v0 0 0) _ _ hv0 e10) ⟨by decide, by decide, Nat.zero_le _, Nat.zero_le _⟩ (Or.inl hv0) rfl (Nat.le_of_ble_eq_true rfl) dX5_tick_34 (c2 := 0) (s2 := 0) rfl rfl (fun x11 => ?_)
      cases h
      exact z_iret (pc := 37) C rfl (show 0 ≤ 0 from by decide) (show 0 ≤ 0 from by decide) dX5_tick_37
def d_X5_unit (v0 : Nat) (M : Mem) : Option (Int × Mem) :=
  if w32 (m_i M 502 v0 0) = w32 100 then
    bN (d_X5_fail v0 1 (m_si M 500 v0 0 0)) fun r3 M4 => 
    some (r3, M4)
  else
    if inb (m_i M 502 v0 0) 100 then 
    some (((m_i M 502 v0 0) + 1) - 1, (m_si (m_si (m_si M 500 v0 0 0) 503 v0 (ixn (m_i M 502 v0 0)) (-1)) 502 v0 0 ((m_i M 502 v0 0) + 1))) else none
theorem ct_X5_unit {l : Launch} {S0 : State} {D : va_G} {cA : Nat → ClassId} (hG : x_G l S0 D cA) (v0 : Nat) (M : Mem) (r : Int) (M' : Mem) (hv0 : m_kd M v0 = 5) (h : d_X5_unit v0 M = some (r, M')) : x_Me l S0 D cA yX5_unit cX5_unit 1 (some .int) [] ({ frames := 2, cells := 0, slots := 0, locals := 49 }) [.ref v0] M (.returned (some (vI r))) M' := by
  refine x_begin (F := 2) (Lo := 49) (mc := 0) (ms := 0) hG (Nat.le_of_ble_eq_true rfl) (lv := [(0, .ref v0)]) rfl rfl rfl rfl rfl (fun X e1 e2 e3 e4 e5 C => ?_)
  unfold d_X5_unit at h
  refine z_aload_n (pc := 0) C 0 rfl dX5_unit_0 ?_
  refine z_iconst (pc := 1) C dX5_unit_1 ?_
  refine pX5_500 (pc := 2) C rfl (Or.inl hv0) dX5_unit_2 ?_
  refine z_aload_n (pc := 5) C 0 rfl dX5_unit_5 ?_
  refine gX5_502 (pc := 6) C rfl (Or.inl hv0) (x := m_i M 502 v0 0) ((m_i_ne (by decide)).trans rfl) dX5_unit_6 ?_
  refine z_bipush (pc := 9) C (by decide +kernel) dX5_unit_9 ?_
  refine z_ic_ne (pc := 11) C dX5_unit_11 (tgt := 20) (by decide) (fun c1 => ?_) (fun c1 => ?_)
  · have h := itf c1 h
    refine z_aload_n (pc := 20) C 0 rfl dX5_unit_20 ?_
    refine gX5_503 (pc := 21) C rfl hv0 dX5_unit_21 ?_
    refine z_aload_n (pc := 24) C 0 rfl dX5_unit_24 ?_
    refine gX5_502 (pc := 25) C rfl (Or.inl hv0) (x := m_i M 502 v0 0) ((m_i_ne (by decide)).trans rfl) dX5_unit_25 ?_
    refine z_iconst (pc := 28) C dX5_unit_28 ?_
    obtain ⟨c2, h⟩ := ifn h
    refine z_isO (pc := 29) (k := 5) (j := 3) C 503 rfl (by decide) (by decide) (by decide) rfl rfl rfl rfl hv0 c2 dX5_unit_29 ?_
    refine z_aload_n (pc := 30) C 0 rfl dX5_unit_30 ?_
    refine z_dup (pc := 31) C rfl dX5_unit_31 ?_
    refine gX5_502 (pc := 32) C rfl (Or.inl hv0) (x := m_i M 502 v0 0) ((m_i_ne (by decide)).trans ((m_i_ne (by decide)).trans rfl)) dX5_unit_32 ?_
    refine z_iconst (pc := 35) C dX5_unit_35 ?_
    refine z_iadd (pc := 36) C dX5_unit_36 ?_
    refine pX5_502 (pc := 37) C rfl (Or.inl hv0) dX5_unit_37 ?_
    refine z_aload_n (pc := 40) C 0 rfl dX5_unit_40 ?_
    refine gX5_502 (pc := 41) C rfl (Or.inl hv0) (x := (m_i M 502 v0 0) + 1) (m_i_self _ _ _ _ _) dX5_unit_41 ?_
    refine z_iconst (pc := 44) C dX5_unit_44 ?_
    refine z_isub (pc := 45) C dX5_unit_45 ?_
    cases h
    exact z_iret (pc := 46) C rfl (show 0 ≤ 0 from by decide) (show 0 ≤ 0 from by decide) dX5_unit_46
  · have h := itt c1 h
    refine z_aload_n (pc := 14) C 0 rfl dX5_unit_14 ?_
    refine z_iconst (pc := 15) C dX5_unit_15 ?_
    obtain ⟨r3, M4, e5, h⟩ := bNs h
    refine cX5_213 (pc := 16) (st := []) (st1 := [vI r3]) C rfl (rm := { frames := 1, cells := 0, slots := 0, locals := 24 }) (ct_X5_fail C.2.1 v0 1 (m_si M 500 v0 0 0) _ _ hv0 e5) ⟨by decide, by decide, Nat.zero_le _, Nat.zero_le _⟩ (Or.inl hv0) rfl (Nat.le_of_ble_eq_true rfl) dX5_unit_16 (c2 := 0) (s2 := 0) rfl rfl (fun x6 => ?_)
    cases h
    exact z_iret (pc := 19) C rfl (show 0 ≤ 0 from by decide) (show 0 ≤ 0 from by decide) dX5_unit_19
def d_X5_isUnit (v0 : Nat) (v1 : Int) (M : Mem) : Option Int :=
  if (d_X5_isIn (w32 v1) 0 (w32 ((m_i M 502 v0 0) - 1))) = 0 ∨ (d_X5_isIn (w32 v1) 0 (w32 ((m_i M 502 v0 0) - 1))) = 1 then 
  some (d_X5_isIn (w32 v1) 0 (w32 ((m_i M 502 v0 0) - 1))) else none
theorem ct_X5_isUnit {l : Launch} {S0 : State} {D : va_G} {cA : Nat → ClassId} (hG : x_G l S0 D cA) (v0 : Nat) (v1 : Int) (M : Mem) (r : Int) (hv0 : m_kd M v0 = 5) (h : d_X5_isUnit v0 v1 M = some r) : x_Me l S0 D cA yX5_isUnit cX5_isUnit 2 (some .boolean) [] ({ frames := 2, cells := 0, slots := 0, locals := 53 }) [.ref v0, vI v1] M (.returned (some (vI r))) M := by
  refine x_begin (F := 2) (Lo := 53) (mc := 0) (ms := 0) hG (Nat.le_of_ble_eq_true rfl) (lv := [(0, .ref v0), (1, vI v1)]) rfl rfl rfl rfl rfl (fun X e1 e2 e3 e4 e5 C => ?_)
  unfold d_X5_isUnit at h
  refine z_iload_n (pc := 0) C 1 rfl dX5_isUnit_0 ?_
  refine z_i2l (pc := 1) C dX5_isUnit_1 ?_
  refine z_lconst (pc := 2) C (x := 0) (by decide +kernel) dX5_isUnit_2 ?_
  refine z_aload_n (pc := 3) C 0 rfl dX5_isUnit_3 ?_
  refine gX5_502 (pc := 4) C rfl (Or.inl hv0) rfl dX5_isUnit_4 ?_
  refine z_iconst (pc := 7) C dX5_isUnit_7 ?_
  refine z_isub (pc := 8) C dX5_isUnit_8 ?_
  refine z_i2l (pc := 9) C dX5_isUnit_9 ?_
  refine cX5_207 (pc := 10) (st := []) (st1 := [vI (d_X5_isIn (w32 v1) 0 (w32 ((m_i M 502 v0 0) - 1)))]) C rfl (rm := { frames := 1, cells := 0, slots := 0, locals := 24 }) (ct_X5_isIn C.2.1 (w32 v1) 0 (w32 ((m_i M 502 v0 0) - 1)) M _  rfl) ⟨by decide, by decide, Nat.zero_le _, Nat.zero_le _⟩ rfl (Nat.le_of_ble_eq_true rfl) dX5_isUnit_10 (c2 := 0) (s2 := 0) rfl rfl (fun _ => ?_)
  obtain ⟨c2, h⟩ := ifn h
  cases h
  exact z_zret (pc := 13) C rfl c2 (show 0 ≤ 0 from by decide) (show 0 ≤ 0 from by decide) dX5_isUnit_13
def d_X5_today (v0 : Nat) (M : Mem) : Int :=
  d32 (m_i M 501 v0 0) 1440
theorem ct_X5_today {l : Launch} {S0 : State} {D : va_G} {cA : Nat → ClassId} (hG : x_G l S0 D cA) (v0 : Nat) (M : Mem) (r : Int) (hv0 : m_kd M v0 = 5) (h : d_X5_today v0 M = r) : x_Me l S0 D cA yX5_today cX5_today 1 (some .int) [] ({ frames := 1, cells := 0, slots := 0, locals := 24 }) [.ref v0] M (.returned (some (vI r))) M := by
  refine x_begin (F := 1) (Lo := 24) (mc := 0) (ms := 0) hG (Nat.le_of_ble_eq_true rfl) (lv := [(0, .ref v0)]) rfl rfl rfl rfl rfl (fun X e1 e2 e3 e4 e5 C => ?_)
  unfold d_X5_today at h
  refine z_aload_n (pc := 0) C 0 rfl dX5_today_0 ?_
  refine gX5_501 (pc := 1) C rfl (Or.inl hv0) rfl dX5_today_1 ?_
  refine z_sipush (pc := 4) C (by decide +kernel) dX5_today_4 ?_
  refine z_idiv (pc := 7) C (by decide +kernel) dX5_today_7 ?_
  subst h
  exact z_iret (pc := 8) C rfl (show 0 ≤ 0 from by decide) (show 0 ≤ 0 from by decide) dX5_today_8
def d_X5_tell (v0 : Nat) (v1 : Int) (v2 : Int) (v3 : Int) (v4 : Int) (M : Mem) : Option (Int × Mem) :=
  bR (d_X5_isUnit v0 v1 (m_si M 500 v0 0 0)) fun r1 => 
  if w32 r1 = 0 then
    bN (d_X5_fail v0 1 (m_si M 500 v0 0 0)) fun r4 M5 => 
    some (r4, M5)
  else
    if w32 (d_X5_isIn (w32 v2) 0 5) = 0 then
      bN (d_X5_fail v0 1 (m_si M 500 v0 0 0)) fun r35 M36 => 
      some (r35, M36)
    else
      if w32 (d_X5_isIn (w32 v3) 0 100000) = 0 then
        bN (d_X5_fail v0 2 (m_si M 500 v0 0 0)) fun r12 M13 => 
        some (r12, M13)
      else
        if w32 (d_X5_isIn (w32 v4) (-1000000) 1000000) = 0 then
          bN (d_X5_fail v0 2 (m_si M 500 v0 0 0)) fun r31 M32 => 
          some (r31, M32)
        else
          if inb v1 100 then 
          if w32 (m_i M 503 v0 (ixn v1)) = w32 (-1) then
            if w32 (m_i M 506 v0 0) = w32 1500 then
              bN (d_X5_fail v0 4 (m_si M 500 v0 0 0)) fun r23 M24 => 
              some (r23, M24)
            else
              if inb (m_i M 506 v0 0) 1500 then 
              some ((m_i M 506 v0 0) + 1, (m_si (m_si (m_si (m_si (m_si (m_si (m_si M 500 v0 0 0) 507 v0 (ixn (m_i M 506 v0 0)) v1) 508 v0 (ixn (m_i M 506 v0 0)) v2) 509 v0 (ixn (m_i M 506 v0 0)) v3) 510 v0 (ixn (m_i M 506 v0 0)) v4) 511 v0 (ixn (m_i M 506 v0 0)) (d_X5_today v0 (m_si (m_si (m_si (m_si (m_si M 500 v0 0 0) 507 v0 (ixn (m_i M 506 v0 0)) v1) 508 v0 (ixn (m_i M 506 v0 0)) v2) 509 v0 (ixn (m_i M 506 v0 0)) v3) 510 v0 (ixn (m_i M 506 v0 0)) v4))) 506 v0 0 ((m_i M 506 v0 0) + 1))) else none
          else
            bN (d_X5_fail v0 3 (m_si M 500 v0 0 0)) fun r27 M28 => 
            some (r27, M28) else none
theorem ct_X5_tell {l : Launch} {S0 : State} {D : va_G} {cA : Nat → ClassId} (hG : x_G l S0 D cA) (v0 : Nat) (v1 : Int) (v2 : Int) (v3 : Int) (v4 : Int) (M : Mem) (r : Int) (M' : Mem) (hv0 : m_kd M v0 = 5) (h : d_X5_tell v0 v1 v2 v3 v4 M = some (r, M')) : x_Me l S0 D cA yX5_tell cX5_tell 5 (some .int) [] ({ frames := 3, cells := 0, slots := 0, locals := 78 }) [.ref v0, vI v1, vI v2, vI v3, vI v4] M (.returned (some (vI r))) M' := by
  refine x_begin (F := 3) (Lo := 78) (mc := 0) (ms := 0) hG (Nat.le_of_ble_eq_true rfl) (lv := [(0, .ref v0), (1, vI v1), (2, vI v2), (3, vI v3), (4, vI v4)]) rfl rfl rfl rfl rfl (fun X e1 e2 e3 e4 e5 C => ?_)
  unfold d_X5_tell at h
  refine z_aload_n (pc := 0) C 0 rfl dX5_tell_0 ?_
  refine z_iconst (pc := 1) C dX5_tell_1 ?_
  refine pX5_500 (pc := 2) C rfl (Or.inl hv0) dX5_tell_2 ?_
  refine z_aload_n (pc := 5) C 0 rfl dX5_tell_5 ?_
  refine z_iload_n (pc := 6) C 1 rfl dX5_tell_6 ?_
  obtain ⟨r1, e2, h⟩ := bRs h
  refine cX5_220 (pc := 7) (st := []) (st1 := [vI r1]) C rfl (rm := { frames := 2, cells := 0, slots := 0, locals := 53 }) (ct_X5_isUnit C.2.1 v0 v1 (m_si M 500 v0 0 0) _ hv0 e2) ⟨by decide, by decide, Nat.zero_le _, Nat.zero_le _⟩ (Or.inl hv0) rfl (Nat.le_of_ble_eq_true rfl) dX5_tell_7 (c2 := 0) (s2 := 0) rfl rfl (fun _ => ?_)
  refine z_if_eq (pc := 10) C dX5_tell_10 (tgt := 25) (by decide) (fun c3 => ?_) (fun c3 => ?_)
  · have h := itt c3 h
    refine z_aload_n (pc := 25) C 0 rfl dX5_tell_25 ?_
    refine z_iconst (pc := 26) C dX5_tell_26 ?_
    obtain ⟨r4, M5, e6, h⟩ := bNs h
    refine cX5_213 (pc := 27) (st := []) (st1 := [vI r4]) C rfl (rm := { frames := 1, cells := 0, slots := 0, locals := 24 }) (ct_X5_fail C.2.1 v0 1 (m_si M 500 v0 0 0) _ _ hv0 e6) ⟨by decide, by decide, Nat.zero_le _, Nat.zero_le _⟩ (Or.inl hv0) rfl (Nat.le_of_ble_eq_true rfl) dX5_tell_27 (c2 := 0) (s2 := 0) rfl rfl (fun x7 => ?_)
    cases h
    exact z_iret (pc := 30) C rfl (show 0 ≤ 0 from by decide) (show 0 ≤ 0 from by decide) dX5_tell_30
  · have h := itf c3 h
    refine z_iload_n (pc := 13) C 2 rfl dX5_tell_13 ?_
    refine z_i2l (pc := 14) C dX5_tell_14 ?_
    refine z_lconst (pc := 15) C (x := 0) (by decide +kernel) dX5_tell_15 ?_
    refine z_ldc2 (pc := 16) C (x := 5) q1806 (by decide +kernel) dX5_tell_16 ?_
    refine cX5_207 (pc := 19) (st := []) (st1 := [vI (d_X5_isIn (w32 v2) 0 5)]) C rfl (rm := { frames := 1, cells := 0, slots := 0, locals := 24 }) (ct_X5_isIn C.2.1 (w32 v2) 0 5 (m_si M 500 v0 0 0) _  rfl) ⟨by decide, by decide, Nat.zero_le _, Nat.zero_le _⟩ rfl (Nat.le_of_ble_eq_true rfl) dX5_tell_19 (c2 := 0) (s2 := 0) rfl rfl (fun _ => ?_)
    refine z_if_ne (pc := 22) C dX5_tell_22 (tgt := 31) (by decide) (fun c9 => ?_) (fun c9 => ?_)
    · have h := itf c9 h
      refine z_iload_n (pc := 31) C 3 rfl dX5_tell_31 ?_
      refine z_i2l (pc := 32) C dX5_tell_32 ?_
      refine z_lconst (pc := 33) C (x := 0) (by decide +kernel) dX5_tell_33 ?_
      refine z_ldc2 (pc := 34) C (x := 100000) q1807 (by decide +kernel) dX5_tell_34 ?_
      refine cX5_207 (pc := 37) (st := []) (st1 := [vI (d_X5_isIn (w32 v3) 0 100000)]) C rfl (rm := { frames := 1, cells := 0, slots := 0, locals := 24 }) (ct_X5_isIn C.2.1 (w32 v3) 0 100000 (m_si M 500 v0 0 0) _  rfl) ⟨by decide, by decide, Nat.zero_le _, Nat.zero_le _⟩ rfl (Nat.le_of_ble_eq_true rfl) dX5_tell_37 (c2 := 0) (s2 := 0) rfl rfl (fun _ => ?_)
      refine z_if_eq (pc := 40) C dX5_tell_40 (tgt := 58) (by decide) (fun c11 => ?_) (fun c11 => ?_)
      · have h := itt c11 h
        refine z_aload_n (pc := 58) C 0 rfl dX5_tell_58 ?_
        refine z_iconst (pc := 59) C dX5_tell_59 ?_
        obtain ⟨r12, M13, e14, h⟩ := bNs h
        refine cX5_213 (pc := 60) (st := []) (st1 := [vI r12]) C rfl (rm := { frames := 1, cells := 0, slots := 0, locals := 24 }) (ct_X5_fail C.2.1 v0 2 (m_si M 500 v0 0 0) _ _ hv0 e14) ⟨by decide, by decide, Nat.zero_le _, Nat.zero_le _⟩ (Or.inl hv0) rfl (Nat.le_of_ble_eq_true rfl) dX5_tell_60 (c2 := 0) (s2 := 0) rfl rfl (fun x15 => ?_)
        cases h
        exact z_iret (pc := 63) C rfl (show 0 ≤ 0 from by decide) (show 0 ≤ 0 from by decide) dX5_tell_63
      · have h := itf c11 h
        refine z_iload (pc := 43) C 4 rfl dX5_tell_43 ?_
        refine z_i2l (pc := 45) C dX5_tell_45 ?_
        refine z_ldc2 (pc := 46) C (x := -1000000) q1808 (by decide +kernel) dX5_tell_46 ?_
        refine z_ldc2 (pc := 49) C (x := 1000000) q1785 (by decide +kernel) dX5_tell_49 ?_
        refine cX5_207 (pc := 52) (st := []) (st1 := [vI (d_X5_isIn (w32 v4) (-1000000) 1000000)]) C rfl (rm := { frames := 1, cells := 0, slots := 0, locals := 24 }) (ct_X5_isIn C.2.1 (w32 v4) (-1000000) 1000000 (m_si M 500 v0 0 0) _  rfl) ⟨by decide, by decide, Nat.zero_le _, Nat.zero_le _⟩ rfl (Nat.le_of_ble_eq_true rfl) dX5_tell_52 (c2 := 0) (s2 := 0) rfl rfl (fun _ => ?_)
        refine z_if_ne (pc := 55) C dX5_tell_55 (tgt := 64) (by decide) (fun c17 => ?_) (fun c17 => ?_)
        · have h := itf c17 h
          refine z_aload_n (pc := 64) C 0 rfl dX5_tell_64 ?_
          refine gX5_503 (pc := 65) C rfl hv0 dX5_tell_65 ?_
          refine z_iload_n (pc := 68) C 1 rfl dX5_tell_68 ?_
          obtain ⟨c18, h⟩ := ifn h
          refine z_iaO (pc := 69) (k := 5) (j := 3) C 503 rfl (by decide) (by decide) (by decide) rfl rfl rfl rfl hv0 c18 (x := m_i M 503 v0 (ixn v1)) ((m_i_ne (by decide)).trans rfl) dX5_tell_69 ?_
          refine z_iconst (pc := 70) C dX5_tell_70 ?_
          refine z_ic_eq (pc := 71) C dX5_tell_71 (tgt := 80) (by decide) (fun c19 => ?_) (fun c19 => ?_)
          · have h := itt c19 h
            refine z_aload_n (pc := 80) C 0 rfl dX5_tell_80 ?_
            refine gX5_506 (pc := 81) C rfl (Or.inl hv0) (x := m_i M 506 v0 0) ((m_i_ne (by decide)).trans rfl) dX5_tell_81 ?_
            refine z_sipush (pc := 84) C (by decide +kernel) dX5_tell_84 ?_
            refine z_ic_ne (pc := 87) C dX5_tell_87 (tgt := 96) (by decide) (fun c20 => ?_) (fun c20 => ?_)
            · have h := itf c20 h
              refine z_aload_n (pc := 96) C 0 rfl dX5_tell_96 ?_
              refine gX5_507 (pc := 97) C rfl hv0 dX5_tell_97 ?_
              refine z_aload_n (pc := 100) C 0 rfl dX5_tell_100 ?_
              refine gX5_506 (pc := 101) C rfl (Or.inl hv0) (x := m_i M 506 v0 0) ((m_i_ne (by decide)).trans rfl) dX5_tell_101 ?_
              refine z_iload_n (pc := 104) C 1 rfl dX5_tell_104 ?_
              obtain ⟨c21, h⟩ := ifn h
              refine z_isO (pc := 105) (k := 5) (j := 7) C 507 rfl (by decide) (by decide) (by decide) rfl rfl rfl rfl hv0 c21 dX5_tell_105 ?_
              refine z_aload_n (pc := 106) C 0 rfl dX5_tell_106 ?_
              refine gX5_508 (pc := 107) C rfl hv0 dX5_tell_107 ?_
              refine z_aload_n (pc := 110) C 0 rfl dX5_tell_110 ?_
              refine gX5_506 (pc := 111) C rfl (Or.inl hv0) (x := m_i M 506 v0 0) ((m_i_ne (by decide)).trans ((m_i_ne (by decide)).trans rfl)) dX5_tell_111 ?_
              refine z_iload_n (pc := 114) C 2 rfl dX5_tell_114 ?_
              refine z_isO (pc := 115) (k := 5) (j := 8) C 508 rfl (by decide) (by decide) (by decide) rfl rfl rfl rfl hv0 c21 dX5_tell_115 ?_
              refine z_aload_n (pc := 116) C 0 rfl dX5_tell_116 ?_
              refine gX5_509 (pc := 117) C rfl hv0 dX5_tell_117 ?_
              refine z_aload_n (pc := 120) C 0 rfl dX5_tell_120 ?_
              refine gX5_506 (pc := 121) C rfl (Or.inl hv0) (x := m_i M 506 v0 0) ((m_i_ne (by decide)).trans ((m_i_ne (by decide)).trans ((m_i_ne (by decide)).trans rfl))) dX5_tell_121 ?_
              refine z_iload_n (pc := 124) C 3 rfl dX5_tell_124 ?_
              refine z_isO (pc := 125) (k := 5) (j := 9) C 509 rfl (by decide) (by decide) (by decide) rfl rfl rfl rfl hv0 c21 dX5_tell_125 ?_
              refine z_aload_n (pc := 126) C 0 rfl dX5_tell_126 ?_
              refine gX5_510 (pc := 127) C rfl hv0 dX5_tell_127 ?_
              refine z_aload_n (pc := 130) C 0 rfl dX5_tell_130 ?_
              refine gX5_506 (pc := 131) C rfl (Or.inl hv0) (x := m_i M 506 v0 0) ((m_i_ne (by decide)).trans ((m_i_ne (by decide)).trans ((m_i_ne (by decide)).trans ((m_i_ne (by decide)).trans rfl)))) dX5_tell_131 ?_
              refine z_iload (pc := 134) C 4 rfl dX5_tell_134 ?_
              refine z_isO (pc := 136) (k := 5) (j := 10) C 510 rfl (by decide) (by decide) (by decide) rfl rfl rfl rfl hv0 c21 dX5_tell_136 ?_
              refine z_aload_n (pc := 137) C 0 rfl dX5_tell_137 ?_
              refine gX5_511 (pc := 138) C rfl hv0 dX5_tell_138 ?_
              refine z_aload_n (pc := 141) C 0 rfl dX5_tell_141 ?_
              refine gX5_506 (pc := 142) C rfl (Or.inl hv0) (x := m_i M 506 v0 0) ((m_i_ne (by decide)).trans ((m_i_ne (by decide)).trans ((m_i_ne (by decide)).trans ((m_i_ne (by decide)).trans ((m_i_ne (by decide)).trans rfl))))) dX5_tell_142 ?_
              refine z_aload_n (pc := 145) C 0 rfl dX5_tell_145 ?_
              refine cX5_233 (pc := 146) (st := [vI (m_i M 506 v0 0), .ref (v0 + 7)]) (st1 := [vI (d_X5_today v0 (m_si (m_si (m_si (m_si (m_si M 500 v0 0 0) 507 v0 (ixn (m_i M 506 v0 0)) v1) 508 v0 (ixn (m_i M 506 v0 0)) v2) 509 v0 (ixn (m_i M 506 v0 0)) v3) 510 v0 (ixn (m_i M 506 v0 0)) v4)), vI (m_i M 506 v0 0), .ref (v0 + 7)]) C rfl (rm := { frames := 1, cells := 0, slots := 0, locals := 24 }) (ct_X5_today C.2.1 v0 (m_si (m_si (m_si (m_si (m_si M 500 v0 0 0) 507 v0 (ixn (m_i M 506 v0 0)) v1) 508 v0 (ixn (m_i M 506 v0 0)) v2) 509 v0 (ixn (m_i M 506 v0 0)) v3) 510 v0 (ixn (m_i M 506 v0 0)) v4) _ hv0 rfl) ⟨by decide, by decide, Nat.zero_le _, Nat.zero_le _⟩ (Or.inl hv0) rfl (Nat.le_of_ble_eq_true rfl) dX5_tell_146 (c2 := 0) (s2 := 0) rfl rfl (fun _ => ?_)
              refine z_isO (pc := 149) (k := 5) (j := 11) C 511 rfl (by decide) (by decide) (by decide) rfl rfl rfl rfl hv0 c21 dX5_tell_149 ?_
              refine z_aload_n (pc := 150) C 0 rfl dX5_tell_150 ?_
              refine z_dup (pc := 151) C rfl dX5_tell_151 ?_
              refine gX5_506 (pc := 152) C rfl (Or.inl hv0) (x := m_i M 506 v0 0) ((m_i_ne (by decide)).trans ((m_i_ne (by decide)).trans ((m_i_ne (by decide)).trans ((m_i_ne (by decide)).trans ((m_i_ne (by decide)).trans ((m_i_ne (by decide)).trans rfl)))))) dX5_tell_152 ?_
              refine z_iconst (pc := 155) C dX5_tell_155 ?_
              refine z_iadd (pc := 156) C dX5_tell_156 ?_
              refine pX5_506 (pc := 157) C rfl (Or.inl hv0) dX5_tell_157 ?_
              refine z_aload_n (pc := 160) C 0 rfl dX5_tell_160 ?_
              refine gX5_506 (pc := 161) C rfl (Or.inl hv0) (x := (m_i M 506 v0 0) + 1) (m_i_self _ _ _ _ _) dX5_tell_161 ?_
              cases h
              exact z_iret (pc := 164) C rfl (show 0 ≤ 0 from by decide) (show 0 ≤ 0 from by decide) dX5_tell_164
            · have h := itt c20 h
              refine z_aload_n (pc := 90) C 0 rfl dX5_tell_90 ?_
              refine z_iconst (pc := 91) C dX5_tell_91 ?_
              obtain ⟨r23, M24, e25, h⟩ := bNs h
              refine cX5_213 (pc := 92) (st := []) (st1 := [vI r23]) C rfl (rm := { frames := 1, cells := 0, slots := 0, locals := 24 }) (ct_X5_fail C.2.1 v0 4 (m_si M 500 v0 0 0) _ _ hv0 e25) ⟨by decide, by decide, Nat.zero_le _, Nat.zero_le _⟩ (Or.inl hv0) rfl (Nat.le_of_ble_eq_true rfl) dX5_tell_92 (c2 := 0) (s2 := 0) rfl rfl (fun x26 => ?_)
              cases h
              exact z_iret (pc := 95) C rfl (show 0 ≤ 0 from by decide) (show 0 ≤ 0 from by decide) dX5_tell_95
          · have h := itf c19 h
            refine z_aload_n (pc := 74) C 0 rfl dX5_tell_74 ?_
            refine z_iconst (pc := 75) C dX5_tell_75 ?_
            obtain ⟨r27, M28, e29, h⟩ := bNs h
            refine cX5_213 (pc := 76) (st := []) (st1 := [vI r27]) C rfl (rm := { frames := 1, cells := 0, slots := 0, locals := 24 }) (ct_X5_fail C.2.1 v0 3 (m_si M 500 v0 0 0) _ _ hv0 e29) ⟨by decide, by decide, Nat.zero_le _, Nat.zero_le _⟩ (Or.inl hv0) rfl (Nat.le_of_ble_eq_true rfl) dX5_tell_76 (c2 := 0) (s2 := 0) rfl rfl (fun x30 => ?_)
            cases h
            exact z_iret (pc := 79) C rfl (show 0 ≤ 0 from by decide) (show 0 ≤ 0 from by decide) dX5_tell_79
        · have h := itt c17 h
          refine z_aload_n (pc := 58) C 0 rfl dX5_tell_58 ?_
          refine z_iconst (pc := 59) C dX5_tell_59 ?_
          obtain ⟨r31, M32, e33, h⟩ := bNs h
          refine cX5_213 (pc := 60) (st := []) (st1 := [vI r31]) C rfl (rm := { frames := 1, cells := 0, slots := 0, locals := 24 }) (ct_X5_fail C.2.1 v0 2 (m_si M 500 v0 0 0) _ _ hv0 e33) ⟨by decide, by decide, Nat.zero_le _, Nat.zero_le _⟩ (Or.inl hv0) rfl (Nat.le_of_ble_eq_true rfl) dX5_tell_60 (c2 := 0) (s2 := 0) rfl rfl (fun x34 => ?_)
          cases h
          exact z_iret (pc := 63) C rfl (show 0 ≤ 0 from by decide) (show 0 ≤ 0 from by decide) dX5_tell_63
    · have h := itt c9 h
      refine z_aload_n (pc := 25) C 0 rfl dX5_tell_25 ?_
      refine z_iconst (pc := 26) C dX5_tell_26 ?_
      obtain ⟨r35, M36, e37, h⟩ := bNs h
      refine cX5_213 (pc := 27) (st := []) (st1 := [vI r35]) C rfl (rm := { frames := 1, cells := 0, slots := 0, locals := 24 }) (ct_X5_fail C.2.1 v0 1 (m_si M 500 v0 0 0) _ _ hv0 e37) ⟨by decide, by decide, Nat.zero_le _, Nat.zero_le _⟩ (Or.inl hv0) rfl (Nat.le_of_ble_eq_true rfl) dX5_tell_27 (c2 := 0) (s2 := 0) rfl rfl (fun x38 => ?_)
      cases h
      exact z_iret (pc := 30) C rfl (show 0 ≤ 0 from by decide) (show 0 ≤ 0 from by decide) dX5_tell_30
def B_X5_lastAs_2 (k2 : Nat → Int → Int → Mem → Option Int) (v0 : Nat) (v2 : Int) (v3 : Int) (M : Mem) : Option Int :=
  if inb v3 100 then 
  if w32 (m_i M 503 v0 (ixn v3)) = w32 (-1) then
    some v3
  else
    if w32 v2 < w32 (m_i M 504 v0 (ixn v3)) then
      some v3
    else
      k2 v0 v2 (m_i M 503 v0 (ixn v3)) M else none
def L_X5_lastAs_2  : Nat → Nat → Int → Int → Mem → Option Int
  | 0, _, _, _, _ => none
  | n + 1, v0, v2, v3, M => B_X5_lastAs_2 (L_X5_lastAs_2  n) v0 v2 v3 M
def d_X5_lastAs (v0 : Nat) (v1 : Int) (v2 : Int) (M : Mem) : Option Int :=
  L_X5_lastAs_2 FU v0 v2 v1 M
theorem cB_X5_lastAs_2 {X : x_Ctx} {M0 : Mem} (C : x_CC X 1 24 yX5_lastAs cX5_lastAs 4 (some .int) []) {k2 : Nat → Int → Int → Mem → Option Int} (hk2 : ∀ (v0 : Nat) (v2 : Int) (v3 : Int) (M : Mem) (r : Int), m_kd M v0 = 5 → k2 v0 v2 v3 M = some r → x_Z X 0 0 (x_QF X M0 (.returned (some (vI r))) M 0 0) M0 M 4 [(0, .ref v0), (2, vI v2), (3, vI v3)] 2 []) (v0 : Nat) (v2 : Int) (v3 : Int) (M : Mem) (r : Int) (hv0 : m_kd M v0 = 5) (h : B_X5_lastAs_2 k2 v0 v2 v3 M = some r)  : x_Z X 0 0 (x_QF X M0 (.returned (some (vI r))) M 0 0) M0 M 4 [(0, .ref v0), (2, vI v2), (3, vI v3)] 2 [] := by
  unfold B_X5_lastAs_2 at h
  refine z_aload_n (pc := 2) C 0 rfl dX5_lastAs_2 ?_
  refine gX5_503 (pc := 3) C rfl hv0 dX5_lastAs_3 ?_
  refine z_iload_n (pc := 6) C 2 rfl dX5_lastAs_6 ?_
  obtain ⟨c1, h⟩ := ifn h
  refine z_iaO (pc := 7) (k := 5) (j := 3) C 503 rfl (by decide) (by decide) (by decide) rfl rfl rfl rfl hv0 c1 rfl dX5_lastAs_7 ?_
  refine z_iconst (pc := 8) C dX5_lastAs_8 ?_
  refine z_ic_eq (pc := 9) C dX5_lastAs_9 (tgt := 32) (by decide) (fun c2 => ?_) (fun c2 => ?_)
  · have h := itt c2 h
    refine z_iload_n (pc := 32) C 2 rfl dX5_lastAs_32 ?_
    cases h
    exact z_iret (pc := 33) C rfl (show 0 ≤ 0 from by decide) (show 0 ≤ 0 from by decide) dX5_lastAs_33
  · have h := itf c2 h
    refine z_aload_n (pc := 12) C 0 rfl dX5_lastAs_12 ?_
    refine gX5_504 (pc := 13) C rfl hv0 dX5_lastAs_13 ?_
    refine z_iload_n (pc := 16) C 2 rfl dX5_lastAs_16 ?_
    refine z_iaO (pc := 17) (k := 5) (j := 4) C 504 rfl (by decide) (by decide) (by decide) rfl rfl rfl rfl hv0 c1 rfl dX5_lastAs_17 ?_
    refine z_iload_n (pc := 18) C 1 rfl dX5_lastAs_18 ?_
    refine z_ic_gt (pc := 19) C dX5_lastAs_19 (tgt := 32) (by decide) (fun c3 => ?_) (fun c3 => ?_)
    · have h := itt c3 h
      refine z_iload_n (pc := 32) C 2 rfl dX5_lastAs_32 ?_
      cases h
      exact z_iret (pc := 33) C rfl (show 0 ≤ 0 from by decide) (show 0 ≤ 0 from by decide) dX5_lastAs_33
    · have h := itf c3 h
      refine z_aload_n (pc := 22) C 0 rfl dX5_lastAs_22 ?_
      refine gX5_503 (pc := 23) C rfl hv0 dX5_lastAs_23 ?_
      refine z_iload_n (pc := 26) C 2 rfl dX5_lastAs_26 ?_
      refine z_iaO (pc := 27) (k := 5) (j := 3) C 503 rfl (by decide) (by decide) (by decide) rfl rfl rfl rfl hv0 c1 rfl dX5_lastAs_27 ?_
      refine z_istore_n (pc := 28) C (lv' := [(0, .ref v0), (2, vI v2), (3, vI (m_i M 503 v0 (ixn v3)))]) (by decide) rfl dX5_lastAs_28 ?_
      refine z_goto (pc := 29) C dX5_lastAs_29 (tgt := 2) (by decide) ?_
      exact hk2 v0 v2 (m_i M 503 v0 (ixn v3)) M _ hv0 h
theorem cL_X5_lastAs_2 {X : x_Ctx} {M0 : Mem} (C : x_CC X 1 24 yX5_lastAs cX5_lastAs 4 (some .int) [])  : ∀ (n : Nat) (v0 : Nat) (v2 : Int) (v3 : Int) (M : Mem) (r : Int) (hv0 : m_kd M v0 = 5) (h : L_X5_lastAs_2  n v0 v2 v3 M = some r) , x_Z X 0 0 (x_QF X M0 (.returned (some (vI r))) M 0 0) M0 M 4 [(0, .ref v0), (2, vI v2), (3, vI v3)] 2 [] := by
  intro n
  induction n with
  | zero => intro v0 v2 v3 M r hv0 h ; cases h
  | succ n ih => intro v0 v2 v3 M r hv0 h ; exact cB_X5_lastAs_2 C (fun v0 v2 v3 M r hv0 h  => ih v0 v2 v3 M r hv0 h ) v0 v2 v3 M r hv0 h 
theorem ct_X5_lastAs {l : Launch} {S0 : State} {D : va_G} {cA : Nat → ClassId} (hG : x_G l S0 D cA) (v0 : Nat) (v1 : Int) (v2 : Int) (M : Mem) (r : Int) (hv0 : m_kd M v0 = 5) (h : d_X5_lastAs v0 v1 v2 M = some r) : x_Me l S0 D cA yX5_lastAs cX5_lastAs 4 (some .int) [] ({ frames := 1, cells := 0, slots := 0, locals := 24 }) [.ref v0, vI v1, vI v2] M (.returned (some (vI r))) M := by
  refine x_begin (F := 1) (Lo := 24) (mc := 0) (ms := 0) hG (Nat.le_of_ble_eq_true rfl) (lv := [(0, .ref v0), (1, vI v1), (2, vI v2)]) rfl rfl rfl rfl rfl (fun X e1 e2 e3 e4 e5 C => ?_)
  unfold d_X5_lastAs at h
  refine z_iload_n (pc := 0) C 1 rfl dX5_lastAs_0 ?_
  refine z_istore_n (pc := 1) C (lv' := [(0, .ref v0), (1, vI v1), (2, vI v2), (3, vI v1)]) (by decide) rfl dX5_lastAs_1 ?_
  exact z_lv [0, 2, 3] rfl <| cL_X5_lastAs_2 C FU v0 v2 v1 M _ hv0 h
def d_X5_merge (v0 : Nat) (v1 : Int) (v2 : Int) (M : Mem) : Option (Int × Mem) :=
  bR (d_X5_isUnit v0 v1 (m_si M 500 v0 0 0)) fun r1 => 
  if w32 r1 = 0 then
    bN (d_X5_fail v0 1 (m_si M 500 v0 0 0)) fun r4 M5 => 
    some (r4, M5)
  else
    bR (d_X5_isUnit v0 v2 (m_si M 500 v0 0 0)) fun r8 => 
    if w32 r8 = 0 then
      bN (d_X5_fail v0 1 (m_si M 500 v0 0 0)) fun r32 M33 => 
      some (r32, M33)
    else
      if inb v1 100 then 
      if w32 (m_i M 503 v0 (ixn v1)) = w32 (-1) then
        bR (d_X5_lastAs v0 v1 (d_X5_today v0 (m_si M 500 v0 0 0)) (m_si M 500 v0 0 0)) fun r18 => 
        bR (d_X5_lastAs v0 v2 (d_X5_today v0 (m_si M 500 v0 0 0)) (m_si M 500 v0 0 0)) fun r21 => 
        if w32 r18 = w32 r21 then
          bN (d_X5_fail v0 2 (m_si M 500 v0 0 0)) fun r28 M29 => 
          some (r28, M29)
        else
          bR (d_X5_lastAs v0 v1 (d_X5_today v0 (m_si (m_si (m_si (m_si M 500 v0 0 0) 503 v0 (ixn v1) v2) 504 v0 (ixn v1) (d_X5_today v0 (m_si (m_si M 500 v0 0 0) 503 v0 (ixn v1) v2))) 505 v0 0 ((m_i M 505 v0 0) + 1))) (m_si (m_si (m_si (m_si M 500 v0 0 0) 503 v0 (ixn v1) v2) 504 v0 (ixn v1) (d_X5_today v0 (m_si (m_si M 500 v0 0 0) 503 v0 (ixn v1) v2))) 505 v0 0 ((m_i M 505 v0 0) + 1))) fun r26 => 
          some (r26, (m_si (m_si (m_si (m_si M 500 v0 0 0) 503 v0 (ixn v1) v2) 504 v0 (ixn v1) (d_X5_today v0 (m_si (m_si M 500 v0 0 0) 503 v0 (ixn v1) v2))) 505 v0 0 ((m_i M 505 v0 0) + 1)))
      else
        bN (d_X5_fail v0 2 (m_si M 500 v0 0 0)) fun r13 M14 => 
        some (r13, M14) else none
theorem ct_X5_merge {l : Launch} {S0 : State} {D : va_G} {cA : Nat → ClassId} (hG : x_G l S0 D cA) (v0 : Nat) (v1 : Int) (v2 : Int) (M : Mem) (r : Int) (M' : Mem) (hv0 : m_kd M v0 = 5) (h : d_X5_merge v0 v1 v2 M = some (r, M')) : x_Me l S0 D cA yX5_merge cX5_merge 3 (some .int) [] ({ frames := 3, cells := 0, slots := 0, locals := 78 }) [.ref v0, vI v1, vI v2] M (.returned (some (vI r))) M' := by
  refine x_begin (F := 3) (Lo := 78) (mc := 0) (ms := 0) hG (Nat.le_of_ble_eq_true rfl) (lv := [(0, .ref v0), (1, vI v1), (2, vI v2)]) rfl rfl rfl rfl rfl (fun X e1 e2 e3 e4 e5 C => ?_)
  unfold d_X5_merge at h
  refine z_aload_n (pc := 0) C 0 rfl dX5_merge_0 ?_
  refine z_iconst (pc := 1) C dX5_merge_1 ?_
  refine pX5_500 (pc := 2) C rfl (Or.inl hv0) dX5_merge_2 ?_
  refine z_aload_n (pc := 5) C 0 rfl dX5_merge_5 ?_
  refine z_iload_n (pc := 6) C 1 rfl dX5_merge_6 ?_
  obtain ⟨r1, e2, h⟩ := bRs h
  refine cX5_220 (pc := 7) (st := []) (st1 := [vI r1]) C rfl (rm := { frames := 2, cells := 0, slots := 0, locals := 53 }) (ct_X5_isUnit C.2.1 v0 v1 (m_si M 500 v0 0 0) _ hv0 e2) ⟨by decide, by decide, Nat.zero_le _, Nat.zero_le _⟩ (Or.inl hv0) rfl (Nat.le_of_ble_eq_true rfl) dX5_merge_7 (c2 := 0) (s2 := 0) rfl rfl (fun _ => ?_)
  refine z_if_eq (pc := 10) C dX5_merge_10 (tgt := 21) (by decide) (fun c3 => ?_) (fun c3 => ?_)
  · have h := itt c3 h
    refine z_aload_n (pc := 21) C 0 rfl dX5_merge_21 ?_
    refine z_iconst (pc := 22) C dX5_merge_22 ?_
    obtain ⟨r4, M5, e6, h⟩ := bNs h
    refine cX5_213 (pc := 23) (st := []) (st1 := [vI r4]) C rfl (rm := { frames := 1, cells := 0, slots := 0, locals := 24 }) (ct_X5_fail C.2.1 v0 1 (m_si M 500 v0 0 0) _ _ hv0 e6) ⟨by decide, by decide, Nat.zero_le _, Nat.zero_le _⟩ (Or.inl hv0) rfl (Nat.le_of_ble_eq_true rfl) dX5_merge_23 (c2 := 0) (s2 := 0) rfl rfl (fun x7 => ?_)
    cases h
    exact z_iret (pc := 26) C rfl (show 0 ≤ 0 from by decide) (show 0 ≤ 0 from by decide) dX5_merge_26
  · have h := itf c3 h
    refine z_aload_n (pc := 13) C 0 rfl dX5_merge_13 ?_
    refine z_iload_n (pc := 14) C 2 rfl dX5_merge_14 ?_
    obtain ⟨r8, e9, h⟩ := bRs h
    refine cX5_220 (pc := 15) (st := []) (st1 := [vI r8]) C rfl (rm := { frames := 2, cells := 0, slots := 0, locals := 53 }) (ct_X5_isUnit C.2.1 v0 v2 (m_si M 500 v0 0 0) _ hv0 e9) ⟨by decide, by decide, Nat.zero_le _, Nat.zero_le _⟩ (Or.inl hv0) rfl (Nat.le_of_ble_eq_true rfl) dX5_merge_15 (c2 := 0) (s2 := 0) rfl rfl (fun _ => ?_)
    refine z_if_ne (pc := 18) C dX5_merge_18 (tgt := 27) (by decide) (fun c10 => ?_) (fun c10 => ?_)
    · have h := itf c10 h
      refine z_aload_n (pc := 27) C 0 rfl dX5_merge_27 ?_
      refine gX5_503 (pc := 28) C rfl hv0 dX5_merge_28 ?_
      refine z_iload_n (pc := 31) C 1 rfl dX5_merge_31 ?_
      obtain ⟨c11, h⟩ := ifn h
      refine z_iaO (pc := 32) (k := 5) (j := 3) C 503 rfl (by decide) (by decide) (by decide) rfl rfl rfl rfl hv0 c11 (x := m_i M 503 v0 (ixn v1)) ((m_i_ne (by decide)).trans rfl) dX5_merge_32 ?_
      refine z_iconst (pc := 33) C dX5_merge_33 ?_
      refine z_ic_ne (pc := 34) C dX5_merge_34 (tgt := 58) (by decide) (fun c12 => ?_) (fun c12 => ?_)
      · have h := itf c12 h
        refine z_aload_n (pc := 58) C 0 rfl dX5_merge_58 ?_
        refine z_iconst (pc := 59) C dX5_merge_59 ?_
        obtain ⟨r13, M14, e15, h⟩ := bNs h
        refine cX5_213 (pc := 60) (st := []) (st1 := [vI r13]) C rfl (rm := { frames := 1, cells := 0, slots := 0, locals := 24 }) (ct_X5_fail C.2.1 v0 2 (m_si M 500 v0 0 0) _ _ hv0 e15) ⟨by decide, by decide, Nat.zero_le _, Nat.zero_le _⟩ (Or.inl hv0) rfl (Nat.le_of_ble_eq_true rfl) dX5_merge_60 (c2 := 0) (s2 := 0) rfl rfl (fun x16 => ?_)
        cases h
        exact z_iret (pc := 63) C rfl (show 0 ≤ 0 from by decide) (show 0 ≤ 0 from by decide) dX5_merge_63
      · have h := itt c12 h
        refine z_aload_n (pc := 37) C 0 rfl dX5_merge_37 ?_
        refine z_iload_n (pc := 38) C 1 rfl dX5_merge_38 ?_
        refine z_aload_n (pc := 39) C 0 rfl dX5_merge_39 ?_
        refine cX5_233 (pc := 40) (st := [vI v1, .ref v0]) (st1 := [vI (d_X5_today v0 (m_si M 500 v0 0 0)), vI v1, .ref v0]) C rfl (rm := { frames := 1, cells := 0, slots := 0, locals := 24 }) (ct_X5_today C.2.1 v0 (m_si M 500 v0 0 0) _ hv0 rfl) ⟨by decide, by decide, Nat.zero_le _, Nat.zero_le _⟩ (Or.inl hv0) rfl (Nat.le_of_ble_eq_true rfl) dX5_merge_40 (c2 := 0) (s2 := 0) rfl rfl (fun _ => ?_)
        obtain ⟨r18, e19, h⟩ := bRs h
        refine cX5_237 (pc := 43) (st := []) (st1 := [vI r18]) C rfl (rm := { frames := 1, cells := 0, slots := 0, locals := 24 }) (ct_X5_lastAs C.2.1 v0 v1 (d_X5_today v0 (m_si M 500 v0 0 0)) (m_si M 500 v0 0 0) _ hv0 e19) ⟨by decide, by decide, Nat.zero_le _, Nat.zero_le _⟩ (Or.inl hv0) rfl (Nat.le_of_ble_eq_true rfl) dX5_merge_43 (c2 := 0) (s2 := 0) rfl rfl (fun _ => ?_)
        refine z_aload_n (pc := 46) C 0 rfl dX5_merge_46 ?_
        refine z_iload_n (pc := 47) C 2 rfl dX5_merge_47 ?_
        refine z_aload_n (pc := 48) C 0 rfl dX5_merge_48 ?_
        refine cX5_233 (pc := 49) (st := [vI v2, .ref v0, vI r18]) (st1 := [vI (d_X5_today v0 (m_si M 500 v0 0 0)), vI v2, .ref v0, vI r18]) C rfl (rm := { frames := 1, cells := 0, slots := 0, locals := 24 }) (ct_X5_today C.2.1 v0 (m_si M 500 v0 0 0) _ hv0 rfl) ⟨by decide, by decide, Nat.zero_le _, Nat.zero_le _⟩ (Or.inl hv0) rfl (Nat.le_of_ble_eq_true rfl) dX5_merge_49 (c2 := 0) (s2 := 0) rfl rfl (fun _ => ?_)
        obtain ⟨r21, e22, h⟩ := bRs h
        refine cX5_237 (pc := 52) (st := [vI r18]) (st1 := [vI r21, vI r18]) C rfl (rm := { frames := 1, cells := 0, slots := 0, locals := 24 }) (ct_X5_lastAs C.2.1 v0 v2 (d_X5_today v0 (m_si M 500 v0 0 0)) (m_si M 500 v0 0 0) _ hv0 e22) ⟨by decide, by decide, Nat.zero_le _, Nat.zero_le _⟩ (Or.inl hv0) rfl (Nat.le_of_ble_eq_true rfl) dX5_merge_52 (c2 := 0) (s2 := 0) rfl rfl (fun _ => ?_)
        refine z_ic_ne (pc := 55) C dX5_merge_55 (tgt := 64) (by decide) (fun c23 => ?_) (fun c23 => ?_)
        · have h := itf c23 h
          refine z_aload_n (pc := 64) C 0 rfl dX5_merge_64 ?_
          refine gX5_503 (pc := 65) C rfl hv0 dX5_merge_65 ?_
          refine z_iload_n (pc := 68) C 1 rfl dX5_merge_68 ?_
          refine z_iload_n (pc := 69) C 2 rfl dX5_merge_69 ?_
          refine z_isO (pc := 70) (k := 5) (j := 3) C 503 rfl (by decide) (by decide) (by decide) rfl rfl rfl rfl hv0 c11 dX5_merge_70 ?_
          refine z_aload_n (pc := 71) C 0 rfl dX5_merge_71 ?_
          refine gX5_504 (pc := 72) C rfl hv0 dX5_merge_72 ?_
          refine z_iload_n (pc := 75) C 1 rfl dX5_merge_75 ?_
          refine z_aload_n (pc := 76) C 0 rfl dX5_merge_76 ?_
          refine cX5_233 (pc := 77) (st := [vI v1, .ref (v0 + 2)]) (st1 := [vI (d_X5_today v0 (m_si (m_si M 500 v0 0 0) 503 v0 (ixn v1) v2)), vI v1, .ref (v0 + 2)]) C rfl (rm := { frames := 1, cells := 0, slots := 0, locals := 24 }) (ct_X5_today C.2.1 v0 (m_si (m_si M 500 v0 0 0) 503 v0 (ixn v1) v2) _ hv0 rfl) ⟨by decide, by decide, Nat.zero_le _, Nat.zero_le _⟩ (Or.inl hv0) rfl (Nat.le_of_ble_eq_true rfl) dX5_merge_77 (c2 := 0) (s2 := 0) rfl rfl (fun _ => ?_)
          refine z_isO (pc := 80) (k := 5) (j := 4) C 504 rfl (by decide) (by decide) (by decide) rfl rfl rfl rfl hv0 c11 dX5_merge_80 ?_
          refine z_aload_n (pc := 81) C 0 rfl dX5_merge_81 ?_
          refine z_dup (pc := 82) C rfl dX5_merge_82 ?_
          refine gX5_505 (pc := 83) C rfl (Or.inl hv0) (x := m_i M 505 v0 0) ((m_i_ne (by decide)).trans ((m_i_ne (by decide)).trans ((m_i_ne (by decide)).trans rfl))) dX5_merge_83 ?_
          refine z_iconst (pc := 86) C dX5_merge_86 ?_
          refine z_iadd (pc := 87) C dX5_merge_87 ?_
          refine pX5_505 (pc := 88) C rfl (Or.inl hv0) dX5_merge_88 ?_
          refine z_aload_n (pc := 91) C 0 rfl dX5_merge_91 ?_
          refine z_iload_n (pc := 92) C 1 rfl dX5_merge_92 ?_
          refine z_aload_n (pc := 93) C 0 rfl dX5_merge_93 ?_
          refine cX5_233 (pc := 94) (st := [vI v1, .ref v0]) (st1 := [vI (d_X5_today v0 (m_si (m_si (m_si (m_si M 500 v0 0 0) 503 v0 (ixn v1) v2) 504 v0 (ixn v1) (d_X5_today v0 (m_si (m_si M 500 v0 0 0) 503 v0 (ixn v1) v2))) 505 v0 0 ((m_i M 505 v0 0) + 1))), vI v1, .ref v0]) C rfl (rm := { frames := 1, cells := 0, slots := 0, locals := 24 }) (ct_X5_today C.2.1 v0 (m_si (m_si (m_si (m_si M 500 v0 0 0) 503 v0 (ixn v1) v2) 504 v0 (ixn v1) (d_X5_today v0 (m_si (m_si M 500 v0 0 0) 503 v0 (ixn v1) v2))) 505 v0 0 ((m_i M 505 v0 0) + 1)) _ hv0 rfl) ⟨by decide, by decide, Nat.zero_le _, Nat.zero_le _⟩ (Or.inl hv0) rfl (Nat.le_of_ble_eq_true rfl) dX5_merge_94 (c2 := 0) (s2 := 0) rfl rfl (fun _ => ?_)
          obtain ⟨r26, e27, h⟩ := bRs h
          refine cX5_237 (pc := 97) (st := []) (st1 := [vI r26]) C rfl (rm := { frames := 1, cells := 0, slots := 0, locals := 24 }) (ct_X5_lastAs C.2.1 v0 v1 (d_X5_today v0 (m_si (m_si (m_si (m_si M 500 v0 0 0) 503 v0 (ixn v1) v2) 504 v0 (ixn v1) (d_X5_today v0 (m_si (m_si M 500 v0 0 0) 503 v0 (ixn v1) v2))) 505 v0 0 ((m_i M 505 v0 0) + 1))) (m_si (m_si (m_si (m_si M 500 v0 0 0) 503 v0 (ixn v1) v2) 504 v0 (ixn v1) (d_X5_today v0 (m_si (m_si M 500 v0 0 0) 503 v0 (ixn v1) v2))) 505 v0 0 ((m_i M 505 v0 0) + 1)) _ hv0 e27) ⟨by decide, by decide, Nat.zero_le _, Nat.zero_le _⟩ (Or.inl hv0) rfl (Nat.le_of_ble_eq_true rfl) dX5_merge_97 (c2 := 0) (s2 := 0) rfl rfl (fun _ => ?_)
          cases h
          exact z_iret (pc := 100) C rfl (show 0 ≤ 0 from by decide) (show 0 ≤ 0 from by decide) dX5_merge_100
        · have h := itt c23 h
          refine z_aload_n (pc := 58) C 0 rfl dX5_merge_58 ?_
          refine z_iconst (pc := 59) C dX5_merge_59 ?_
          obtain ⟨r28, M29, e30, h⟩ := bNs h
          refine cX5_213 (pc := 60) (st := []) (st1 := [vI r28]) C rfl (rm := { frames := 1, cells := 0, slots := 0, locals := 24 }) (ct_X5_fail C.2.1 v0 2 (m_si M 500 v0 0 0) _ _ hv0 e30) ⟨by decide, by decide, Nat.zero_le _, Nat.zero_le _⟩ (Or.inl hv0) rfl (Nat.le_of_ble_eq_true rfl) dX5_merge_60 (c2 := 0) (s2 := 0) rfl rfl (fun x31 => ?_)
          cases h
          exact z_iret (pc := 63) C rfl (show 0 ≤ 0 from by decide) (show 0 ≤ 0 from by decide) dX5_merge_63
    · have h := itt c10 h
      refine z_aload_n (pc := 21) C 0 rfl dX5_merge_21 ?_
      refine z_iconst (pc := 22) C dX5_merge_22 ?_
      obtain ⟨r32, M33, e34, h⟩ := bNs h
      refine cX5_213 (pc := 23) (st := []) (st1 := [vI r32]) C rfl (rm := { frames := 1, cells := 0, slots := 0, locals := 24 }) (ct_X5_fail C.2.1 v0 1 (m_si M 500 v0 0 0) _ _ hv0 e34) ⟨by decide, by decide, Nat.zero_le _, Nat.zero_le _⟩ (Or.inl hv0) rfl (Nat.le_of_ble_eq_true rfl) dX5_merge_23 (c2 := 0) (s2 := 0) rfl rfl (fun x35 => ?_)
      cases h
      exact z_iret (pc := 26) C rfl (show 0 ≤ 0 from by decide) (show 0 ≤ 0 from by decide) dX5_merge_26
def B_X5_valueOf_77 (k6 : Nat → Int → Int → Int → Int → Int → Int → Mem → Option Int) (v0 : Nat) (v1 : Int) (v2 : Int) (v3 : Int) (v4 : Int) (v5 : Int) (v6 : Int) (s0 : Int) (M : Mem) : Option Int :=
  if w32 s0 = 0 then
    k6 v0 v1 v2 v3 v4 v5 (v6 + 1) M
  else
    if w32 v5 = w32 (-1) then
      k6 v0 v1 v2 v3 v4 v6 (v6 + 1) M
    else
      if inb v6 1500 then 
      if inb v5 1500 then 
      if w32 (m_i M 509 v0 (ixn v6)) < w32 (m_i M 509 v0 (ixn v5)) then
        k6 v0 v1 v2 v3 v4 v5 (v6 + 1) M
      else
        k6 v0 v1 v2 v3 v4 v6 (v6 + 1) M else none else none
def B_X5_valueOf_76 (k6 : Nat → Int → Int → Int → Int → Int → Int → Mem → Option Int) (v0 : Nat) (v1 : Int) (v2 : Int) (v3 : Int) (v4 : Int) (v5 : Int) (v6 : Int) (M : Mem) : Option Int :=
  B_X5_valueOf_77 k6 v0 v1 v2 v3 v4 v5 v6 0 M
def B_X5_valueOf_6 (k6 : Nat → Int → Int → Int → Int → Int → Int → Mem → Option Int) (v0 : Nat) (v1 : Int) (v2 : Int) (v3 : Int) (v4 : Int) (v5 : Int) (v6 : Int) (M : Mem) : Option Int :=
  if w32 (m_i M 506 v0 0) ≤ w32 v6 then
    if w32 v5 = w32 (-1) then
      some (-2000000)
    else
      if inb v5 1500 then 
      some (m_i M 510 v0 (ixn v5)) else none
  else
    if inb v6 1500 then 
    if w32 (m_i M 508 v0 (ixn v6)) = w32 v2 then
      if w32 v4 < w32 (m_i M 511 v0 (ixn v6)) then
        B_X5_valueOf_76 k6 v0 v1 v2 v3 v4 v5 v6 M
      else
        if w32 v3 < w32 (m_i M 509 v0 (ixn v6)) then
          B_X5_valueOf_76 k6 v0 v1 v2 v3 v4 v5 v6 M
        else
          bR (d_X5_lastAs v0 (m_i M 507 v0 (ixn v6)) v4 M) fun r13 => 
          bR (d_X5_lastAs v0 v1 v4 M) fun r15 => 
          if w32 r13 = w32 r15 then
            B_X5_valueOf_77 k6 v0 v1 v2 v3 v4 v5 v6 1 M
          else
            B_X5_valueOf_76 k6 v0 v1 v2 v3 v4 v5 v6 M
    else
      B_X5_valueOf_76 k6 v0 v1 v2 v3 v4 v5 v6 M else none
def L_X5_valueOf_6  : Nat → Nat → Int → Int → Int → Int → Int → Int → Mem → Option Int
  | 0, _, _, _, _, _, _, _, _ => none
  | n + 1, v0, v1, v2, v3, v4, v5, v6, M => B_X5_valueOf_6 (L_X5_valueOf_6  n) v0 v1 v2 v3 v4 v5 v6 M
def d_X5_valueOf (v0 : Nat) (v1 : Int) (v2 : Int) (v3 : Int) (v4 : Int) (M : Mem) : Option Int :=
  L_X5_valueOf_6 FU v0 v1 v2 v3 v4 (-1) 0 M
theorem cB_X5_valueOf_77 {X : x_Ctx} {M0 : Mem} (C : x_CC X 2 51 yX5_valueOf cX5_valueOf 8 (some .int) []) {k6 : Nat → Int → Int → Int → Int → Int → Int → Mem → Option Int} (hk6 : ∀ (v0 : Nat) (v1 : Int) (v2 : Int) (v3 : Int) (v4 : Int) (v5 : Int) (v6 : Int) (M : Mem) (r : Int), m_kd M v0 = 5 → k6 v0 v1 v2 v3 v4 v5 v6 M = some r → x_Z X 0 0 (x_QF X M0 (.returned (some (vI r))) M 0 0) M0 M 8 [(0, .ref v0), (1, vI v1), (2, vI v2), (3, vI v3), (4, vI v4), (5, vI v5), (6, vI v6)] 6 []) (v0 : Nat) (v1 : Int) (v2 : Int) (v3 : Int) (v4 : Int) (v5 : Int) (v6 : Int) (s0 : Int) (M : Mem) (r : Int) (hv0 : m_kd M v0 = 5) (h : B_X5_valueOf_77 k6 v0 v1 v2 v3 v4 v5 v6 s0 M = some r)  : x_Z X 0 0 (x_QF X M0 (.returned (some (vI r))) M 0 0) M0 M 8 [(0, .ref v0), (1, vI v1), (2, vI v2), (3, vI v3), (4, vI v4), (5, vI v5), (6, vI v6)] 77 [vI s0] := by
  unfold B_X5_valueOf_77 at h
  refine z_istore (pc := 77) C (lv' := [(0, .ref v0), (1, vI v1), (2, vI v2), (3, vI v3), (4, vI v4), (5, vI v5), (6, vI v6), (7, vI s0)]) (by decide) rfl dX5_valueOf_77 ?_
  refine z_iload (pc := 79) C 7 rfl dX5_valueOf_79 ?_
  refine z_if_eq (pc := 81) C dX5_valueOf_81 (tgt := 112) (by decide) (fun c6 => ?_) (fun c6 => ?_)
  · have h := itt c6 h
    refine z_iload (pc := 112) C 5 rfl dX5_valueOf_112 ?_
    refine z_istore (pc := 114) C (lv' := [(0, .ref v0), (1, vI v1), (2, vI v2), (3, vI v3), (4, vI v4), (5, vI v5), (6, vI v6), (7, vI s0)]) (by decide) rfl dX5_valueOf_114 ?_
    refine z_iinc (pc := 116) C (lv' := [(0, .ref v0), (1, vI v1), (2, vI v2), (3, vI v3), (4, vI v4), (5, vI v5), (6, vI (v6 + 1)), (7, vI s0)]) 6 rfl (by decide) rfl dX5_valueOf_116 ?_
    refine z_goto (pc := 119) C dX5_valueOf_119 (tgt := 6) (by decide) ?_
    exact z_lv [0, 1, 2, 3, 4, 5, 6] rfl <| hk6 v0 v1 v2 v3 v4 v5 (v6 + 1) M _ hv0 h
  · have h := itf c6 h
    refine z_iload (pc := 84) C 5 rfl dX5_valueOf_84 ?_
    refine z_iconst (pc := 86) C dX5_valueOf_86 ?_
    refine z_ic_eq (pc := 87) C dX5_valueOf_87 (tgt := 107) (by decide) (fun c7 => ?_) (fun c7 => ?_)
    · have h := itt c7 h
      refine z_iload (pc := 107) C 6 rfl dX5_valueOf_107 ?_
      refine z_goto (pc := 109) C dX5_valueOf_109 (tgt := 114) (by decide) ?_
      refine z_istore (pc := 114) C (lv' := [(0, .ref v0), (1, vI v1), (2, vI v2), (3, vI v3), (4, vI v4), (5, vI v6), (6, vI v6), (7, vI s0)]) (by decide) rfl dX5_valueOf_114 ?_
      refine z_iinc (pc := 116) C (lv' := [(0, .ref v0), (1, vI v1), (2, vI v2), (3, vI v3), (4, vI v4), (5, vI v6), (6, vI (v6 + 1)), (7, vI s0)]) 6 rfl (by decide) rfl dX5_valueOf_116 ?_
      refine z_goto (pc := 119) C dX5_valueOf_119 (tgt := 6) (by decide) ?_
      exact z_lv [0, 1, 2, 3, 4, 5, 6] rfl <| hk6 v0 v1 v2 v3 v4 v6 (v6 + 1) M _ hv0 h
    · have h := itf c7 h
      refine z_aload_n (pc := 90) C 0 rfl dX5_valueOf_90 ?_
      refine gX5_509 (pc := 91) C rfl hv0 dX5_valueOf_91 ?_
      refine z_iload (pc := 94) C 6 rfl dX5_valueOf_94 ?_
      obtain ⟨c8, h⟩ := ifn h
      refine z_iaO (pc := 96) (k := 5) (j := 9) C 509 rfl (by decide) (by decide) (by decide) rfl rfl rfl rfl hv0 c8 rfl dX5_valueOf_96 ?_
      refine z_aload_n (pc := 97) C 0 rfl dX5_valueOf_97 ?_
      refine gX5_509 (pc := 98) C rfl hv0 dX5_valueOf_98 ?_
      refine z_iload (pc := 101) C 5 rfl dX5_valueOf_101 ?_
      obtain ⟨c9, h⟩ := ifn h
      refine z_iaO (pc := 103) (k := 5) (j := 9) C 509 rfl (by decide) (by decide) (by decide) rfl rfl rfl rfl hv0 c9 rfl dX5_valueOf_103 ?_
      refine z_ic_lt (pc := 104) C dX5_valueOf_104 (tgt := 112) (by decide) (fun c10 => ?_) (fun c10 => ?_)
      · have h := itt c10 h
        refine z_iload (pc := 112) C 5 rfl dX5_valueOf_112 ?_
        refine z_istore (pc := 114) C (lv' := [(0, .ref v0), (1, vI v1), (2, vI v2), (3, vI v3), (4, vI v4), (5, vI v5), (6, vI v6), (7, vI s0)]) (by decide) rfl dX5_valueOf_114 ?_
        refine z_iinc (pc := 116) C (lv' := [(0, .ref v0), (1, vI v1), (2, vI v2), (3, vI v3), (4, vI v4), (5, vI v5), (6, vI (v6 + 1)), (7, vI s0)]) 6 rfl (by decide) rfl dX5_valueOf_116 ?_
        refine z_goto (pc := 119) C dX5_valueOf_119 (tgt := 6) (by decide) ?_
        exact z_lv [0, 1, 2, 3, 4, 5, 6] rfl <| hk6 v0 v1 v2 v3 v4 v5 (v6 + 1) M _ hv0 h
      · have h := itf c10 h
        refine z_iload (pc := 107) C 6 rfl dX5_valueOf_107 ?_
        refine z_goto (pc := 109) C dX5_valueOf_109 (tgt := 114) (by decide) ?_
        refine z_istore (pc := 114) C (lv' := [(0, .ref v0), (1, vI v1), (2, vI v2), (3, vI v3), (4, vI v4), (5, vI v6), (6, vI v6), (7, vI s0)]) (by decide) rfl dX5_valueOf_114 ?_
        refine z_iinc (pc := 116) C (lv' := [(0, .ref v0), (1, vI v1), (2, vI v2), (3, vI v3), (4, vI v4), (5, vI v6), (6, vI (v6 + 1)), (7, vI s0)]) 6 rfl (by decide) rfl dX5_valueOf_116 ?_
        refine z_goto (pc := 119) C dX5_valueOf_119 (tgt := 6) (by decide) ?_
        exact z_lv [0, 1, 2, 3, 4, 5, 6] rfl <| hk6 v0 v1 v2 v3 v4 v6 (v6 + 1) M _ hv0 h
theorem cB_X5_valueOf_76 {X : x_Ctx} {M0 : Mem} (C : x_CC X 2 51 yX5_valueOf cX5_valueOf 8 (some .int) []) {k6 : Nat → Int → Int → Int → Int → Int → Int → Mem → Option Int} (hk6 : ∀ (v0 : Nat) (v1 : Int) (v2 : Int) (v3 : Int) (v4 : Int) (v5 : Int) (v6 : Int) (M : Mem) (r : Int), m_kd M v0 = 5 → k6 v0 v1 v2 v3 v4 v5 v6 M = some r → x_Z X 0 0 (x_QF X M0 (.returned (some (vI r))) M 0 0) M0 M 8 [(0, .ref v0), (1, vI v1), (2, vI v2), (3, vI v3), (4, vI v4), (5, vI v5), (6, vI v6)] 6 []) (v0 : Nat) (v1 : Int) (v2 : Int) (v3 : Int) (v4 : Int) (v5 : Int) (v6 : Int) (M : Mem) (r : Int) (hv0 : m_kd M v0 = 5) (h : B_X5_valueOf_76 k6 v0 v1 v2 v3 v4 v5 v6 M = some r)  : x_Z X 0 0 (x_QF X M0 (.returned (some (vI r))) M 0 0) M0 M 8 [(0, .ref v0), (1, vI v1), (2, vI v2), (3, vI v3), (4, vI v4), (5, vI v5), (6, vI v6)] 76 [] := by
  unfold B_X5_valueOf_76 at h
  refine z_iconst (pc := 76) C dX5_valueOf_76 ?_
  exact cB_X5_valueOf_77 C hk6 v0 v1 v2 v3 v4 v5 v6 0 M _ hv0 h
theorem cB_X5_valueOf_6 {X : x_Ctx} {M0 : Mem} (C : x_CC X 2 51 yX5_valueOf cX5_valueOf 8 (some .int) []) {k6 : Nat → Int → Int → Int → Int → Int → Int → Mem → Option Int} (hk6 : ∀ (v0 : Nat) (v1 : Int) (v2 : Int) (v3 : Int) (v4 : Int) (v5 : Int) (v6 : Int) (M : Mem) (r : Int), m_kd M v0 = 5 → k6 v0 v1 v2 v3 v4 v5 v6 M = some r → x_Z X 0 0 (x_QF X M0 (.returned (some (vI r))) M 0 0) M0 M 8 [(0, .ref v0), (1, vI v1), (2, vI v2), (3, vI v3), (4, vI v4), (5, vI v5), (6, vI v6)] 6 []) (v0 : Nat) (v1 : Int) (v2 : Int) (v3 : Int) (v4 : Int) (v5 : Int) (v6 : Int) (M : Mem) (r : Int) (hv0 : m_kd M v0 = 5) (h : B_X5_valueOf_6 k6 v0 v1 v2 v3 v4 v5 v6 M = some r)  : x_Z X 0 0 (x_QF X M0 (.returned (some (vI r))) M 0 0) M0 M 8 [(0, .ref v0), (1, vI v1), (2, vI v2), (3, vI v3), (4, vI v4), (5, vI v5), (6, vI v6)] 6 [] := by
  unfold B_X5_valueOf_6 at h
  refine z_iload (pc := 6) C 6 rfl dX5_valueOf_6 ?_
  refine z_aload_n (pc := 8) C 0 rfl dX5_valueOf_8 ?_
  refine gX5_506 (pc := 9) C rfl (Or.inl hv0) rfl dX5_valueOf_9 ?_
  refine z_ic_ge (pc := 12) C dX5_valueOf_12 (tgt := 122) (by decide) (fun c1 => ?_) (fun c1 => ?_)
  · have h := itt c1 h
    refine z_iload (pc := 122) C 5 rfl dX5_valueOf_122 ?_
    refine z_iconst (pc := 124) C dX5_valueOf_124 ?_
    refine z_ic_ne (pc := 125) C dX5_valueOf_125 (tgt := 133) (by decide) (fun c2 => ?_) (fun c2 => ?_)
    · have h := itf c2 h
      refine z_aload_n (pc := 133) C 0 rfl dX5_valueOf_133 ?_
      refine gX5_510 (pc := 134) C rfl hv0 dX5_valueOf_134 ?_
      refine z_iload (pc := 137) C 5 rfl dX5_valueOf_137 ?_
      obtain ⟨c3, h⟩ := ifn h
      refine z_iaO (pc := 139) (k := 5) (j := 10) C 510 rfl (by decide) (by decide) (by decide) rfl rfl rfl rfl hv0 c3 rfl dX5_valueOf_139 ?_
      cases h
      exact z_iret (pc := 140) C rfl (show 0 ≤ 0 from by decide) (show 0 ≤ 0 from by decide) dX5_valueOf_140
    · have h := itt c2 h
      refine z_ldc (pc := 128) C (x := -2000000) q1829 (by decide +kernel) dX5_valueOf_128 ?_
      refine z_goto (pc := 130) C dX5_valueOf_130 (tgt := 140) (by decide) ?_
      cases h
      exact z_iret (pc := 140) C rfl (show 0 ≤ 0 from by decide) (show 0 ≤ 0 from by decide) dX5_valueOf_140
  · have h := itf c1 h
    refine z_aload_n (pc := 15) C 0 rfl dX5_valueOf_15 ?_
    refine gX5_508 (pc := 16) C rfl hv0 dX5_valueOf_16 ?_
    refine z_iload (pc := 19) C 6 rfl dX5_valueOf_19 ?_
    obtain ⟨c4, h⟩ := ifn h
    refine z_iaO (pc := 21) (k := 5) (j := 8) C 508 rfl (by decide) (by decide) (by decide) rfl rfl rfl rfl hv0 c4 rfl dX5_valueOf_21 ?_
    refine z_iload_n (pc := 22) C 2 rfl dX5_valueOf_22 ?_
    refine z_ic_ne (pc := 23) C dX5_valueOf_23 (tgt := 76) (by decide) (fun c5 => ?_) (fun c5 => ?_)
    · have h := itf c5 h
      exact cB_X5_valueOf_76 C hk6 v0 v1 v2 v3 v4 v5 v6 M _ hv0 h
    · have h := itt c5 h
      refine z_aload_n (pc := 26) C 0 rfl dX5_valueOf_26 ?_
      refine gX5_511 (pc := 27) C rfl hv0 dX5_valueOf_27 ?_
      refine z_iload (pc := 30) C 6 rfl dX5_valueOf_30 ?_
      refine z_iaO (pc := 32) (k := 5) (j := 11) C 511 rfl (by decide) (by decide) (by decide) rfl rfl rfl rfl hv0 c4 rfl dX5_valueOf_32 ?_
      refine z_iload (pc := 33) C 4 rfl dX5_valueOf_33 ?_
      refine z_ic_gt (pc := 35) C dX5_valueOf_35 (tgt := 76) (by decide) (fun c11 => ?_) (fun c11 => ?_)
      · have h := itt c11 h
        exact cB_X5_valueOf_76 C hk6 v0 v1 v2 v3 v4 v5 v6 M _ hv0 h
      · have h := itf c11 h
        refine z_aload_n (pc := 38) C 0 rfl dX5_valueOf_38 ?_
        refine gX5_509 (pc := 39) C rfl hv0 dX5_valueOf_39 ?_
        refine z_iload (pc := 42) C 6 rfl dX5_valueOf_42 ?_
        refine z_iaO (pc := 44) (k := 5) (j := 9) C 509 rfl (by decide) (by decide) (by decide) rfl rfl rfl rfl hv0 c4 rfl dX5_valueOf_44 ?_
        refine z_iload_n (pc := 45) C 3 rfl dX5_valueOf_45 ?_
        refine z_ic_gt (pc := 46) C dX5_valueOf_46 (tgt := 76) (by decide) (fun c12 => ?_) (fun c12 => ?_)
        · have h := itt c12 h
          exact cB_X5_valueOf_76 C hk6 v0 v1 v2 v3 v4 v5 v6 M _ hv0 h
        · have h := itf c12 h
          refine z_aload_n (pc := 49) C 0 rfl dX5_valueOf_49 ?_
          refine z_aload_n (pc := 50) C 0 rfl dX5_valueOf_50 ?_
          refine gX5_507 (pc := 51) C rfl hv0 dX5_valueOf_51 ?_
          refine z_iload (pc := 54) C 6 rfl dX5_valueOf_54 ?_
          refine z_iaO (pc := 56) (k := 5) (j := 7) C 507 rfl (by decide) (by decide) (by decide) rfl rfl rfl rfl hv0 c4 rfl dX5_valueOf_56 ?_
          refine z_iload (pc := 57) C 4 rfl dX5_valueOf_57 ?_
          obtain ⟨r13, e14, h⟩ := bRs h
          refine cX5_237 (pc := 59) (st := []) (st1 := [vI r13]) C rfl (rm := { frames := 1, cells := 0, slots := 0, locals := 24 }) (ct_X5_lastAs C.2.1 v0 (m_i M 507 v0 (ixn v6)) v4 M _ hv0 e14) ⟨by decide, by decide, Nat.zero_le _, Nat.zero_le _⟩ (Or.inl hv0) rfl (Nat.le_of_ble_eq_true rfl) dX5_valueOf_59 (c2 := 0) (s2 := 0) rfl rfl (fun _ => ?_)
          refine z_aload_n (pc := 62) C 0 rfl dX5_valueOf_62 ?_
          refine z_iload_n (pc := 63) C 1 rfl dX5_valueOf_63 ?_
          refine z_iload (pc := 64) C 4 rfl dX5_valueOf_64 ?_
          obtain ⟨r15, e16, h⟩ := bRs h
          refine cX5_237 (pc := 66) (st := [vI r13]) (st1 := [vI r15, vI r13]) C rfl (rm := { frames := 1, cells := 0, slots := 0, locals := 24 }) (ct_X5_lastAs C.2.1 v0 v1 v4 M _ hv0 e16) ⟨by decide, by decide, Nat.zero_le _, Nat.zero_le _⟩ (Or.inl hv0) rfl (Nat.le_of_ble_eq_true rfl) dX5_valueOf_66 (c2 := 0) (s2 := 0) rfl rfl (fun _ => ?_)
          refine z_ic_ne (pc := 69) C dX5_valueOf_69 (tgt := 76) (by decide) (fun c17 => ?_) (fun c17 => ?_)
          · have h := itf c17 h
            exact cB_X5_valueOf_76 C hk6 v0 v1 v2 v3 v4 v5 v6 M _ hv0 h
          · have h := itt c17 h
            refine z_iconst (pc := 72) C dX5_valueOf_72 ?_
            refine z_goto (pc := 73) C dX5_valueOf_73 (tgt := 77) (by decide) ?_
            exact cB_X5_valueOf_77 C hk6 v0 v1 v2 v3 v4 v5 v6 1 M _ hv0 h
theorem cL_X5_valueOf_6 {X : x_Ctx} {M0 : Mem} (C : x_CC X 2 51 yX5_valueOf cX5_valueOf 8 (some .int) [])  : ∀ (n : Nat) (v0 : Nat) (v1 : Int) (v2 : Int) (v3 : Int) (v4 : Int) (v5 : Int) (v6 : Int) (M : Mem) (r : Int) (hv0 : m_kd M v0 = 5) (h : L_X5_valueOf_6  n v0 v1 v2 v3 v4 v5 v6 M = some r) , x_Z X 0 0 (x_QF X M0 (.returned (some (vI r))) M 0 0) M0 M 8 [(0, .ref v0), (1, vI v1), (2, vI v2), (3, vI v3), (4, vI v4), (5, vI v5), (6, vI v6)] 6 [] := by
  intro n
  induction n with
  | zero => intro v0 v1 v2 v3 v4 v5 v6 M r hv0 h ; cases h
  | succ n ih => intro v0 v1 v2 v3 v4 v5 v6 M r hv0 h ; exact cB_X5_valueOf_6 C (fun v0 v1 v2 v3 v4 v5 v6 M r hv0 h  => ih v0 v1 v2 v3 v4 v5 v6 M r hv0 h ) v0 v1 v2 v3 v4 v5 v6 M r hv0 h 
theorem ct_X5_valueOf {l : Launch} {S0 : State} {D : va_G} {cA : Nat → ClassId} (hG : x_G l S0 D cA) (v0 : Nat) (v1 : Int) (v2 : Int) (v3 : Int) (v4 : Int) (M : Mem) (r : Int) (hv0 : m_kd M v0 = 5) (h : d_X5_valueOf v0 v1 v2 v3 v4 M = some r) : x_Me l S0 D cA yX5_valueOf cX5_valueOf 8 (some .int) [] ({ frames := 2, cells := 0, slots := 0, locals := 51 }) [.ref v0, vI v1, vI v2, vI v3, vI v4] M (.returned (some (vI r))) M := by
  refine x_begin (F := 2) (Lo := 51) (mc := 0) (ms := 0) hG (Nat.le_of_ble_eq_true rfl) (lv := [(0, .ref v0), (1, vI v1), (2, vI v2), (3, vI v3), (4, vI v4)]) rfl rfl rfl rfl rfl (fun X e1 e2 e3 e4 e5 C => ?_)
  unfold d_X5_valueOf at h
  refine z_iconst (pc := 0) C dX5_valueOf_0 ?_
  refine z_istore (pc := 1) C (lv' := [(0, .ref v0), (1, vI v1), (2, vI v2), (3, vI v3), (4, vI v4), (5, vI (-1))]) (by decide) rfl dX5_valueOf_1 ?_
  refine z_iconst (pc := 3) C dX5_valueOf_3 ?_
  refine z_istore (pc := 4) C (lv' := [(0, .ref v0), (1, vI v1), (2, vI v2), (3, vI v3), (4, vI v4), (5, vI (-1)), (6, vI 0)]) (by decide) rfl dX5_valueOf_4 ?_
  exact cL_X5_valueOf_6 C FU v0 v1 v2 v3 v4 (-1) 0 M _ hv0 h
def d_X5_value (v0 : Nat) (v1 : Int) (v2 : Int) (v3 : Int) (v4 : Int) (M : Mem) : Option (Int × Mem) :=
  bR (d_X5_isUnit v0 v1 (m_si M 500 v0 0 0)) fun r1 => 
  if w32 r1 = 0 then
    bN (d_X5_fail v0 1 (m_si M 500 v0 0 0)) fun r4 M5 => 
    some (r4, M5)
  else
    if w32 (d_X5_isIn (w32 v2) 0 5) = 0 then
      bN (d_X5_fail v0 1 (m_si M 500 v0 0 0)) fun r22 M23 => 
      some (r22, M23)
    else
      if w32 v3 < 0 then
        bN (d_X5_fail v0 2 (m_si M 500 v0 0 0)) fun r11 M12 => 
        some (r11, M12)
      else
        if 0 ≤ w32 v4 then
          bR (d_X5_valueOf v0 v1 v2 v3 v4 (m_si M 500 v0 0 0)) fun r16 => 
          some (r16, (m_si M 500 v0 0 0))
        else
          bN (d_X5_fail v0 2 (m_si M 500 v0 0 0)) fun r18 M19 => 
          some (r18, M19)
theorem ct_X5_value {l : Launch} {S0 : State} {D : va_G} {cA : Nat → ClassId} (hG : x_G l S0 D cA) (v0 : Nat) (v1 : Int) (v2 : Int) (v3 : Int) (v4 : Int) (M : Mem) (r : Int) (M' : Mem) (hv0 : m_kd M v0 = 5) (h : d_X5_value v0 v1 v2 v3 v4 M = some (r, M')) : x_Me l S0 D cA yX5_value cX5_value 5 (some .int) [] ({ frames := 3, cells := 0, slots := 0, locals := 82 }) [.ref v0, vI v1, vI v2, vI v3, vI v4] M (.returned (some (vI r))) M' := by
  refine x_begin (F := 3) (Lo := 82) (mc := 0) (ms := 0) hG (Nat.le_of_ble_eq_true rfl) (lv := [(0, .ref v0), (1, vI v1), (2, vI v2), (3, vI v3), (4, vI v4)]) rfl rfl rfl rfl rfl (fun X e1 e2 e3 e4 e5 C => ?_)
  unfold d_X5_value at h
  refine z_aload_n (pc := 0) C 0 rfl dX5_value_0 ?_
  refine z_iconst (pc := 1) C dX5_value_1 ?_
  refine pX5_500 (pc := 2) C rfl (Or.inl hv0) dX5_value_2 ?_
  refine z_aload_n (pc := 5) C 0 rfl dX5_value_5 ?_
  refine z_iload_n (pc := 6) C 1 rfl dX5_value_6 ?_
  obtain ⟨r1, e2, h⟩ := bRs h
  refine cX5_220 (pc := 7) (st := []) (st1 := [vI r1]) C rfl (rm := { frames := 2, cells := 0, slots := 0, locals := 53 }) (ct_X5_isUnit C.2.1 v0 v1 (m_si M 500 v0 0 0) _ hv0 e2) ⟨by decide, by decide, Nat.zero_le _, Nat.zero_le _⟩ (Or.inl hv0) rfl (Nat.le_of_ble_eq_true rfl) dX5_value_7 (c2 := 0) (s2 := 0) rfl rfl (fun _ => ?_)
  refine z_if_eq (pc := 10) C dX5_value_10 (tgt := 25) (by decide) (fun c3 => ?_) (fun c3 => ?_)
  · have h := itt c3 h
    refine z_aload_n (pc := 25) C 0 rfl dX5_value_25 ?_
    refine z_iconst (pc := 26) C dX5_value_26 ?_
    obtain ⟨r4, M5, e6, h⟩ := bNs h
    refine cX5_213 (pc := 27) (st := []) (st1 := [vI r4]) C rfl (rm := { frames := 1, cells := 0, slots := 0, locals := 24 }) (ct_X5_fail C.2.1 v0 1 (m_si M 500 v0 0 0) _ _ hv0 e6) ⟨by decide, by decide, Nat.zero_le _, Nat.zero_le _⟩ (Or.inl hv0) rfl (Nat.le_of_ble_eq_true rfl) dX5_value_27 (c2 := 0) (s2 := 0) rfl rfl (fun x7 => ?_)
    cases h
    exact z_iret (pc := 30) C rfl (show 0 ≤ 0 from by decide) (show 0 ≤ 0 from by decide) dX5_value_30
  · have h := itf c3 h
    refine z_iload_n (pc := 13) C 2 rfl dX5_value_13 ?_
    refine z_i2l (pc := 14) C dX5_value_14 ?_
    refine z_lconst (pc := 15) C (x := 0) (by decide +kernel) dX5_value_15 ?_
    refine z_ldc2 (pc := 16) C (x := 5) q1806 (by decide +kernel) dX5_value_16 ?_
    refine cX5_207 (pc := 19) (st := []) (st1 := [vI (d_X5_isIn (w32 v2) 0 5)]) C rfl (rm := { frames := 1, cells := 0, slots := 0, locals := 24 }) (ct_X5_isIn C.2.1 (w32 v2) 0 5 (m_si M 500 v0 0 0) _  rfl) ⟨by decide, by decide, Nat.zero_le _, Nat.zero_le _⟩ rfl (Nat.le_of_ble_eq_true rfl) dX5_value_19 (c2 := 0) (s2 := 0) rfl rfl (fun _ => ?_)
    refine z_if_ne (pc := 22) C dX5_value_22 (tgt := 31) (by decide) (fun c9 => ?_) (fun c9 => ?_)
    · have h := itf c9 h
      refine z_iload_n (pc := 31) C 3 rfl dX5_value_31 ?_
      refine z_if_lt (pc := 32) C dX5_value_32 (tgt := 40) (by decide) (fun c10 => ?_) (fun c10 => ?_)
      · have h := itt c10 h
        refine z_aload_n (pc := 40) C 0 rfl dX5_value_40 ?_
        refine z_iconst (pc := 41) C dX5_value_41 ?_
        obtain ⟨r11, M12, e13, h⟩ := bNs h
        refine cX5_213 (pc := 42) (st := []) (st1 := [vI r11]) C rfl (rm := { frames := 1, cells := 0, slots := 0, locals := 24 }) (ct_X5_fail C.2.1 v0 2 (m_si M 500 v0 0 0) _ _ hv0 e13) ⟨by decide, by decide, Nat.zero_le _, Nat.zero_le _⟩ (Or.inl hv0) rfl (Nat.le_of_ble_eq_true rfl) dX5_value_42 (c2 := 0) (s2 := 0) rfl rfl (fun x14 => ?_)
        refine z_goto (pc := 45) C dX5_value_45 (tgt := 57) (by decide) ?_
        cases h
        exact z_iret (pc := 57) C rfl (show 0 ≤ 0 from by decide) (show 0 ≤ 0 from by decide) dX5_value_57
      · have h := itf c10 h
        refine z_iload (pc := 35) C 4 rfl dX5_value_35 ?_
        refine z_if_ge (pc := 37) C dX5_value_37 (tgt := 48) (by decide) (fun c15 => ?_) (fun c15 => ?_)
        · have h := itt c15 h
          refine z_aload_n (pc := 48) C 0 rfl dX5_value_48 ?_
          refine z_iload_n (pc := 49) C 1 rfl dX5_value_49 ?_
          refine z_iload_n (pc := 50) C 2 rfl dX5_value_50 ?_
          refine z_iload_n (pc := 51) C 3 rfl dX5_value_51 ?_
          refine z_iload (pc := 52) C 4 rfl dX5_value_52 ?_
          obtain ⟨r16, e17, h⟩ := bRs h
          refine cX5_245 (pc := 54) (st := []) (st1 := [vI r16]) C rfl (rm := { frames := 2, cells := 0, slots := 0, locals := 51 }) (ct_X5_valueOf C.2.1 v0 v1 v2 v3 v4 (m_si M 500 v0 0 0) _ hv0 e17) ⟨by decide, by decide, Nat.zero_le _, Nat.zero_le _⟩ (Or.inl hv0) rfl (Nat.le_of_ble_eq_true rfl) dX5_value_54 (c2 := 0) (s2 := 0) rfl rfl (fun _ => ?_)
          cases h
          exact z_iret (pc := 57) C rfl (show 0 ≤ 0 from by decide) (show 0 ≤ 0 from by decide) dX5_value_57
        · have h := itf c15 h
          refine z_aload_n (pc := 40) C 0 rfl dX5_value_40 ?_
          refine z_iconst (pc := 41) C dX5_value_41 ?_
          obtain ⟨r18, M19, e20, h⟩ := bNs h
          refine cX5_213 (pc := 42) (st := []) (st1 := [vI r18]) C rfl (rm := { frames := 1, cells := 0, slots := 0, locals := 24 }) (ct_X5_fail C.2.1 v0 2 (m_si M 500 v0 0 0) _ _ hv0 e20) ⟨by decide, by decide, Nat.zero_le _, Nat.zero_le _⟩ (Or.inl hv0) rfl (Nat.le_of_ble_eq_true rfl) dX5_value_42 (c2 := 0) (s2 := 0) rfl rfl (fun x21 => ?_)
          refine z_goto (pc := 45) C dX5_value_45 (tgt := 57) (by decide) ?_
          cases h
          exact z_iret (pc := 57) C rfl (show 0 ≤ 0 from by decide) (show 0 ≤ 0 from by decide) dX5_value_57
    · have h := itt c9 h
      refine z_aload_n (pc := 25) C 0 rfl dX5_value_25 ?_
      refine z_iconst (pc := 26) C dX5_value_26 ?_
      obtain ⟨r22, M23, e24, h⟩ := bNs h
      refine cX5_213 (pc := 27) (st := []) (st1 := [vI r22]) C rfl (rm := { frames := 1, cells := 0, slots := 0, locals := 24 }) (ct_X5_fail C.2.1 v0 1 (m_si M 500 v0 0 0) _ _ hv0 e24) ⟨by decide, by decide, Nat.zero_le _, Nat.zero_le _⟩ (Or.inl hv0) rfl (Nat.le_of_ble_eq_true rfl) dX5_value_27 (c2 := 0) (s2 := 0) rfl rfl (fun x25 => ?_)
      cases h
      exact z_iret (pc := 30) C rfl (show 0 ≤ 0 from by decide) (show 0 ≤ 0 from by decide) dX5_value_30
def d_X5_last (v0 : Nat) (v1 : Int) (M : Mem) : Option (Int × Mem) :=
  bR (d_X5_isUnit v0 v1 (m_si M 500 v0 0 0)) fun r1 => 
  if w32 r1 = 0 then
    bN (d_X5_fail v0 1 (m_si M 500 v0 0 0)) fun r4 M5 => 
    some (r4, M5)
  else
    bR (d_X5_lastAs v0 v1 (d_X5_today v0 (m_si M 500 v0 0 0)) (m_si M 500 v0 0 0)) fun r9 => 
    some (r9, (m_si M 500 v0 0 0))
theorem ct_X5_last {l : Launch} {S0 : State} {D : va_G} {cA : Nat → ClassId} (hG : x_G l S0 D cA) (v0 : Nat) (v1 : Int) (M : Mem) (r : Int) (M' : Mem) (hv0 : m_kd M v0 = 5) (h : d_X5_last v0 v1 M = some (r, M')) : x_Me l S0 D cA yX5_last cX5_last 2 (some .int) [] ({ frames := 3, cells := 0, slots := 0, locals := 78 }) [.ref v0, vI v1] M (.returned (some (vI r))) M' := by
  refine x_begin (F := 3) (Lo := 78) (mc := 0) (ms := 0) hG (Nat.le_of_ble_eq_true rfl) (lv := [(0, .ref v0), (1, vI v1)]) rfl rfl rfl rfl rfl (fun X e1 e2 e3 e4 e5 C => ?_)
  unfold d_X5_last at h
  refine z_aload_n (pc := 0) C 0 rfl dX5_last_0 ?_
  refine z_iconst (pc := 1) C dX5_last_1 ?_
  refine pX5_500 (pc := 2) C rfl (Or.inl hv0) dX5_last_2 ?_
  refine z_aload_n (pc := 5) C 0 rfl dX5_last_5 ?_
  refine z_iload_n (pc := 6) C 1 rfl dX5_last_6 ?_
  obtain ⟨r1, e2, h⟩ := bRs h
  refine cX5_220 (pc := 7) (st := []) (st1 := [vI r1]) C rfl (rm := { frames := 2, cells := 0, slots := 0, locals := 53 }) (ct_X5_isUnit C.2.1 v0 v1 (m_si M 500 v0 0 0) _ hv0 e2) ⟨by decide, by decide, Nat.zero_le _, Nat.zero_le _⟩ (Or.inl hv0) rfl (Nat.le_of_ble_eq_true rfl) dX5_last_7 (c2 := 0) (s2 := 0) rfl rfl (fun _ => ?_)
  refine z_if_eq (pc := 10) C dX5_last_10 (tgt := 25) (by decide) (fun c3 => ?_) (fun c3 => ?_)
  · have h := itt c3 h
    refine z_aload_n (pc := 25) C 0 rfl dX5_last_25 ?_
    refine z_iconst (pc := 26) C dX5_last_26 ?_
    obtain ⟨r4, M5, e6, h⟩ := bNs h
    refine cX5_213 (pc := 27) (st := []) (st1 := [vI r4]) C rfl (rm := { frames := 1, cells := 0, slots := 0, locals := 24 }) (ct_X5_fail C.2.1 v0 1 (m_si M 500 v0 0 0) _ _ hv0 e6) ⟨by decide, by decide, Nat.zero_le _, Nat.zero_le _⟩ (Or.inl hv0) rfl (Nat.le_of_ble_eq_true rfl) dX5_last_27 (c2 := 0) (s2 := 0) rfl rfl (fun x7 => ?_)
    cases h
    exact z_iret (pc := 30) C rfl (show 0 ≤ 0 from by decide) (show 0 ≤ 0 from by decide) dX5_last_30
  · have h := itf c3 h
    refine z_aload_n (pc := 13) C 0 rfl dX5_last_13 ?_
    refine z_iload_n (pc := 14) C 1 rfl dX5_last_14 ?_
    refine z_aload_n (pc := 15) C 0 rfl dX5_last_15 ?_
    refine cX5_233 (pc := 16) (st := [vI v1, .ref v0]) (st1 := [vI (d_X5_today v0 (m_si M 500 v0 0 0)), vI v1, .ref v0]) C rfl (rm := { frames := 1, cells := 0, slots := 0, locals := 24 }) (ct_X5_today C.2.1 v0 (m_si M 500 v0 0 0) _ hv0 rfl) ⟨by decide, by decide, Nat.zero_le _, Nat.zero_le _⟩ (Or.inl hv0) rfl (Nat.le_of_ble_eq_true rfl) dX5_last_16 (c2 := 0) (s2 := 0) rfl rfl (fun _ => ?_)
    obtain ⟨r9, e10, h⟩ := bRs h
    refine cX5_237 (pc := 19) (st := []) (st1 := [vI r9]) C rfl (rm := { frames := 1, cells := 0, slots := 0, locals := 24 }) (ct_X5_lastAs C.2.1 v0 v1 (d_X5_today v0 (m_si M 500 v0 0 0)) (m_si M 500 v0 0 0) _ hv0 e10) ⟨by decide, by decide, Nat.zero_le _, Nat.zero_le _⟩ (Or.inl hv0) rfl (Nat.le_of_ble_eq_true rfl) dX5_last_19 (c2 := 0) (s2 := 0) rfl rfl (fun _ => ?_)
    refine z_goto (pc := 22) C dX5_last_22 (tgt := 30) (by decide) ?_
    cases h
    exact z_iret (pc := 30) C rfl (show 0 ≤ 0 from by decide) (show 0 ≤ 0 from by decide) dX5_last_30
def B_X5_feed_80 (k27 : Nat → Int → Int → Int → Int → Int → Int → Mem → Option (Int × Mem)) (v0 : Nat) (v1 : Int) (v2 : Int) (v3 : Int) (v4 : Int) (v5 : Int) (v6 : Int) (s0 : Int) (M : Mem) : Option (Int × Mem) :=
  if inb (m_i M 513 v0 0) 1200 then 
  k27 v0 v1 v2 v3 v4 v5 (v6 + 1) (m_si (m_si M 512 v0 (ixn (m_i M 513 v0 0)) (a32 (u32 s0 (24 - (8 * (r32 v6 4)))) 255)) 513 v0 0 ((m_i M 513 v0 0) + 1)) else none
def B_X5_feed_27 (k27 : Nat → Int → Int → Int → Int → Int → Int → Mem → Option (Int × Mem)) (v0 : Nat) (v1 : Int) (v2 : Int) (v3 : Int) (v4 : Int) (v5 : Int) (v6 : Int) (M : Mem) : Option (Int × Mem) :=
  if w32 20 ≤ w32 v6 then
    some (m_i M 513 v0 0, M)
  else
    if w32 4 ≤ w32 v6 then
      if w32 8 ≤ w32 v6 then
        if w32 12 ≤ w32 v6 then
          if w32 16 ≤ w32 v6 then
            B_X5_feed_80 k27 v0 v1 v2 v3 v4 v5 v6 v5 M
          else
            B_X5_feed_80 k27 v0 v1 v2 v3 v4 v5 v6 v4 M
        else
          B_X5_feed_80 k27 v0 v1 v2 v3 v4 v5 v6 v3 M
      else
        B_X5_feed_80 k27 v0 v1 v2 v3 v4 v5 v6 v2 M
    else
      B_X5_feed_80 k27 v0 v1 v2 v3 v4 v5 v6 v1 M
def L_X5_feed_27  : Nat → Nat → Int → Int → Int → Int → Int → Int → Mem → Option (Int × Mem)
  | 0, _, _, _, _, _, _, _, _ => none
  | n + 1, v0, v1, v2, v3, v4, v5, v6, M => B_X5_feed_27 (L_X5_feed_27  n) v0 v1 v2 v3 v4 v5 v6 M
def d_X5_feed (v0 : Nat) (v1 : Int) (v2 : Int) (v3 : Int) (v4 : Int) (v5 : Int) (M : Mem) : Option (Int × Mem) :=
  if w32 ((m_i M 513 v0 0) + 20) ≤ w32 1200 then
    L_X5_feed_27 FU v0 v1 v2 v3 v4 v5 0 (m_si M 500 v0 0 0)
  else
    bN (d_X5_fail v0 1 (m_si M 500 v0 0 0)) fun r8 M9 => 
    some (r8, M9)
theorem cB_X5_feed_80 {X : x_Ctx} {M0 : Mem} (C : x_CC X 2 49 yX5_feed cX5_feed 8 (some .int) []) {k27 : Nat → Int → Int → Int → Int → Int → Int → Mem → Option (Int × Mem)} (hk27 : ∀ (v0 : Nat) (v1 : Int) (v2 : Int) (v3 : Int) (v4 : Int) (v5 : Int) (v6 : Int) (M : Mem) (r : Int) (M' : Mem), m_kd M v0 = 5 → k27 v0 v1 v2 v3 v4 v5 v6 M = some (r, M') → x_Z X 0 0 (x_QF X M0 (.returned (some (vI r))) M' 0 0) M0 M 8 [(0, .ref v0), (1, vI v1), (2, vI v2), (3, vI v3), (4, vI v4), (5, vI v5), (6, vI v6)] 27 []) (v0 : Nat) (v1 : Int) (v2 : Int) (v3 : Int) (v4 : Int) (v5 : Int) (v6 : Int) (s0 : Int) (M : Mem) (r : Int) (M' : Mem) (hv0 : m_kd M v0 = 5) (h : B_X5_feed_80 k27 v0 v1 v2 v3 v4 v5 v6 s0 M = some (r, M'))  : x_Z X 0 0 (x_QF X M0 (.returned (some (vI r))) M' 0 0) M0 M 8 [(0, .ref v0), (1, vI v1), (2, vI v2), (3, vI v3), (4, vI v4), (5, vI v5), (6, vI v6)] 80 [vI s0] := by
  unfold B_X5_feed_80 at h
  refine z_istore (pc := 80) C (lv' := [(0, .ref v0), (1, vI v1), (2, vI v2), (3, vI v3), (4, vI v4), (5, vI v5), (6, vI v6), (7, vI s0)]) (by decide) rfl dX5_feed_80 ?_
  refine z_aload_n (pc := 82) C 0 rfl dX5_feed_82 ?_
  refine gX5_512 (pc := 83) C rfl hv0 dX5_feed_83 ?_
  refine z_aload_n (pc := 86) C 0 rfl dX5_feed_86 ?_
  refine gX5_513 (pc := 87) C rfl (Or.inl hv0) rfl dX5_feed_87 ?_
  refine z_iload (pc := 90) C 7 rfl dX5_feed_90 ?_
  refine z_bipush (pc := 92) C (by decide +kernel) dX5_feed_92 ?_
  refine z_bipush (pc := 94) C (by decide +kernel) dX5_feed_94 ?_
  refine z_iload (pc := 96) C 6 rfl dX5_feed_96 ?_
  refine z_iconst (pc := 98) C dX5_feed_98 ?_
  refine z_irem (pc := 99) C (by decide +kernel) dX5_feed_99 ?_
  refine z_imul (pc := 100) C dX5_feed_100 ?_
  refine z_isub (pc := 101) C dX5_feed_101 ?_
  refine z_iushr (pc := 102) C dX5_feed_102 ?_
  refine z_sipush (pc := 103) C (by decide +kernel) dX5_feed_103 ?_
  refine z_iand (pc := 106) C dX5_feed_106 ?_
  obtain ⟨c7, h⟩ := ifn h
  refine z_isO (pc := 107) (k := 5) (j := 12) C 512 rfl (by decide) (by decide) (by decide) rfl rfl rfl rfl hv0 c7 dX5_feed_107 ?_
  refine z_aload_n (pc := 108) C 0 rfl dX5_feed_108 ?_
  refine z_dup (pc := 109) C rfl dX5_feed_109 ?_
  refine gX5_513 (pc := 110) C rfl (Or.inl hv0) (x := m_i M 513 v0 0) ((m_i_ne (by decide)).trans rfl) dX5_feed_110 ?_
  refine z_iconst (pc := 113) C dX5_feed_113 ?_
  refine z_iadd (pc := 114) C dX5_feed_114 ?_
  refine pX5_513 (pc := 115) C rfl (Or.inl hv0) dX5_feed_115 ?_
  refine z_iinc (pc := 118) C (lv' := [(0, .ref v0), (1, vI v1), (2, vI v2), (3, vI v3), (4, vI v4), (5, vI v5), (6, vI (v6 + 1)), (7, vI s0)]) 6 rfl (by decide) rfl dX5_feed_118 ?_
  refine z_goto (pc := 121) C dX5_feed_121 (tgt := 27) (by decide) ?_
  exact z_lv [0, 1, 2, 3, 4, 5, 6] rfl <| hk27 v0 v1 v2 v3 v4 v5 (v6 + 1) (m_si (m_si M 512 v0 (ixn (m_i M 513 v0 0)) (a32 (u32 s0 (24 - (8 * (r32 v6 4)))) 255)) 513 v0 0 ((m_i M 513 v0 0) + 1)) _ _ hv0 h
theorem cB_X5_feed_27 {X : x_Ctx} {M0 : Mem} (C : x_CC X 2 49 yX5_feed cX5_feed 8 (some .int) []) {k27 : Nat → Int → Int → Int → Int → Int → Int → Mem → Option (Int × Mem)} (hk27 : ∀ (v0 : Nat) (v1 : Int) (v2 : Int) (v3 : Int) (v4 : Int) (v5 : Int) (v6 : Int) (M : Mem) (r : Int) (M' : Mem), m_kd M v0 = 5 → k27 v0 v1 v2 v3 v4 v5 v6 M = some (r, M') → x_Z X 0 0 (x_QF X M0 (.returned (some (vI r))) M' 0 0) M0 M 8 [(0, .ref v0), (1, vI v1), (2, vI v2), (3, vI v3), (4, vI v4), (5, vI v5), (6, vI v6)] 27 []) (v0 : Nat) (v1 : Int) (v2 : Int) (v3 : Int) (v4 : Int) (v5 : Int) (v6 : Int) (M : Mem) (r : Int) (M' : Mem) (hv0 : m_kd M v0 = 5) (h : B_X5_feed_27 k27 v0 v1 v2 v3 v4 v5 v6 M = some (r, M'))  : x_Z X 0 0 (x_QF X M0 (.returned (some (vI r))) M' 0 0) M0 M 8 [(0, .ref v0), (1, vI v1), (2, vI v2), (3, vI v3), (4, vI v4), (5, vI v5), (6, vI v6)] 27 [] := by
  unfold B_X5_feed_27 at h
  refine z_iload (pc := 27) C 6 rfl dX5_feed_27 ?_
  refine z_bipush (pc := 29) C (by decide +kernel) dX5_feed_29 ?_
  refine z_ic_ge (pc := 31) C dX5_feed_31 (tgt := 124) (by decide) (fun c2 => ?_) (fun c2 => ?_)
  · have h := itt c2 h
    refine z_aload_n (pc := 124) C 0 rfl dX5_feed_124 ?_
    refine gX5_513 (pc := 125) C rfl (Or.inl hv0) rfl dX5_feed_125 ?_
    cases h
    exact z_iret (pc := 128) C rfl (show 0 ≤ 0 from by decide) (show 0 ≤ 0 from by decide) dX5_feed_128
  · have h := itf c2 h
    refine z_iload (pc := 34) C 6 rfl dX5_feed_34 ?_
    refine z_iconst (pc := 36) C dX5_feed_36 ?_
    refine z_ic_ge (pc := 37) C dX5_feed_37 (tgt := 44) (by decide) (fun c3 => ?_) (fun c3 => ?_)
    · have h := itt c3 h
      refine z_iload (pc := 44) C 6 rfl dX5_feed_44 ?_
      refine z_bipush (pc := 46) C (by decide +kernel) dX5_feed_46 ?_
      refine z_ic_ge (pc := 48) C dX5_feed_48 (tgt := 55) (by decide) (fun c4 => ?_) (fun c4 => ?_)
      · have h := itt c4 h
        refine z_iload (pc := 55) C 6 rfl dX5_feed_55 ?_
        refine z_bipush (pc := 57) C (by decide +kernel) dX5_feed_57 ?_
        refine z_ic_ge (pc := 59) C dX5_feed_59 (tgt := 66) (by decide) (fun c5 => ?_) (fun c5 => ?_)
        · have h := itt c5 h
          refine z_iload (pc := 66) C 6 rfl dX5_feed_66 ?_
          refine z_bipush (pc := 68) C (by decide +kernel) dX5_feed_68 ?_
          refine z_ic_ge (pc := 70) C dX5_feed_70 (tgt := 78) (by decide) (fun c6 => ?_) (fun c6 => ?_)
          · have h := itt c6 h
            refine z_iload (pc := 78) C 5 rfl dX5_feed_78 ?_
            exact cB_X5_feed_80 C hk27 v0 v1 v2 v3 v4 v5 v6 v5 M _ _ hv0 h
          · have h := itf c6 h
            refine z_iload (pc := 73) C 4 rfl dX5_feed_73 ?_
            refine z_goto (pc := 75) C dX5_feed_75 (tgt := 80) (by decide) ?_
            exact cB_X5_feed_80 C hk27 v0 v1 v2 v3 v4 v5 v6 v4 M _ _ hv0 h
        · have h := itf c5 h
          refine z_iload_n (pc := 62) C 3 rfl dX5_feed_62 ?_
          refine z_goto (pc := 63) C dX5_feed_63 (tgt := 80) (by decide) ?_
          exact cB_X5_feed_80 C hk27 v0 v1 v2 v3 v4 v5 v6 v3 M _ _ hv0 h
      · have h := itf c4 h
        refine z_iload_n (pc := 51) C 2 rfl dX5_feed_51 ?_
        refine z_goto (pc := 52) C dX5_feed_52 (tgt := 80) (by decide) ?_
        exact cB_X5_feed_80 C hk27 v0 v1 v2 v3 v4 v5 v6 v2 M _ _ hv0 h
    · have h := itf c3 h
      refine z_iload_n (pc := 40) C 1 rfl dX5_feed_40 ?_
      refine z_goto (pc := 41) C dX5_feed_41 (tgt := 80) (by decide) ?_
      exact cB_X5_feed_80 C hk27 v0 v1 v2 v3 v4 v5 v6 v1 M _ _ hv0 h
theorem cL_X5_feed_27 {X : x_Ctx} {M0 : Mem} (C : x_CC X 2 49 yX5_feed cX5_feed 8 (some .int) [])  : ∀ (n : Nat) (v0 : Nat) (v1 : Int) (v2 : Int) (v3 : Int) (v4 : Int) (v5 : Int) (v6 : Int) (M : Mem) (r : Int) (M' : Mem) (hv0 : m_kd M v0 = 5) (h : L_X5_feed_27  n v0 v1 v2 v3 v4 v5 v6 M = some (r, M')) , x_Z X 0 0 (x_QF X M0 (.returned (some (vI r))) M' 0 0) M0 M 8 [(0, .ref v0), (1, vI v1), (2, vI v2), (3, vI v3), (4, vI v4), (5, vI v5), (6, vI v6)] 27 [] := by
  intro n
  induction n with
  | zero => intro v0 v1 v2 v3 v4 v5 v6 M r M' hv0 h ; cases h
  | succ n ih => intro v0 v1 v2 v3 v4 v5 v6 M r M' hv0 h ; exact cB_X5_feed_27 C (fun v0 v1 v2 v3 v4 v5 v6 M r M' hv0 h  => ih v0 v1 v2 v3 v4 v5 v6 M r M' hv0 h ) v0 v1 v2 v3 v4 v5 v6 M r M' hv0 h 
theorem ct_X5_feed {l : Launch} {S0 : State} {D : va_G} {cA : Nat → ClassId} (hG : x_G l S0 D cA) (v0 : Nat) (v1 : Int) (v2 : Int) (v3 : Int) (v4 : Int) (v5 : Int) (M : Mem) (r : Int) (M' : Mem) (hv0 : m_kd M v0 = 5) (h : d_X5_feed v0 v1 v2 v3 v4 v5 M = some (r, M')) : x_Me l S0 D cA yX5_feed cX5_feed 8 (some .int) [] ({ frames := 2, cells := 0, slots := 0, locals := 49 }) [.ref v0, vI v1, vI v2, vI v3, vI v4, vI v5] M (.returned (some (vI r))) M' := by
  refine x_begin (F := 2) (Lo := 49) (mc := 0) (ms := 0) hG (Nat.le_of_ble_eq_true rfl) (lv := [(0, .ref v0), (1, vI v1), (2, vI v2), (3, vI v3), (4, vI v4), (5, vI v5)]) rfl rfl rfl rfl rfl (fun X e1 e2 e3 e4 e5 C => ?_)
  unfold d_X5_feed at h
  refine z_aload_n (pc := 0) C 0 rfl dX5_feed_0 ?_
  refine z_iconst (pc := 1) C dX5_feed_1 ?_
  refine pX5_500 (pc := 2) C rfl (Or.inl hv0) dX5_feed_2 ?_
  refine z_aload_n (pc := 5) C 0 rfl dX5_feed_5 ?_
  refine gX5_513 (pc := 6) C rfl (Or.inl hv0) (x := m_i M 513 v0 0) ((m_i_ne (by decide)).trans rfl) dX5_feed_6 ?_
  refine z_bipush (pc := 9) C (by decide +kernel) dX5_feed_9 ?_
  refine z_iadd (pc := 11) C dX5_feed_11 ?_
  refine z_sipush (pc := 12) C (by decide +kernel) dX5_feed_12 ?_
  refine z_ic_le (pc := 15) C dX5_feed_15 (tgt := 24) (by decide) (fun c1 => ?_) (fun c1 => ?_)
  · have h := itt c1 h
    refine z_iconst (pc := 24) C dX5_feed_24 ?_
    refine z_istore (pc := 25) C (lv' := [(0, .ref v0), (1, vI v1), (2, vI v2), (3, vI v3), (4, vI v4), (5, vI v5), (6, vI 0)]) (by decide) rfl dX5_feed_25 ?_
    exact cL_X5_feed_27 C FU v0 v1 v2 v3 v4 v5 0 (m_si M 500 v0 0 0) _ _ hv0 h
  · have h := itf c1 h
    refine z_aload_n (pc := 18) C 0 rfl dX5_feed_18 ?_
    refine z_iconst (pc := 19) C dX5_feed_19 ?_
    obtain ⟨r8, M9, e10, h⟩ := bNs h
    refine cX5_213 (pc := 20) (st := []) (st1 := [vI r8]) C rfl (rm := { frames := 1, cells := 0, slots := 0, locals := 24 }) (ct_X5_fail C.2.1 v0 1 (m_si M 500 v0 0 0) _ _ hv0 e10) ⟨by decide, by decide, Nat.zero_le _, Nat.zero_le _⟩ (Or.inl hv0) rfl (Nat.le_of_ble_eq_true rfl) dX5_feed_20 (c2 := 0) (s2 := 0) rfl rfl (fun x11 => ?_)
    cases h
    exact z_iret (pc := 23) C rfl (show 0 ≤ 0 from by decide) (show 0 ≤ 0 from by decide) dX5_feed_23
def d_X5_trim (v0 : Nat) (v1 : Int) (M : Mem) : Option (Int × Mem) :=
  if w32 (d_X5_isIn (w32 v1) 0 (w32 (m_i M 513 v0 0))) = 0 then
    bN (d_X5_fail v0 1 (m_si M 500 v0 0 0)) fun r3 M4 => 
    some (r3, M4)
  else
    some (m_i M 513 v0 0, (m_si (m_si M 500 v0 0 0) 513 v0 0 v1))
theorem ct_X5_trim {l : Launch} {S0 : State} {D : va_G} {cA : Nat → ClassId} (hG : x_G l S0 D cA) (v0 : Nat) (v1 : Int) (M : Mem) (r : Int) (M' : Mem) (hv0 : m_kd M v0 = 5) (h : d_X5_trim v0 v1 M = some (r, M')) : x_Me l S0 D cA yX5_trim cX5_trim 3 (some .int) [] ({ frames := 2, cells := 0, slots := 0, locals := 53 }) [.ref v0, vI v1] M (.returned (some (vI r))) M' := by
  refine x_begin (F := 2) (Lo := 53) (mc := 0) (ms := 0) hG (Nat.le_of_ble_eq_true rfl) (lv := [(0, .ref v0), (1, vI v1)]) rfl rfl rfl rfl rfl (fun X e1 e2 e3 e4 e5 C => ?_)
  unfold d_X5_trim at h
  refine z_aload_n (pc := 0) C 0 rfl dX5_trim_0 ?_
  refine z_iconst (pc := 1) C dX5_trim_1 ?_
  refine pX5_500 (pc := 2) C rfl (Or.inl hv0) dX5_trim_2 ?_
  refine z_iload_n (pc := 5) C 1 rfl dX5_trim_5 ?_
  refine z_i2l (pc := 6) C dX5_trim_6 ?_
  refine z_lconst (pc := 7) C (x := 0) (by decide +kernel) dX5_trim_7 ?_
  refine z_aload_n (pc := 8) C 0 rfl dX5_trim_8 ?_
  refine gX5_513 (pc := 9) C rfl (Or.inl hv0) (x := m_i M 513 v0 0) ((m_i_ne (by decide)).trans rfl) dX5_trim_9 ?_
  refine z_i2l (pc := 12) C dX5_trim_12 ?_
  refine cX5_207 (pc := 13) (st := []) (st1 := [vI (d_X5_isIn (w32 v1) 0 (w32 (m_i M 513 v0 0)))]) C rfl (rm := { frames := 1, cells := 0, slots := 0, locals := 24 }) (ct_X5_isIn C.2.1 (w32 v1) 0 (w32 (m_i M 513 v0 0)) (m_si M 500 v0 0 0) _  rfl) ⟨by decide, by decide, Nat.zero_le _, Nat.zero_le _⟩ rfl (Nat.le_of_ble_eq_true rfl) dX5_trim_13 (c2 := 0) (s2 := 0) rfl rfl (fun _ => ?_)
  refine z_if_ne (pc := 16) C dX5_trim_16 (tgt := 25) (by decide) (fun c2 => ?_) (fun c2 => ?_)
  · have h := itf c2 h
    refine z_aload_n (pc := 25) C 0 rfl dX5_trim_25 ?_
    refine gX5_513 (pc := 26) C rfl (Or.inl hv0) (x := m_i M 513 v0 0) ((m_i_ne (by decide)).trans rfl) dX5_trim_26 ?_
    refine z_istore_n (pc := 29) C (lv' := [(0, .ref v0), (1, vI v1), (2, vI (m_i M 513 v0 0))]) (by decide) rfl dX5_trim_29 ?_
    refine z_aload_n (pc := 30) C 0 rfl dX5_trim_30 ?_
    refine z_iload_n (pc := 31) C 1 rfl dX5_trim_31 ?_
    refine pX5_513 (pc := 32) C rfl (Or.inl hv0) dX5_trim_32 ?_
    refine z_iload_n (pc := 35) C 2 rfl dX5_trim_35 ?_
    cases h
    exact z_iret (pc := 36) C rfl (show 0 ≤ 0 from by decide) (show 0 ≤ 0 from by decide) dX5_trim_36
  · have h := itt c2 h
    refine z_aload_n (pc := 19) C 0 rfl dX5_trim_19 ?_
    refine z_iconst (pc := 20) C dX5_trim_20 ?_
    obtain ⟨r3, M4, e5, h⟩ := bNs h
    refine cX5_213 (pc := 21) (st := []) (st1 := [vI r3]) C rfl (rm := { frames := 1, cells := 0, slots := 0, locals := 24 }) (ct_X5_fail C.2.1 v0 1 (m_si M 500 v0 0 0) _ _ hv0 e5) ⟨by decide, by decide, Nat.zero_le _, Nat.zero_le _⟩ (Or.inl hv0) rfl (Nat.le_of_ble_eq_true rfl) dX5_trim_21 (c2 := 0) (s2 := 0) rfl rfl (fun x6 => ?_)
    cases h
    exact z_iret (pc := 24) C rfl (show 0 ≤ 0 from by decide) (show 0 ≤ 0 from by decide) dX5_trim_24
def d_X5_byteAt (v0 : Nat) (v1 : Int) (M : Mem) : Option Int :=
  if w32 (m_i M 513 v0 0) ≤ w32 v1 then
    some 0
  else
    if inb v1 1200 then 
    some (m_i M 512 v0 (ixn v1)) else none
theorem ct_X5_byteAt {l : Launch} {S0 : State} {D : va_G} {cA : Nat → ClassId} (hG : x_G l S0 D cA) (v0 : Nat) (v1 : Int) (M : Mem) (r : Int) (hv0 : m_kd M v0 = 5) (h : d_X5_byteAt v0 v1 M = some r) : x_Me l S0 D cA yX5_byteAt cX5_byteAt 2 (some .int) [] ({ frames := 1, cells := 0, slots := 0, locals := 24 }) [.ref v0, vI v1] M (.returned (some (vI r))) M := by
  refine x_begin (F := 1) (Lo := 24) (mc := 0) (ms := 0) hG (Nat.le_of_ble_eq_true rfl) (lv := [(0, .ref v0), (1, vI v1)]) rfl rfl rfl rfl rfl (fun X e1 e2 e3 e4 e5 C => ?_)
  unfold d_X5_byteAt at h
  refine z_iload_n (pc := 0) C 1 rfl dX5_byteAt_0 ?_
  refine z_aload_n (pc := 1) C 0 rfl dX5_byteAt_1 ?_
  refine gX5_513 (pc := 2) C rfl (Or.inl hv0) rfl dX5_byteAt_2 ?_
  refine z_ic_ge (pc := 5) C dX5_byteAt_5 (tgt := 17) (by decide) (fun c1 => ?_) (fun c1 => ?_)
  · have h := itt c1 h
    refine z_iconst (pc := 17) C dX5_byteAt_17 ?_
    cases h
    exact z_iret (pc := 18) C rfl (show 0 ≤ 0 from by decide) (show 0 ≤ 0 from by decide) dX5_byteAt_18
  · have h := itf c1 h
    refine z_aload_n (pc := 8) C 0 rfl dX5_byteAt_8 ?_
    refine gX5_512 (pc := 9) C rfl hv0 dX5_byteAt_9 ?_
    refine z_iload_n (pc := 12) C 1 rfl dX5_byteAt_12 ?_
    obtain ⟨c2, h⟩ := ifn h
    refine z_iaO (pc := 13) (k := 5) (j := 12) C 512 rfl (by decide) (by decide) (by decide) rfl rfl rfl rfl hv0 c2 rfl dX5_byteAt_13 ?_
    refine z_goto (pc := 14) C dX5_byteAt_14 (tgt := 18) (by decide) ?_
    cases h
    exact z_iret (pc := 18) C rfl (show 0 ≤ 0 from by decide) (show 0 ≤ 0 from by decide) dX5_byteAt_18
def d_X5_letters (v0 : Int) (v2 : Int) : Int :=
  o64 (l64 v0 8) (w32 v2)
theorem ct_X5_letters {l : Launch} {S0 : State} {D : va_G} {cA : Nat → ClassId} (hG : x_G l S0 D cA) (v0 : Int) (v2 : Int) (M : Mem) (r : Int)  (h : d_X5_letters v0 v2 = r) : x_Me l S0 D cA yX5_letters cX5_letters 3 (some .long) [] ({ frames := 1, cells := 0, slots := 0, locals := 24 }) [vL v0, vI v2] M (.returned (some (vL r))) M := by
  refine x_begin (F := 1) (Lo := 24) (mc := 0) (ms := 0) hG (Nat.le_of_ble_eq_true rfl) (lv := [(0, vL v0), (2, vI v2)]) rfl rfl rfl rfl rfl (fun X e1 e2 e3 e4 e5 C => ?_)
  unfold d_X5_letters at h
  refine z_lload_n (pc := 0) C 0 rfl dX5_letters_0 ?_
  refine z_bipush (pc := 1) C (by decide +kernel) dX5_letters_1 ?_
  refine z_lshl (pc := 3) C dX5_letters_3 ?_
  refine z_iload_n (pc := 4) C 1 rfl dX5_letters_4 ?_
  refine z_i2l (pc := 5) C dX5_letters_5 ?_
  refine z_lor (pc := 6) C dX5_letters_6 ?_
  subst h
  exact z_lret (pc := 7) C rfl (show 0 ≤ 0 from by decide) (show 0 ≤ 0 from by decide) dX5_letters_7
def B_X5_nextSign_36  (v0 : Nat) (v1 : Int) (M : Mem) : Option (Int × Mem) :=
  if w32 v1 = w32 43 then
    some (0, (m_si (m_si M 529 v0 0 4) 532 v0 0 3))
  else
    some (0, (m_si (m_si M 529 v0 0 4) 532 v0 0 4))
def B_X5_nextSign_132  (v0 : Nat) (v1 : Int) (v2 : Int) (v3 : Int) (s0 : Nat) (s1 : Int) (s2 : Int) (M : Mem) : Option (Int × Mem) :=
  if w32 v1 = w32 61 then
    some (0, (m_si (m_si M 528 s0 0 (s1 + s2)) 532 v0 0 7))
  else
    if w32 v1 = w32 60 then
      if w32 v3 = 0 then
        some (0, (m_si (m_si M 528 s0 0 (s1 + s2)) 532 v0 0 5))
      else
        if w32 v2 = w32 61 then
          some (0, (m_si (m_si M 528 s0 0 (s1 + s2)) 532 v0 0 6))
        else
          some (0, (m_si (m_si M 528 s0 0 (s1 + s2)) 532 v0 0 8))
    else
      if w32 v3 = 0 then
        some (0, (m_si (m_si M 528 s0 0 (s1 + s2)) 532 v0 0 10))
      else
        some (0, (m_si (m_si M 528 s0 0 (s1 + s2)) 532 v0 0 9))
def B_X5_nextSign_117  (v0 : Nat) (v1 : Int) (v2 : Int) (s0 : Int) (M : Mem) : Option (Int × Mem) :=
  if w32 s0 = 0 then
    B_X5_nextSign_132 v0 v1 v2 s0 v0 (m_i M 528 v0 0) 0 M
  else
    B_X5_nextSign_132 v0 v1 v2 s0 v0 (m_i M 528 v0 0) 1 M
def B_X5_nextSign_116  (v0 : Nat) (v1 : Int) (v2 : Int) (M : Mem) : Option (Int × Mem) :=
  B_X5_nextSign_117 v0 v1 v2 0 M
def B_X5_nextSign_112  (v0 : Nat) (v1 : Int) (v2 : Int) (M : Mem) : Option (Int × Mem) :=
  B_X5_nextSign_117 v0 v1 v2 1 M
def B_X5_nextSign_100  (v0 : Nat) (v1 : Int) (v2 : Int) (M : Mem) : Option (Int × Mem) :=
  if w32 v1 = w32 62 then
    if w32 v2 = w32 61 then
      B_X5_nextSign_112 v0 v1 v2 M
    else
      B_X5_nextSign_116 v0 v1 v2 M
  else
    B_X5_nextSign_116 v0 v1 v2 M
def B_X5_nextSign_77  (v0 : Nat) (v1 : Int) (v2 : Int) (M : Mem) : Option (Int × Mem) :=
  if w32 v1 = w32 60 then
    if w32 v2 = w32 61 then
      B_X5_nextSign_112 v0 v1 v2 (m_si M 529 v0 0 5)
    else
      if w32 v2 = w32 62 then
        B_X5_nextSign_112 v0 v1 v2 (m_si M 529 v0 0 5)
      else
        B_X5_nextSign_100 v0 v1 v2 (m_si M 529 v0 0 5)
  else
    B_X5_nextSign_100 v0 v1 v2 (m_si M 529 v0 0 5)
def d_X5_nextSign (v0 : Nat) (v1 : Int) (M : Mem) : Option (Int × Mem) :=
  bR (d_X5_byteAt v0 (m_i M 528 v0 0) M) fun r1 => 
  if w32 v1 = w32 59 then
    some (0, (m_si M 529 v0 0 6))
  else
    if w32 v1 = w32 43 then
      B_X5_nextSign_36 v0 v1 M
    else
      if w32 v1 = w32 45 then
        B_X5_nextSign_36 v0 v1 M
      else
        if w32 v1 = w32 60 then
          B_X5_nextSign_77 v0 v1 r1 M
        else
          if w32 v1 = w32 61 then
            B_X5_nextSign_77 v0 v1 r1 M
          else
            if w32 v1 = w32 62 then
              B_X5_nextSign_77 v0 v1 r1 M
            else
              some (0, (m_si M 529 v0 0 1))
theorem cB_X5_nextSign_36 {X : x_Ctx} {M0 : Mem} (C : x_CC X 2 49 yX5_nextSign cX5_nextSign 4 none [])  (v0 : Nat) (v1 : Int) (M : Mem) (r : Int) (M' : Mem) (hv0 : m_kd M v0 = 5) (h : B_X5_nextSign_36  v0 v1 M = some (r, M'))  : x_Z X 0 0 (x_QF X M0 (.returned none) M' 0 0) M0 M 4 [(0, .ref v0), (1, vI v1)] 36 [] := by
  unfold B_X5_nextSign_36 at h
  refine z_aload_n (pc := 36) C 0 rfl dX5_nextSign_36 ?_
  refine z_iconst (pc := 37) C dX5_nextSign_37 ?_
  refine pX5_529 (pc := 38) C rfl (Or.inl hv0) dX5_nextSign_38 ?_
  refine z_aload_n (pc := 41) C 0 rfl dX5_nextSign_41 ?_
  refine z_iload_n (pc := 42) C 1 rfl dX5_nextSign_42 ?_
  refine z_bipush (pc := 43) C (by decide +kernel) dX5_nextSign_43 ?_
  refine z_ic_ne (pc := 45) C dX5_nextSign_45 (tgt := 52) (by decide) (fun c5 => ?_) (fun c5 => ?_)
  · have h := itf c5 h
    refine z_iconst (pc := 52) C dX5_nextSign_52 ?_
    refine pX5_532 (pc := 53) C rfl (Or.inl hv0) dX5_nextSign_53 ?_
    refine z_goto (pc := 56) C dX5_nextSign_56 (tgt := 200) (by decide) ?_
    cases h
    exact z_vret (pc := 200) C rfl (show 0 ≤ 0 from by decide) (show 0 ≤ 0 from by decide) dX5_nextSign_200
  · have h := itt c5 h
    refine z_iconst (pc := 48) C dX5_nextSign_48 ?_
    refine z_goto (pc := 49) C dX5_nextSign_49 (tgt := 53) (by decide) ?_
    refine pX5_532 (pc := 53) C rfl (Or.inl hv0) dX5_nextSign_53 ?_
    refine z_goto (pc := 56) C dX5_nextSign_56 (tgt := 200) (by decide) ?_
    cases h
    exact z_vret (pc := 200) C rfl (show 0 ≤ 0 from by decide) (show 0 ≤ 0 from by decide) dX5_nextSign_200
theorem cB_X5_nextSign_132 {X : x_Ctx} {M0 : Mem} (C : x_CC X 2 49 yX5_nextSign cX5_nextSign 4 none [])  (v0 : Nat) (v1 : Int) (v2 : Int) (v3 : Int) (s0 : Nat) (s1 : Int) (s2 : Int) (M : Mem) (r : Int) (M' : Mem) (hv0 : m_kd M v0 = 5) (hs0 : m_kd M s0 = 5) (h : B_X5_nextSign_132  v0 v1 v2 v3 s0 s1 s2 M = some (r, M'))  : x_Z X 0 0 (x_QF X M0 (.returned none) M' 0 0) M0 M 4 [(0, .ref v0), (1, vI v1), (2, vI v2), (3, vI v3)] 132 [vI s2, vI s1, .ref s0] := by
  unfold B_X5_nextSign_132 at h
  refine z_iadd (pc := 132) C dX5_nextSign_132 ?_
  refine pX5_528 (pc := 133) C rfl (Or.inl hs0) dX5_nextSign_133 ?_
  refine z_aload_n (pc := 136) C 0 rfl dX5_nextSign_136 ?_
  refine z_iload_n (pc := 137) C 1 rfl dX5_nextSign_137 ?_
  refine z_bipush (pc := 138) C (by decide +kernel) dX5_nextSign_138 ?_
  refine z_ic_ne (pc := 140) C dX5_nextSign_140 (tgt := 148) (by decide) (fun c11 => ?_) (fun c11 => ?_)
  · have h := itf c11 h
    refine z_iload_n (pc := 148) C 1 rfl dX5_nextSign_148 ?_
    refine z_bipush (pc := 149) C (by decide +kernel) dX5_nextSign_149 ?_
    refine z_ic_ne (pc := 151) C dX5_nextSign_151 (tgt := 178) (by decide) (fun c12 => ?_) (fun c12 => ?_)
    · have h := itf c12 h
      refine z_iload_n (pc := 178) C 3 rfl dX5_nextSign_178 ?_
      refine z_if_eq (pc := 179) C dX5_nextSign_179 (tgt := 187) (by decide) (fun c13 => ?_) (fun c13 => ?_)
      · have h := itt c13 h
        refine z_bipush (pc := 187) C (by decide +kernel) dX5_nextSign_187 ?_
        refine pX5_532 (pc := 189) C rfl (Or.inl hv0) dX5_nextSign_189 ?_
        refine z_goto (pc := 192) C dX5_nextSign_192 (tgt := 200) (by decide) ?_
        cases h
        exact z_vret (pc := 200) C rfl (show 0 ≤ 0 from by decide) (show 0 ≤ 0 from by decide) dX5_nextSign_200
      · have h := itf c13 h
        refine z_bipush (pc := 182) C (by decide +kernel) dX5_nextSign_182 ?_
        refine z_goto (pc := 184) C dX5_nextSign_184 (tgt := 189) (by decide) ?_
        refine pX5_532 (pc := 189) C rfl (Or.inl hv0) dX5_nextSign_189 ?_
        refine z_goto (pc := 192) C dX5_nextSign_192 (tgt := 200) (by decide) ?_
        cases h
        exact z_vret (pc := 200) C rfl (show 0 ≤ 0 from by decide) (show 0 ≤ 0 from by decide) dX5_nextSign_200
    · have h := itt c12 h
      refine z_iload_n (pc := 154) C 3 rfl dX5_nextSign_154 ?_
      refine z_if_ne (pc := 155) C dX5_nextSign_155 (tgt := 162) (by decide) (fun c14 => ?_) (fun c14 => ?_)
      · have h := itf c14 h
        refine z_iload_n (pc := 162) C 2 rfl dX5_nextSign_162 ?_
        refine z_bipush (pc := 163) C (by decide +kernel) dX5_nextSign_163 ?_
        refine z_ic_ne (pc := 165) C dX5_nextSign_165 (tgt := 173) (by decide) (fun c15 => ?_) (fun c15 => ?_)
        · have h := itf c15 h
          refine z_bipush (pc := 173) C (by decide +kernel) dX5_nextSign_173 ?_
          refine z_goto (pc := 175) C dX5_nextSign_175 (tgt := 189) (by decide) ?_
          refine pX5_532 (pc := 189) C rfl (Or.inl hv0) dX5_nextSign_189 ?_
          refine z_goto (pc := 192) C dX5_nextSign_192 (tgt := 200) (by decide) ?_
          cases h
          exact z_vret (pc := 200) C rfl (show 0 ≤ 0 from by decide) (show 0 ≤ 0 from by decide) dX5_nextSign_200
        · have h := itt c15 h
          refine z_bipush (pc := 168) C (by decide +kernel) dX5_nextSign_168 ?_
          refine z_goto (pc := 170) C dX5_nextSign_170 (tgt := 189) (by decide) ?_
          refine pX5_532 (pc := 189) C rfl (Or.inl hv0) dX5_nextSign_189 ?_
          refine z_goto (pc := 192) C dX5_nextSign_192 (tgt := 200) (by decide) ?_
          cases h
          exact z_vret (pc := 200) C rfl (show 0 ≤ 0 from by decide) (show 0 ≤ 0 from by decide) dX5_nextSign_200
      · have h := itt c14 h
        refine z_iconst (pc := 158) C dX5_nextSign_158 ?_
        refine z_goto (pc := 159) C dX5_nextSign_159 (tgt := 189) (by decide) ?_
        refine pX5_532 (pc := 189) C rfl (Or.inl hv0) dX5_nextSign_189 ?_
        refine z_goto (pc := 192) C dX5_nextSign_192 (tgt := 200) (by decide) ?_
        cases h
        exact z_vret (pc := 200) C rfl (show 0 ≤ 0 from by decide) (show 0 ≤ 0 from by decide) dX5_nextSign_200
  · have h := itt c11 h
    refine z_bipush (pc := 143) C (by decide +kernel) dX5_nextSign_143 ?_
    refine z_goto (pc := 145) C dX5_nextSign_145 (tgt := 189) (by decide) ?_
    refine pX5_532 (pc := 189) C rfl (Or.inl hv0) dX5_nextSign_189 ?_
    refine z_goto (pc := 192) C dX5_nextSign_192 (tgt := 200) (by decide) ?_
    cases h
    exact z_vret (pc := 200) C rfl (show 0 ≤ 0 from by decide) (show 0 ≤ 0 from by decide) dX5_nextSign_200
theorem cB_X5_nextSign_117 {X : x_Ctx} {M0 : Mem} (C : x_CC X 2 49 yX5_nextSign cX5_nextSign 4 none [])  (v0 : Nat) (v1 : Int) (v2 : Int) (s0 : Int) (M : Mem) (r : Int) (M' : Mem) (hv0 : m_kd M v0 = 5) (h : B_X5_nextSign_117  v0 v1 v2 s0 M = some (r, M'))  : x_Z X 0 0 (x_QF X M0 (.returned none) M' 0 0) M0 M 4 [(0, .ref v0), (1, vI v1), (2, vI v2)] 117 [vI s0] := by
  unfold B_X5_nextSign_117 at h
  refine z_istore_n (pc := 117) C (lv' := [(0, .ref v0), (1, vI v1), (2, vI v2), (3, vI s0)]) (by decide) rfl dX5_nextSign_117 ?_
  refine z_aload_n (pc := 118) C 0 rfl dX5_nextSign_118 ?_
  refine z_dup (pc := 119) C rfl dX5_nextSign_119 ?_
  refine gX5_528 (pc := 120) C rfl (Or.inl hv0) rfl dX5_nextSign_120 ?_
  refine z_iload_n (pc := 123) C 3 rfl dX5_nextSign_123 ?_
  refine z_if_eq (pc := 124) C dX5_nextSign_124 (tgt := 131) (by decide) (fun c10 => ?_) (fun c10 => ?_)
  · have h := itt c10 h
    refine z_iconst (pc := 131) C dX5_nextSign_131 ?_
    exact cB_X5_nextSign_132 C v0 v1 v2 s0 v0 (m_i M 528 v0 0) 0 M _ _ hv0 hv0 h
  · have h := itf c10 h
    refine z_iconst (pc := 127) C dX5_nextSign_127 ?_
    refine z_goto (pc := 128) C dX5_nextSign_128 (tgt := 132) (by decide) ?_
    exact cB_X5_nextSign_132 C v0 v1 v2 s0 v0 (m_i M 528 v0 0) 1 M _ _ hv0 hv0 h
theorem cB_X5_nextSign_116 {X : x_Ctx} {M0 : Mem} (C : x_CC X 2 49 yX5_nextSign cX5_nextSign 4 none [])  (v0 : Nat) (v1 : Int) (v2 : Int) (M : Mem) (r : Int) (M' : Mem) (hv0 : m_kd M v0 = 5) (h : B_X5_nextSign_116  v0 v1 v2 M = some (r, M'))  : x_Z X 0 0 (x_QF X M0 (.returned none) M' 0 0) M0 M 4 [(0, .ref v0), (1, vI v1), (2, vI v2)] 116 [] := by
  unfold B_X5_nextSign_116 at h
  refine z_iconst (pc := 116) C dX5_nextSign_116 ?_
  exact cB_X5_nextSign_117 C v0 v1 v2 0 M _ _ hv0 h
theorem cB_X5_nextSign_112 {X : x_Ctx} {M0 : Mem} (C : x_CC X 2 49 yX5_nextSign cX5_nextSign 4 none [])  (v0 : Nat) (v1 : Int) (v2 : Int) (M : Mem) (r : Int) (M' : Mem) (hv0 : m_kd M v0 = 5) (h : B_X5_nextSign_112  v0 v1 v2 M = some (r, M'))  : x_Z X 0 0 (x_QF X M0 (.returned none) M' 0 0) M0 M 4 [(0, .ref v0), (1, vI v1), (2, vI v2)] 112 [] := by
  unfold B_X5_nextSign_112 at h
  refine z_iconst (pc := 112) C dX5_nextSign_112 ?_
  refine z_goto (pc := 113) C dX5_nextSign_113 (tgt := 117) (by decide) ?_
  exact cB_X5_nextSign_117 C v0 v1 v2 1 M _ _ hv0 h
theorem cB_X5_nextSign_100 {X : x_Ctx} {M0 : Mem} (C : x_CC X 2 49 yX5_nextSign cX5_nextSign 4 none [])  (v0 : Nat) (v1 : Int) (v2 : Int) (M : Mem) (r : Int) (M' : Mem) (hv0 : m_kd M v0 = 5) (h : B_X5_nextSign_100  v0 v1 v2 M = some (r, M'))  : x_Z X 0 0 (x_QF X M0 (.returned none) M' 0 0) M0 M 4 [(0, .ref v0), (1, vI v1), (2, vI v2)] 100 [] := by
  unfold B_X5_nextSign_100 at h
  refine z_iload_n (pc := 100) C 1 rfl dX5_nextSign_100 ?_
  refine z_bipush (pc := 101) C (by decide +kernel) dX5_nextSign_101 ?_
  refine z_ic_ne (pc := 103) C dX5_nextSign_103 (tgt := 116) (by decide) (fun c9 => ?_) (fun c9 => ?_)
  · have h := itf c9 h
    exact cB_X5_nextSign_116 C v0 v1 v2 M _ _ hv0 h
  · have h := itt c9 h
    refine z_iload_n (pc := 106) C 2 rfl dX5_nextSign_106 ?_
    refine z_bipush (pc := 107) C (by decide +kernel) dX5_nextSign_107 ?_
    refine z_ic_ne (pc := 109) C dX5_nextSign_109 (tgt := 116) (by decide) (fun c16 => ?_) (fun c16 => ?_)
    · have h := itf c16 h
      exact cB_X5_nextSign_116 C v0 v1 v2 M _ _ hv0 h
    · have h := itt c16 h
      exact cB_X5_nextSign_112 C v0 v1 v2 M _ _ hv0 h
theorem cB_X5_nextSign_77 {X : x_Ctx} {M0 : Mem} (C : x_CC X 2 49 yX5_nextSign cX5_nextSign 4 none [])  (v0 : Nat) (v1 : Int) (v2 : Int) (M : Mem) (r : Int) (M' : Mem) (hv0 : m_kd M v0 = 5) (h : B_X5_nextSign_77  v0 v1 v2 M = some (r, M'))  : x_Z X 0 0 (x_QF X M0 (.returned none) M' 0 0) M0 M 4 [(0, .ref v0), (1, vI v1), (2, vI v2)] 77 [] := by
  unfold B_X5_nextSign_77 at h
  refine z_aload_n (pc := 77) C 0 rfl dX5_nextSign_77 ?_
  refine z_iconst (pc := 78) C dX5_nextSign_78 ?_
  refine pX5_529 (pc := 79) C rfl (Or.inl hv0) dX5_nextSign_79 ?_
  refine z_iload_n (pc := 82) C 1 rfl dX5_nextSign_82 ?_
  refine z_bipush (pc := 83) C (by decide +kernel) dX5_nextSign_83 ?_
  refine z_ic_ne (pc := 85) C dX5_nextSign_85 (tgt := 100) (by decide) (fun c8 => ?_) (fun c8 => ?_)
  · have h := itf c8 h
    exact cB_X5_nextSign_100 C v0 v1 v2 (m_si M 529 v0 0 5) _ _ hv0 h
  · have h := itt c8 h
    refine z_iload_n (pc := 88) C 2 rfl dX5_nextSign_88 ?_
    refine z_bipush (pc := 89) C (by decide +kernel) dX5_nextSign_89 ?_
    refine z_ic_eq (pc := 91) C dX5_nextSign_91 (tgt := 112) (by decide) (fun c17 => ?_) (fun c17 => ?_)
    · have h := itt c17 h
      exact cB_X5_nextSign_112 C v0 v1 v2 (m_si M 529 v0 0 5) _ _ hv0 h
    · have h := itf c17 h
      refine z_iload_n (pc := 94) C 2 rfl dX5_nextSign_94 ?_
      refine z_bipush (pc := 95) C (by decide +kernel) dX5_nextSign_95 ?_
      refine z_ic_eq (pc := 97) C dX5_nextSign_97 (tgt := 112) (by decide) (fun c18 => ?_) (fun c18 => ?_)
      · have h := itt c18 h
        exact cB_X5_nextSign_112 C v0 v1 v2 (m_si M 529 v0 0 5) _ _ hv0 h
      · have h := itf c18 h
        exact cB_X5_nextSign_100 C v0 v1 v2 (m_si M 529 v0 0 5) _ _ hv0 h
theorem ct_X5_nextSign {l : Launch} {S0 : State} {D : va_G} {cA : Nat → ClassId} (hG : x_G l S0 D cA) (v0 : Nat) (v1 : Int) (M : Mem) (r : Int) (M' : Mem) (hv0 : m_kd M v0 = 5) (h : d_X5_nextSign v0 v1 M = some (r, M')) : x_Me l S0 D cA yX5_nextSign cX5_nextSign 4 none [] ({ frames := 2, cells := 0, slots := 0, locals := 49 }) [.ref v0, vI v1] M (.returned none) M' := by
  refine x_begin (F := 2) (Lo := 49) (mc := 0) (ms := 0) hG (Nat.le_of_ble_eq_true rfl) (lv := [(0, .ref v0), (1, vI v1)]) rfl rfl rfl rfl rfl (fun X e1 e2 e3 e4 e5 C => ?_)
  unfold d_X5_nextSign at h
  refine z_aload_n (pc := 0) C 0 rfl dX5_nextSign_0 ?_
  refine z_aload_n (pc := 1) C 0 rfl dX5_nextSign_1 ?_
  refine gX5_528 (pc := 2) C rfl (Or.inl hv0) rfl dX5_nextSign_2 ?_
  obtain ⟨r1, e2, h⟩ := bRs h
  refine cX5_258 (pc := 5) (st := []) (st1 := [vI r1]) C rfl (rm := { frames := 1, cells := 0, slots := 0, locals := 24 }) (ct_X5_byteAt C.2.1 v0 (m_i M 528 v0 0) M _ hv0 e2) ⟨by decide, by decide, Nat.zero_le _, Nat.zero_le _⟩ (Or.inl hv0) rfl (Nat.le_of_ble_eq_true rfl) dX5_nextSign_5 (c2 := 0) (s2 := 0) rfl rfl (fun _ => ?_)
  refine z_istore_n (pc := 8) C (lv' := [(0, .ref v0), (1, vI v1), (2, vI r1)]) (by decide) rfl dX5_nextSign_8 ?_
  refine z_iload_n (pc := 9) C 1 rfl dX5_nextSign_9 ?_
  refine z_bipush (pc := 10) C (by decide +kernel) dX5_nextSign_10 ?_
  refine z_ic_ne (pc := 12) C dX5_nextSign_12 (tgt := 24) (by decide) (fun c3 => ?_) (fun c3 => ?_)
  · have h := itf c3 h
    refine z_iload_n (pc := 24) C 1 rfl dX5_nextSign_24 ?_
    refine z_bipush (pc := 25) C (by decide +kernel) dX5_nextSign_25 ?_
    refine z_ic_eq (pc := 27) C dX5_nextSign_27 (tgt := 36) (by decide) (fun c4 => ?_) (fun c4 => ?_)
    · have h := itt c4 h
      exact z_lv [0, 1] rfl <| cB_X5_nextSign_36 C v0 v1 M _ _ hv0 h
    · have h := itf c4 h
      refine z_iload_n (pc := 30) C 1 rfl dX5_nextSign_30 ?_
      refine z_bipush (pc := 31) C (by decide +kernel) dX5_nextSign_31 ?_
      refine z_ic_ne (pc := 33) C dX5_nextSign_33 (tgt := 59) (by decide) (fun c6 => ?_) (fun c6 => ?_)
      · have h := itf c6 h
        refine z_iload_n (pc := 59) C 1 rfl dX5_nextSign_59 ?_
        refine z_bipush (pc := 60) C (by decide +kernel) dX5_nextSign_60 ?_
        refine z_ic_eq (pc := 62) C dX5_nextSign_62 (tgt := 77) (by decide) (fun c7 => ?_) (fun c7 => ?_)
        · have h := itt c7 h
          exact cB_X5_nextSign_77 C v0 v1 r1 M _ _ hv0 h
        · have h := itf c7 h
          refine z_iload_n (pc := 65) C 1 rfl dX5_nextSign_65 ?_
          refine z_bipush (pc := 66) C (by decide +kernel) dX5_nextSign_66 ?_
          refine z_ic_eq (pc := 68) C dX5_nextSign_68 (tgt := 77) (by decide) (fun c19 => ?_) (fun c19 => ?_)
          · have h := itt c19 h
            exact cB_X5_nextSign_77 C v0 v1 r1 M _ _ hv0 h
          · have h := itf c19 h
            refine z_iload_n (pc := 71) C 1 rfl dX5_nextSign_71 ?_
            refine z_bipush (pc := 72) C (by decide +kernel) dX5_nextSign_72 ?_
            refine z_ic_ne (pc := 74) C dX5_nextSign_74 (tgt := 195) (by decide) (fun c20 => ?_) (fun c20 => ?_)
            · have h := itf c20 h
              refine z_aload_n (pc := 195) C 0 rfl dX5_nextSign_195 ?_
              refine z_iconst (pc := 196) C dX5_nextSign_196 ?_
              refine pX5_529 (pc := 197) C rfl (Or.inl hv0) dX5_nextSign_197 ?_
              cases h
              exact z_vret (pc := 200) C rfl (show 0 ≤ 0 from by decide) (show 0 ≤ 0 from by decide) dX5_nextSign_200
            · have h := itt c20 h
              exact cB_X5_nextSign_77 C v0 v1 r1 M _ _ hv0 h
      · have h := itt c6 h
        exact z_lv [0, 1] rfl <| cB_X5_nextSign_36 C v0 v1 M _ _ hv0 h
  · have h := itt c3 h
    refine z_aload_n (pc := 15) C 0 rfl dX5_nextSign_15 ?_
    refine z_bipush (pc := 16) C (by decide +kernel) dX5_nextSign_16 ?_
    refine pX5_529 (pc := 18) C rfl (Or.inl hv0) dX5_nextSign_18 ?_
    refine z_goto (pc := 21) C dX5_nextSign_21 (tgt := 200) (by decide) ?_
    cases h
    exact z_vret (pc := 200) C rfl (show 0 ≤ 0 from by decide) (show 0 ≤ 0 from by decide) dX5_nextSign_200
def B_X5_next_233 (k233 : Nat → Mem → Option (Int × Mem)) (v0 : Nat) (M : Mem) : Option (Int × Mem) :=
  bR (d_X5_byteAt v0 (m_i M 528 v0 0) M) fun r13 => 
  if w32 (d_X5_isIn (w32 r13) 48 57) = 0 then
    if w32 ((m_i M 528 v0 0) - (m_i M 530 v0 0)) ≤ w32 6 then
      some (0, (m_si M 529 v0 0 3))
    else
      some (0, (m_si M 529 v0 0 1))
  else
    if w32 6 ≤ w32 ((m_i M 528 v0 0) - (m_i M 530 v0 0)) then
      k233 v0 (m_si (m_si M 532 v0 0 (m_i M 532 v0 0)) 528 v0 0 ((m_i M 528 v0 0) + 1))
    else
      bR (d_X5_byteAt v0 (m_i M 528 v0 0) M) fun r19 => 
      k233 v0 (m_si (m_si M 532 v0 0 (((10 * (m_i M 532 v0 0)) + r19) - 48)) 528 v0 0 ((m_i M 528 v0 0) + 1))
def L_X5_next_233  : Nat → Nat → Mem → Option (Int × Mem)
  | 0, _, _ => none
  | n + 1, v0, M => B_X5_next_233 (L_X5_next_233  n) v0 M
def B_X5_next_135 (k135 : Nat → Mem → Option (Int × Mem)) (v0 : Nat) (M : Mem) : Option (Int × Mem) :=
  bR (d_X5_byteAt v0 (m_i M 528 v0 0) M) fun r21 => 
  if w32 (d_X5_isIn (w32 r21) 97 122) = 0 then
    if w32 ((m_i M 528 v0 0) - (m_i M 530 v0 0)) ≤ w32 8 then
      some (0, (m_si M 529 v0 0 2))
    else
      some (0, (m_si M 529 v0 0 1))
  else
    bR (d_X5_byteAt v0 (m_i M 528 v0 0) M) fun r26 => 
    k135 v0 (m_si (m_si M 531 v0 0 (d_X5_letters (m_i M 531 v0 0) r26)) 528 v0 0 ((m_i M 528 v0 0) + 1))
def L_X5_next_135  : Nat → Nat → Mem → Option (Int × Mem)
  | 0, _, _ => none
  | n + 1, v0, M => B_X5_next_135 (L_X5_next_135  n) v0 M
def B_X5_next_80  (v0 : Nat) (M : Mem) : Option (Int × Mem) :=
  bR (d_X5_byteAt v0 (m_i M 528 v0 0) (m_si M 530 v0 0 (m_i M 528 v0 0))) fun r2 => 
  if w32 (m_i M 528 v0 0) = w32 (m_i M 513 v0 0) then
    some (0, (m_si (m_si M 530 v0 0 (m_i M 528 v0 0)) 529 v0 0 0))
  else
    if w32 (d_X5_isIn (w32 r2) 97 122) = 0 then
      if w32 (d_X5_isIn (w32 r2) 48 57) = 0 then
        bN (d_X5_nextSign v0 r2 (m_si (m_si M 530 v0 0 (m_i M 528 v0 0)) 528 v0 0 ((m_i M 528 v0 0) + 1))) fun r9 M10 => 
        some (0, M10)
      else
        L_X5_next_233 FU v0 (m_si (m_si M 530 v0 0 (m_i M 528 v0 0)) 532 v0 0 0)
    else
      L_X5_next_135 FU v0 (m_si (m_si M 530 v0 0 (m_i M 528 v0 0)) 531 v0 0 0)
def B_X5_next_0 (k0 : Nat → Mem → Option (Int × Mem)) (v0 : Nat) (M : Mem) : Option (Int × Mem) :=
  if w32 (m_i M 513 v0 0) ≤ w32 (m_i M 528 v0 0) then
    B_X5_next_80 v0 M
  else
    if inb (m_i M 528 v0 0) 1200 then 
    if w32 (m_i M 512 v0 (ixn (m_i M 528 v0 0))) = w32 9 then
      k0 v0 (m_si M 528 v0 0 ((m_i M 528 v0 0) + 1))
    else
      if w32 (m_i M 512 v0 (ixn (m_i M 528 v0 0))) = w32 10 then
        k0 v0 (m_si M 528 v0 0 ((m_i M 528 v0 0) + 1))
      else
        if w32 (m_i M 512 v0 (ixn (m_i M 528 v0 0))) = w32 13 then
          k0 v0 (m_si M 528 v0 0 ((m_i M 528 v0 0) + 1))
        else
          if w32 (m_i M 512 v0 (ixn (m_i M 528 v0 0))) = w32 32 then
            k0 v0 (m_si M 528 v0 0 ((m_i M 528 v0 0) + 1))
          else
            B_X5_next_80 v0 M else none
def L_X5_next_0  : Nat → Nat → Mem → Option (Int × Mem)
  | 0, _, _ => none
  | n + 1, v0, M => B_X5_next_0 (L_X5_next_0  n) v0 M
def d_X5_next (v0 : Nat) (M : Mem) : Option (Int × Mem) :=
  L_X5_next_0 FU v0 M
theorem cB_X5_next_233 {X : x_Ctx} {M0 : Mem} (C : x_CC X 3 76 yX5_next cX5_next 2 none []) {k233 : Nat → Mem → Option (Int × Mem)} (hk233 : ∀ (v0 : Nat) (M : Mem) (r : Int) (M' : Mem), m_kd M v0 = 5 → k233 v0 M = some (r, M') → x_Z X 0 0 (x_QF X M0 (.returned none) M' 0 0) M0 M 2 [(0, .ref v0)] 233 []) (v0 : Nat) (M : Mem) (r : Int) (M' : Mem) (hv0 : m_kd M v0 = 5) (h : B_X5_next_233 k233 v0 M = some (r, M'))  : x_Z X 0 0 (x_QF X M0 (.returned none) M' 0 0) M0 M 2 [(0, .ref v0)] 233 [] := by
  unfold B_X5_next_233 at h
  refine z_aload_n (pc := 233) C 0 rfl dX5_next_233 ?_
  refine z_aload_n (pc := 234) C 0 rfl dX5_next_234 ?_
  refine gX5_528 (pc := 235) C rfl (Or.inl hv0) rfl dX5_next_235 ?_
  obtain ⟨r13, e14, h⟩ := bRs h
  refine cX5_258 (pc := 238) (st := []) (st1 := [vI r13]) C rfl (rm := { frames := 1, cells := 0, slots := 0, locals := 24 }) (ct_X5_byteAt C.2.1 v0 (m_i M 528 v0 0) M _ hv0 e14) ⟨by decide, by decide, Nat.zero_le _, Nat.zero_le _⟩ (Or.inl hv0) rfl (Nat.le_of_ble_eq_true rfl) dX5_next_238 (c2 := 0) (s2 := 0) rfl rfl (fun _ => ?_)
  refine z_i2l (pc := 241) C dX5_next_241 ?_
  refine z_ldc2 (pc := 242) C (x := 48) q1859 (by decide +kernel) dX5_next_242 ?_
  refine z_ldc2 (pc := 245) C (x := 57) q1860 (by decide +kernel) dX5_next_245 ?_
  refine cX5_207 (pc := 248) (st := []) (st1 := [vI (d_X5_isIn (w32 r13) 48 57)]) C rfl (rm := { frames := 1, cells := 0, slots := 0, locals := 24 }) (ct_X5_isIn C.2.1 (w32 r13) 48 57 M _  rfl) ⟨by decide, by decide, Nat.zero_le _, Nat.zero_le _⟩ rfl (Nat.le_of_ble_eq_true rfl) dX5_next_248 (c2 := 0) (s2 := 0) rfl rfl (fun _ => ?_)
  refine z_if_eq (pc := 251) C dX5_next_251 (tgt := 311) (by decide) (fun c16 => ?_) (fun c16 => ?_)
  · have h := itt c16 h
    refine z_aload_n (pc := 311) C 0 rfl dX5_next_311 ?_
    refine z_aload_n (pc := 312) C 0 rfl dX5_next_312 ?_
    refine gX5_528 (pc := 313) C rfl (Or.inl hv0) rfl dX5_next_313 ?_
    refine z_aload_n (pc := 316) C 0 rfl dX5_next_316 ?_
    refine gX5_530 (pc := 317) C rfl (Or.inl hv0) rfl dX5_next_317 ?_
    refine z_isub (pc := 320) C dX5_next_320 ?_
    refine z_bipush (pc := 321) C (by decide +kernel) dX5_next_321 ?_
    refine z_ic_le (pc := 323) C dX5_next_323 (tgt := 330) (by decide) (fun c17 => ?_) (fun c17 => ?_)
    · have h := itt c17 h
      refine z_iconst (pc := 330) C dX5_next_330 ?_
      refine pX5_529 (pc := 331) C rfl (Or.inl hv0) dX5_next_331 ?_
      refine z_goto (pc := 334) C dX5_next_334 (tgt := 352) (by decide) ?_
      cases h
      exact z_vret (pc := 352) C rfl (show 0 ≤ 0 from by decide) (show 0 ≤ 0 from by decide) dX5_next_352
    · have h := itf c17 h
      refine z_iconst (pc := 326) C dX5_next_326 ?_
      refine z_goto (pc := 327) C dX5_next_327 (tgt := 331) (by decide) ?_
      refine pX5_529 (pc := 331) C rfl (Or.inl hv0) dX5_next_331 ?_
      refine z_goto (pc := 334) C dX5_next_334 (tgt := 352) (by decide) ?_
      cases h
      exact z_vret (pc := 352) C rfl (show 0 ≤ 0 from by decide) (show 0 ≤ 0 from by decide) dX5_next_352
  · have h := itf c16 h
    refine z_aload_n (pc := 254) C 0 rfl dX5_next_254 ?_
    refine z_aload_n (pc := 255) C 0 rfl dX5_next_255 ?_
    refine gX5_528 (pc := 256) C rfl (Or.inl hv0) rfl dX5_next_256 ?_
    refine z_aload_n (pc := 259) C 0 rfl dX5_next_259 ?_
    refine gX5_530 (pc := 260) C rfl (Or.inl hv0) rfl dX5_next_260 ?_
    refine z_isub (pc := 263) C dX5_next_263 ?_
    refine z_bipush (pc := 264) C (by decide +kernel) dX5_next_264 ?_
    refine z_ic_ge (pc := 266) C dX5_next_266 (tgt := 291) (by decide) (fun c18 => ?_) (fun c18 => ?_)
    · have h := itt c18 h
      refine z_aload_n (pc := 291) C 0 rfl dX5_next_291 ?_
      refine gX5_532 (pc := 292) C rfl (Or.inl hv0) rfl dX5_next_292 ?_
      refine pX5_532 (pc := 295) C rfl (Or.inl hv0) dX5_next_295 ?_
      refine z_aload_n (pc := 298) C 0 rfl dX5_next_298 ?_
      refine z_dup (pc := 299) C rfl dX5_next_299 ?_
      refine gX5_528 (pc := 300) C rfl (Or.inl hv0) (x := m_i M 528 v0 0) ((m_i_ne (by decide)).trans rfl) dX5_next_300 ?_
      refine z_iconst (pc := 303) C dX5_next_303 ?_
      refine z_iadd (pc := 304) C dX5_next_304 ?_
      refine pX5_528 (pc := 305) C rfl (Or.inl hv0) dX5_next_305 ?_
      refine z_goto (pc := 308) C dX5_next_308 (tgt := 233) (by decide) ?_
      exact hk233 v0 (m_si (m_si M 532 v0 0 (m_i M 532 v0 0)) 528 v0 0 ((m_i M 528 v0 0) + 1)) _ _ hv0 h
    · have h := itf c18 h
      refine z_bipush (pc := 269) C (by decide +kernel) dX5_next_269 ?_
      refine z_aload_n (pc := 271) C 0 rfl dX5_next_271 ?_
      refine gX5_532 (pc := 272) C rfl (Or.inl hv0) rfl dX5_next_272 ?_
      refine z_imul (pc := 275) C dX5_next_275 ?_
      refine z_aload_n (pc := 276) C 0 rfl dX5_next_276 ?_
      refine z_aload_n (pc := 277) C 0 rfl dX5_next_277 ?_
      refine gX5_528 (pc := 278) C rfl (Or.inl hv0) rfl dX5_next_278 ?_
      obtain ⟨r19, e20, h⟩ := bRs h
      refine cX5_258 (pc := 281) (st := [vI (10 * (m_i M 532 v0 0)), .ref v0]) (st1 := [vI r19, vI (10 * (m_i M 532 v0 0)), .ref v0]) C rfl (rm := { frames := 1, cells := 0, slots := 0, locals := 24 }) (ct_X5_byteAt C.2.1 v0 (m_i M 528 v0 0) M _ hv0 e20) ⟨by decide, by decide, Nat.zero_le _, Nat.zero_le _⟩ (Or.inl hv0) rfl (Nat.le_of_ble_eq_true rfl) dX5_next_281 (c2 := 0) (s2 := 0) rfl rfl (fun _ => ?_)
      refine z_iadd (pc := 284) C dX5_next_284 ?_
      refine z_bipush (pc := 285) C (by decide +kernel) dX5_next_285 ?_
      refine z_isub (pc := 287) C dX5_next_287 ?_
      refine z_goto (pc := 288) C dX5_next_288 (tgt := 295) (by decide) ?_
      refine pX5_532 (pc := 295) C rfl (Or.inl hv0) dX5_next_295 ?_
      refine z_aload_n (pc := 298) C 0 rfl dX5_next_298 ?_
      refine z_dup (pc := 299) C rfl dX5_next_299 ?_
      refine gX5_528 (pc := 300) C rfl (Or.inl hv0) (x := m_i M 528 v0 0) ((m_i_ne (by decide)).trans rfl) dX5_next_300 ?_
      refine z_iconst (pc := 303) C dX5_next_303 ?_
      refine z_iadd (pc := 304) C dX5_next_304 ?_
      refine pX5_528 (pc := 305) C rfl (Or.inl hv0) dX5_next_305 ?_
      refine z_goto (pc := 308) C dX5_next_308 (tgt := 233) (by decide) ?_
      exact hk233 v0 (m_si (m_si M 532 v0 0 (((10 * (m_i M 532 v0 0)) + r19) - 48)) 528 v0 0 ((m_i M 528 v0 0) + 1)) _ _ hv0 h
theorem cL_X5_next_233 {X : x_Ctx} {M0 : Mem} (C : x_CC X 3 76 yX5_next cX5_next 2 none [])  : ∀ (n : Nat) (v0 : Nat) (M : Mem) (r : Int) (M' : Mem) (hv0 : m_kd M v0 = 5) (h : L_X5_next_233  n v0 M = some (r, M')) , x_Z X 0 0 (x_QF X M0 (.returned none) M' 0 0) M0 M 2 [(0, .ref v0)] 233 [] := by
  intro n
  induction n with
  | zero => intro v0 M r M' hv0 h ; cases h
  | succ n ih => intro v0 M r M' hv0 h ; exact cB_X5_next_233 C (fun v0 M r M' hv0 h  => ih v0 M r M' hv0 h ) v0 M r M' hv0 h 
theorem cB_X5_next_135 {X : x_Ctx} {M0 : Mem} (C : x_CC X 3 76 yX5_next cX5_next 2 none []) {k135 : Nat → Mem → Option (Int × Mem)} (hk135 : ∀ (v0 : Nat) (M : Mem) (r : Int) (M' : Mem), m_kd M v0 = 5 → k135 v0 M = some (r, M') → x_Z X 0 0 (x_QF X M0 (.returned none) M' 0 0) M0 M 2 [(0, .ref v0)] 135 []) (v0 : Nat) (M : Mem) (r : Int) (M' : Mem) (hv0 : m_kd M v0 = 5) (h : B_X5_next_135 k135 v0 M = some (r, M'))  : x_Z X 0 0 (x_QF X M0 (.returned none) M' 0 0) M0 M 2 [(0, .ref v0)] 135 [] := by
  unfold B_X5_next_135 at h
  refine z_aload_n (pc := 135) C 0 rfl dX5_next_135 ?_
  refine z_aload_n (pc := 136) C 0 rfl dX5_next_136 ?_
  refine gX5_528 (pc := 137) C rfl (Or.inl hv0) rfl dX5_next_137 ?_
  obtain ⟨r21, e22, h⟩ := bRs h
  refine cX5_258 (pc := 140) (st := []) (st1 := [vI r21]) C rfl (rm := { frames := 1, cells := 0, slots := 0, locals := 24 }) (ct_X5_byteAt C.2.1 v0 (m_i M 528 v0 0) M _ hv0 e22) ⟨by decide, by decide, Nat.zero_le _, Nat.zero_le _⟩ (Or.inl hv0) rfl (Nat.le_of_ble_eq_true rfl) dX5_next_140 (c2 := 0) (s2 := 0) rfl rfl (fun _ => ?_)
  refine z_i2l (pc := 143) C dX5_next_143 ?_
  refine z_ldc2 (pc := 144) C (x := 97) q1854 (by decide +kernel) dX5_next_144 ?_
  refine z_ldc2 (pc := 147) C (x := 122) q1855 (by decide +kernel) dX5_next_147 ?_
  refine cX5_207 (pc := 150) (st := []) (st1 := [vI (d_X5_isIn (w32 r21) 97 122)]) C rfl (rm := { frames := 1, cells := 0, slots := 0, locals := 24 }) (ct_X5_isIn C.2.1 (w32 r21) 97 122 M _  rfl) ⟨by decide, by decide, Nat.zero_le _, Nat.zero_le _⟩ rfl (Nat.le_of_ble_eq_true rfl) dX5_next_150 (c2 := 0) (s2 := 0) rfl rfl (fun _ => ?_)
  refine z_if_eq (pc := 153) C dX5_next_153 (tgt := 188) (by decide) (fun c24 => ?_) (fun c24 => ?_)
  · have h := itt c24 h
    refine z_aload_n (pc := 188) C 0 rfl dX5_next_188 ?_
    refine z_aload_n (pc := 189) C 0 rfl dX5_next_189 ?_
    refine gX5_528 (pc := 190) C rfl (Or.inl hv0) rfl dX5_next_190 ?_
    refine z_aload_n (pc := 193) C 0 rfl dX5_next_193 ?_
    refine gX5_530 (pc := 194) C rfl (Or.inl hv0) rfl dX5_next_194 ?_
    refine z_isub (pc := 197) C dX5_next_197 ?_
    refine z_bipush (pc := 198) C (by decide +kernel) dX5_next_198 ?_
    refine z_ic_le (pc := 200) C dX5_next_200 (tgt := 207) (by decide) (fun c25 => ?_) (fun c25 => ?_)
    · have h := itt c25 h
      refine z_iconst (pc := 207) C dX5_next_207 ?_
      refine pX5_529 (pc := 208) C rfl (Or.inl hv0) dX5_next_208 ?_
      refine z_goto (pc := 211) C dX5_next_211 (tgt := 352) (by decide) ?_
      cases h
      exact z_vret (pc := 352) C rfl (show 0 ≤ 0 from by decide) (show 0 ≤ 0 from by decide) dX5_next_352
    · have h := itf c25 h
      refine z_iconst (pc := 203) C dX5_next_203 ?_
      refine z_goto (pc := 204) C dX5_next_204 (tgt := 208) (by decide) ?_
      refine pX5_529 (pc := 208) C rfl (Or.inl hv0) dX5_next_208 ?_
      refine z_goto (pc := 211) C dX5_next_211 (tgt := 352) (by decide) ?_
      cases h
      exact z_vret (pc := 352) C rfl (show 0 ≤ 0 from by decide) (show 0 ≤ 0 from by decide) dX5_next_352
  · have h := itf c24 h
    refine z_aload_n (pc := 156) C 0 rfl dX5_next_156 ?_
    refine z_aload_n (pc := 157) C 0 rfl dX5_next_157 ?_
    refine gX5_531 (pc := 158) C rfl (Or.inl hv0) rfl dX5_next_158 ?_
    refine z_aload_n (pc := 161) C 0 rfl dX5_next_161 ?_
    refine z_aload_n (pc := 162) C 0 rfl dX5_next_162 ?_
    refine gX5_528 (pc := 163) C rfl (Or.inl hv0) rfl dX5_next_163 ?_
    obtain ⟨r26, e27, h⟩ := bRs h
    refine cX5_258 (pc := 166) (st := [vL (m_i M 531 v0 0), .ref v0]) (st1 := [vI r26, vL (m_i M 531 v0 0), .ref v0]) C rfl (rm := { frames := 1, cells := 0, slots := 0, locals := 24 }) (ct_X5_byteAt C.2.1 v0 (m_i M 528 v0 0) M _ hv0 e27) ⟨by decide, by decide, Nat.zero_le _, Nat.zero_le _⟩ (Or.inl hv0) rfl (Nat.le_of_ble_eq_true rfl) dX5_next_166 (c2 := 0) (s2 := 0) rfl rfl (fun _ => ?_)
    refine cX5_272 (pc := 169) (st := [.ref v0]) (st1 := [vL (d_X5_letters (m_i M 531 v0 0) r26), .ref v0]) C rfl (rm := { frames := 1, cells := 0, slots := 0, locals := 24 }) (ct_X5_letters C.2.1 (m_i M 531 v0 0) r26 M _  rfl) ⟨by decide, by decide, Nat.zero_le _, Nat.zero_le _⟩ rfl (Nat.le_of_ble_eq_true rfl) dX5_next_169 (c2 := 0) (s2 := 0) rfl rfl (fun _ => ?_)
    refine pX5_531 (pc := 172) C rfl (Or.inl hv0) dX5_next_172 ?_
    refine z_aload_n (pc := 175) C 0 rfl dX5_next_175 ?_
    refine z_dup (pc := 176) C rfl dX5_next_176 ?_
    refine gX5_528 (pc := 177) C rfl (Or.inl hv0) (x := m_i M 528 v0 0) ((m_i_ne (by decide)).trans rfl) dX5_next_177 ?_
    refine z_iconst (pc := 180) C dX5_next_180 ?_
    refine z_iadd (pc := 181) C dX5_next_181 ?_
    refine pX5_528 (pc := 182) C rfl (Or.inl hv0) dX5_next_182 ?_
    refine z_goto (pc := 185) C dX5_next_185 (tgt := 135) (by decide) ?_
    exact hk135 v0 (m_si (m_si M 531 v0 0 (d_X5_letters (m_i M 531 v0 0) r26)) 528 v0 0 ((m_i M 528 v0 0) + 1)) _ _ hv0 h
theorem cL_X5_next_135 {X : x_Ctx} {M0 : Mem} (C : x_CC X 3 76 yX5_next cX5_next 2 none [])  : ∀ (n : Nat) (v0 : Nat) (M : Mem) (r : Int) (M' : Mem) (hv0 : m_kd M v0 = 5) (h : L_X5_next_135  n v0 M = some (r, M')) , x_Z X 0 0 (x_QF X M0 (.returned none) M' 0 0) M0 M 2 [(0, .ref v0)] 135 [] := by
  intro n
  induction n with
  | zero => intro v0 M r M' hv0 h ; cases h
  | succ n ih => intro v0 M r M' hv0 h ; exact cB_X5_next_135 C (fun v0 M r M' hv0 h  => ih v0 M r M' hv0 h ) v0 M r M' hv0 h 
theorem cB_X5_next_80 {X : x_Ctx} {M0 : Mem} (C : x_CC X 3 76 yX5_next cX5_next 2 none [])  (v0 : Nat) (M : Mem) (r : Int) (M' : Mem) (hv0 : m_kd M v0 = 5) (h : B_X5_next_80  v0 M = some (r, M'))  : x_Z X 0 0 (x_QF X M0 (.returned none) M' 0 0) M0 M 2 [(0, .ref v0)] 80 [] := by
  unfold B_X5_next_80 at h
  refine z_aload_n (pc := 80) C 0 rfl dX5_next_80 ?_
  refine z_aload_n (pc := 81) C 0 rfl dX5_next_81 ?_
  refine gX5_528 (pc := 82) C rfl (Or.inl hv0) rfl dX5_next_82 ?_
  refine pX5_530 (pc := 85) C rfl (Or.inl hv0) dX5_next_85 ?_
  refine z_aload_n (pc := 88) C 0 rfl dX5_next_88 ?_
  refine z_aload_n (pc := 89) C 0 rfl dX5_next_89 ?_
  refine gX5_528 (pc := 90) C rfl (Or.inl hv0) (x := m_i M 528 v0 0) ((m_i_ne (by decide)).trans rfl) dX5_next_90 ?_
  obtain ⟨r2, e3, h⟩ := bRs h
  refine cX5_258 (pc := 93) (st := []) (st1 := [vI r2]) C rfl (rm := { frames := 1, cells := 0, slots := 0, locals := 24 }) (ct_X5_byteAt C.2.1 v0 (m_i M 528 v0 0) (m_si M 530 v0 0 (m_i M 528 v0 0)) _ hv0 e3) ⟨by decide, by decide, Nat.zero_le _, Nat.zero_le _⟩ (Or.inl hv0) rfl (Nat.le_of_ble_eq_true rfl) dX5_next_93 (c2 := 0) (s2 := 0) rfl rfl (fun _ => ?_)
  refine z_istore_n (pc := 96) C (lv' := [(0, .ref v0), (1, vI r2)]) (by decide) rfl dX5_next_96 ?_
  refine z_aload_n (pc := 97) C 0 rfl dX5_next_97 ?_
  refine gX5_528 (pc := 98) C rfl (Or.inl hv0) (x := m_i M 528 v0 0) ((m_i_ne (by decide)).trans rfl) dX5_next_98 ?_
  refine z_aload_n (pc := 101) C 0 rfl dX5_next_101 ?_
  refine gX5_513 (pc := 102) C rfl (Or.inl hv0) (x := m_i M 513 v0 0) ((m_i_ne (by decide)).trans rfl) dX5_next_102 ?_
  refine z_ic_ne (pc := 105) C dX5_next_105 (tgt := 116) (by decide) (fun c4 => ?_) (fun c4 => ?_)
  · have h := itf c4 h
    refine z_iload_n (pc := 116) C 1 rfl dX5_next_116 ?_
    refine z_i2l (pc := 117) C dX5_next_117 ?_
    refine z_ldc2 (pc := 118) C (x := 97) q1854 (by decide +kernel) dX5_next_118 ?_
    refine z_ldc2 (pc := 121) C (x := 122) q1855 (by decide +kernel) dX5_next_121 ?_
    refine cX5_207 (pc := 124) (st := []) (st1 := [vI (d_X5_isIn (w32 r2) 97 122)]) C rfl (rm := { frames := 1, cells := 0, slots := 0, locals := 24 }) (ct_X5_isIn C.2.1 (w32 r2) 97 122 (m_si M 530 v0 0 (m_i M 528 v0 0)) _  rfl) ⟨by decide, by decide, Nat.zero_le _, Nat.zero_le _⟩ rfl (Nat.le_of_ble_eq_true rfl) dX5_next_124 (c2 := 0) (s2 := 0) rfl rfl (fun _ => ?_)
    refine z_if_eq (pc := 127) C dX5_next_127 (tgt := 214) (by decide) (fun c6 => ?_) (fun c6 => ?_)
    · have h := itt c6 h
      refine z_iload_n (pc := 214) C 1 rfl dX5_next_214 ?_
      refine z_i2l (pc := 215) C dX5_next_215 ?_
      refine z_ldc2 (pc := 216) C (x := 48) q1859 (by decide +kernel) dX5_next_216 ?_
      refine z_ldc2 (pc := 219) C (x := 57) q1860 (by decide +kernel) dX5_next_219 ?_
      refine cX5_207 (pc := 222) (st := []) (st1 := [vI (d_X5_isIn (w32 r2) 48 57)]) C rfl (rm := { frames := 1, cells := 0, slots := 0, locals := 24 }) (ct_X5_isIn C.2.1 (w32 r2) 48 57 (m_si M 530 v0 0 (m_i M 528 v0 0)) _  rfl) ⟨by decide, by decide, Nat.zero_le _, Nat.zero_le _⟩ rfl (Nat.le_of_ble_eq_true rfl) dX5_next_222 (c2 := 0) (s2 := 0) rfl rfl (fun _ => ?_)
      refine z_if_eq (pc := 225) C dX5_next_225 (tgt := 337) (by decide) (fun c8 => ?_) (fun c8 => ?_)
      · have h := itt c8 h
        refine z_aload_n (pc := 337) C 0 rfl dX5_next_337 ?_
        refine z_dup (pc := 338) C rfl dX5_next_338 ?_
        refine gX5_528 (pc := 339) C rfl (Or.inl hv0) (x := m_i M 528 v0 0) ((m_i_ne (by decide)).trans rfl) dX5_next_339 ?_
        refine z_iconst (pc := 342) C dX5_next_342 ?_
        refine z_iadd (pc := 343) C dX5_next_343 ?_
        refine pX5_528 (pc := 344) C rfl (Or.inl hv0) dX5_next_344 ?_
        refine z_aload_n (pc := 347) C 0 rfl dX5_next_347 ?_
        refine z_iload_n (pc := 348) C 1 rfl dX5_next_348 ?_
        obtain ⟨r9, M10, e11, h⟩ := bNs h
        refine cX5_283 (pc := 349) (st := []) (st1 := []) C rfl (rm := { frames := 2, cells := 0, slots := 0, locals := 49 }) (ct_X5_nextSign C.2.1 v0 r2 (m_si (m_si M 530 v0 0 (m_i M 528 v0 0)) 528 v0 0 ((m_i M 528 v0 0) + 1)) _ _ hv0 e11) ⟨by decide, by decide, Nat.zero_le _, Nat.zero_le _⟩ (Or.inl hv0) rfl (Nat.le_of_ble_eq_true rfl) dX5_next_349 (c2 := 0) (s2 := 0) rfl rfl (fun x12 => ?_)
        cases h
        exact z_vret (pc := 352) C rfl (show 0 ≤ 0 from by decide) (show 0 ≤ 0 from by decide) dX5_next_352
      · have h := itf c8 h
        refine z_aload_n (pc := 228) C 0 rfl dX5_next_228 ?_
        refine z_iconst (pc := 229) C dX5_next_229 ?_
        refine pX5_532 (pc := 230) C rfl (Or.inl hv0) dX5_next_230 ?_
        exact z_lv [0] rfl <| cL_X5_next_233 C FU v0 (m_si (m_si M 530 v0 0 (m_i M 528 v0 0)) 532 v0 0 0) _ _ hv0 h
    · have h := itf c6 h
      refine z_aload_n (pc := 130) C 0 rfl dX5_next_130 ?_
      refine z_lconst (pc := 131) C (x := 0) (by decide +kernel) dX5_next_131 ?_
      refine pX5_531 (pc := 132) C rfl (Or.inl hv0) dX5_next_132 ?_
      exact z_lv [0] rfl <| cL_X5_next_135 C FU v0 (m_si (m_si M 530 v0 0 (m_i M 528 v0 0)) 531 v0 0 0) _ _ hv0 h
  · have h := itt c4 h
    refine z_aload_n (pc := 108) C 0 rfl dX5_next_108 ?_
    refine z_iconst (pc := 109) C dX5_next_109 ?_
    refine pX5_529 (pc := 110) C rfl (Or.inl hv0) dX5_next_110 ?_
    refine z_goto (pc := 113) C dX5_next_113 (tgt := 352) (by decide) ?_
    cases h
    exact z_vret (pc := 352) C rfl (show 0 ≤ 0 from by decide) (show 0 ≤ 0 from by decide) dX5_next_352
theorem cB_X5_next_0 {X : x_Ctx} {M0 : Mem} (C : x_CC X 3 76 yX5_next cX5_next 2 none []) {k0 : Nat → Mem → Option (Int × Mem)} (hk0 : ∀ (v0 : Nat) (M : Mem) (r : Int) (M' : Mem), m_kd M v0 = 5 → k0 v0 M = some (r, M') → x_Z X 0 0 (x_QF X M0 (.returned none) M' 0 0) M0 M 2 [(0, .ref v0)] 0 []) (v0 : Nat) (M : Mem) (r : Int) (M' : Mem) (hv0 : m_kd M v0 = 5) (h : B_X5_next_0 k0 v0 M = some (r, M'))  : x_Z X 0 0 (x_QF X M0 (.returned none) M' 0 0) M0 M 2 [(0, .ref v0)] 0 [] := by
  unfold B_X5_next_0 at h
  refine z_aload_n (pc := 0) C 0 rfl dX5_next_0 ?_
  refine gX5_528 (pc := 1) C rfl (Or.inl hv0) rfl dX5_next_1 ?_
  refine z_aload_n (pc := 4) C 0 rfl dX5_next_4 ?_
  refine gX5_513 (pc := 5) C rfl (Or.inl hv0) rfl dX5_next_5 ?_
  refine z_ic_ge (pc := 8) C dX5_next_8 (tgt := 80) (by decide) (fun c1 => ?_) (fun c1 => ?_)
  · have h := itt c1 h
    exact cB_X5_next_80 C v0 M _ _ hv0 h
  · have h := itf c1 h
    refine z_aload_n (pc := 11) C 0 rfl dX5_next_11 ?_
    refine gX5_512 (pc := 12) C rfl hv0 dX5_next_12 ?_
    refine z_aload_n (pc := 15) C 0 rfl dX5_next_15 ?_
    refine gX5_528 (pc := 16) C rfl (Or.inl hv0) rfl dX5_next_16 ?_
    obtain ⟨c29, h⟩ := ifn h
    refine z_iaO (pc := 19) (k := 5) (j := 12) C 512 rfl (by decide) (by decide) (by decide) rfl rfl rfl rfl hv0 c29 rfl dX5_next_19 ?_
    refine z_bipush (pc := 20) C (by decide +kernel) dX5_next_20 ?_
    refine z_ic_eq (pc := 22) C dX5_next_22 (tgt := 67) (by decide) (fun c30 => ?_) (fun c30 => ?_)
    · have h := itt c30 h
      refine z_aload_n (pc := 67) C 0 rfl dX5_next_67 ?_
      refine z_dup (pc := 68) C rfl dX5_next_68 ?_
      refine gX5_528 (pc := 69) C rfl (Or.inl hv0) rfl dX5_next_69 ?_
      refine z_iconst (pc := 72) C dX5_next_72 ?_
      refine z_iadd (pc := 73) C dX5_next_73 ?_
      refine pX5_528 (pc := 74) C rfl (Or.inl hv0) dX5_next_74 ?_
      refine z_goto (pc := 77) C dX5_next_77 (tgt := 0) (by decide) ?_
      exact hk0 v0 (m_si M 528 v0 0 ((m_i M 528 v0 0) + 1)) _ _ hv0 h
    · have h := itf c30 h
      refine z_aload_n (pc := 25) C 0 rfl dX5_next_25 ?_
      refine gX5_512 (pc := 26) C rfl hv0 dX5_next_26 ?_
      refine z_aload_n (pc := 29) C 0 rfl dX5_next_29 ?_
      refine gX5_528 (pc := 30) C rfl (Or.inl hv0) rfl dX5_next_30 ?_
      refine z_iaO (pc := 33) (k := 5) (j := 12) C 512 rfl (by decide) (by decide) (by decide) rfl rfl rfl rfl hv0 c29 rfl dX5_next_33 ?_
      refine z_bipush (pc := 34) C (by decide +kernel) dX5_next_34 ?_
      refine z_ic_eq (pc := 36) C dX5_next_36 (tgt := 67) (by decide) (fun c31 => ?_) (fun c31 => ?_)
      · have h := itt c31 h
        refine z_aload_n (pc := 67) C 0 rfl dX5_next_67 ?_
        refine z_dup (pc := 68) C rfl dX5_next_68 ?_
        refine gX5_528 (pc := 69) C rfl (Or.inl hv0) rfl dX5_next_69 ?_
        refine z_iconst (pc := 72) C dX5_next_72 ?_
        refine z_iadd (pc := 73) C dX5_next_73 ?_
        refine pX5_528 (pc := 74) C rfl (Or.inl hv0) dX5_next_74 ?_
        refine z_goto (pc := 77) C dX5_next_77 (tgt := 0) (by decide) ?_
        exact hk0 v0 (m_si M 528 v0 0 ((m_i M 528 v0 0) + 1)) _ _ hv0 h
      · have h := itf c31 h
        refine z_aload_n (pc := 39) C 0 rfl dX5_next_39 ?_
        refine gX5_512 (pc := 40) C rfl hv0 dX5_next_40 ?_
        refine z_aload_n (pc := 43) C 0 rfl dX5_next_43 ?_
        refine gX5_528 (pc := 44) C rfl (Or.inl hv0) rfl dX5_next_44 ?_
        refine z_iaO (pc := 47) (k := 5) (j := 12) C 512 rfl (by decide) (by decide) (by decide) rfl rfl rfl rfl hv0 c29 rfl dX5_next_47 ?_
        refine z_bipush (pc := 48) C (by decide +kernel) dX5_next_48 ?_
        refine z_ic_eq (pc := 50) C dX5_next_50 (tgt := 67) (by decide) (fun c32 => ?_) (fun c32 => ?_)
        · have h := itt c32 h
          refine z_aload_n (pc := 67) C 0 rfl dX5_next_67 ?_
          refine z_dup (pc := 68) C rfl dX5_next_68 ?_
          refine gX5_528 (pc := 69) C rfl (Or.inl hv0) rfl dX5_next_69 ?_
          refine z_iconst (pc := 72) C dX5_next_72 ?_
          refine z_iadd (pc := 73) C dX5_next_73 ?_
          refine pX5_528 (pc := 74) C rfl (Or.inl hv0) dX5_next_74 ?_
          refine z_goto (pc := 77) C dX5_next_77 (tgt := 0) (by decide) ?_
          exact hk0 v0 (m_si M 528 v0 0 ((m_i M 528 v0 0) + 1)) _ _ hv0 h
        · have h := itf c32 h
          refine z_aload_n (pc := 53) C 0 rfl dX5_next_53 ?_
          refine gX5_512 (pc := 54) C rfl hv0 dX5_next_54 ?_
          refine z_aload_n (pc := 57) C 0 rfl dX5_next_57 ?_
          refine gX5_528 (pc := 58) C rfl (Or.inl hv0) rfl dX5_next_58 ?_
          refine z_iaO (pc := 61) (k := 5) (j := 12) C 512 rfl (by decide) (by decide) (by decide) rfl rfl rfl rfl hv0 c29 rfl dX5_next_61 ?_
          refine z_bipush (pc := 62) C (by decide +kernel) dX5_next_62 ?_
          refine z_ic_ne (pc := 64) C dX5_next_64 (tgt := 80) (by decide) (fun c33 => ?_) (fun c33 => ?_)
          · have h := itf c33 h
            exact cB_X5_next_80 C v0 M _ _ hv0 h
          · have h := itt c33 h
            refine z_aload_n (pc := 67) C 0 rfl dX5_next_67 ?_
            refine z_dup (pc := 68) C rfl dX5_next_68 ?_
            refine gX5_528 (pc := 69) C rfl (Or.inl hv0) rfl dX5_next_69 ?_
            refine z_iconst (pc := 72) C dX5_next_72 ?_
            refine z_iadd (pc := 73) C dX5_next_73 ?_
            refine pX5_528 (pc := 74) C rfl (Or.inl hv0) dX5_next_74 ?_
            refine z_goto (pc := 77) C dX5_next_77 (tgt := 0) (by decide) ?_
            exact hk0 v0 (m_si M 528 v0 0 ((m_i M 528 v0 0) + 1)) _ _ hv0 h
theorem cL_X5_next_0 {X : x_Ctx} {M0 : Mem} (C : x_CC X 3 76 yX5_next cX5_next 2 none [])  : ∀ (n : Nat) (v0 : Nat) (M : Mem) (r : Int) (M' : Mem) (hv0 : m_kd M v0 = 5) (h : L_X5_next_0  n v0 M = some (r, M')) , x_Z X 0 0 (x_QF X M0 (.returned none) M' 0 0) M0 M 2 [(0, .ref v0)] 0 [] := by
  intro n
  induction n with
  | zero => intro v0 M r M' hv0 h ; cases h
  | succ n ih => intro v0 M r M' hv0 h ; exact cB_X5_next_0 C (fun v0 M r M' hv0 h  => ih v0 M r M' hv0 h ) v0 M r M' hv0 h 
theorem ct_X5_next {l : Launch} {S0 : State} {D : va_G} {cA : Nat → ClassId} (hG : x_G l S0 D cA) (v0 : Nat) (M : Mem) (r : Int) (M' : Mem) (hv0 : m_kd M v0 = 5) (h : d_X5_next v0 M = some (r, M')) : x_Me l S0 D cA yX5_next cX5_next 2 none [] ({ frames := 3, cells := 0, slots := 0, locals := 76 }) [.ref v0] M (.returned none) M' := by
  refine x_begin (F := 3) (Lo := 76) (mc := 0) (ms := 0) hG (Nat.le_of_ble_eq_true rfl) (lv := [(0, .ref v0)]) rfl rfl rfl rfl rfl (fun X e1 e2 e3 e4 e5 C => ?_)
  unfold d_X5_next at h
  exact cL_X5_next_0 C FU v0 M _ _ hv0 h
