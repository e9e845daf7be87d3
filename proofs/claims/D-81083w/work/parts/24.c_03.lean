set_option maxRecDepth 100000
def d_X0_form (v0 : Nat) (v1 : Nat) (M : Mem) : Option (Int × Mem) :=
  bC (d_X1_form v0 M) (fun r1 M3 =>
    some (0, (m_si M3 9000 v1 (ixn 0) (w32 r1)))) (fun q2 M3 =>
    if m_kd M3 q2 = 114 then
      some (1, M3)
    else
      none)
theorem ct_X0_form {l : Launch} {S0 : State} {D : va_G} {cA : Nat → ClassId} (hG : x_G l S0 D cA) (v0 : Nat) (v1 : Nat) (M : Mem) (r : Int) (M' : Mem) (hv0 : m_kd M v0 = 1) (hv1 : m_kd M v1 = 19000) (h : d_X0_form v0 v1 M = some (r, M')) : x_Me l S0 D cA yX0_form cX0_form 3 (some .int) [(0, 8, 11, 19)] ({ frames := 16, cells := 14, slots := 3829, locals := 495 }) [.ref v0, .ref v1] M (.returned (some (vI r))) M' := by
  refine x_begin (F := 16) (Lo := 495) (mc := 14) (ms := 3829) hG (Nat.le_of_ble_eq_true rfl) (lv := [(0, .ref v0), (1, .ref v1)]) rfl rfl rfl rfl rfl (fun X e1 e2 e3 e4 e5 C => ?_)
  have hR : _ ∧ _ := ⟨Nat.le_of_eq (congrArg Room.cells e5).symm, Nat.le_of_eq (congrArg Room.slots e5).symm⟩
  unfold d_X0_form at h
  refine z_aload_n (pc := 0) C 1 rfl dX0_form_0 ?_
  refine z_iconst (pc := 1) C dX0_form_1 ?_
  refine z_aload_n (pc := 2) C 0 rfl dX0_form_2 ?_
  rcases bCs h with ⟨r1, M3, e4, h⟩ | ⟨q2, M3, e4, h⟩
  · refine cX0_46 (pc := 3) (st := [vI 0, .ref v1]) (st1 := [vI r1, vI 0, .ref v1]) C rfl (rm := { frames := 15, cells := 14, slots := 3829, locals := 470 }) (ct_X1_form C.2.1 v0 M _ _ hv0 e4) ⟨by decide, by decide, Nat.le_trans (show 14 ≤ 14 from by decide) hR.1, Nat.le_trans (show 3829 ≤ 3829 from by decide) hR.2⟩ (Or.inl hv0) rfl (Nat.le_of_ble_eq_true rfl) dX0_form_3 (c2 := 14) (s2 := 3829) rfl rfl (fun x5 => ?_)
    have k6 := x5 _ 19000 (by decide) (Or.inr (by decide)) hv1
    refine z_i2l (pc := 6) C dX0_form_6 ?_
    refine z_lsw (pc := 7) C k6 (by decide +kernel) dX0_form_7 ?_
    refine z_goto (pc := 8) C dX0_form_8 (tgt := 14) (by decide) ?_
    refine z_iconst (pc := 14) C dX0_form_14 ?_
    cases h
    exact z_iret (pc := 15) C rfl (show 14 ≤ 14 from by decide) (show 3829 ≤ 3829 from by decide) dX0_form_15
  · by_cases c7 : m_kd M3 q2 = 114
    · have h := itt c7 h
      refine kX0_46 (pc := 3) (st := [vI 0, .ref v1]) C rfl (rm := { frames := 15, cells := 14, slots := 3829, locals := 470 }) (r := q2) (ct_X1_form C.2.1 v0 M _ _ hv0 e4) ⟨by decide, by decide, Nat.le_trans (show 14 ≤ 14 from by decide) hR.1, Nat.le_trans (show 3829 ≤ 3829 from by decide) hR.2⟩ (Or.inl hv0) (Nat.le_of_ble_eq_true rfl) dX0_form_3 (e := 14) (hpc := 11) (by decide) (Or.inr c7) (Or.inr ⟨by decide, by decide, 14, by decide, q533, Or.inl ⟨rfl, rfl⟩⟩) (c2 := 14) (s2 := 3829) rfl rfl (fun x8 => ?_)
      refine z_astore_n (pc := 11) C (lv' := [(0, .ref v0), (1, .ref v1), (2, .ref q2)]) (by decide) rfl dX0_form_11 ?_
      refine z_iconst (pc := 12) C dX0_form_12 ?_
      cases h
      exact z_iret (pc := 13) C rfl (show 14 ≤ 14 from by decide) (show 3829 ≤ 3829 from by decide) dX0_form_13
    · have h := itf c7 h
      cases h
def d_X1_formOf (v0 : Nat) (v1 : Int) (M : Mem) : Option ((Nat ⊕ Nat) × Mem) :=
  bT (d_X1_inside (d_X1_isIn (w32 v1) 0 (w32 ((m_i M 111 v0 0) - 1))) M) fun r5 M6 => 
  if inb v1 6 then 
  bR (m_r M6 112 v0 (ixn v1)) fun q12 => 
  some (.inl q12, M6) else none
theorem ct_X1_formOf {l : Launch} {S0 : State} {D : va_G} {cA : Nat → ClassId} (hG : x_G l S0 D cA) (v0 : Nat) (v1 : Int) (M : Mem) (r : Nat ⊕ Nat) (M' : Mem) (hv0 : m_kd M v0 = 1) (h : d_X1_formOf v0 v1 M = some (r, M')) : x_Me l S0 D cA yX1_formOf cX1_formOf 2 (some (.object "CensusOffice$Form")) [] ({ frames := 7, cells := (ocN r 0 1), slots := (ocN r 0 6), locals := 114 }) [.ref v0, vI v1] M (ocR r) M' := by
  refine x_begin (F := 7) (Lo := 114) (mc := (ocN r 0 1)) (ms := (ocN r 0 6)) hG (Nat.le_of_ble_eq_true rfl) (lv := [(0, .ref v0), (1, vI v1)]) rfl rfl rfl rfl rfl (fun X e1 e2 e3 e4 e5 C => ?_)
  have hR : _ ∧ _ := ⟨Nat.le_of_eq (congrArg Room.cells e5).symm, Nat.le_of_eq (congrArg Room.slots e5).symm⟩
  unfold d_X1_formOf at h
  refine z_iload_n (pc := 0) C 1 rfl dX1_formOf_0 ?_
  refine z_i2l (pc := 1) C dX1_formOf_1 ?_
  refine z_lconst (pc := 2) C (x := 0) (by decide +kernel) dX1_formOf_2 ?_
  refine z_aload_n (pc := 3) C 0 rfl dX1_formOf_3 ?_
  refine gX1_111 (pc := 4) C rfl (Or.inl hv0) rfl dX1_formOf_4 ?_
  refine z_iconst (pc := 7) C dX1_formOf_7 ?_
  refine z_isub (pc := 8) C dX1_formOf_8 ?_
  refine z_i2l (pc := 9) C dX1_formOf_9 ?_
  refine cX1_159 (pc := 10) (st := []) (st1 := [vI (d_X1_isIn (w32 v1) 0 (w32 ((m_i M 111 v0 0) - 1)))]) C rfl (rm := { frames := 1, cells := 0, slots := 0, locals := 24 }) (ct_X1_isIn C.2.1 (w32 v1) 0 (w32 ((m_i M 111 v0 0) - 1)) M _  rfl) ⟨by decide, by decide, Nat.zero_le _, Nat.zero_le _⟩ rfl (Nat.le_of_ble_eq_true rfl) dX1_formOf_10 (c2 := 0) (s2 := 0) rfl rfl (fun _ => ?_)
  rcases bTs h with ⟨x9, e7, er⟩ | ⟨r5, M6, e7, h⟩
  · subst er; exact tX1_171 (pc := 13) C rfl (rm := { frames := 6, cells := 1, slots := 6, locals := 90 }) (ct_X1_inside C.2.1 (d_X1_isIn (w32 v1) 0 (w32 ((m_i M 111 v0 0) - 1))) M _ _  e7) ⟨by decide, by decide, Nat.le_trans (show 1 ≤ 1 from by decide) hR.1, Nat.le_trans (show 6 ≤ 6 from by decide) hR.2⟩ (Nat.le_of_ble_eq_true rfl) dX1_formOf_13 (by decide) (show 1 ≤ 1 from by decide) (show 6 ≤ 6 from by decide)
  refine cX1_171 (pc := 13) (st := []) (st1 := []) C rfl (rm := { frames := 6, cells := 0, slots := 0, locals := 90 }) (ct_X1_inside C.2.1 (d_X1_isIn (w32 v1) 0 (w32 ((m_i M 111 v0 0) - 1))) M _ _  e7) ⟨by decide, by decide, Nat.zero_le _, Nat.zero_le _⟩ rfl (Nat.le_of_ble_eq_true rfl) dX1_formOf_13 (c2 := 0) (s2 := 0) rfl rfl (fun x8 => ?_)
  have k10 := x8 _ 1 (by decide) (Or.inl (by decide)) hv0
  refine z_aload_n (pc := 16) C 0 rfl dX1_formOf_16 ?_
  refine gX1_112 (pc := 17) C rfl k10 dX1_formOf_17 ?_
  refine z_iload_n (pc := 20) C 1 rfl dX1_formOf_20 ?_
  obtain ⟨c11, h⟩ := ifn h
  obtain ⟨q12, e13, h⟩ := bRs h
  refine z_aaO (pc := 21) (k := 1) (j := 12) C 112 rfl (by decide) (by decide) (by decide) rfl rfl (by decide) (by decide) rfl k10 c11 rfl (by decide) e13 dX1_formOf_21 (fun k14 => ?_)
  cases h
  exact z_aret (pc := 22) C rfl (show 0 ≤ 0 from by decide) (show 0 ≤ 0 from by decide) dX1_formOf_22
def d_X1_statementIn (v0 : Nat) (v1 : Int) (M : Mem) : Option ((Int ⊕ Nat) × Mem) :=
  bT (d_X1_inside (d_X1_isIn (w32 v1) 0 (w32 ((m_i M 200 v0 0) - 1))) M) fun r2 M3 => 
  some (.inl 0, M3)
theorem ct_X1_statementIn {l : Launch} {S0 : State} {D : va_G} {cA : Nat → ClassId} (hG : x_G l S0 D cA) (v0 : Nat) (v1 : Int) (M : Mem) (r : Int ⊕ Nat) (M' : Mem) (hv0 : m_kd M v0 = 2) (h : d_X1_statementIn v0 v1 M = some (r, M')) : x_Me l S0 D cA yX1_statementIn cX1_statementIn 2 none [] ({ frames := 7, cells := (ocN r 0 1), slots := (ocN r 0 6), locals := 114 }) [.ref v0, vI v1] M (ocV r) M' := by
  refine x_begin (F := 7) (Lo := 114) (mc := (ocN r 0 1)) (ms := (ocN r 0 6)) hG (Nat.le_of_ble_eq_true rfl) (lv := [(0, .ref v0), (1, vI v1)]) rfl rfl rfl rfl rfl (fun X e1 e2 e3 e4 e5 C => ?_)
  have hR : _ ∧ _ := ⟨Nat.le_of_eq (congrArg Room.cells e5).symm, Nat.le_of_eq (congrArg Room.slots e5).symm⟩
  unfold d_X1_statementIn at h
  refine z_iload_n (pc := 0) C 1 rfl dX1_statementIn_0 ?_
  refine z_i2l (pc := 1) C dX1_statementIn_1 ?_
  refine z_lconst (pc := 2) C (x := 0) (by decide +kernel) dX1_statementIn_2 ?_
  refine z_aload_n (pc := 3) C 0 rfl dX1_statementIn_3 ?_
  refine gX1_200 (pc := 4) C rfl (Or.inl hv0) rfl dX1_statementIn_4 ?_
  refine z_iconst (pc := 7) C dX1_statementIn_7 ?_
  refine z_isub (pc := 8) C dX1_statementIn_8 ?_
  refine z_i2l (pc := 9) C dX1_statementIn_9 ?_
  refine cX1_159 (pc := 10) (st := []) (st1 := [vI (d_X1_isIn (w32 v1) 0 (w32 ((m_i M 200 v0 0) - 1)))]) C rfl (rm := { frames := 1, cells := 0, slots := 0, locals := 24 }) (ct_X1_isIn C.2.1 (w32 v1) 0 (w32 ((m_i M 200 v0 0) - 1)) M _  rfl) ⟨by decide, by decide, Nat.zero_le _, Nat.zero_le _⟩ rfl (Nat.le_of_ble_eq_true rfl) dX1_statementIn_10 (c2 := 0) (s2 := 0) rfl rfl (fun _ => ?_)
  rcases bTs h with ⟨x6, e4, er⟩ | ⟨r2, M3, e4, h⟩
  · subst er; exact tX1_171 (pc := 13) C rfl (rm := { frames := 6, cells := 1, slots := 6, locals := 90 }) (ct_X1_inside C.2.1 (d_X1_isIn (w32 v1) 0 (w32 ((m_i M 200 v0 0) - 1))) M _ _  e4) ⟨by decide, by decide, Nat.le_trans (show 1 ≤ 1 from by decide) hR.1, Nat.le_trans (show 6 ≤ 6 from by decide) hR.2⟩ (Nat.le_of_ble_eq_true rfl) dX1_statementIn_13 (by decide) (show 1 ≤ 1 from by decide) (show 6 ≤ 6 from by decide)
  refine cX1_171 (pc := 13) (st := []) (st1 := []) C rfl (rm := { frames := 6, cells := 0, slots := 0, locals := 90 }) (ct_X1_inside C.2.1 (d_X1_isIn (w32 v1) 0 (w32 ((m_i M 200 v0 0) - 1))) M _ _  e4) ⟨by decide, by decide, Nat.zero_le _, Nat.zero_le _⟩ rfl (Nat.le_of_ble_eq_true rfl) dX1_statementIn_13 (c2 := 0) (s2 := 0) rfl rfl (fun x5 => ?_)
  cases h
  exact z_vret (pc := 16) C rfl (show 0 ≤ 0 from by decide) (show 0 ≤ 0 from by decide) dX1_statementIn_16
def d_X1_statement (v0 : Nat) (v1 : Int) (v2 : Int) (v3 : Int) (M : Mem) : Option ((Int ⊕ Nat) × Mem) :=
  bT (d_X1_formOf v0 v1 M) fun r1 M2 => 
  if m_kd M2 r1 = 2 then 
  bT (d_X1_statementIn r1 v2 M2) fun r7 M8 => 
  bT (d_X1_need (d_X1_isIn (w32 v3) 0 3) M8) fun r14 M15 => 
  if w32 v3 = 0 then
    if inb v2 20 then 
    some (.inl (m_i M15 202 r1 (ixn v2)), M15) else none
  else
    if w32 v3 = w32 1 then
      if inb v2 20 then 
      some (.inl (m_i M15 203 r1 (ixn v2)), M15) else none
    else
      if w32 v3 = w32 2 then
        if inb v2 20 then 
        some (.inl (m_i M15 204 r1 (ixn v2)), M15) else none
      else
        if inb v2 20 then 
        some (.inl (m_i M15 205 r1 (ixn v2)), M15) else none else none
theorem ct_X1_statement {l : Launch} {S0 : State} {D : va_G} {cA : Nat → ClassId} (hG : x_G l S0 D cA) (v0 : Nat) (v1 : Int) (v2 : Int) (v3 : Int) (M : Mem) (r : Int ⊕ Nat) (M' : Mem) (hv0 : m_kd M v0 = 1) (h : d_X1_statement v0 v1 v2 v3 M = some (r, M')) : x_Me l S0 D cA yX1_statement cX1_statement 5 (some .int) [] ({ frames := 8, cells := (ocN r 0 1), slots := (ocN r 0 6), locals := 139 }) [.ref v0, vI v1, vI v2, vI v3] M (ocI r) M' := by
  refine x_begin (F := 8) (Lo := 139) (mc := (ocN r 0 1)) (ms := (ocN r 0 6)) hG (Nat.le_of_ble_eq_true rfl) (lv := [(0, .ref v0), (1, vI v1), (2, vI v2), (3, vI v3)]) rfl rfl rfl rfl rfl (fun X e1 e2 e3 e4 e5 C => ?_)
  have hR : _ ∧ _ := ⟨Nat.le_of_eq (congrArg Room.cells e5).symm, Nat.le_of_eq (congrArg Room.slots e5).symm⟩
  unfold d_X1_statement at h
  refine z_aload_n (pc := 0) C 0 rfl dX1_statement_0 ?_
  refine z_iload_n (pc := 1) C 1 rfl dX1_statement_1 ?_
  rcases bTs h with ⟨x5, e3, er⟩ | ⟨r1, M2, e3, h⟩
  · subst er; exact tX1_235 (pc := 2) C rfl (rm := { frames := 7, cells := 1, slots := 6, locals := 114 }) (ct_X1_formOf C.2.1 v0 v1 M _ _ hv0 e3) ⟨by decide, by decide, Nat.le_trans (show 1 ≤ 1 from by decide) hR.1, Nat.le_trans (show 6 ≤ 6 from by decide) hR.2⟩ (Or.inl hv0) (Nat.le_of_ble_eq_true rfl) dX1_statement_2 (by decide) (show 1 ≤ 1 from by decide) (show 6 ≤ 6 from by decide)
  refine cX1_235 (pc := 2) (st := []) (st1 := [.ref r1]) C rfl (rm := { frames := 7, cells := 0, slots := 0, locals := 114 }) (ct_X1_formOf C.2.1 v0 v1 M _ _ hv0 e3) ⟨by decide, by decide, Nat.zero_le _, Nat.zero_le _⟩ (Or.inl hv0) rfl (Nat.le_of_ble_eq_true rfl) dX1_statement_2 (c2 := 0) (s2 := 0) rfl rfl (fun x4 => ?_)
  obtain ⟨c6, h⟩ := ifn h
  refine z_astore (pc := 5) C (lv' := [(0, .ref v0), (1, vI v1), (2, vI v2), (3, vI v3), (4, .ref r1)]) (by decide) rfl dX1_statement_5 ?_
  refine z_aload (pc := 7) C 4 rfl dX1_statement_7 ?_
  refine z_iload_n (pc := 9) C 2 rfl dX1_statement_9 ?_
  rcases bTs h with ⟨x11, e9, er⟩ | ⟨r7, M8, e9, h⟩
  · subst er; exact tX1_239 (pc := 10) C rfl (rm := { frames := 7, cells := 1, slots := 6, locals := 114 }) (ct_X1_statementIn C.2.1 r1 v2 M2 _ _ c6 e9) ⟨by decide, by decide, Nat.le_trans (show 1 ≤ 1 from by decide) hR.1, Nat.le_trans (show 6 ≤ 6 from by decide) hR.2⟩ (Nat.le_of_ble_eq_true rfl) dX1_statement_10 (by decide) (show 1 ≤ 1 from by decide) (show 6 ≤ 6 from by decide)
  refine cX1_239 (pc := 10) (st := []) (st1 := []) C rfl (rm := { frames := 7, cells := 0, slots := 0, locals := 114 }) (ct_X1_statementIn C.2.1 r1 v2 M2 _ _ c6 e9) ⟨by decide, by decide, Nat.zero_le _, Nat.zero_le _⟩ rfl (Nat.le_of_ble_eq_true rfl) dX1_statement_10 (c2 := 0) (s2 := 0) rfl rfl (fun x10 => ?_)
  have k12 := x10 _ 2 (by decide) (Or.inl (by decide)) c6
  refine z_iload_n (pc := 13) C 3 rfl dX1_statement_13 ?_
  refine z_i2l (pc := 14) C dX1_statement_14 ?_
  refine z_lconst (pc := 15) C (x := 0) (by decide +kernel) dX1_statement_15 ?_
  refine z_ldc2 (pc := 16) C (x := 3) q914 (by decide +kernel) dX1_statement_16 ?_
  refine cX1_159 (pc := 19) (st := []) (st1 := [vI (d_X1_isIn (w32 v3) 0 3)]) C rfl (rm := { frames := 1, cells := 0, slots := 0, locals := 24 }) (ct_X1_isIn C.2.1 (w32 v3) 0 3 M8 _  rfl) ⟨by decide, by decide, Nat.zero_le _, Nat.zero_le _⟩ rfl (Nat.le_of_ble_eq_true rfl) dX1_statement_19 (c2 := 0) (s2 := 0) rfl rfl (fun _ => ?_)
  rcases bTs h with ⟨x18, e16, er⟩ | ⟨r14, M15, e16, h⟩
  · subst er; exact tX1_164 (pc := 22) C rfl (rm := { frames := 6, cells := 1, slots := 6, locals := 90 }) (ct_X1_need C.2.1 (d_X1_isIn (w32 v3) 0 3) M8 _ _  e16) ⟨by decide, by decide, Nat.le_trans (show 1 ≤ 1 from by decide) hR.1, Nat.le_trans (show 6 ≤ 6 from by decide) hR.2⟩ (Nat.le_of_ble_eq_true rfl) dX1_statement_22 (by decide) (show 1 ≤ 1 from by decide) (show 6 ≤ 6 from by decide)
  refine cX1_164 (pc := 22) (st := []) (st1 := []) C rfl (rm := { frames := 6, cells := 0, slots := 0, locals := 90 }) (ct_X1_need C.2.1 (d_X1_isIn (w32 v3) 0 3) M8 _ _  e16) ⟨by decide, by decide, Nat.zero_le _, Nat.zero_le _⟩ rfl (Nat.le_of_ble_eq_true rfl) dX1_statement_22 (c2 := 0) (s2 := 0) rfl rfl (fun x17 => ?_)
  have k19 := x17 _ 2 (by decide) (Or.inl (by decide)) k12
  refine z_iload_n (pc := 25) C 3 rfl dX1_statement_25 ?_
  refine z_if_ne (pc := 26) C dX1_statement_26 (tgt := 39) (by decide) (fun c20 => ?_) (fun c20 => ?_)
  · have h := itf c20 h
    refine z_iload_n (pc := 39) C 3 rfl dX1_statement_39 ?_
    refine z_iconst (pc := 40) C dX1_statement_40 ?_
    refine z_ic_ne (pc := 41) C dX1_statement_41 (tgt := 54) (by decide) (fun c21 => ?_) (fun c21 => ?_)
    · have h := itf c21 h
      refine z_iload_n (pc := 54) C 3 rfl dX1_statement_54 ?_
      refine z_iconst (pc := 55) C dX1_statement_55 ?_
      refine z_ic_ne (pc := 56) C dX1_statement_56 (tgt := 69) (by decide) (fun c22 => ?_) (fun c22 => ?_)
      · have h := itf c22 h
        refine z_aload (pc := 69) C 4 rfl dX1_statement_69 ?_
        refine gX1_205 (pc := 71) C rfl k19 dX1_statement_71 ?_
        refine z_iload_n (pc := 74) C 2 rfl dX1_statement_74 ?_
        obtain ⟨c23, h⟩ := ifn h
        refine z_iaO (pc := 75) (k := 2) (j := 5) C 205 rfl (by decide) (by decide) (by decide) rfl rfl rfl rfl k19 c23 rfl dX1_statement_75 ?_
        cases h
        exact z_iret (pc := 76) C rfl (show 0 ≤ 0 from by decide) (show 0 ≤ 0 from by decide) dX1_statement_76
      · have h := itt c22 h
        refine z_aload (pc := 59) C 4 rfl dX1_statement_59 ?_
        refine gX1_204 (pc := 61) C rfl k19 dX1_statement_61 ?_
        refine z_iload_n (pc := 64) C 2 rfl dX1_statement_64 ?_
        obtain ⟨c24, h⟩ := ifn h
        refine z_iaO (pc := 65) (k := 2) (j := 4) C 204 rfl (by decide) (by decide) (by decide) rfl rfl rfl rfl k19 c24 rfl dX1_statement_65 ?_
        refine z_goto (pc := 66) C dX1_statement_66 (tgt := 76) (by decide) ?_
        cases h
        exact z_iret (pc := 76) C rfl (show 0 ≤ 0 from by decide) (show 0 ≤ 0 from by decide) dX1_statement_76
    · have h := itt c21 h
      refine z_aload (pc := 44) C 4 rfl dX1_statement_44 ?_
      refine gX1_203 (pc := 46) C rfl k19 dX1_statement_46 ?_
      refine z_iload_n (pc := 49) C 2 rfl dX1_statement_49 ?_
      obtain ⟨c25, h⟩ := ifn h
      refine z_iaO (pc := 50) (k := 2) (j := 3) C 203 rfl (by decide) (by decide) (by decide) rfl rfl rfl rfl k19 c25 rfl dX1_statement_50 ?_
      refine z_goto (pc := 51) C dX1_statement_51 (tgt := 76) (by decide) ?_
      cases h
      exact z_iret (pc := 76) C rfl (show 0 ≤ 0 from by decide) (show 0 ≤ 0 from by decide) dX1_statement_76
  · have h := itt c20 h
    refine z_aload (pc := 29) C 4 rfl dX1_statement_29 ?_
    refine gX1_202 (pc := 31) C rfl k19 dX1_statement_31 ?_
    refine z_iload_n (pc := 34) C 2 rfl dX1_statement_34 ?_
    obtain ⟨c26, h⟩ := ifn h
    refine z_iaO (pc := 35) (k := 2) (j := 2) C 202 rfl (by decide) (by decide) (by decide) rfl rfl rfl rfl k19 c26 rfl dX1_statement_35 ?_
    refine z_goto (pc := 36) C dX1_statement_36 (tgt := 76) (by decide) ?_
    cases h
    exact z_iret (pc := 76) C rfl (show 0 ≤ 0 from by decide) (show 0 ≤ 0 from by decide) dX1_statement_76
def d_X0_statement (v0 : Nat) (v1 : Int) (v2 : Int) (v3 : Int) (v4 : Nat) (M : Mem) : Option (Int × Mem) :=
  bC (d_X1_statement v0 v1 v2 v3 M) (fun r1 M3 =>
    some (0, (m_si M3 9000 v4 (ixn 0) (w32 r1)))) (fun q2 M3 =>
    if m_kd M3 q2 = 115 then
      some (1, M3)
    else
      if m_kd M3 q2 = 113 then
        some (2, M3)
      else
        none)
theorem ct_X0_statement {l : Launch} {S0 : State} {D : va_G} {cA : Nat → ClassId} (hG : x_G l S0 D cA) (v0 : Nat) (v1 : Int) (v2 : Int) (v3 : Int) (v4 : Nat) (M : Mem) (r : Int) (M' : Mem) (hv0 : m_kd M v0 = 1) (hv4 : m_kd M v4 = 19000) (h : d_X0_statement v0 v1 v2 v3 v4 M = some (r, M')) : x_Me l S0 D cA yX0_statement cX0_statement 6 (some .int) [(0, 12, 15, 25), (0, 12, 19, 13)] ({ frames := 9, cells := 1, slots := 6, locals := 167 }) [.ref v0, vI v1, vI v2, vI v3, .ref v4] M (.returned (some (vI r))) M' := by
  refine x_begin (F := 9) (Lo := 167) (mc := 1) (ms := 6) hG (Nat.le_of_ble_eq_true rfl) (lv := [(0, .ref v0), (1, vI v1), (2, vI v2), (3, vI v3), (4, .ref v4)]) rfl rfl rfl rfl rfl (fun X e1 e2 e3 e4 e5 C => ?_)
  have hR : _ ∧ _ := ⟨Nat.le_of_eq (congrArg Room.cells e5).symm, Nat.le_of_eq (congrArg Room.slots e5).symm⟩
  unfold d_X0_statement at h
  refine z_aload (pc := 0) C 4 rfl dX0_statement_0 ?_
  refine z_iconst (pc := 2) C dX0_statement_2 ?_
  refine z_aload_n (pc := 3) C 0 rfl dX0_statement_3 ?_
  refine z_iload_n (pc := 4) C 1 rfl dX0_statement_4 ?_
  refine z_iload_n (pc := 5) C 2 rfl dX0_statement_5 ?_
  refine z_iload_n (pc := 6) C 3 rfl dX0_statement_6 ?_
  rcases bCs h with ⟨r1, M3, e4, h⟩ | ⟨q2, M3, e4, h⟩
  · refine cX0_49 (pc := 7) (st := [vI 0, .ref v4]) (st1 := [vI r1, vI 0, .ref v4]) C rfl (rm := { frames := 8, cells := 0, slots := 0, locals := 139 }) (ct_X1_statement C.2.1 v0 v1 v2 v3 M _ _ hv0 e4) ⟨by decide, by decide, Nat.zero_le _, Nat.zero_le _⟩ (Or.inl hv0) rfl (Nat.le_of_ble_eq_true rfl) dX0_statement_7 (c2 := 0) (s2 := 0) rfl rfl (fun x5 => ?_)
    have k6 := x5 _ 19000 (by decide) (Or.inr (by decide)) hv4
    refine z_i2l (pc := 10) C dX0_statement_10 ?_
    refine z_lsw (pc := 11) C k6 (by decide +kernel) dX0_statement_11 ?_
    refine z_goto (pc := 12) C dX0_statement_12 (tgt := 23) (by decide) ?_
    refine z_iconst (pc := 23) C dX0_statement_23 ?_
    cases h
    exact z_iret (pc := 24) C rfl (show 0 ≤ 1 from by decide) (show 0 ≤ 6 from by decide) dX0_statement_24
  · by_cases c7 : m_kd M3 q2 = 115
    · have h := itt c7 h
      refine kX0_49 (pc := 7) (st := [vI 0, .ref v4]) C rfl (rm := { frames := 8, cells := 1, slots := 6, locals := 139 }) (r := q2) (ct_X1_statement C.2.1 v0 v1 v2 v3 M _ _ hv0 e4) ⟨by decide, by decide, Nat.le_trans (show 1 ≤ 1 from by decide) hR.1, Nat.le_trans (show 6 ≤ 6 from by decide) hR.2⟩ (Or.inl hv0) (Nat.le_of_ble_eq_true rfl) dX0_statement_7 (e := 15) (hpc := 15) (by decide) (Or.inr c7) (Or.inr ⟨by decide, by decide, 15, by decide, q560, Or.inl ⟨rfl, rfl⟩⟩) (c2 := 1) (s2 := 6) rfl rfl (fun x8 => ?_)
      refine z_astore (pc := 15) C (lv' := [(0, .ref v0), (1, vI v1), (2, vI v2), (3, vI v3), (4, .ref v4), (5, .ref q2)]) (by decide) rfl dX0_statement_15 ?_
      refine z_iconst (pc := 17) C dX0_statement_17 ?_
      cases h
      exact z_iret (pc := 18) C rfl (show 1 ≤ 1 from by decide) (show 6 ≤ 6 from by decide) dX0_statement_18
    · have h := itf c7 h
      by_cases c9 : m_kd M3 q2 = 113
      · have h := itt c9 h
        refine kX0_49 (pc := 7) (st := [vI 0, .ref v4]) C rfl (rm := { frames := 8, cells := 1, slots := 6, locals := 139 }) (r := q2) (ct_X1_statement C.2.1 v0 v1 v2 v3 M _ _ hv0 e4) ⟨by decide, by decide, Nat.le_trans (show 1 ≤ 1 from by decide) hR.1, Nat.le_trans (show 6 ≤ 6 from by decide) hR.2⟩ (Or.inl hv0) (Nat.le_of_ble_eq_true rfl) dX0_statement_7 (e := 13) (hpc := 19) (by decide) (Or.inr c9) (Or.inr ⟨by decide, by decide, 15, by decide, q560, Or.inr ⟨by decide, Or.inr ⟨by decide, by decide, 13, by decide, q447, Or.inl ⟨rfl, rfl⟩⟩⟩⟩) (c2 := 1) (s2 := 6) rfl rfl (fun x10 => ?_)
        refine z_astore (pc := 19) C (lv' := [(0, .ref v0), (1, vI v1), (2, vI v2), (3, vI v3), (4, .ref v4), (5, .ref q2)]) (by decide) rfl dX0_statement_19 ?_
        refine z_iconst (pc := 21) C dX0_statement_21 ?_
        cases h
        exact z_iret (pc := 22) C rfl (show 1 ≤ 1 from by decide) (show 6 ≤ 6 from by decide) dX0_statement_22
      · have h := itf c9 h
        cases h
def B_X8_init_67 (k67 : Nat → Int → Mem → Option (Int × Mem)) (v0 : Nat) (v4 : Int) (M : Mem) : Option (Int × Mem) :=
  if w32 20 ≤ w32 v4 then
    some (0, M)
  else
    if inb v4 20 then 
    k67 v0 (v4 + 1) (m_si M 806 v0 (ixn v4) (-2000000)) else none
def L_X8_init_67  : Nat → Nat → Int → Mem → Option (Int × Mem)
  | 0, _, _, _ => none
  | n + 1, v0, v4, M => B_X8_init_67 (L_X8_init_67  n) v0 v4 M
def d_X8_init (v0 : Nat) (v1 : Nat) (v2 : Int) (v3 : Int) (M : Mem) : Option (Int × Mem) :=
  if m_sz M + 0 = v0 + 1 then 
  if x_whole (m_nw (m_nw (m_nw (m_nw (m_nw M 10803) 10804) 10805) 10806) 10807) v0 8 = true then 
  L_X8_init_67 FU v0 0 (m_si (m_si (m_sr (m_si (m_se (m_nw (m_nw (m_nw (m_nw (m_nw M 10803) 10804) 10805) 10806) 10807) v0 8) 811 v0 0 (-1)) 800 v0 0 (some v1)) 801 v0 0 v2) 802 v0 0 v3) else none else none
theorem cB_X8_init_67 {X : x_Ctx} {M0 : Mem} (C : x_CC X 1 24 yX8_init cX8_init 5 none []) {k67 : Nat → Int → Mem → Option (Int × Mem)} (hk67 : ∀ (v0 : Nat) (v4 : Int) (M : Mem) (r : Int) (M' : Mem), m_kd M v0 = 8 → k67 v0 v4 M = some (r, M') → 5 ≤ (XR X).cells ∧ 86 ≤ (XR X).slots → x_Z X 5 86 (x_QF X M0 (.returned none) M' 5 86) M0 M 5 [(0, .ref v0), (4, vI v4)] 67 []) (v0 : Nat) (v4 : Int) (M : Mem) (r : Int) (M' : Mem) (hv0 : m_kd M v0 = 8) (h : B_X8_init_67 k67 v0 v4 M = some (r, M')) (hR : 5 ≤ (XR X).cells ∧ 86 ≤ (XR X).slots) : x_Z X 5 86 (x_QF X M0 (.returned none) M' 5 86) M0 M 5 [(0, .ref v0), (4, vI v4)] 67 [] := by
  unfold B_X8_init_67 at h
  refine z_iload (pc := 67) C 1 rfl dX8_init_67 ?_
  refine z_bipush (pc := 69) C (by decide +kernel) dX8_init_69 ?_
  refine z_ic_ge (pc := 71) C dX8_init_71 (tgt := 89) (by decide) (fun c21 => ?_) (fun c21 => ?_)
  · have h := itt c21 h
    cases h
    exact z_vret (pc := 89) C rfl (show 5 ≤ 5 from by decide) (show 86 ≤ 86 from by decide) dX8_init_89
  · have h := itf c21 h
    refine z_aload_n (pc := 74) C 0 rfl dX8_init_74 ?_
    refine gX8_806 (pc := 75) C rfl hv0 dX8_init_75 ?_
    refine z_iload (pc := 78) C 1 rfl dX8_init_78 ?_
    refine z_ldc (pc := 80) C (x := -2000000) q927 (by decide +kernel) dX8_init_80 ?_
    obtain ⟨c22, h⟩ := ifn h
    refine z_isO (pc := 82) (k := 8) (j := 6) C 806 rfl (by decide) (by decide) (by decide) rfl rfl rfl rfl hv0 c22 dX8_init_82 ?_
    refine z_iinc (pc := 83) C (lv' := [(0, .ref v0), (4, vI (v4 + 1))]) 1 rfl (by decide) rfl dX8_init_83 ?_
    refine z_goto (pc := 86) C dX8_init_86 (tgt := 67) (by decide) ?_
    exact hk67 v0 (v4 + 1) (m_si M 806 v0 (ixn v4) (-2000000)) _ _ hv0 h hR
theorem cL_X8_init_67 {X : x_Ctx} {M0 : Mem} (C : x_CC X 1 24 yX8_init cX8_init 5 none [])  : ∀ (n : Nat) (v0 : Nat) (v4 : Int) (M : Mem) (r : Int) (M' : Mem) (hv0 : m_kd M v0 = 8) (h : L_X8_init_67  n v0 v4 M = some (r, M')) (hR : 5 ≤ (XR X).cells ∧ 86 ≤ (XR X).slots), x_Z X 5 86 (x_QF X M0 (.returned none) M' 5 86) M0 M 5 [(0, .ref v0), (4, vI v4)] 67 [] := by
  intro n
  induction n with
  | zero => intro v0 v4 M r M' hv0 h hR; cases h
  | succ n ih => intro v0 v4 M r M' hv0 h hR; exact cB_X8_init_67 C (fun v0 v4 M r M' hv0 h hR => ih v0 v4 M r M' hv0 h hR) v0 v4 M r M' hv0 h hR
theorem ct_X8_init {l : Launch} {S0 : State} {D : va_G} {cA : Nat → ClassId} (hG : x_G l S0 D cA) (v0 : Nat) (v1 : Nat) (v2 : Int) (v3 : Int) (M : Mem) (r : Int) (M' : Mem) (hv0 : m_kd M v0 = 108) (hv1 : m_kd M v1 = 2) (h : d_X8_init v0 v1 v2 v3 M = some (r, M')) : x_Me l S0 D cA yX8_init cX8_init 5 none [] ({ frames := 1, cells := 5, slots := 86, locals := 24 }) [.ref v0, .ref v1, vI v2, vI v3] M (.returned none) M' := by
  refine x_begin (F := 1) (Lo := 24) (mc := 5) (ms := 86) hG (Nat.le_of_ble_eq_true rfl) (lv := [(0, .ref v0), (1, .ref v1), (2, vI v2), (3, vI v3)]) rfl rfl rfl rfl rfl (fun X e1 e2 e3 e4 e5 C => ?_)
  have hR : _ ∧ _ := ⟨Nat.le_of_eq (congrArg Room.cells e5).symm, Nat.le_of_eq (congrArg Room.slots e5).symm⟩
  unfold d_X8_init at h
  refine z_aload_n (pc := 0) C 0 rfl dX8_init_0 ?_
  refine z_obj (pc := 1) C q926 q139 q140 (by decide) (by decide) (by decide) dX8_init_1 ?_
  refine z_aload_n (pc := 4) C 0 rfl dX8_init_4 ?_
  refine z_bipush (pc := 5) C (by decide +kernel) dX8_init_5 ?_
  obtain ⟨c1, h⟩ := ifn h
  refine aX8_803 (pc := 7) C rfl rfl hv0 (show m_sz M + 0 = v0 + 1 from by have := c1; omega) (Nat.le_trans (show 1 ≤ 5 from by decide) hR.1) (Nat.le_trans (show 6 ≤ 86 from by decide) hR.2) dX8_init_7 dX8_init_9 (c2 := 1) (s2 := 6) rfl rfl (fun x2 => ?_)
  have k3 := x2.k hv0 (by decide)
  have k4 := x2.k hv1 (by decide)
  refine z_aload_n (pc := 12) C 0 rfl dX8_init_12 ?_
  refine z_bipush (pc := 13) C (by decide +kernel) dX8_init_13 ?_
  refine aX8_804 (pc := 15) C rfl rfl k3 (show m_sz M + 1 = v0 + 2 from by have := c1; omega) (Nat.le_trans (show 2 ≤ 5 from by decide) hR.1) (Nat.le_trans (show 26 ≤ 86 from by decide) hR.2) dX8_init_15 dX8_init_17 (c2 := 2) (s2 := 26) rfl rfl (fun x5 => ?_)
  have k6 := x5.k k3 (by decide)
  have k7 := x5.k k4 (by decide)
  refine z_aload_n (pc := 20) C 0 rfl dX8_init_20 ?_
  refine z_bipush (pc := 21) C (by decide +kernel) dX8_init_21 ?_
  refine aX8_805 (pc := 23) C rfl rfl k6 (show m_sz M + 2 = v0 + 3 from by have := c1; omega) (Nat.le_trans (show 3 ≤ 5 from by decide) hR.1) (Nat.le_trans (show 46 ≤ 86 from by decide) hR.2) dX8_init_23 dX8_init_25 (c2 := 3) (s2 := 46) rfl rfl (fun x8 => ?_)
  have k9 := x8.k k6 (by decide)
  have k10 := x8.k k7 (by decide)
  refine z_aload_n (pc := 28) C 0 rfl dX8_init_28 ?_
  refine z_bipush (pc := 29) C (by decide +kernel) dX8_init_29 ?_
  refine aX8_806 (pc := 31) C rfl rfl k9 (show m_sz M + 3 = v0 + 4 from by have := c1; omega) (Nat.le_trans (show 4 ≤ 5 from by decide) hR.1) (Nat.le_trans (show 66 ≤ 86 from by decide) hR.2) dX8_init_31 dX8_init_33 (c2 := 4) (s2 := 66) rfl rfl (fun x11 => ?_)
  have k12 := x11.k k9 (by decide)
  have k13 := x11.k k10 (by decide)
  refine z_aload_n (pc := 36) C 0 rfl dX8_init_36 ?_
  refine z_bipush (pc := 37) C (by decide +kernel) dX8_init_37 ?_
  refine aX8_807 (pc := 39) C rfl rfl k12 (show m_sz M + 4 = v0 + 5 from by have := c1; omega) (Nat.le_trans (show 5 ≤ 5 from by decide) hR.1) (Nat.le_trans (show 86 ≤ 86 from by decide) hR.2) dX8_init_39 dX8_init_41 (c2 := 5) (s2 := 86) rfl rfl (fun x14 => ?_)
  have k15 := x14.k k12 (by decide)
  have k16 := x14.k k13 (by decide)
  obtain ⟨c17, h⟩ := ifn h
  refine z_sealW (k := 8) v0 k15 (by decide) (by decide) c17 (fun k18 x19 => ?_)
  have k20 := x19 _ _ k16 (by decide)
  refine z_aload_n (pc := 44) C 0 rfl dX8_init_44 ?_
  refine z_iconst (pc := 45) C dX8_init_45 ?_
  refine pX8_811 (pc := 46) C rfl (Or.inl k18) dX8_init_46 ?_
  refine z_aload_n (pc := 49) C 0 rfl dX8_init_49 ?_
  refine z_aload_n (pc := 50) C 1 rfl dX8_init_50 ?_
  refine pX8_800 (pc := 51) C rfl rfl (Or.inl k18) (x_rkk (k := 2) k20 (by unfold x_rk; decide)) dX8_init_51 ?_
  refine z_aload_n (pc := 54) C 0 rfl dX8_init_54 ?_
  refine z_iload_n (pc := 55) C 2 rfl dX8_init_55 ?_
  refine pX8_801 (pc := 56) C rfl rfl (Or.inl k18) dX8_init_56 ?_
  refine z_aload_n (pc := 59) C 0 rfl dX8_init_59 ?_
  refine z_iload_n (pc := 60) C 3 rfl dX8_init_60 ?_
  refine pX8_802 (pc := 61) C rfl rfl (Or.inl k18) dX8_init_61 ?_
  refine z_iconst (pc := 64) C dX8_init_64 ?_
  refine z_istore (pc := 65) C (lv' := [(0, .ref v0), (1, .ref v1), (2, vI v2), (3, vI v3), (4, vI 0)]) (by decide) rfl dX8_init_65 ?_
  exact z_lv [0, 4] rfl <| cL_X8_init_67 C FU v0 0 (m_si (m_si (m_sr (m_si (m_se (m_nw (m_nw (m_nw (m_nw (m_nw M 10803) 10804) 10805) 10806) 10807) v0 8) 811 v0 0 (-1)) 800 v0 0 (some v1)) 801 v0 0 v2) 802 v0 0 v3) _ _ k18 h hR
def B_X1_both_53  (v0 : Int) (v1 : Int) (v3 : Int) (v5 : Int) : Int :=
  if w32 v5 = 0 then
    if w32 v0 = w32 3 then
      v1 + v3
    else
      v1 - v3
  else
    -9223372036854775808
def B_X1_both_202  (s0 : Int) : Int :=
  if w32 s0 = 0 then
    0
  else
    1
def B_X1_both_41  (v0 : Int) (v1 : Int) (v3 : Int) (s0 : Int) : Int :=
  if w32 v0 = w32 3 then
    B_X1_both_53 v0 v1 v3 s0
  else
    if w32 v0 = w32 4 then
      B_X1_both_53 v0 v1 v3 s0
    else
      if w32 s0 = 0 then
        if w32 (v0 - 8) = 0 then
          if w64 v3 ≤ w64 v1 then
            B_X1_both_202 0
          else
            B_X1_both_202 1
        else
          if w32 (v0 - 8) = w32 1 then
            if w64 v3 < w64 v1 then
              B_X1_both_202 0
            else
              B_X1_both_202 1
          else
            if w32 (v0 - 8) = w32 2 then
              if w64 v1 = w64 v3 then
                B_X1_both_202 1
              else
                B_X1_both_202 0
            else
              if w32 (v0 - 8) = w32 3 then
                if w64 v1 = w64 v3 then
                  B_X1_both_202 0
                else
                  B_X1_both_202 1
              else
                if w32 (v0 - 8) = w32 4 then
                  if w64 v1 < w64 v3 then
                    B_X1_both_202 0
                  else
                    B_X1_both_202 1
                else
                  if w64 v1 ≤ w64 v3 then
                    B_X1_both_202 0
                  else
                    B_X1_both_202 1
      else
        0
def B_X1_both_36  (v0 : Int) (v1 : Int) (v3 : Int) : Int :=
  B_X1_both_41 v0 v1 v3 1
def d_X1_both (v0 : Int) (v1 : Int) (v3 : Int) : Int :=
  if w32 v0 = w32 6 then
    a64 v1 v3
  else
    if w32 v0 = w32 7 then
      o64 v1 v3
    else
      if w64 v1 = w64 (-9223372036854775808) then
        B_X1_both_36 v0 v1 v3
      else
        if w64 v3 = w64 (-9223372036854775808) then
          B_X1_both_36 v0 v1 v3
        else
          B_X1_both_41 v0 v1 v3 0
theorem cB_X1_both_53 {X : x_Ctx} {M0 : Mem} (C : x_CC X 1 24 yX1_both cX1_both 8 (some .long) [])  (v0 : Int) (v1 : Int) (v3 : Int) (v5 : Int) (M : Mem) (r : Int)  (h : B_X1_both_53  v0 v1 v3 v5 = r)  : x_Z X 0 0 (x_QF X M0 (.returned (some (vL r))) M 0 0) M0 M 8 [(0, vI v0), (1, vL v1), (3, vL v3), (5, vI v5)] 53 [] := by
  unfold B_X1_both_53 at h
  refine z_iload (pc := 53) C 3 rfl dX1_both_53 ?_
  refine z_if_eq (pc := 55) C dX1_both_55 (tgt := 64) (by decide) (fun c5 => ?_) (fun c5 => ?_)
  · have h := itt c5 h
    refine z_iload_n (pc := 64) C 0 rfl dX1_both_64 ?_
    refine z_iconst (pc := 65) C dX1_both_65 ?_
    refine z_ic_ne (pc := 66) C dX1_both_66 (tgt := 75) (by decide) (fun c6 => ?_) (fun c6 => ?_)
    · have h := itf c6 h
      refine z_lload_n (pc := 75) C 1 rfl dX1_both_75 ?_
      refine z_lload_n (pc := 76) C 2 rfl dX1_both_76 ?_
      refine z_lsub (pc := 77) C dX1_both_77 ?_
      subst h
      exact z_lret (pc := 78) C rfl (show 0 ≤ 0 from by decide) (show 0 ≤ 0 from by decide) dX1_both_78
    · have h := itt c6 h
      refine z_lload_n (pc := 69) C 1 rfl dX1_both_69 ?_
      refine z_lload_n (pc := 70) C 2 rfl dX1_both_70 ?_
      refine z_ladd (pc := 71) C dX1_both_71 ?_
      refine z_goto (pc := 72) C dX1_both_72 (tgt := 78) (by decide) ?_
      subst h
      exact z_lret (pc := 78) C rfl (show 0 ≤ 0 from by decide) (show 0 ≤ 0 from by decide) dX1_both_78
  · have h := itf c5 h
    refine z_ldc2 (pc := 58) C (x := -9223372036854775808) q995 (by decide +kernel) dX1_both_58 ?_
    refine z_goto (pc := 61) C dX1_both_61 (tgt := 78) (by decide) ?_
    subst h
    exact z_lret (pc := 78) C rfl (show 0 ≤ 0 from by decide) (show 0 ≤ 0 from by decide) dX1_both_78
theorem cB_X1_both_202 {X : x_Ctx} {M0 : Mem} (C : x_CC X 1 24 yX1_both cX1_both 8 (some .long) [])  (s0 : Int) (M : Mem) (r : Int)  (h : B_X1_both_202  s0 = r)  : x_Z X 0 0 (x_QF X M0 (.returned (some (vL r))) M 0 0) M0 M 8 [] 202 [vI s0] := by
  unfold B_X1_both_202 at h
  refine z_istore (pc := 202) C (lv' := [(7, vI s0)]) (by decide) rfl dX1_both_202 ?_
  refine z_iload (pc := 204) C 0 rfl dX1_both_204 ?_
  refine z_if_eq (pc := 206) C dX1_both_206 (tgt := 213) (by decide) (fun c15 => ?_) (fun c15 => ?_)
  · have h := itt c15 h
    refine z_lconst (pc := 213) C (x := 0) (by decide +kernel) dX1_both_213 ?_
    subst h
    exact z_lret (pc := 214) C rfl (show 0 ≤ 0 from by decide) (show 0 ≤ 0 from by decide) dX1_both_214
  · have h := itf c15 h
    refine z_lconst (pc := 209) C (x := 1) (by decide +kernel) dX1_both_209 ?_
    refine z_goto (pc := 210) C dX1_both_210 (tgt := 214) (by decide) ?_
    subst h
    exact z_lret (pc := 214) C rfl (show 0 ≤ 0 from by decide) (show 0 ≤ 0 from by decide) dX1_both_214
theorem cB_X1_both_41 {X : x_Ctx} {M0 : Mem} (C : x_CC X 1 24 yX1_both cX1_both 8 (some .long) [])  (v0 : Int) (v1 : Int) (v3 : Int) (s0 : Int) (M : Mem) (r : Int)  (h : B_X1_both_41  v0 v1 v3 s0 = r)  : x_Z X 0 0 (x_QF X M0 (.returned (some (vL r))) M 0 0) M0 M 8 [(0, vI v0), (1, vL v1), (3, vL v3)] 41 [vI s0] := by
  unfold B_X1_both_41 at h
  refine z_istore (pc := 41) C (lv' := [(0, vI v0), (1, vL v1), (3, vL v3), (5, vI s0)]) (by decide) rfl dX1_both_41 ?_
  refine z_iload_n (pc := 43) C 0 rfl dX1_both_43 ?_
  refine z_iconst (pc := 44) C dX1_both_44 ?_
  refine z_ic_eq (pc := 45) C dX1_both_45 (tgt := 53) (by decide) (fun c4 => ?_) (fun c4 => ?_)
  · have h := itt c4 h
    exact cB_X1_both_53 C v0 v1 v3 s0 M _ h
  · have h := itf c4 h
    refine z_iload_n (pc := 48) C 0 rfl dX1_both_48 ?_
    refine z_iconst (pc := 49) C dX1_both_49 ?_
    refine z_ic_ne (pc := 50) C dX1_both_50 (tgt := 79) (by decide) (fun c7 => ?_) (fun c7 => ?_)
    · have h := itf c7 h
      refine z_iload (pc := 79) C 3 rfl dX1_both_79 ?_
      refine z_if_eq (pc := 81) C dX1_both_81 (tgt := 86) (by decide) (fun c8 => ?_) (fun c8 => ?_)
      · have h := itt c8 h
        refine z_iload_n (pc := 86) C 0 rfl dX1_both_86 ?_
        refine z_bipush (pc := 87) C (by decide +kernel) dX1_both_87 ?_
        refine z_isub (pc := 89) C dX1_both_89 ?_
        refine z_istore (pc := 90) C (lv' := [(0, vI v0), (1, vL v1), (3, vL v3), (5, vI s0), (6, vI (v0 - 8))]) (by decide) rfl dX1_both_90 ?_
        refine z_iload (pc := 92) C 4 rfl dX1_both_92 ?_
        refine z_if_ne (pc := 94) C dX1_both_94 (tgt := 111) (by decide) (fun c9 => ?_) (fun c9 => ?_)
        · have h := itf c9 h
          refine z_iload (pc := 111) C 4 rfl dX1_both_111 ?_
          refine z_iconst (pc := 113) C dX1_both_113 ?_
          refine z_ic_ne (pc := 114) C dX1_both_114 (tgt := 131) (by decide) (fun c10 => ?_) (fun c10 => ?_)
          · have h := itf c10 h
            refine z_iload (pc := 131) C 4 rfl dX1_both_131 ?_
            refine z_iconst (pc := 133) C dX1_both_133 ?_
            refine z_ic_ne (pc := 134) C dX1_both_134 (tgt := 151) (by decide) (fun c11 => ?_) (fun c11 => ?_)
            · have h := itf c11 h
              refine z_iload (pc := 151) C 4 rfl dX1_both_151 ?_
              refine z_iconst (pc := 153) C dX1_both_153 ?_
              refine z_ic_ne (pc := 154) C dX1_both_154 (tgt := 171) (by decide) (fun c12 => ?_) (fun c12 => ?_)
              · have h := itf c12 h
                refine z_iload (pc := 171) C 4 rfl dX1_both_171 ?_
                refine z_iconst (pc := 173) C dX1_both_173 ?_
                refine z_ic_ne (pc := 174) C dX1_both_174 (tgt := 191) (by decide) (fun c13 => ?_) (fun c13 => ?_)
                · have h := itf c13 h
                  refine z_lload_n (pc := 191) C 1 rfl dX1_both_191 ?_
                  refine z_lload_n (pc := 192) C 2 rfl dX1_both_192 ?_
                  refine z_lc_le (pc := 193) C dX1_both_193 dX1_both_194 (tgt := 201) (by decide) (fun c14 => ?_) (fun c14 => ?_)
                  · have h := itt c14 h
                    refine z_iconst (pc := 201) C dX1_both_201 ?_
                    exact z_lv [] rfl <| cB_X1_both_202 C 0 M _ h
                  · have h := itf c14 h
                    refine z_iconst (pc := 197) C dX1_both_197 ?_
                    refine z_goto (pc := 198) C dX1_both_198 (tgt := 202) (by decide) ?_
                    exact z_lv [] rfl <| cB_X1_both_202 C 1 M _ h
                · have h := itt c13 h
                  refine z_lload_n (pc := 177) C 1 rfl dX1_both_177 ?_
                  refine z_lload_n (pc := 178) C 2 rfl dX1_both_178 ?_
                  refine z_lc_lt (pc := 179) C dX1_both_179 dX1_both_180 (tgt := 187) (by decide) (fun c16 => ?_) (fun c16 => ?_)
                  · have h := itt c16 h
                    refine z_iconst (pc := 187) C dX1_both_187 ?_
                    refine z_goto (pc := 188) C dX1_both_188 (tgt := 202) (by decide) ?_
                    exact z_lv [] rfl <| cB_X1_both_202 C 0 M _ h
                  · have h := itf c16 h
                    refine z_iconst (pc := 183) C dX1_both_183 ?_
                    refine z_goto (pc := 184) C dX1_both_184 (tgt := 202) (by decide) ?_
                    exact z_lv [] rfl <| cB_X1_both_202 C 1 M _ h
              · have h := itt c12 h
                refine z_lload_n (pc := 157) C 1 rfl dX1_both_157 ?_
                refine z_lload_n (pc := 158) C 2 rfl dX1_both_158 ?_
                refine z_lc_eq (pc := 159) C dX1_both_159 dX1_both_160 (tgt := 167) (by decide) (fun c17 => ?_) (fun c17 => ?_)
                · have h := itt c17 h
                  refine z_iconst (pc := 167) C dX1_both_167 ?_
                  refine z_goto (pc := 168) C dX1_both_168 (tgt := 202) (by decide) ?_
                  exact z_lv [] rfl <| cB_X1_both_202 C 0 M _ h
                · have h := itf c17 h
                  refine z_iconst (pc := 163) C dX1_both_163 ?_
                  refine z_goto (pc := 164) C dX1_both_164 (tgt := 202) (by decide) ?_
                  exact z_lv [] rfl <| cB_X1_both_202 C 1 M _ h
            · have h := itt c11 h
              refine z_lload_n (pc := 137) C 1 rfl dX1_both_137 ?_
              refine z_lload_n (pc := 138) C 2 rfl dX1_both_138 ?_
              refine z_lc_ne (pc := 139) C dX1_both_139 dX1_both_140 (tgt := 147) (by decide) (fun c18 => ?_) (fun c18 => ?_)
              · have h := itf c18 h
                refine z_iconst (pc := 147) C dX1_both_147 ?_
                refine z_goto (pc := 148) C dX1_both_148 (tgt := 202) (by decide) ?_
                exact z_lv [] rfl <| cB_X1_both_202 C 0 M _ h
              · have h := itt c18 h
                refine z_iconst (pc := 143) C dX1_both_143 ?_
                refine z_goto (pc := 144) C dX1_both_144 (tgt := 202) (by decide) ?_
                exact z_lv [] rfl <| cB_X1_both_202 C 1 M _ h
          · have h := itt c10 h
            refine z_lload_n (pc := 117) C 1 rfl dX1_both_117 ?_
            refine z_lload_n (pc := 118) C 2 rfl dX1_both_118 ?_
            refine z_lc_gt (pc := 119) C dX1_both_119 dX1_both_120 (tgt := 127) (by decide) (fun c19 => ?_) (fun c19 => ?_)
            · have h := itt c19 h
              refine z_iconst (pc := 127) C dX1_both_127 ?_
              refine z_goto (pc := 128) C dX1_both_128 (tgt := 202) (by decide) ?_
              exact z_lv [] rfl <| cB_X1_both_202 C 0 M _ h
            · have h := itf c19 h
              refine z_iconst (pc := 123) C dX1_both_123 ?_
              refine z_goto (pc := 124) C dX1_both_124 (tgt := 202) (by decide) ?_
              exact z_lv [] rfl <| cB_X1_both_202 C 1 M _ h
        · have h := itt c9 h
          refine z_lload_n (pc := 97) C 1 rfl dX1_both_97 ?_
          refine z_lload_n (pc := 98) C 2 rfl dX1_both_98 ?_
          refine z_lc_ge (pc := 99) C dX1_both_99 dX1_both_100 (tgt := 107) (by decide) (fun c20 => ?_) (fun c20 => ?_)
          · have h := itt c20 h
            refine z_iconst (pc := 107) C dX1_both_107 ?_
            refine z_goto (pc := 108) C dX1_both_108 (tgt := 202) (by decide) ?_
            exact z_lv [] rfl <| cB_X1_both_202 C 0 M _ h
          · have h := itf c20 h
            refine z_iconst (pc := 103) C dX1_both_103 ?_
            refine z_goto (pc := 104) C dX1_both_104 (tgt := 202) (by decide) ?_
            exact z_lv [] rfl <| cB_X1_both_202 C 1 M _ h
      · have h := itf c8 h
        refine z_lconst (pc := 84) C (x := 0) (by decide +kernel) dX1_both_84 ?_
        subst h
        exact z_lret (pc := 85) C rfl (show 0 ≤ 0 from by decide) (show 0 ≤ 0 from by decide) dX1_both_85
    · have h := itt c7 h
      exact cB_X1_both_53 C v0 v1 v3 s0 M _ h
theorem cB_X1_both_36 {X : x_Ctx} {M0 : Mem} (C : x_CC X 1 24 yX1_both cX1_both 8 (some .long) [])  (v0 : Int) (v1 : Int) (v3 : Int) (M : Mem) (r : Int)  (h : B_X1_both_36  v0 v1 v3 = r)  : x_Z X 0 0 (x_QF X M0 (.returned (some (vL r))) M 0 0) M0 M 8 [(0, vI v0), (1, vL v1), (3, vL v3)] 36 [] := by
  unfold B_X1_both_36 at h
  refine z_iconst (pc := 36) C dX1_both_36 ?_
  refine z_goto (pc := 37) C dX1_both_37 (tgt := 41) (by decide) ?_
  exact cB_X1_both_41 C v0 v1 v3 1 M _ h
theorem ct_X1_both {l : Launch} {S0 : State} {D : va_G} {cA : Nat → ClassId} (hG : x_G l S0 D cA) (v0 : Int) (v1 : Int) (v3 : Int) (M : Mem) (r : Int)  (h : d_X1_both v0 v1 v3 = r) : x_Me l S0 D cA yX1_both cX1_both 8 (some .long) [] ({ frames := 1, cells := 0, slots := 0, locals := 24 }) [vI v0, vL v1, vL v3] M (.returned (some (vL r))) M := by
  refine x_begin (F := 1) (Lo := 24) (mc := 0) (ms := 0) hG (Nat.le_of_ble_eq_true rfl) (lv := [(0, vI v0), (1, vL v1), (3, vL v3)]) rfl rfl rfl rfl rfl (fun X e1 e2 e3 e4 e5 C => ?_)
  unfold d_X1_both at h
  refine z_iload_n (pc := 0) C 0 rfl dX1_both_0 ?_
  refine z_bipush (pc := 1) C (by decide +kernel) dX1_both_1 ?_
  refine z_ic_ne (pc := 3) C dX1_both_3 (tgt := 10) (by decide) (fun c1 => ?_) (fun c1 => ?_)
  · have h := itf c1 h
    refine z_iload_n (pc := 10) C 0 rfl dX1_both_10 ?_
    refine z_bipush (pc := 11) C (by decide +kernel) dX1_both_11 ?_
    refine z_ic_ne (pc := 13) C dX1_both_13 (tgt := 20) (by decide) (fun c2 => ?_) (fun c2 => ?_)
    · have h := itf c2 h
      refine z_lload_n (pc := 20) C 1 rfl dX1_both_20 ?_
      refine z_ldc2 (pc := 21) C (x := -9223372036854775808) q995 (by decide +kernel) dX1_both_21 ?_
      refine z_lc_eq (pc := 24) C dX1_both_24 dX1_both_25 (tgt := 36) (by decide) (fun c3 => ?_) (fun c3 => ?_)
      · have h := itt c3 h
        exact cB_X1_both_36 C v0 v1 v3 M _ h
      · have h := itf c3 h
        refine z_lload_n (pc := 28) C 2 rfl dX1_both_28 ?_
        refine z_ldc2 (pc := 29) C (x := -9223372036854775808) q995 (by decide +kernel) dX1_both_29 ?_
        refine z_lc_ne (pc := 32) C dX1_both_32 dX1_both_33 (tgt := 40) (by decide) (fun c21 => ?_) (fun c21 => ?_)
        · have h := itf c21 h
          refine z_iconst (pc := 40) C dX1_both_40 ?_
          exact cB_X1_both_41 C v0 v1 v3 0 M _ h
        · have h := itt c21 h
          exact cB_X1_both_36 C v0 v1 v3 M _ h
    · have h := itt c2 h
      refine z_lload_n (pc := 16) C 1 rfl dX1_both_16 ?_
      refine z_lload_n (pc := 17) C 2 rfl dX1_both_17 ?_
      refine z_lor (pc := 18) C dX1_both_18 ?_
      subst h
      exact z_lret (pc := 19) C rfl (show 0 ≤ 0 from by decide) (show 0 ≤ 0 from by decide) dX1_both_19
  · have h := itt c1 h
    refine z_lload_n (pc := 6) C 1 rfl dX1_both_6 ?_
    refine z_lload_n (pc := 7) C 2 rfl dX1_both_7 ?_
    refine z_land (pc := 8) C dX1_both_8 ?_
    subst h
    exact z_lret (pc := 9) C rfl (show 0 ≤ 0 from by decide) (show 0 ≤ 0 from by decide) dX1_both_9
def B_X1_work_147 (k11 : Nat → Nat → Int → Nat → Nat → Int → Int → Mem → Option (Int × Mem)) (v0 : Nat) (v1 : Nat) (v3 : Int) (v4 : Nat) (v5 : Nat) (v6 : Int) (v7 : Int) (M : Mem) : Option (Int × Mem) :=
  if inb (v6 - 1) 16 then 
  if w64 (m_i M 116 v0 (ixn (v6 - 1))) = w64 (-9223372036854775808) then
    if (o32 (m_i M 117 v0 0) 1) = 0 ∨ (o32 (m_i M 117 v0 0) 1) = 1 then 
    k11 v0 v1 v3 v4 v5 v6 (v7 + 2) (m_si M 117 v0 0 (o32 (m_i M 117 v0 0) 1)) else none
  else
    if (o32 (m_i M 117 v0 0) 0) = 0 ∨ (o32 (m_i M 117 v0 0) 0) = 1 then 
    k11 v0 v1 v3 v4 v5 v6 (v7 + 2) (m_si M 117 v0 0 (o32 (m_i M 117 v0 0) 0)) else none else none
def B_X1_work_72 (k11 : Nat → Nat → Int → Nat → Nat → Int → Int → Mem → Option (Int × Mem)) (v0 : Nat) (v1 : Nat) (v3 : Int) (v4 : Nat) (v5 : Nat) (v6 : Int) (v7 : Int) (v8 : Int) (s0 : Int) (M : Mem) : Option (Int × Mem) :=
  if w32 v8 = 0 then
    if inb v6 16 then 
    k11 v0 v1 v3 v4 v5 (v6 + 1) (v7 + 2) (m_si M 116 v0 (ixn v6) (w32 s0)) else none
  else
    if w32 s0 = w32 (-2000000) then
      if inb v6 16 then 
      k11 v0 v1 v3 v4 v5 (v6 + 1) (v7 + 2) (m_si M 116 v0 (ixn v6) (-9223372036854775808)) else none
    else
      if inb v6 16 then 
      k11 v0 v1 v3 v4 v5 (v6 + 1) (v7 + 2) (m_si M 116 v0 (ixn v6) (w32 s0)) else none
def B_X1_work_11 (k11 : Nat → Nat → Int → Nat → Nat → Int → Int → Mem → Option (Int × Mem)) (v0 : Nat) (v1 : Nat) (v3 : Int) (v4 : Nat) (v5 : Nat) (v6 : Int) (v7 : Int) (M : Mem) : Option (Int × Mem) :=
  if w32 v3 ≤ w32 v7 then
    if w64 (m_i M 116 v0 (ixn 0)) = w64 (-9223372036854775808) then
      some (-2000000, M)
    else
      some (m_i M 116 v0 (ixn 0), M)
  else
    if inb v7 3600 then 
    if inb (v7 + 1) 3600 then 
    if w32 2 < w32 (m_i M 207 v1 (ixn v7)) then
      if w32 (m_i M 207 v1 (ixn v7)) = w32 5 then
        if inb (v6 - 1) 16 then 
        if w32 (d_X1_isIn (m_i M 116 v0 (ixn (v6 - 1))) (-1000000) 1000000) = 0 then
          B_X1_work_147 k11 v0 v1 v3 v4 v5 v6 v7 (m_si M 116 v0 (ixn (v6 - 1)) (-9223372036854775808))
        else
          B_X1_work_147 k11 v0 v1 v3 v4 v5 v6 v7 M else none
      else
        if inb ((v6 + (-1)) - 1) 16 then 
        if inb (v6 + (-1)) 16 then 
        k11 v0 v1 v3 v4 v5 (v6 + (-1)) (v7 + 2) (m_si M 116 v0 (ixn ((v6 + (-1)) - 1)) (d_X1_both (m_i M 207 v1 (ixn v7)) (m_i M 116 v0 (ixn ((v6 + (-1)) - 1))) (m_i M 116 v0 (ixn (v6 + (-1)))))) else none else none
    else
      if w32 (m_i M 207 v1 (ixn v7)) = 0 then
        B_X1_work_72 k11 v0 v1 v3 v4 v5 v6 v7 (m_i M 207 v1 (ixn v7)) (m_i M 207 v1 (ixn (v7 + 1))) M
      else
        if w32 (m_i M 207 v1 (ixn v7)) = w32 1 then
          if inb (m_i M 207 v1 (ixn (v7 + 1))) (p_n M v4) then 
          B_X1_work_72 k11 v0 v1 v3 v4 v5 v6 v7 (m_i M 207 v1 (ixn v7)) (p_i M v4 (ixn (m_i M 207 v1 (ixn (v7 + 1))))) M else none
        else
          if inb (m_i M 207 v1 (ixn (v7 + 1))) (p_n M v5) then 
          B_X1_work_72 k11 v0 v1 v3 v4 v5 v6 v7 (m_i M 207 v1 (ixn v7)) (p_i M v5 (ixn (m_i M 207 v1 (ixn (v7 + 1))))) M else none else none else none
def L_X1_work_11  : Nat → Nat → Nat → Int → Nat → Nat → Int → Int → Mem → Option (Int × Mem)
  | 0, _, _, _, _, _, _, _, _ => none
  | n + 1, v0, v1, v3, v4, v5, v6, v7, M => B_X1_work_11 (L_X1_work_11  n) v0 v1 v3 v4 v5 v6 v7 M
def d_X1_work (v0 : Nat) (v1 : Nat) (v2 : Int) (v3 : Int) (v4 : Nat) (v5 : Nat) (M : Mem) : Option (Int × Mem) :=
  L_X1_work_11 FU v0 v1 v3 v4 v5 0 v2 (m_si M 117 v0 0 0)
theorem cB_X1_work_147 {X : x_Ctx} {M0 : Mem} (C : x_CC X 2 55 yX1_work cX1_work 11 (some .int) []) {k11 : Nat → Nat → Int → Nat → Nat → Int → Int → Mem → Option (Int × Mem)} (hk11 : ∀ (v0 : Nat) (v1 : Nat) (v3 : Int) (v4 : Nat) (v5 : Nat) (v6 : Int) (v7 : Int) (M : Mem) (r : Int) (M' : Mem), m_kd M v0 = 1 → m_kd M v1 = 2 → x_IA M v4 → x_IA M v5 → k11 v0 v1 v3 v4 v5 v6 v7 M = some (r, M') → x_Z X 0 0 (x_QF X M0 (.returned (some (vI r))) M' 0 0) M0 M 11 [(0, .ref v0), (1, .ref v1), (3, vI v3), (4, .ref v4), (5, .ref v5), (6, vI v6), (7, vI v7)] 11 []) (v0 : Nat) (v1 : Nat) (v3 : Int) (v4 : Nat) (v5 : Nat) (v6 : Int) (v7 : Int) (M : Mem) (r : Int) (M' : Mem) (hv0 : m_kd M v0 = 1) (hv1 : m_kd M v1 = 2) (hv4 : x_IA M v4) (hv5 : x_IA M v5) (h : B_X1_work_147 k11 v0 v1 v3 v4 v5 v6 v7 M = some (r, M'))  : x_Z X 0 0 (x_QF X M0 (.returned (some (vI r))) M' 0 0) M0 M 11 [(0, .ref v0), (1, .ref v1), (3, vI v3), (4, .ref v4), (5, .ref v5), (6, vI v6), (7, vI v7)] 147 [] := by
  unfold B_X1_work_147 at h
  refine z_aload_n (pc := 147) C 0 rfl dX1_work_147 ?_
  refine z_dup (pc := 148) C rfl dX1_work_148 ?_
  refine gX1_117 (pc := 149) C rfl (Or.inl hv0) rfl dX1_work_149 ?_
  refine z_aload_n (pc := 152) C 0 rfl dX1_work_152 ?_
  refine gX1_116 (pc := 153) C rfl hv0 dX1_work_153 ?_
  refine z_iload (pc := 156) C 5 rfl dX1_work_156 ?_
  refine z_iconst (pc := 158) C dX1_work_158 ?_
  refine z_isub (pc := 159) C dX1_work_159 ?_
  obtain ⟨c13, h⟩ := ifn h
  refine z_laO (pc := 160) (k := 1) (j := 16) C 116 rfl (by decide) (by decide) (by decide) rfl rfl rfl rfl hv0 c13 rfl dX1_work_160 ?_
  refine z_ldc2 (pc := 161) C (x := -9223372036854775808) q995 (by decide +kernel) dX1_work_161 ?_
  refine z_lc_ne (pc := 164) C dX1_work_164 dX1_work_165 (tgt := 172) (by decide) (fun c14 => ?_) (fun c14 => ?_)
  · have h := itf c14 h
    refine z_iconst (pc := 172) C dX1_work_172 ?_
    refine z_ior (pc := 173) C dX1_work_173 ?_
    obtain ⟨c15, h⟩ := ifn h
    refine pX1_117 (pc := 174) C rfl (Or.inl hv0) c15 dX1_work_174 ?_
    refine z_goto (pc := 177) C dX1_work_177 (tgt := 213) (by decide) ?_
    refine z_iinc (pc := 213) C (lv' := [(0, .ref v0), (1, .ref v1), (3, vI v3), (4, .ref v4), (5, .ref v5), (6, vI v6), (7, vI (v7 + 2))]) 6 rfl (by decide) rfl dX1_work_213 ?_
    refine z_goto (pc := 216) C dX1_work_216 (tgt := 11) (by decide) ?_
    exact hk11 v0 v1 v3 v4 v5 v6 (v7 + 2) (m_si M 117 v0 0 (o32 (m_i M 117 v0 0) 0)) _ _ hv0 hv1 hv4 hv5 h
  · have h := itt c14 h
    refine z_iconst (pc := 168) C dX1_work_168 ?_
    refine z_goto (pc := 169) C dX1_work_169 (tgt := 173) (by decide) ?_
    refine z_ior (pc := 173) C dX1_work_173 ?_
    obtain ⟨c16, h⟩ := ifn h
    refine pX1_117 (pc := 174) C rfl (Or.inl hv0) c16 dX1_work_174 ?_
    refine z_goto (pc := 177) C dX1_work_177 (tgt := 213) (by decide) ?_
    refine z_iinc (pc := 213) C (lv' := [(0, .ref v0), (1, .ref v1), (3, vI v3), (4, .ref v4), (5, .ref v5), (6, vI v6), (7, vI (v7 + 2))]) 6 rfl (by decide) rfl dX1_work_213 ?_
    refine z_goto (pc := 216) C dX1_work_216 (tgt := 11) (by decide) ?_
    exact hk11 v0 v1 v3 v4 v5 v6 (v7 + 2) (m_si M 117 v0 0 (o32 (m_i M 117 v0 0) 1)) _ _ hv0 hv1 hv4 hv5 h
theorem cB_X1_work_72 {X : x_Ctx} {M0 : Mem} (C : x_CC X 2 55 yX1_work cX1_work 11 (some .int) []) {k11 : Nat → Nat → Int → Nat → Nat → Int → Int → Mem → Option (Int × Mem)} (hk11 : ∀ (v0 : Nat) (v1 : Nat) (v3 : Int) (v4 : Nat) (v5 : Nat) (v6 : Int) (v7 : Int) (M : Mem) (r : Int) (M' : Mem), m_kd M v0 = 1 → m_kd M v1 = 2 → x_IA M v4 → x_IA M v5 → k11 v0 v1 v3 v4 v5 v6 v7 M = some (r, M') → x_Z X 0 0 (x_QF X M0 (.returned (some (vI r))) M' 0 0) M0 M 11 [(0, .ref v0), (1, .ref v1), (3, vI v3), (4, .ref v4), (5, .ref v5), (6, vI v6), (7, vI v7)] 11 []) (v0 : Nat) (v1 : Nat) (v3 : Int) (v4 : Nat) (v5 : Nat) (v6 : Int) (v7 : Int) (v8 : Int) (s0 : Int) (M : Mem) (r : Int) (M' : Mem) (hv0 : m_kd M v0 = 1) (hv1 : m_kd M v1 = 2) (hv4 : x_IA M v4) (hv5 : x_IA M v5) (h : B_X1_work_72 k11 v0 v1 v3 v4 v5 v6 v7 v8 s0 M = some (r, M'))  : x_Z X 0 0 (x_QF X M0 (.returned (some (vI r))) M' 0 0) M0 M 11 [(0, .ref v0), (1, .ref v1), (3, vI v3), (4, .ref v4), (5, .ref v5), (6, vI v6), (7, vI v7), (8, vI v8)] 72 [vI s0] := by
  unfold B_X1_work_72 at h
  refine z_istore (pc := 72) C (lv' := [(0, .ref v0), (1, .ref v1), (3, vI v3), (4, .ref v4), (5, .ref v5), (6, vI v6), (7, vI v7), (8, vI v8), (10, vI s0)]) (by decide) rfl dX1_work_72 ?_
  refine z_aload_n (pc := 74) C 0 rfl dX1_work_74 ?_
  refine gX1_116 (pc := 75) C rfl hv0 dX1_work_75 ?_
  refine z_iload (pc := 78) C 5 rfl dX1_work_78 ?_
  refine z_iinc (pc := 80) C (lv' := [(0, .ref v0), (1, .ref v1), (3, vI v3), (4, .ref v4), (5, .ref v5), (6, vI (v6 + 1)), (7, vI v7), (8, vI v8), (10, vI s0)]) 5 rfl (by decide) rfl dX1_work_80 ?_
  refine z_iload (pc := 83) C 7 rfl dX1_work_83 ?_
  refine z_if_eq (pc := 85) C dX1_work_85 (tgt := 101) (by decide) (fun c20 => ?_) (fun c20 => ?_)
  · have h := itt c20 h
    refine z_iload (pc := 101) C 8 rfl dX1_work_101 ?_
    refine z_i2l (pc := 103) C dX1_work_103 ?_
    obtain ⟨c21, h⟩ := ifn h
    refine z_lsO (pc := 104) (k := 1) (j := 16) C 116 rfl (by decide) (by decide) (by decide) rfl rfl rfl rfl hv0 c21 dX1_work_104 ?_
    refine z_goto (pc := 105) C dX1_work_105 (tgt := 213) (by decide) ?_
    refine z_iinc (pc := 213) C (lv' := [(0, .ref v0), (1, .ref v1), (3, vI v3), (4, .ref v4), (5, .ref v5), (6, vI (v6 + 1)), (7, vI (v7 + 2)), (8, vI v8), (10, vI s0)]) 6 rfl (by decide) rfl dX1_work_213 ?_
    refine z_goto (pc := 216) C dX1_work_216 (tgt := 11) (by decide) ?_
    exact z_lv [0, 1, 2, 3, 4, 5, 6] rfl <| hk11 v0 v1 v3 v4 v5 (v6 + 1) (v7 + 2) (m_si M 116 v0 (ixn v6) (w32 s0)) _ _ hv0 hv1 hv4 hv5 h
  · have h := itf c20 h
    refine z_iload (pc := 88) C 8 rfl dX1_work_88 ?_
    refine z_ldc (pc := 90) C (x := -2000000) q661 (by decide +kernel) dX1_work_90 ?_
    refine z_ic_ne (pc := 92) C dX1_work_92 (tgt := 101) (by decide) (fun c22 => ?_) (fun c22 => ?_)
    · have h := itf c22 h
      refine z_iload (pc := 101) C 8 rfl dX1_work_101 ?_
      refine z_i2l (pc := 103) C dX1_work_103 ?_
      obtain ⟨c23, h⟩ := ifn h
      refine z_lsO (pc := 104) (k := 1) (j := 16) C 116 rfl (by decide) (by decide) (by decide) rfl rfl rfl rfl hv0 c23 dX1_work_104 ?_
      refine z_goto (pc := 105) C dX1_work_105 (tgt := 213) (by decide) ?_
      refine z_iinc (pc := 213) C (lv' := [(0, .ref v0), (1, .ref v1), (3, vI v3), (4, .ref v4), (5, .ref v5), (6, vI (v6 + 1)), (7, vI (v7 + 2)), (8, vI v8), (10, vI s0)]) 6 rfl (by decide) rfl dX1_work_213 ?_
      refine z_goto (pc := 216) C dX1_work_216 (tgt := 11) (by decide) ?_
      exact z_lv [0, 1, 2, 3, 4, 5, 6] rfl <| hk11 v0 v1 v3 v4 v5 (v6 + 1) (v7 + 2) (m_si M 116 v0 (ixn v6) (w32 s0)) _ _ hv0 hv1 hv4 hv5 h
    · have h := itt c22 h
      refine z_ldc2 (pc := 95) C (x := -9223372036854775808) q995 (by decide +kernel) dX1_work_95 ?_
      refine z_goto (pc := 98) C dX1_work_98 (tgt := 104) (by decide) ?_
      obtain ⟨c24, h⟩ := ifn h
      refine z_lsO (pc := 104) (k := 1) (j := 16) C 116 rfl (by decide) (by decide) (by decide) rfl rfl rfl rfl hv0 c24 dX1_work_104 ?_
      refine z_goto (pc := 105) C dX1_work_105 (tgt := 213) (by decide) ?_
      refine z_iinc (pc := 213) C (lv' := [(0, .ref v0), (1, .ref v1), (3, vI v3), (4, .ref v4), (5, .ref v5), (6, vI (v6 + 1)), (7, vI (v7 + 2)), (8, vI v8), (10, vI s0)]) 6 rfl (by decide) rfl dX1_work_213 ?_
      refine z_goto (pc := 216) C dX1_work_216 (tgt := 11) (by decide) ?_
      exact z_lv [0, 1, 2, 3, 4, 5, 6] rfl <| hk11 v0 v1 v3 v4 v5 (v6 + 1) (v7 + 2) (m_si M 116 v0 (ixn v6) (-9223372036854775808)) _ _ hv0 hv1 hv4 hv5 h
theorem cB_X1_work_11 {X : x_Ctx} {M0 : Mem} (C : x_CC X 2 55 yX1_work cX1_work 11 (some .int) []) {k11 : Nat → Nat → Int → Nat → Nat → Int → Int → Mem → Option (Int × Mem)} (hk11 : ∀ (v0 : Nat) (v1 : Nat) (v3 : Int) (v4 : Nat) (v5 : Nat) (v6 : Int) (v7 : Int) (M : Mem) (r : Int) (M' : Mem), m_kd M v0 = 1 → m_kd M v1 = 2 → x_IA M v4 → x_IA M v5 → k11 v0 v1 v3 v4 v5 v6 v7 M = some (r, M') → x_Z X 0 0 (x_QF X M0 (.returned (some (vI r))) M' 0 0) M0 M 11 [(0, .ref v0), (1, .ref v1), (3, vI v3), (4, .ref v4), (5, .ref v5), (6, vI v6), (7, vI v7)] 11 []) (v0 : Nat) (v1 : Nat) (v3 : Int) (v4 : Nat) (v5 : Nat) (v6 : Int) (v7 : Int) (M : Mem) (r : Int) (M' : Mem) (hv0 : m_kd M v0 = 1) (hv1 : m_kd M v1 = 2) (hv4 : x_IA M v4) (hv5 : x_IA M v5) (h : B_X1_work_11 k11 v0 v1 v3 v4 v5 v6 v7 M = some (r, M'))  : x_Z X 0 0 (x_QF X M0 (.returned (some (vI r))) M' 0 0) M0 M 11 [(0, .ref v0), (1, .ref v1), (3, vI v3), (4, .ref v4), (5, .ref v5), (6, vI v6), (7, vI v7)] 11 [] := by
  unfold B_X1_work_11 at h
  refine z_iload (pc := 11) C 6 rfl dX1_work_11 ?_
  refine z_iload_n (pc := 13) C 2 rfl dX1_work_13 ?_
  refine z_ic_ge (pc := 14) C dX1_work_14 (tgt := 219) (by decide) (fun c1 => ?_) (fun c1 => ?_)
  · have h := itt c1 h
    refine z_aload_n (pc := 219) C 0 rfl dX1_work_219 ?_
    refine gX1_116 (pc := 220) C rfl hv0 dX1_work_220 ?_
    refine z_iconst (pc := 223) C dX1_work_223 ?_
    refine z_laO (pc := 224) (k := 1) (j := 16) C 116 rfl (by decide) (by decide) (by decide) rfl rfl rfl rfl hv0 (by decide +kernel) rfl dX1_work_224 ?_
    refine z_ldc2 (pc := 225) C (x := -9223372036854775808) q995 (by decide +kernel) dX1_work_225 ?_
    refine z_lc_ne (pc := 228) C dX1_work_228 dX1_work_229 (tgt := 237) (by decide) (fun c2 => ?_) (fun c2 => ?_)
    · have h := itf c2 h
      refine z_aload_n (pc := 237) C 0 rfl dX1_work_237 ?_
      refine gX1_116 (pc := 238) C rfl hv0 dX1_work_238 ?_
      refine z_iconst (pc := 241) C dX1_work_241 ?_
      refine z_laO (pc := 242) (k := 1) (j := 16) C 116 rfl (by decide) (by decide) (by decide) rfl rfl rfl rfl hv0 (by decide +kernel) rfl dX1_work_242 ?_
      refine z_l2i (pc := 243) C dX1_work_243 ?_
      cases h
      exact z_iret (pc := 244) C rfl (show 0 ≤ 0 from by decide) (show 0 ≤ 0 from by decide) dX1_work_244
    · have h := itt c2 h
      refine z_ldc (pc := 232) C (x := -2000000) q661 (by decide +kernel) dX1_work_232 ?_
      refine z_goto (pc := 234) C dX1_work_234 (tgt := 244) (by decide) ?_
      cases h
      exact z_iret (pc := 244) C rfl (show 0 ≤ 0 from by decide) (show 0 ≤ 0 from by decide) dX1_work_244
  · have h := itf c1 h
    refine z_aload_n (pc := 17) C 1 rfl dX1_work_17 ?_
    refine gX1_207 (pc := 18) C rfl hv1 dX1_work_18 ?_
    refine z_iload (pc := 21) C 6 rfl dX1_work_21 ?_
    obtain ⟨c3, h⟩ := ifn h
    refine z_iaO (pc := 23) (k := 2) (j := 7) C 207 rfl (by decide) (by decide) (by decide) rfl rfl rfl rfl hv1 c3 rfl dX1_work_23 ?_
    refine z_istore (pc := 24) C (lv' := [(0, .ref v0), (1, .ref v1), (3, vI v3), (4, .ref v4), (5, .ref v5), (6, vI v6), (7, vI v7), (8, vI (m_i M 207 v1 (ixn v7)))]) (by decide) rfl dX1_work_24 ?_
    refine z_aload_n (pc := 26) C 1 rfl dX1_work_26 ?_
    refine gX1_207 (pc := 27) C rfl hv1 dX1_work_27 ?_
    refine z_iload (pc := 30) C 6 rfl dX1_work_30 ?_
    refine z_iconst (pc := 32) C dX1_work_32 ?_
    refine z_iadd (pc := 33) C dX1_work_33 ?_
    obtain ⟨c4, h⟩ := ifn h
    refine z_iaO (pc := 34) (k := 2) (j := 7) C 207 rfl (by decide) (by decide) (by decide) rfl rfl rfl rfl hv1 c4 rfl dX1_work_34 ?_
    refine z_istore (pc := 35) C (lv' := [(0, .ref v0), (1, .ref v1), (3, vI v3), (4, .ref v4), (5, .ref v5), (6, vI v6), (7, vI v7), (8, vI (m_i M 207 v1 (ixn v7))), (9, vI (m_i M 207 v1 (ixn (v7 + 1))))]) (by decide) rfl dX1_work_35 ?_
    refine z_iload (pc := 37) C 7 rfl dX1_work_37 ?_
    refine z_iconst (pc := 39) C dX1_work_39 ?_
    refine z_ic_gt (pc := 40) C dX1_work_40 (tgt := 108) (by decide) (fun c5 => ?_) (fun c5 => ?_)
    · have h := itt c5 h
      refine z_iload (pc := 108) C 7 rfl dX1_work_108 ?_
      refine z_iconst (pc := 110) C dX1_work_110 ?_
      refine z_ic_ne (pc := 111) C dX1_work_111 (tgt := 180) (by decide) (fun c6 => ?_) (fun c6 => ?_)
      · have h := itf c6 h
        refine z_iinc (pc := 180) C (lv' := [(0, .ref v0), (1, .ref v1), (3, vI v3), (4, .ref v4), (5, .ref v5), (6, vI (v6 + (-1))), (7, vI v7), (8, vI (m_i M 207 v1 (ixn v7))), (9, vI (m_i M 207 v1 (ixn (v7 + 1))))]) 5 rfl (by decide) rfl dX1_work_180 ?_
        refine z_aload_n (pc := 183) C 0 rfl dX1_work_183 ?_
        refine gX1_116 (pc := 184) C rfl hv0 dX1_work_184 ?_
        refine z_iload (pc := 187) C 5 rfl dX1_work_187 ?_
        refine z_iconst (pc := 189) C dX1_work_189 ?_
        refine z_isub (pc := 190) C dX1_work_190 ?_
        refine z_iload (pc := 191) C 7 rfl dX1_work_191 ?_
        refine z_aload_n (pc := 193) C 0 rfl dX1_work_193 ?_
        refine gX1_116 (pc := 194) C rfl hv0 dX1_work_194 ?_
        refine z_iload (pc := 197) C 5 rfl dX1_work_197 ?_
        refine z_iconst (pc := 199) C dX1_work_199 ?_
        refine z_isub (pc := 200) C dX1_work_200 ?_
        obtain ⟨c7, h⟩ := ifn h
        refine z_laO (pc := 201) (k := 1) (j := 16) C 116 rfl (by decide) (by decide) (by decide) rfl rfl rfl rfl hv0 c7 rfl dX1_work_201 ?_
        refine z_aload_n (pc := 202) C 0 rfl dX1_work_202 ?_
        refine gX1_116 (pc := 203) C rfl hv0 dX1_work_203 ?_
        refine z_iload (pc := 206) C 5 rfl dX1_work_206 ?_
        obtain ⟨c8, h⟩ := ifn h
        refine z_laO (pc := 208) (k := 1) (j := 16) C 116 rfl (by decide) (by decide) (by decide) rfl rfl rfl rfl hv0 c8 rfl dX1_work_208 ?_
        refine cX1_266 (pc := 209) (st := [vI ((v6 + (-1)) - 1), .ref (v0 + 23)]) (st1 := [vL (d_X1_both (m_i M 207 v1 (ixn v7)) (m_i M 116 v0 (ixn ((v6 + (-1)) - 1))) (m_i M 116 v0 (ixn (v6 + (-1))))), vI ((v6 + (-1)) - 1), .ref (v0 + 23)]) C rfl (rm := { frames := 1, cells := 0, slots := 0, locals := 24 }) (ct_X1_both C.2.1 (m_i M 207 v1 (ixn v7)) (m_i M 116 v0 (ixn ((v6 + (-1)) - 1))) (m_i M 116 v0 (ixn (v6 + (-1)))) M _  rfl) ⟨by decide, by decide, Nat.zero_le _, Nat.zero_le _⟩ rfl (Nat.le_of_ble_eq_true rfl) dX1_work_209 (c2 := 0) (s2 := 0) rfl rfl (fun _ => ?_)
        refine z_lsO (pc := 212) (k := 1) (j := 16) C 116 rfl (by decide) (by decide) (by decide) rfl rfl rfl rfl hv0 c7 dX1_work_212 ?_
        refine z_iinc (pc := 213) C (lv' := [(0, .ref v0), (1, .ref v1), (3, vI v3), (4, .ref v4), (5, .ref v5), (6, vI (v6 + (-1))), (7, vI (v7 + 2)), (8, vI (m_i M 207 v1 (ixn v7))), (9, vI (m_i M 207 v1 (ixn (v7 + 1))))]) 6 rfl (by decide) rfl dX1_work_213 ?_
        refine z_goto (pc := 216) C dX1_work_216 (tgt := 11) (by decide) ?_
        exact z_lv [0, 1, 2, 3, 4, 5, 6] rfl <| hk11 v0 v1 v3 v4 v5 (v6 + (-1)) (v7 + 2) (m_si M 116 v0 (ixn ((v6 + (-1)) - 1)) (d_X1_both (m_i M 207 v1 (ixn v7)) (m_i M 116 v0 (ixn ((v6 + (-1)) - 1))) (m_i M 116 v0 (ixn (v6 + (-1)))))) _ _ hv0 hv1 hv4 hv5 h
      · have h := itt c6 h
        refine z_aload_n (pc := 114) C 0 rfl dX1_work_114 ?_
        refine gX1_116 (pc := 115) C rfl hv0 dX1_work_115 ?_
        refine z_iload (pc := 118) C 5 rfl dX1_work_118 ?_
        refine z_iconst (pc := 120) C dX1_work_120 ?_
        refine z_isub (pc := 121) C dX1_work_121 ?_
        obtain ⟨c10, h⟩ := ifn h
        refine z_laO (pc := 122) (k := 1) (j := 16) C 116 rfl (by decide) (by decide) (by decide) rfl rfl rfl rfl hv0 c10 rfl dX1_work_122 ?_
        refine z_ldc2 (pc := 123) C (x := -1000000) q614 (by decide +kernel) dX1_work_123 ?_
        refine z_ldc2 (pc := 126) C (x := 1000000) q452 (by decide +kernel) dX1_work_126 ?_
        refine cX1_159 (pc := 129) (st := []) (st1 := [vI (d_X1_isIn (m_i M 116 v0 (ixn (v6 - 1))) (-1000000) 1000000)]) C rfl (rm := { frames := 1, cells := 0, slots := 0, locals := 24 }) (ct_X1_isIn C.2.1 (m_i M 116 v0 (ixn (v6 - 1))) (-1000000) 1000000 M _  rfl) ⟨by decide, by decide, Nat.zero_le _, Nat.zero_le _⟩ rfl (Nat.le_of_ble_eq_true rfl) dX1_work_129 (c2 := 0) (s2 := 0) rfl rfl (fun _ => ?_)
        refine z_if_ne (pc := 132) C dX1_work_132 (tgt := 147) (by decide) (fun c12 => ?_) (fun c12 => ?_)
        · have h := itf c12 h
          exact z_lv [0, 1, 2, 3, 4, 5, 6] rfl <| cB_X1_work_147 C hk11 v0 v1 v3 v4 v5 v6 v7 M _ _ hv0 hv1 hv4 hv5 h
        · have h := itt c12 h
          refine z_aload_n (pc := 135) C 0 rfl dX1_work_135 ?_
          refine gX1_116 (pc := 136) C rfl hv0 dX1_work_136 ?_
          refine z_iload (pc := 139) C 5 rfl dX1_work_139 ?_
          refine z_iconst (pc := 141) C dX1_work_141 ?_
          refine z_isub (pc := 142) C dX1_work_142 ?_
          refine z_ldc2 (pc := 143) C (x := -9223372036854775808) q995 (by decide +kernel) dX1_work_143 ?_
          refine z_lsO (pc := 146) (k := 1) (j := 16) C 116 rfl (by decide) (by decide) (by decide) rfl rfl rfl rfl hv0 c10 dX1_work_146 ?_
          exact z_lv [0, 1, 2, 3, 4, 5, 6] rfl <| cB_X1_work_147 C hk11 v0 v1 v3 v4 v5 v6 v7 (m_si M 116 v0 (ixn (v6 - 1)) (-9223372036854775808)) _ _ hv0 hv1 hv4 hv5 h
    · have h := itf c5 h
      refine z_iload (pc := 43) C 7 rfl dX1_work_43 ?_
      refine z_if_ne (pc := 45) C dX1_work_45 (tgt := 53) (by decide) (fun c17 => ?_) (fun c17 => ?_)
      · have h := itf c17 h
        refine z_iload (pc := 53) C 7 rfl dX1_work_53 ?_
        refine z_iconst (pc := 55) C dX1_work_55 ?_
        refine z_ic_ne (pc := 56) C dX1_work_56 (tgt := 67) (by decide) (fun c18 => ?_) (fun c18 => ?_)
        · have h := itf c18 h
          refine z_aload (pc := 67) C 4 rfl dX1_work_67 ?_
          refine z_iload (pc := 69) C 8 rfl dX1_work_69 ?_
          obtain ⟨c19, h⟩ := ifn h
          refine z_iaP (pc := 71) C hv5 c19 dX1_work_71 ?_
          exact z_lv [0, 1, 2, 3, 4, 5, 6, 7] rfl <| cB_X1_work_72 C hk11 v0 v1 v3 v4 v5 v6 v7 (m_i M 207 v1 (ixn v7)) (p_i M v5 (ixn (m_i M 207 v1 (ixn (v7 + 1))))) M _ _ hv0 hv1 hv4 hv5 h
        · have h := itt c18 h
          refine z_aload (pc := 59) C 3 rfl dX1_work_59 ?_
          refine z_iload (pc := 61) C 8 rfl dX1_work_61 ?_
          obtain ⟨c25, h⟩ := ifn h
          refine z_iaP (pc := 63) C hv4 c25 dX1_work_63 ?_
          refine z_goto (pc := 64) C dX1_work_64 (tgt := 72) (by decide) ?_
          exact z_lv [0, 1, 2, 3, 4, 5, 6, 7] rfl <| cB_X1_work_72 C hk11 v0 v1 v3 v4 v5 v6 v7 (m_i M 207 v1 (ixn v7)) (p_i M v4 (ixn (m_i M 207 v1 (ixn (v7 + 1))))) M _ _ hv0 hv1 hv4 hv5 h
      · have h := itt c17 h
        refine z_iload (pc := 48) C 8 rfl dX1_work_48 ?_
        refine z_goto (pc := 50) C dX1_work_50 (tgt := 72) (by decide) ?_
        exact z_lv [0, 1, 2, 3, 4, 5, 6, 7] rfl <| cB_X1_work_72 C hk11 v0 v1 v3 v4 v5 v6 v7 (m_i M 207 v1 (ixn v7)) (m_i M 207 v1 (ixn (v7 + 1))) M _ _ hv0 hv1 hv4 hv5 h
theorem cL_X1_work_11 {X : x_Ctx} {M0 : Mem} (C : x_CC X 2 55 yX1_work cX1_work 11 (some .int) [])  : ∀ (n : Nat) (v0 : Nat) (v1 : Nat) (v3 : Int) (v4 : Nat) (v5 : Nat) (v6 : Int) (v7 : Int) (M : Mem) (r : Int) (M' : Mem) (hv0 : m_kd M v0 = 1) (hv1 : m_kd M v1 = 2) (hv4 : x_IA M v4) (hv5 : x_IA M v5) (h : L_X1_work_11  n v0 v1 v3 v4 v5 v6 v7 M = some (r, M')) , x_Z X 0 0 (x_QF X M0 (.returned (some (vI r))) M' 0 0) M0 M 11 [(0, .ref v0), (1, .ref v1), (3, vI v3), (4, .ref v4), (5, .ref v5), (6, vI v6), (7, vI v7)] 11 [] := by
  intro n
  induction n with
  | zero => intro v0 v1 v3 v4 v5 v6 v7 M r M' hv0 hv1 hv4 hv5 h ; cases h
  | succ n ih => intro v0 v1 v3 v4 v5 v6 v7 M r M' hv0 hv1 hv4 hv5 h ; exact cB_X1_work_11 C (fun v0 v1 v3 v4 v5 v6 v7 M r M' hv0 hv1 hv4 hv5 h  => ih v0 v1 v3 v4 v5 v6 v7 M r M' hv0 hv1 hv4 hv5 h ) v0 v1 v3 v4 v5 v6 v7 M r M' hv0 hv1 hv4 hv5 h 
theorem ct_X1_work {l : Launch} {S0 : State} {D : va_G} {cA : Nat → ClassId} (hG : x_G l S0 D cA) (v0 : Nat) (v1 : Nat) (v2 : Int) (v3 : Int) (v4 : Nat) (v5 : Nat) (M : Mem) (r : Int) (M' : Mem) (hv0 : m_kd M v0 = 1) (hv1 : m_kd M v1 = 2) (hv4 : x_IA M v4) (hv5 : x_IA M v5) (h : d_X1_work v0 v1 v2 v3 v4 v5 M = some (r, M')) : x_Me l S0 D cA yX1_work cX1_work 11 (some .int) [] ({ frames := 2, cells := 0, slots := 0, locals := 55 }) [.ref v0, .ref v1, vI v2, vI v3, .ref v4, .ref v5] M (.returned (some (vI r))) M' := by
  refine x_begin (F := 2) (Lo := 55) (mc := 0) (ms := 0) hG (Nat.le_of_ble_eq_true rfl) (lv := [(0, .ref v0), (1, .ref v1), (2, vI v2), (3, vI v3), (4, .ref v4), (5, .ref v5)]) rfl rfl rfl rfl rfl (fun X e1 e2 e3 e4 e5 C => ?_)
  unfold d_X1_work at h
  refine z_iconst (pc := 0) C dX1_work_0 ?_
  refine z_istore (pc := 1) C (lv' := [(0, .ref v0), (1, .ref v1), (2, vI v2), (3, vI v3), (4, .ref v4), (5, .ref v5), (6, vI 0)]) (by decide) rfl dX1_work_1 ?_
  refine z_aload_n (pc := 3) C 0 rfl dX1_work_3 ?_
  refine z_iconst (pc := 4) C dX1_work_4 ?_
  refine pX1_117 (pc := 5) C rfl (Or.inl hv0) (Or.inl rfl) dX1_work_5 ?_
  refine z_iload_n (pc := 8) C 2 rfl dX1_work_8 ?_
  refine z_istore (pc := 9) C (lv' := [(0, .ref v0), (1, .ref v1), (2, vI v2), (3, vI v3), (4, .ref v4), (5, .ref v5), (6, vI 0), (7, vI v2)]) (by decide) rfl dX1_work_9 ?_
  exact z_lv [0, 1, 3, 4, 5, 6, 7] rfl <| cL_X1_work_11 C FU v0 v1 v3 v4 v5 0 v2 (m_si M 117 v0 0 0) _ _ hv0 hv1 hv4 hv5 h
def d_X1_holds (v0 : Nat) (v1 : Nat) (v2 : Int) (v3 : Nat) (v4 : Nat) (M : Mem) : Option (Int × Mem) :=
  if inb v2 20 then 
  if w32 (m_i M 210 v1 (ixn v2)) = w32 (m_i M 211 v1 (ixn v2)) then
    some (1, M)
  else
    bN (d_X1_work v0 v1 (m_i M 210 v1 (ixn v2)) (m_i M 211 v1 (ixn v2)) v3 v4 M) fun r3 M4 => 
    if w32 r3 = w32 1 then
      some (1, M4)
    else
      some (0, M4) else none
theorem ct_X1_holds {l : Launch} {S0 : State} {D : va_G} {cA : Nat → ClassId} (hG : x_G l S0 D cA) (v0 : Nat) (v1 : Nat) (v2 : Int) (v3 : Nat) (v4 : Nat) (M : Mem) (r : Int) (M' : Mem) (hv0 : m_kd M v0 = 1) (hv1 : m_kd M v1 = 2) (hv3 : x_IA M v3) (hv4 : x_IA M v4) (h : d_X1_holds v0 v1 v2 v3 v4 M = some (r, M')) : x_Me l S0 D cA yX1_holds cX1_holds 5 (some .boolean) [] ({ frames := 3, cells := 0, slots := 0, locals := 89 }) [.ref v0, .ref v1, vI v2, .ref v3, .ref v4] M (.returned (some (vI r))) M' := by
  refine x_begin (F := 3) (Lo := 89) (mc := 0) (ms := 0) hG (Nat.le_of_ble_eq_true rfl) (lv := [(0, .ref v0), (1, .ref v1), (2, vI v2), (3, .ref v3), (4, .ref v4)]) rfl rfl rfl rfl rfl (fun X e1 e2 e3 e4 e5 C => ?_)
  unfold d_X1_holds at h
  refine z_aload_n (pc := 0) C 1 rfl dX1_holds_0 ?_
  refine gX1_210 (pc := 1) C rfl hv1 dX1_holds_1 ?_
  refine z_iload_n (pc := 4) C 2 rfl dX1_holds_4 ?_
  obtain ⟨c1, h⟩ := ifn h
  refine z_iaO (pc := 5) (k := 2) (j := 10) C 210 rfl (by decide) (by decide) (by decide) rfl rfl rfl rfl hv1 c1 rfl dX1_holds_5 ?_
  refine z_aload_n (pc := 6) C 1 rfl dX1_holds_6 ?_
  refine gX1_211 (pc := 7) C rfl hv1 dX1_holds_7 ?_
  refine z_iload_n (pc := 10) C 2 rfl dX1_holds_10 ?_
  refine z_iaO (pc := 11) (k := 2) (j := 11) C 211 rfl (by decide) (by decide) (by decide) rfl rfl rfl rfl hv1 c1 rfl dX1_holds_11 ?_
  refine z_ic_eq (pc := 12) C dX1_holds_12 (tgt := 39) (by decide) (fun c2 => ?_) (fun c2 => ?_)
  · have h := itt c2 h
    refine z_iconst (pc := 39) C dX1_holds_39 ?_
    refine z_goto (pc := 40) C dX1_holds_40 (tgt := 44) (by decide) ?_
    cases h
    exact z_zret (pc := 44) C rfl (Or.inr rfl) (show 0 ≤ 0 from by decide) (show 0 ≤ 0 from by decide) dX1_holds_44
  · have h := itf c2 h
    refine z_aload_n (pc := 15) C 0 rfl dX1_holds_15 ?_
    refine z_aload_n (pc := 16) C 1 rfl dX1_holds_16 ?_
    refine z_aload_n (pc := 17) C 1 rfl dX1_holds_17 ?_
    refine gX1_210 (pc := 18) C rfl hv1 dX1_holds_18 ?_
    refine z_iload_n (pc := 21) C 2 rfl dX1_holds_21 ?_
    refine z_iaO (pc := 22) (k := 2) (j := 10) C 210 rfl (by decide) (by decide) (by decide) rfl rfl rfl rfl hv1 c1 rfl dX1_holds_22 ?_
    refine z_aload_n (pc := 23) C 1 rfl dX1_holds_23 ?_
    refine gX1_211 (pc := 24) C rfl hv1 dX1_holds_24 ?_
    refine z_iload_n (pc := 27) C 2 rfl dX1_holds_27 ?_
    refine z_iaO (pc := 28) (k := 2) (j := 11) C 211 rfl (by decide) (by decide) (by decide) rfl rfl rfl rfl hv1 c1 rfl dX1_holds_28 ?_
    refine z_aload_n (pc := 29) C 3 rfl dX1_holds_29 ?_
    refine z_aload (pc := 30) C 4 rfl dX1_holds_30 ?_
    obtain ⟨r3, M4, e5, h⟩ := bNs h
    refine cX1_276 (pc := 32) (st := []) (st1 := [vI r3]) C rfl (rm := { frames := 2, cells := 0, slots := 0, locals := 55 }) (ct_X1_work C.2.1 v0 v1 (m_i M 210 v1 (ixn v2)) (m_i M 211 v1 (ixn v2)) v3 v4 M _ _ hv0 hv1 hv3 hv4 e5) ⟨by decide, by decide, Nat.zero_le _, Nat.zero_le _⟩ (Or.inl hv0) rfl (Nat.le_of_ble_eq_true rfl) dX1_holds_32 (c2 := 0) (s2 := 0) rfl rfl (fun x6 => ?_)
    refine z_iconst (pc := 35) C dX1_holds_35 ?_
    refine z_ic_ne (pc := 36) C dX1_holds_36 (tgt := 43) (by decide) (fun c7 => ?_) (fun c7 => ?_)
    · have h := itf c7 h
      refine z_iconst (pc := 43) C dX1_holds_43 ?_
      cases h
      exact z_zret (pc := 44) C rfl (Or.inl rfl) (show 0 ≤ 0 from by decide) (show 0 ≤ 0 from by decide) dX1_holds_44
    · have h := itt c7 h
      refine z_iconst (pc := 39) C dX1_holds_39 ?_
      refine z_goto (pc := 40) C dX1_holds_40 (tgt := 44) (by decide) ?_
      cases h
      exact z_zret (pc := 44) C rfl (Or.inr rfl) (show 0 ≤ 0 from by decide) (show 0 ≤ 0 from by decide) dX1_holds_44
def d_X1_letOf (v0 : Nat) (v1 : Nat) (v2 : Int) (v3 : Nat) (v4 : Nat) (M : Mem) : Option (Int × Mem) :=
  bN (d_X1_holds v0 v1 v2 v3 v4 M) fun r1 M2 => 
  if w32 r1 = 0 then
    some (-2000000, M2)
  else
    if inb v2 20 then 
    bN (d_X1_work v0 v1 (m_i M2 209 v1 (ixn v2)) (m_i M2 210 v1 (ixn v2)) v3 v4 M2) fun r11 M12 => 
    some (r11, M12) else none
theorem ct_X1_letOf {l : Launch} {S0 : State} {D : va_G} {cA : Nat → ClassId} (hG : x_G l S0 D cA) (v0 : Nat) (v1 : Nat) (v2 : Int) (v3 : Nat) (v4 : Nat) (M : Mem) (r : Int) (M' : Mem) (hv0 : m_kd M v0 = 1) (hv1 : m_kd M v1 = 2) (hv3 : x_IA M v3) (hv4 : x_IA M v4) (h : d_X1_letOf v0 v1 v2 v3 v4 M = some (r, M')) : x_Me l S0 D cA yX1_letOf cX1_letOf 5 (some .int) [] ({ frames := 4, cells := 0, slots := 0, locals := 117 }) [.ref v0, .ref v1, vI v2, .ref v3, .ref v4] M (.returned (some (vI r))) M' := by
  refine x_begin (F := 4) (Lo := 117) (mc := 0) (ms := 0) hG (Nat.le_of_ble_eq_true rfl) (lv := [(0, .ref v0), (1, .ref v1), (2, vI v2), (3, .ref v3), (4, .ref v4)]) rfl rfl rfl rfl rfl (fun X e1 e2 e3 e4 e5 C => ?_)
  unfold d_X1_letOf at h
  refine z_aload_n (pc := 0) C 0 rfl dX1_letOf_0 ?_
  refine z_aload_n (pc := 1) C 1 rfl dX1_letOf_1 ?_
  refine z_iload_n (pc := 2) C 2 rfl dX1_letOf_2 ?_
  refine z_aload_n (pc := 3) C 3 rfl dX1_letOf_3 ?_
  refine z_aload (pc := 4) C 4 rfl dX1_letOf_4 ?_
  obtain ⟨r1, M2, e3, h⟩ := bNs h
  refine cX1_280 (pc := 6) (st := []) (st1 := [vI r1]) C rfl (rm := { frames := 3, cells := 0, slots := 0, locals := 89 }) (ct_X1_holds C.2.1 v0 v1 v2 v3 v4 M _ _ hv0 hv1 hv3 hv4 e3) ⟨by decide, by decide, Nat.zero_le _, Nat.zero_le _⟩ (Or.inl hv0) rfl (Nat.le_of_ble_eq_true rfl) dX1_letOf_6 (c2 := 0) (s2 := 0) rfl rfl (fun x4 => ?_)
  have k5 := x4 _ 1 (by decide) (Or.inl (by decide)) hv0
  have k6 := x4 _ 2 (by decide) (Or.inl (by decide)) hv1
  have k7 := x_IA.ext hv3 x4
  have k8 := x_IA.ext hv4 x4
  refine z_if_ne (pc := 9) C dX1_letOf_9 (tgt := 15) (by decide) (fun c9 => ?_) (fun c9 => ?_)
  · have h := itf c9 h
    refine z_aload_n (pc := 15) C 0 rfl dX1_letOf_15 ?_
    refine z_aload_n (pc := 16) C 1 rfl dX1_letOf_16 ?_
    refine z_aload_n (pc := 17) C 1 rfl dX1_letOf_17 ?_
    refine gX1_209 (pc := 18) C rfl k6 dX1_letOf_18 ?_
    refine z_iload_n (pc := 21) C 2 rfl dX1_letOf_21 ?_
    obtain ⟨c10, h⟩ := ifn h
    refine z_iaO (pc := 22) (k := 2) (j := 9) C 209 rfl (by decide) (by decide) (by decide) rfl rfl rfl rfl k6 c10 rfl dX1_letOf_22 ?_
    refine z_aload_n (pc := 23) C 1 rfl dX1_letOf_23 ?_
    refine gX1_210 (pc := 24) C rfl k6 dX1_letOf_24 ?_
    refine z_iload_n (pc := 27) C 2 rfl dX1_letOf_27 ?_
    refine z_iaO (pc := 28) (k := 2) (j := 10) C 210 rfl (by decide) (by decide) (by decide) rfl rfl rfl rfl k6 c10 rfl dX1_letOf_28 ?_
    refine z_aload_n (pc := 29) C 3 rfl dX1_letOf_29 ?_
    refine z_aload (pc := 30) C 4 rfl dX1_letOf_30 ?_
    obtain ⟨r11, M12, e13, h⟩ := bNs h
    refine cX1_276 (pc := 32) (st := []) (st1 := [vI r11]) C rfl (rm := { frames := 2, cells := 0, slots := 0, locals := 55 }) (ct_X1_work C.2.1 v0 v1 (m_i M2 209 v1 (ixn v2)) (m_i M2 210 v1 (ixn v2)) v3 v4 M2 _ _ k5 k6 k7 k8 e13) ⟨by decide, by decide, Nat.zero_le _, Nat.zero_le _⟩ (Or.inl k5) rfl (Nat.le_of_ble_eq_true rfl) dX1_letOf_32 (c2 := 0) (s2 := 0) rfl rfl (fun x14 => ?_)
    cases h
    exact z_iret (pc := 35) C rfl (show 0 ≤ 0 from by decide) (show 0 ≤ 0 from by decide) dX1_letOf_35
  · have h := itt c9 h
    refine z_ldc (pc := 12) C (x := -2000000) q661 (by decide +kernel) dX1_letOf_12 ?_
    cases h
    exact z_iret (pc := 14) C rfl (show 0 ≤ 0 from by decide) (show 0 ≤ 0 from by decide) dX1_letOf_14
def B_X1_walk_37 (k37 : Nat → Nat → Nat → Int → Mem → Option (Int × Mem)) (v0 : Nat) (v1 : Nat) (v2 : Nat) (v3 : Int) (M : Mem) : Option (Int × Mem) :=
  if w32 (m_i M 808 v1 0) ≤ w32 v3 then
    some (0, M)
  else
    if inb v3 20 then 
    if w32 (m_i M 202 v2 (ixn v3)) = w32 1 then
      bN (d_X1_letOf v0 v2 v3 (v1 + 5) (v1 + 1) M) fun r25 M26 => 
      k37 v0 v1 v2 (v3 + 1) (m_si M26 807 v1 (ixn v3) r25)
    else
      if w32 (m_i M 202 v2 (ixn v3)) = 0 then
        bN (d_X1_holds v0 v2 v3 (v1 + 5) (v1 + 1) M) fun r14 M15 => 
        if w32 r14 = 0 then
          k37 v0 v1 v2 (v3 + 1) M15
        else
          if w32 (m_i M15 804 v1 (ixn v3)) = 0 then
            k37 v0 v1 v2 (v3 + 1) (m_si M15 808 v1 0 v3)
          else
            k37 v0 v1 v2 (v3 + 1) (m_si M15 807 v1 (ixn v3) (m_i M15 805 v1 (ixn v3)))
      else
        k37 v0 v1 v2 (v3 + 1) M else none
def L_X1_walk_37  : Nat → Nat → Nat → Nat → Int → Mem → Option (Int × Mem)
  | 0, _, _, _, _, _ => none
  | n + 1, v0, v1, v2, v3, M => B_X1_walk_37 (L_X1_walk_37  n) v0 v1 v2 v3 M
def B_X1_walk_7 (k7 : Nat → Nat → Nat → Int → Mem → Option (Int × Mem)) (v0 : Nat) (v1 : Nat) (v2 : Nat) (v3 : Int) (M : Mem) : Option (Int × Mem) :=
  if w32 20 ≤ w32 v3 then
    L_X1_walk_37 FU v0 v1 v2 0 (m_si M 808 v1 0 (m_i M 200 v2 0))
  else
    if inb v3 20 then 
    k7 v0 v1 v2 (v3 + 1) (m_si M 807 v1 (ixn v3) (-2000000)) else none
def L_X1_walk_7  : Nat → Nat → Nat → Nat → Int → Mem → Option (Int × Mem)
  | 0, _, _, _, _, _ => none
  | n + 1, v0, v1, v2, v3, M => B_X1_walk_7 (L_X1_walk_7  n) v0 v1 v2 v3 M
def d_X1_walk (v0 : Nat) (v1 : Nat) (M : Mem) : Option (Int × Mem) :=
  bR (m_r M 800 v1 0) fun q4 => 
  L_X1_walk_7 FU v0 v1 q4 0 M
theorem cB_X1_walk_37 {X : x_Ctx} {M0 : Mem} (C : x_CC X 5 145 yX1_walk cX1_walk 4 none []) {k37 : Nat → Nat → Nat → Int → Mem → Option (Int × Mem)} (hk37 : ∀ (v0 : Nat) (v1 : Nat) (v2 : Nat) (v3 : Int) (M : Mem) (r : Int) (M' : Mem), m_kd M v0 = 1 → m_kd M v1 = 8 → m_kd M v2 = 2 → k37 v0 v1 v2 v3 M = some (r, M') → x_Z X 0 0 (x_QF X M0 (.returned none) M' 0 0) M0 M 4 [(0, .ref v0), (1, .ref v1), (2, .ref v2), (3, vI v3)] 37 []) (v0 : Nat) (v1 : Nat) (v2 : Nat) (v3 : Int) (M : Mem) (r : Int) (M' : Mem) (hv0 : m_kd M v0 = 1) (hv1 : m_kd M v1 = 8) (hv2 : m_kd M v2 = 2) (h : B_X1_walk_37 k37 v0 v1 v2 v3 M = some (r, M'))  : x_Z X 0 0 (x_QF X M0 (.returned none) M' 0 0) M0 M 4 [(0, .ref v0), (1, .ref v1), (2, .ref v2), (3, vI v3)] 37 [] := by
  unfold B_X1_walk_37 at h
  refine z_iload_n (pc := 37) C 3 rfl dX1_walk_37 ?_
  refine z_aload_n (pc := 38) C 1 rfl dX1_walk_38 ?_
  refine gX1_808 (pc := 39) C rfl (Or.inl hv1) rfl dX1_walk_39 ?_
  refine z_ic_ge (pc := 42) C dX1_walk_42 (tgt := 139) (by decide) (fun c8 => ?_) (fun c8 => ?_)
  · have h := itt c8 h
    cases h
    exact z_vret (pc := 139) C rfl (show 0 ≤ 0 from by decide) (show 0 ≤ 0 from by decide) dX1_walk_139
  · have h := itf c8 h
    refine z_aload_n (pc := 45) C 2 rfl dX1_walk_45 ?_
    refine gX1_202 (pc := 46) C rfl hv2 dX1_walk_46 ?_
    refine z_iload_n (pc := 49) C 3 rfl dX1_walk_49 ?_
    obtain ⟨c9, h⟩ := ifn h
    refine z_iaO (pc := 50) (k := 2) (j := 2) C 202 rfl (by decide) (by decide) (by decide) rfl rfl rfl rfl hv2 c9 rfl dX1_walk_50 ?_
    refine z_iconst (pc := 51) C dX1_walk_51 ?_
    refine z_ic_ne (pc := 52) C dX1_walk_52 (tgt := 78) (by decide) (fun c10 => ?_) (fun c10 => ?_)
    · have h := itf c10 h
      refine z_aload_n (pc := 78) C 2 rfl dX1_walk_78 ?_
      refine gX1_202 (pc := 79) C rfl hv2 dX1_walk_79 ?_
      refine z_iload_n (pc := 82) C 3 rfl dX1_walk_82 ?_
      refine z_iaO (pc := 83) (k := 2) (j := 2) C 202 rfl (by decide) (by decide) (by decide) rfl rfl rfl rfl hv2 c9 rfl dX1_walk_83 ?_
      refine z_if_ne (pc := 84) C dX1_walk_84 (tgt := 133) (by decide) (fun c11 => ?_) (fun c11 => ?_)
      · have h := itf c11 h
        refine z_iinc (pc := 133) C (lv' := [(0, .ref v0), (1, .ref v1), (2, .ref v2), (3, vI (v3 + 1))]) 3 rfl (by decide) rfl dX1_walk_133 ?_
        refine z_goto (pc := 136) C dX1_walk_136 (tgt := 37) (by decide) ?_
        exact hk37 v0 v1 v2 (v3 + 1) M _ _ hv0 hv1 hv2 h
      · have h := itt c11 h
        refine z_aload_n (pc := 87) C 0 rfl dX1_walk_87 ?_
        refine z_aload_n (pc := 88) C 2 rfl dX1_walk_88 ?_
        refine z_iload_n (pc := 89) C 3 rfl dX1_walk_89 ?_
        refine z_aload_n (pc := 90) C 1 rfl dX1_walk_90 ?_
        refine gX1_807 (pc := 91) C rfl hv1 dX1_walk_91 ?_
        refine z_aload_n (pc := 94) C 1 rfl dX1_walk_94 ?_
        refine gX1_803 (pc := 95) C rfl hv1 dX1_walk_95 ?_
        refine z_ia (k := 8) (j := 7) 807 rfl (by decide) (by decide) (by decide) rfl rfl rfl hv1 (fun k12 => ?_)
        refine z_ia (k := 8) (j := 3) 803 rfl (by decide) (by decide) (by decide) rfl rfl rfl hv1 (fun k13 => ?_)
        obtain ⟨r14, M15, e16, h⟩ := bNs h
        refine cX1_280 (pc := 98) (st := []) (st1 := [vI r14]) C rfl (rm := { frames := 3, cells := 0, slots := 0, locals := 89 }) (ct_X1_holds C.2.1 v0 v2 v3 (v1 + 5) (v1 + 1) M _ _ hv0 hv2 k12.1 k13.1 e16) ⟨by decide, by decide, Nat.zero_le _, Nat.zero_le _⟩ (Or.inl hv0) rfl (Nat.le_of_ble_eq_true rfl) dX1_walk_98 (c2 := 0) (s2 := 0) rfl rfl (fun x17 => ?_)
        have k18 := x17 _ 1 (by decide) (Or.inl (by decide)) hv0
        have k19 := x17 _ 8 (by decide) (Or.inl (by decide)) hv1
        have k20 := x17 _ 2 (by decide) (Or.inl (by decide)) hv2
        refine z_if_eq (pc := 101) C dX1_walk_101 (tgt := 133) (by decide) (fun c21 => ?_) (fun c21 => ?_)
        · have h := itt c21 h
          refine z_iinc (pc := 133) C (lv' := [(0, .ref v0), (1, .ref v1), (2, .ref v2), (3, vI (v3 + 1))]) 3 rfl (by decide) rfl dX1_walk_133 ?_
          refine z_goto (pc := 136) C dX1_walk_136 (tgt := 37) (by decide) ?_
          exact hk37 v0 v1 v2 (v3 + 1) M15 _ _ k18 k19 k20 h
        · have h := itf c21 h
          refine z_aload_n (pc := 104) C 1 rfl dX1_walk_104 ?_
          refine gX1_804 (pc := 105) C rfl k19 dX1_walk_105 ?_
          refine z_iload_n (pc := 108) C 3 rfl dX1_walk_108 ?_
          refine z_zaO (pc := 109) (k := 8) (j := 4) C 804 rfl (by decide) (by decide) (by decide) rfl rfl rfl rfl k19 c9 rfl dX1_walk_109 ?_
          refine z_if_eq (pc := 110) C dX1_walk_110 (tgt := 128) (by decide) (fun c22 => ?_) (fun c22 => ?_)
          · have h := itt c22 h
            refine z_aload_n (pc := 128) C 1 rfl dX1_walk_128 ?_
            refine z_iload_n (pc := 129) C 3 rfl dX1_walk_129 ?_
            refine pX1_808 (pc := 130) C rfl (Or.inl k19) dX1_walk_130 ?_
            refine z_iinc (pc := 133) C (lv' := [(0, .ref v0), (1, .ref v1), (2, .ref v2), (3, vI (v3 + 1))]) 3 rfl (by decide) rfl dX1_walk_133 ?_
            refine z_goto (pc := 136) C dX1_walk_136 (tgt := 37) (by decide) ?_
            exact hk37 v0 v1 v2 (v3 + 1) (m_si M15 808 v1 0 v3) _ _ k18 k19 k20 h
          · have h := itf c22 h
            refine z_aload_n (pc := 113) C 1 rfl dX1_walk_113 ?_
            refine gX1_807 (pc := 114) C rfl k19 dX1_walk_114 ?_
            refine z_iload_n (pc := 117) C 3 rfl dX1_walk_117 ?_
            refine z_aload_n (pc := 118) C 1 rfl dX1_walk_118 ?_
            refine gX1_805 (pc := 119) C rfl k19 dX1_walk_119 ?_
            refine z_iload_n (pc := 122) C 3 rfl dX1_walk_122 ?_
            refine z_iaO (pc := 123) (k := 8) (j := 5) C 805 rfl (by decide) (by decide) (by decide) rfl rfl rfl rfl k19 c9 rfl dX1_walk_123 ?_
            refine z_isO (pc := 124) (k := 8) (j := 7) C 807 rfl (by decide) (by decide) (by decide) rfl rfl rfl rfl k19 c9 dX1_walk_124 ?_
            refine z_goto (pc := 125) C dX1_walk_125 (tgt := 133) (by decide) ?_
            refine z_iinc (pc := 133) C (lv' := [(0, .ref v0), (1, .ref v1), (2, .ref v2), (3, vI (v3 + 1))]) 3 rfl (by decide) rfl dX1_walk_133 ?_
            refine z_goto (pc := 136) C dX1_walk_136 (tgt := 37) (by decide) ?_
            exact hk37 v0 v1 v2 (v3 + 1) (m_si M15 807 v1 (ixn v3) (m_i M15 805 v1 (ixn v3))) _ _ k18 k19 k20 h
    · have h := itt c10 h
      refine z_aload_n (pc := 55) C 1 rfl dX1_walk_55 ?_
      refine gX1_807 (pc := 56) C rfl hv1 dX1_walk_56 ?_
      refine z_iload_n (pc := 59) C 3 rfl dX1_walk_59 ?_
      refine z_aload_n (pc := 60) C 0 rfl dX1_walk_60 ?_
      refine z_aload_n (pc := 61) C 2 rfl dX1_walk_61 ?_
      refine z_iload_n (pc := 62) C 3 rfl dX1_walk_62 ?_
      refine z_aload_n (pc := 63) C 1 rfl dX1_walk_63 ?_
      refine gX1_807 (pc := 64) C rfl hv1 dX1_walk_64 ?_
      refine z_aload_n (pc := 67) C 1 rfl dX1_walk_67 ?_
      refine gX1_803 (pc := 68) C rfl hv1 dX1_walk_68 ?_
      refine z_ia (k := 8) (j := 7) 807 rfl (by decide) (by decide) (by decide) rfl rfl rfl hv1 (fun k23 => ?_)
      refine z_ia (k := 8) (j := 3) 803 rfl (by decide) (by decide) (by decide) rfl rfl rfl hv1 (fun k24 => ?_)
      obtain ⟨r25, M26, e27, h⟩ := bNs h
      refine cX1_308 (pc := 71) (st := [vI v3, .ref (v1 + 5)]) (st1 := [vI r25, vI v3, .ref (v1 + 5)]) C rfl (rm := { frames := 4, cells := 0, slots := 0, locals := 117 }) (ct_X1_letOf C.2.1 v0 v2 v3 (v1 + 5) (v1 + 1) M _ _ hv0 hv2 k23.1 k24.1 e27) ⟨by decide, by decide, Nat.zero_le _, Nat.zero_le _⟩ (Or.inl hv0) rfl (Nat.le_of_ble_eq_true rfl) dX1_walk_71 (c2 := 0) (s2 := 0) rfl rfl (fun x28 => ?_)
      have k29 := x28 _ 8 (by decide) (Or.inl (by decide)) hv1
      have k30 := x28 _ 1 (by decide) (Or.inl (by decide)) hv0
      have k31 := x28 _ 8 (by decide) (Or.inl (by decide)) hv1
      have k32 := x28 _ 2 (by decide) (Or.inl (by decide)) hv2
      refine z_isO (pc := 74) (k := 8) (j := 7) C 807 rfl (by decide) (by decide) (by decide) rfl rfl rfl rfl k29 c9 dX1_walk_74 ?_
      refine z_goto (pc := 75) C dX1_walk_75 (tgt := 133) (by decide) ?_
      refine z_iinc (pc := 133) C (lv' := [(0, .ref v0), (1, .ref v1), (2, .ref v2), (3, vI (v3 + 1))]) 3 rfl (by decide) rfl dX1_walk_133 ?_
      refine z_goto (pc := 136) C dX1_walk_136 (tgt := 37) (by decide) ?_
      exact hk37 v0 v1 v2 (v3 + 1) (m_si M26 807 v1 (ixn v3) r25) _ _ k30 k31 k32 h
theorem cL_X1_walk_37 {X : x_Ctx} {M0 : Mem} (C : x_CC X 5 145 yX1_walk cX1_walk 4 none [])  : ∀ (n : Nat) (v0 : Nat) (v1 : Nat) (v2 : Nat) (v3 : Int) (M : Mem) (r : Int) (M' : Mem) (hv0 : m_kd M v0 = 1) (hv1 : m_kd M v1 = 8) (hv2 : m_kd M v2 = 2) (h : L_X1_walk_37  n v0 v1 v2 v3 M = some (r, M')) , x_Z X 0 0 (x_QF X M0 (.returned none) M' 0 0) M0 M 4 [(0, .ref v0), (1, .ref v1), (2, .ref v2), (3, vI v3)] 37 [] := by
  intro n
  induction n with
  | zero => intro v0 v1 v2 v3 M r M' hv0 hv1 hv2 h ; cases h
  | succ n ih => intro v0 v1 v2 v3 M r M' hv0 hv1 hv2 h ; exact cB_X1_walk_37 C (fun v0 v1 v2 v3 M r M' hv0 hv1 hv2 h  => ih v0 v1 v2 v3 M r M' hv0 hv1 hv2 h ) v0 v1 v2 v3 M r M' hv0 hv1 hv2 h 
theorem cB_X1_walk_7 {X : x_Ctx} {M0 : Mem} (C : x_CC X 5 145 yX1_walk cX1_walk 4 none []) {k7 : Nat → Nat → Nat → Int → Mem → Option (Int × Mem)} (hk7 : ∀ (v0 : Nat) (v1 : Nat) (v2 : Nat) (v3 : Int) (M : Mem) (r : Int) (M' : Mem), m_kd M v0 = 1 → m_kd M v1 = 8 → m_kd M v2 = 2 → k7 v0 v1 v2 v3 M = some (r, M') → x_Z X 0 0 (x_QF X M0 (.returned none) M' 0 0) M0 M 4 [(0, .ref v0), (1, .ref v1), (2, .ref v2), (3, vI v3)] 7 []) (v0 : Nat) (v1 : Nat) (v2 : Nat) (v3 : Int) (M : Mem) (r : Int) (M' : Mem) (hv0 : m_kd M v0 = 1) (hv1 : m_kd M v1 = 8) (hv2 : m_kd M v2 = 2) (h : B_X1_walk_7 k7 v0 v1 v2 v3 M = some (r, M'))  : x_Z X 0 0 (x_QF X M0 (.returned none) M' 0 0) M0 M 4 [(0, .ref v0), (1, .ref v1), (2, .ref v2), (3, vI v3)] 7 [] := by
  unfold B_X1_walk_7 at h
  refine z_iload_n (pc := 7) C 3 rfl dX1_walk_7 ?_
  refine z_bipush (pc := 8) C (by decide +kernel) dX1_walk_8 ?_
  refine z_ic_ge (pc := 10) C dX1_walk_10 (tgt := 27) (by decide) (fun c7 => ?_) (fun c7 => ?_)
  · have h := itt c7 h
    refine z_aload_n (pc := 27) C 1 rfl dX1_walk_27 ?_
    refine z_aload_n (pc := 28) C 2 rfl dX1_walk_28 ?_
    refine gX1_200 (pc := 29) C rfl (Or.inl hv2) rfl dX1_walk_29 ?_
    refine pX1_808 (pc := 32) C rfl (Or.inl hv1) dX1_walk_32 ?_
    refine z_iconst (pc := 35) C dX1_walk_35 ?_
    refine z_istore_n (pc := 36) C (lv' := [(0, .ref v0), (1, .ref v1), (2, .ref v2), (3, vI 0)]) (by decide) rfl dX1_walk_36 ?_
    exact cL_X1_walk_37 C FU v0 v1 v2 0 (m_si M 808 v1 0 (m_i M 200 v2 0)) _ _ hv0 hv1 hv2 h
  · have h := itf c7 h
    refine z_aload_n (pc := 13) C 1 rfl dX1_walk_13 ?_
    refine gX1_807 (pc := 14) C rfl hv1 dX1_walk_14 ?_
    refine z_iload_n (pc := 17) C 3 rfl dX1_walk_17 ?_
    refine z_ldc (pc := 18) C (x := -2000000) q661 (by decide +kernel) dX1_walk_18 ?_
    obtain ⟨c33, h⟩ := ifn h
    refine z_isO (pc := 20) (k := 8) (j := 7) C 807 rfl (by decide) (by decide) (by decide) rfl rfl rfl rfl hv1 c33 dX1_walk_20 ?_
    refine z_iinc (pc := 21) C (lv' := [(0, .ref v0), (1, .ref v1), (2, .ref v2), (3, vI (v3 + 1))]) 3 rfl (by decide) rfl dX1_walk_21 ?_
    refine z_goto (pc := 24) C dX1_walk_24 (tgt := 7) (by decide) ?_
    exact hk7 v0 v1 v2 (v3 + 1) (m_si M 807 v1 (ixn v3) (-2000000)) _ _ hv0 hv1 hv2 h
theorem cL_X1_walk_7 {X : x_Ctx} {M0 : Mem} (C : x_CC X 5 145 yX1_walk cX1_walk 4 none [])  : ∀ (n : Nat) (v0 : Nat) (v1 : Nat) (v2 : Nat) (v3 : Int) (M : Mem) (r : Int) (M' : Mem) (hv0 : m_kd M v0 = 1) (hv1 : m_kd M v1 = 8) (hv2 : m_kd M v2 = 2) (h : L_X1_walk_7  n v0 v1 v2 v3 M = some (r, M')) , x_Z X 0 0 (x_QF X M0 (.returned none) M' 0 0) M0 M 4 [(0, .ref v0), (1, .ref v1), (2, .ref v2), (3, vI v3)] 7 [] := by
  intro n
  induction n with
  | zero => intro v0 v1 v2 v3 M r M' hv0 hv1 hv2 h ; cases h
  | succ n ih => intro v0 v1 v2 v3 M r M' hv0 hv1 hv2 h ; exact cB_X1_walk_7 C (fun v0 v1 v2 v3 M r M' hv0 hv1 hv2 h  => ih v0 v1 v2 v3 M r M' hv0 hv1 hv2 h ) v0 v1 v2 v3 M r M' hv0 hv1 hv2 h 
theorem ct_X1_walk {l : Launch} {S0 : State} {D : va_G} {cA : Nat → ClassId} (hG : x_G l S0 D cA) (v0 : Nat) (v1 : Nat) (M : Mem) (r : Int) (M' : Mem) (hv0 : m_kd M v0 = 1) (hv1 : m_kd M v1 = 8) (h : d_X1_walk v0 v1 M = some (r, M')) : x_Me l S0 D cA yX1_walk cX1_walk 4 none [] ({ frames := 5, cells := 0, slots := 0, locals := 145 }) [.ref v0, .ref v1] M (.returned none) M' := by
  refine x_begin (F := 5) (Lo := 145) (mc := 0) (ms := 0) hG (Nat.le_of_ble_eq_true rfl) (lv := [(0, .ref v0), (1, .ref v1)]) rfl rfl rfl rfl rfl (fun X e1 e2 e3 e4 e5 C => ?_)
  unfold d_X1_walk at h
  refine z_aload_n (pc := 0) C 1 rfl dX1_walk_0 ?_
  obtain ⟨q4, e5, h⟩ := bRs h
  refine gX1_800 (pc := 1) C rfl (Or.inl hv1) e5 dX1_walk_1 (fun k6 => ?_)
  refine z_astore_n (pc := 4) C (lv' := [(0, .ref v0), (1, .ref v1), (2, .ref q4)]) (by decide) rfl dX1_walk_4 ?_
  refine z_iconst (pc := 5) C dX1_walk_5 ?_
  refine z_istore_n (pc := 6) C (lv' := [(0, .ref v0), (1, .ref v1), (2, .ref q4), (3, vI 0)]) (by decide) rfl dX1_walk_6 ?_
  exact cL_X1_walk_7 C FU v0 v1 q4 0 M _ _ hv0 hv1 k6 h
