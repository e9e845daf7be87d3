set_option maxRecDepth 100000
def d_X0_feed (v0 : Nat) (v1 : Int) (v2 : Int) (v3 : Int) (v4 : Int) (v5 : Int) (v6 : Nat) (M : Mem) : Option (Int × Mem) :=
  bC (d_X1_feed v0 v1 v2 v3 v4 v5 M) (fun r1 M3 =>
    some (0, (m_si M3 9000 v6 (ixn 0) (w32 r1)))) (fun q2 M3 =>
    if m_kd M3 q2 = 114 then
      some (1, M3)
    else
      none)
theorem ct_X0_feed {l : Launch} {S0 : State} {D : va_G} {cA : Nat → ClassId} (hG : x_G l S0 D cA) (v0 : Nat) (v1 : Int) (v2 : Int) (v3 : Int) (v4 : Int) (v5 : Int) (v6 : Nat) (M : Mem) (r : Int) (M' : Mem) (hv0 : m_kd M v0 = 1) (hv6 : m_kd M v6 = 19000) (h : d_X0_feed v0 v1 v2 v3 v4 v5 v6 M = some (r, M')) : x_Me l S0 D cA yX0_feed cX0_feed 8 (some .int) [(0, 16, 19, 19)] ({ frames := 8, cells := 1, slots := 6, locals := 145 }) [.ref v0, vI v1, vI v2, vI v3, vI v4, vI v5, .ref v6] M (.returned (some (vI r))) M' := by
  refine x_begin (F := 8) (Lo := 145) (mc := 1) (ms := 6) hG (Nat.le_of_ble_eq_true rfl) (lv := [(0, .ref v0), (1, vI v1), (2, vI v2), (3, vI v3), (4, vI v4), (5, vI v5), (6, .ref v6)]) rfl rfl rfl rfl rfl (fun X e1 e2 e3 e4 e5 C => ?_)
  have hR : _ ∧ _ := ⟨Nat.le_of_eq (congrArg Room.cells e5).symm, Nat.le_of_eq (congrArg Room.slots e5).symm⟩
  unfold d_X0_feed at h
  refine z_aload (pc := 0) C 6 rfl dX0_feed_0 ?_
  refine z_iconst (pc := 2) C dX0_feed_2 ?_
  refine z_aload_n (pc := 3) C 0 rfl dX0_feed_3 ?_
  refine z_iload_n (pc := 4) C 1 rfl dX0_feed_4 ?_
  refine z_iload_n (pc := 5) C 2 rfl dX0_feed_5 ?_
  refine z_iload_n (pc := 6) C 3 rfl dX0_feed_6 ?_
  refine z_iload (pc := 7) C 4 rfl dX0_feed_7 ?_
  refine z_iload (pc := 9) C 5 rfl dX0_feed_9 ?_
  rcases bCs h with ⟨r1, M3, e4, h⟩ | ⟨q2, M3, e4, h⟩
  · refine cX0_39 (pc := 11) (st := [vI 0, .ref v6]) (st1 := [vI r1, vI 0, .ref v6]) C rfl (rm := { frames := 7, cells := 0, slots := 0, locals := 114 }) (ct_X1_feed C.2.1 v0 v1 v2 v3 v4 v5 M _ _ hv0 e4) ⟨by decide, by decide, Nat.zero_le _, Nat.zero_le _⟩ (Or.inl hv0) rfl (Nat.le_of_ble_eq_true rfl) dX0_feed_11 (c2 := 0) (s2 := 0) rfl rfl (fun x5 => ?_)
    have k6 := x5 _ 19000 (by decide) (Or.inr (by decide)) hv6
    refine z_i2l (pc := 14) C dX0_feed_14 ?_
    refine z_lsw (pc := 15) C k6 (by decide +kernel) dX0_feed_15 ?_
    refine z_goto (pc := 16) C dX0_feed_16 (tgt := 23) (by decide) ?_
    refine z_iconst (pc := 23) C dX0_feed_23 ?_
    cases h
    exact z_iret (pc := 24) C rfl (show 0 ≤ 1 from by decide) (show 0 ≤ 6 from by decide) dX0_feed_24
  · by_cases c7 : m_kd M3 q2 = 114
    · have h := itt c7 h
      refine kX0_39 (pc := 11) (st := [vI 0, .ref v6]) C rfl (rm := { frames := 7, cells := 1, slots := 6, locals := 114 }) (r := q2) (ct_X1_feed C.2.1 v0 v1 v2 v3 v4 v5 M _ _ hv0 e4) ⟨by decide, by decide, Nat.le_trans (show 1 ≤ 1 from by decide) hR.1, Nat.le_trans (show 6 ≤ 6 from by decide) hR.2⟩ (Or.inl hv0) (Nat.le_of_ble_eq_true rfl) dX0_feed_11 (e := 14) (hpc := 19) (by decide) (Or.inr c7) (Or.inr ⟨by decide, by decide, 14, by decide, q533, Or.inl ⟨rfl, rfl⟩⟩) (c2 := 1) (s2 := 6) rfl rfl (fun x8 => ?_)
      refine z_astore (pc := 19) C (lv' := [(0, .ref v0), (1, vI v1), (2, vI v2), (3, vI v3), (4, vI v4), (5, vI v5), (6, .ref v6), (7, .ref q2)]) (by decide) rfl dX0_feed_19 ?_
      refine z_iconst (pc := 21) C dX0_feed_21 ?_
      cases h
      exact z_iret (pc := 22) C rfl (show 1 ≤ 1 from by decide) (show 6 ≤ 6 from by decide) dX0_feed_22
    · have h := itf c7 h
      cases h
def d_X1_trim (v0 : Nat) (v1 : Int) (M : Mem) : Option ((Int ⊕ Nat) × Mem) :=
  bT (d_X1_need (d_X1_isIn (w32 v1) 0 (w32 (m_i M 115 v0 0))) M) fun r2 M3 => 
  some (.inl (m_i M3 115 v0 0), (m_si M3 115 v0 0 v1))
theorem ct_X1_trim {l : Launch} {S0 : State} {D : va_G} {cA : Nat → ClassId} (hG : x_G l S0 D cA) (v0 : Nat) (v1 : Int) (M : Mem) (r : Int ⊕ Nat) (M' : Mem) (hv0 : m_kd M v0 = 1) (h : d_X1_trim v0 v1 M = some (r, M')) : x_Me l S0 D cA yX1_trim cX1_trim 3 (some .int) [] ({ frames := 7, cells := (ocN r 0 1), slots := (ocN r 0 6), locals := 114 }) [.ref v0, vI v1] M (ocI r) M' := by
  refine x_begin (F := 7) (Lo := 114) (mc := (ocN r 0 1)) (ms := (ocN r 0 6)) hG (Nat.le_of_ble_eq_true rfl) (lv := [(0, .ref v0), (1, vI v1)]) rfl rfl rfl rfl rfl (fun X e1 e2 e3 e4 e5 C => ?_)
  have hR : _ ∧ _ := ⟨Nat.le_of_eq (congrArg Room.cells e5).symm, Nat.le_of_eq (congrArg Room.slots e5).symm⟩
  unfold d_X1_trim at h
  refine z_iload_n (pc := 0) C 1 rfl dX1_trim_0 ?_
  refine z_i2l (pc := 1) C dX1_trim_1 ?_
  refine z_lconst (pc := 2) C (x := 0) (by decide +kernel) dX1_trim_2 ?_
  refine z_aload_n (pc := 3) C 0 rfl dX1_trim_3 ?_
  refine gX1_115 (pc := 4) C rfl (Or.inl hv0) rfl dX1_trim_4 ?_
  refine z_i2l (pc := 7) C dX1_trim_7 ?_
  refine cX1_159 (pc := 8) (st := []) (st1 := [vI (d_X1_isIn (w32 v1) 0 (w32 (m_i M 115 v0 0)))]) C rfl (rm := { frames := 1, cells := 0, slots := 0, locals := 24 }) (ct_X1_isIn C.2.1 (w32 v1) 0 (w32 (m_i M 115 v0 0)) M _  rfl) ⟨by decide, by decide, Nat.zero_le _, Nat.zero_le _⟩ rfl (Nat.le_of_ble_eq_true rfl) dX1_trim_8 (c2 := 0) (s2 := 0) rfl rfl (fun _ => ?_)
  rcases bTs h with ⟨x6, e4, er⟩ | ⟨r2, M3, e4, h⟩
  · subst er; exact tX1_164 (pc := 11) C rfl (rm := { frames := 6, cells := 1, slots := 6, locals := 90 }) (ct_X1_need C.2.1 (d_X1_isIn (w32 v1) 0 (w32 (m_i M 115 v0 0))) M _ _  e4) ⟨by decide, by decide, Nat.le_trans (show 1 ≤ 1 from by decide) hR.1, Nat.le_trans (show 6 ≤ 6 from by decide) hR.2⟩ (Nat.le_of_ble_eq_true rfl) dX1_trim_11 (by decide) (show 1 ≤ 1 from by decide) (show 6 ≤ 6 from by decide)
  refine cX1_164 (pc := 11) (st := []) (st1 := []) C rfl (rm := { frames := 6, cells := 0, slots := 0, locals := 90 }) (ct_X1_need C.2.1 (d_X1_isIn (w32 v1) 0 (w32 (m_i M 115 v0 0))) M _ _  e4) ⟨by decide, by decide, Nat.zero_le _, Nat.zero_le _⟩ rfl (Nat.le_of_ble_eq_true rfl) dX1_trim_11 (c2 := 0) (s2 := 0) rfl rfl (fun x5 => ?_)
  have k7 := x5 _ 1 (by decide) (Or.inl (by decide)) hv0
  refine z_aload_n (pc := 14) C 0 rfl dX1_trim_14 ?_
  refine gX1_115 (pc := 15) C rfl (Or.inl k7) rfl dX1_trim_15 ?_
  refine z_istore_n (pc := 18) C (lv' := [(0, .ref v0), (1, vI v1), (2, vI (m_i M3 115 v0 0))]) (by decide) rfl dX1_trim_18 ?_
  refine z_aload_n (pc := 19) C 0 rfl dX1_trim_19 ?_
  refine z_iload_n (pc := 20) C 1 rfl dX1_trim_20 ?_
  refine pX1_115 (pc := 21) C rfl (Or.inl k7) dX1_trim_21 ?_
  refine z_iload_n (pc := 24) C 2 rfl dX1_trim_24 ?_
  cases h
  exact z_iret (pc := 25) C rfl (show 0 ≤ 0 from by decide) (show 0 ≤ 0 from by decide) dX1_trim_25
def d_X0_trim (v0 : Nat) (v1 : Int) (v2 : Nat) (M : Mem) : Option (Int × Mem) :=
  bC (d_X1_trim v0 v1 M) (fun r1 M3 =>
    some (0, (m_si M3 9000 v2 (ixn 0) (w32 r1)))) (fun q2 M3 =>
    if m_kd M3 q2 = 113 then
      some (1, M3)
    else
      none)
theorem ct_X0_trim {l : Launch} {S0 : State} {D : va_G} {cA : Nat → ClassId} (hG : x_G l S0 D cA) (v0 : Nat) (v1 : Int) (v2 : Nat) (M : Mem) (r : Int) (M' : Mem) (hv0 : m_kd M v0 = 1) (hv2 : m_kd M v2 = 19000) (h : d_X0_trim v0 v1 v2 M = some (r, M')) : x_Me l S0 D cA yX0_trim cX0_trim 4 (some .int) [(0, 9, 12, 13)] ({ frames := 8, cells := 1, slots := 6, locals := 140 }) [.ref v0, vI v1, .ref v2] M (.returned (some (vI r))) M' := by
  refine x_begin (F := 8) (Lo := 140) (mc := 1) (ms := 6) hG (Nat.le_of_ble_eq_true rfl) (lv := [(0, .ref v0), (1, vI v1), (2, .ref v2)]) rfl rfl rfl rfl rfl (fun X e1 e2 e3 e4 e5 C => ?_)
  have hR : _ ∧ _ := ⟨Nat.le_of_eq (congrArg Room.cells e5).symm, Nat.le_of_eq (congrArg Room.slots e5).symm⟩
  unfold d_X0_trim at h
  refine z_aload_n (pc := 0) C 2 rfl dX0_trim_0 ?_
  refine z_iconst (pc := 1) C dX0_trim_1 ?_
  refine z_aload_n (pc := 2) C 0 rfl dX0_trim_2 ?_
  refine z_iload_n (pc := 3) C 1 rfl dX0_trim_3 ?_
  rcases bCs h with ⟨r1, M3, e4, h⟩ | ⟨q2, M3, e4, h⟩
  · refine cX0_43 (pc := 4) (st := [vI 0, .ref v2]) (st1 := [vI r1, vI 0, .ref v2]) C rfl (rm := { frames := 7, cells := 0, slots := 0, locals := 114 }) (ct_X1_trim C.2.1 v0 v1 M _ _ hv0 e4) ⟨by decide, by decide, Nat.zero_le _, Nat.zero_le _⟩ (Or.inl hv0) rfl (Nat.le_of_ble_eq_true rfl) dX0_trim_4 (c2 := 0) (s2 := 0) rfl rfl (fun x5 => ?_)
    have k6 := x5 _ 19000 (by decide) (Or.inr (by decide)) hv2
    refine z_i2l (pc := 7) C dX0_trim_7 ?_
    refine z_lsw (pc := 8) C k6 (by decide +kernel) dX0_trim_8 ?_
    refine z_goto (pc := 9) C dX0_trim_9 (tgt := 15) (by decide) ?_
    refine z_iconst (pc := 15) C dX0_trim_15 ?_
    cases h
    exact z_iret (pc := 16) C rfl (show 0 ≤ 1 from by decide) (show 0 ≤ 6 from by decide) dX0_trim_16
  · by_cases c7 : m_kd M3 q2 = 113
    · have h := itt c7 h
      refine kX0_43 (pc := 4) (st := [vI 0, .ref v2]) C rfl (rm := { frames := 7, cells := 1, slots := 6, locals := 114 }) (r := q2) (ct_X1_trim C.2.1 v0 v1 M _ _ hv0 e4) ⟨by decide, by decide, Nat.le_trans (show 1 ≤ 1 from by decide) hR.1, Nat.le_trans (show 6 ≤ 6 from by decide) hR.2⟩ (Or.inl hv0) (Nat.le_of_ble_eq_true rfl) dX0_trim_4 (e := 13) (hpc := 12) (by decide) (Or.inr c7) (Or.inr ⟨by decide, by decide, 13, by decide, q447, Or.inl ⟨rfl, rfl⟩⟩) (c2 := 1) (s2 := 6) rfl rfl (fun x8 => ?_)
      refine z_astore_n (pc := 12) C (lv' := [(0, .ref v0), (1, vI v1), (2, .ref v2), (3, .ref q2)]) (by decide) rfl dX0_trim_12 ?_
      refine z_iconst (pc := 13) C dX0_trim_13 ?_
      cases h
      exact z_iret (pc := 14) C rfl (show 1 ≤ 1 from by decide) (show 6 ≤ 6 from by decide) dX0_trim_14
    · have h := itf c7 h
      cases h
def d_X6_init (v0 : Nat) (v1 : Nat) (M : Mem) : Option (Int × Mem) :=
  if x_whole (m_sr M 604 v0 0 (some v1)) v0 6 = true then 
  bR (m_r (m_sr M 604 v0 0 (some v1)) 604 v0 0) fun q10 => 
  if m_kd (m_se (m_sr M 604 v0 0 (some v1)) v0 6) q10 = 1 then 
  bR (m_r M 113 q10 0) fun q13 => 
  some (0, (m_sr (m_se (m_sr M 604 v0 0 (some v1)) v0 6) 600 v0 0 (some q13))) else none else none
theorem ct_X6_init {l : Launch} {S0 : State} {D : va_G} {cA : Nat → ClassId} (hG : x_G l S0 D cA) (v0 : Nat) (v1 : Nat) (M : Mem) (r : Int) (M' : Mem) (hv0 : m_kd M v0 = 106) (hv1 : x_isK M v1 1) (h : d_X6_init v0 v1 M = some (r, M')) : x_Me l S0 D cA yX6_init cX6_init 2 none [] ({ frames := 1, cells := 0, slots := 0, locals := 24 }) [.ref v0, .ref v1] M (.returned none) M' := by
  refine x_begin (F := 1) (Lo := 24) (mc := 0) (ms := 0) hG (Nat.le_of_ble_eq_true rfl) (lv := [(0, .ref v0), (1, .ref v1)]) rfl rfl rfl rfl rfl (fun X e1 e2 e3 e4 e5 C => ?_)
  unfold d_X6_init at h
  refine z_aload_n (pc := 0) C 0 rfl dX6_init_0 ?_
  refine z_aload_n (pc := 1) C 1 rfl dX6_init_1 ?_
  refine pX6_604 (pc := 2) C rfl rfl (Or.inr hv0) (x_rku (by decide) (by decide) hv1) dX6_init_2 ?_
  refine z_aload_n (pc := 5) C 0 rfl dX6_init_5 ?_
  refine z_obj (pc := 6) C q696 q139 q140 (by decide) (by decide) (by decide) dX6_init_6 ?_
  obtain ⟨c6, h⟩ := ifn h
  refine z_sealW (k := 6) v0 hv0 (by decide) (by decide) c6 (fun k7 x8 => ?_)
  have k9 := x_sk.u hv1 x8 (by decide) (by decide)
  refine z_aload_n (pc := 9) C 0 rfl dX6_init_9 ?_
  refine z_aload_n (pc := 10) C 0 rfl dX6_init_10 ?_
  obtain ⟨q10, e11, h⟩ := bRs h
  refine gX6_604 (pc := 11) C rfl (Or.inl k7) e11 dX6_init_11 ?_
  obtain ⟨c12, h⟩ := ifn h
  obtain ⟨q13, e14, h⟩ := bRs h
  refine gX6_113 (pc := 14) C rfl (Or.inl c12) e14 dX6_init_14 (fun k15 => ?_)
  refine pX6_600 (pc := 17) C rfl rfl (Or.inl k7) (x_rkk (k := 2) k15 (by unfold x_rk; decide)) dX6_init_17 ?_
  cases h
  exact z_vret (pc := 20) C rfl (show 0 ≤ 0 from by decide) (show 0 ≤ 0 from by decide) dX6_init_20
def d_X2_begin (v0 : Nat) (M : Mem) : Option (Int × Mem) :=
  some (0, (m_si (m_si (m_si M 200 v0 0 0) 201 v0 0 0) 208 v0 0 0))
theorem ct_X2_begin {l : Launch} {S0 : State} {D : va_G} {cA : Nat → ClassId} (hG : x_G l S0 D cA) (v0 : Nat) (M : Mem) (r : Int) (M' : Mem) (hv0 : m_kd M v0 = 2) (h : d_X2_begin v0 M = some (r, M')) : x_Me l S0 D cA yX2_begin cX2_begin 1 none [] ({ frames := 1, cells := 0, slots := 0, locals := 24 }) [.ref v0] M (.returned none) M' := by
  refine x_begin (F := 1) (Lo := 24) (mc := 0) (ms := 0) hG (Nat.le_of_ble_eq_true rfl) (lv := [(0, .ref v0)]) rfl rfl rfl rfl rfl (fun X e1 e2 e3 e4 e5 C => ?_)
  unfold d_X2_begin at h
  refine z_aload_n (pc := 0) C 0 rfl dX2_begin_0 ?_
  refine z_iconst (pc := 1) C dX2_begin_1 ?_
  refine pX2_200 (pc := 2) C rfl (Or.inl hv0) dX2_begin_2 ?_
  refine z_aload_n (pc := 5) C 0 rfl dX2_begin_5 ?_
  refine z_iconst (pc := 6) C dX2_begin_6 ?_
  refine pX2_201 (pc := 7) C rfl (Or.inl hv0) dX2_begin_7 ?_
  refine z_aload_n (pc := 10) C 0 rfl dX2_begin_10 ?_
  refine z_iconst (pc := 11) C dX2_begin_11 ?_
  refine pX2_208 (pc := 12) C rfl (Or.inl hv0) dX2_begin_12 ?_
  cases h
  exact z_vret (pc := 15) C rfl (show 0 ≤ 0 from by decide) (show 0 ≤ 0 from by decide) dX2_begin_15
def d_X6_byteAt (v0 : Nat) (v1 : Int) (M : Mem) : Option Int :=
  bR (m_r M 604 v0 0) fun q5 => 
  if m_kd M q5 = 1 then 
  if w32 (m_i M 115 q5 0) ≤ w32 v1 then
    some 0
  else
    bR (m_r M 604 v0 0) fun q9 => 
    if m_kd M q9 = 1 then 
    if inb v1 1200 then 
    some (m_i M 114 q9 (ixn v1)) else none else none else none
theorem ct_X6_byteAt {l : Launch} {S0 : State} {D : va_G} {cA : Nat → ClassId} (hG : x_G l S0 D cA) (v0 : Nat) (v1 : Int) (M : Mem) (r : Int) (hv0 : m_kd M v0 = 6) (h : d_X6_byteAt v0 v1 M = some r) : x_Me l S0 D cA yX6_byteAt cX6_byteAt 2 (some .int) [] ({ frames := 1, cells := 0, slots := 0, locals := 24 }) [.ref v0, vI v1] M (.returned (some (vI r))) M := by
  refine x_begin (F := 1) (Lo := 24) (mc := 0) (ms := 0) hG (Nat.le_of_ble_eq_true rfl) (lv := [(0, .ref v0), (1, vI v1)]) rfl rfl rfl rfl rfl (fun X e1 e2 e3 e4 e5 C => ?_)
  unfold d_X6_byteAt at h
  refine z_iload_n (pc := 0) C 1 rfl dX6_byteAt_0 ?_
  refine z_aload_n (pc := 1) C 0 rfl dX6_byteAt_1 ?_
  obtain ⟨q5, e6, h⟩ := bRs h
  refine gX6_604 (pc := 2) C rfl (Or.inl hv0) e6 dX6_byteAt_2 ?_
  obtain ⟨c7, h⟩ := ifn h
  refine gX6_115 (pc := 5) C rfl (Or.inl c7) rfl dX6_byteAt_5 ?_
  refine z_ic_ge (pc := 8) C dX6_byteAt_8 (tgt := 23) (by decide) (fun c8 => ?_) (fun c8 => ?_)
  · have h := itt c8 h
    refine z_iconst (pc := 23) C dX6_byteAt_23 ?_
    cases h
    exact z_iret (pc := 24) C rfl (show 0 ≤ 0 from by decide) (show 0 ≤ 0 from by decide) dX6_byteAt_24
  · have h := itf c8 h
    refine z_aload_n (pc := 11) C 0 rfl dX6_byteAt_11 ?_
    obtain ⟨q9, e10, h⟩ := bRs h
    refine gX6_604 (pc := 12) C rfl (Or.inl hv0) e10 dX6_byteAt_12 ?_
    obtain ⟨c11, h⟩ := ifn h
    refine gX6_114 (pc := 15) C rfl c11 dX6_byteAt_15 ?_
    refine z_iload_n (pc := 18) C 1 rfl dX6_byteAt_18 ?_
    obtain ⟨c12, h⟩ := ifn h
    refine z_baO (pc := 19) (k := 1) (j := 14) C 114 rfl (by decide) (by decide) (by decide) rfl rfl rfl rfl c11 c12 rfl dX6_byteAt_19 ?_
    refine z_goto (pc := 20) C dX6_byteAt_20 (tgt := 24) (by decide) ?_
    cases h
    exact z_iret (pc := 24) C rfl (show 0 ≤ 0 from by decide) (show 0 ≤ 0 from by decide) dX6_byteAt_24
def d_X6_isLetter (v0 : Nat) (v1 : Int) (M : Mem) : Int :=
  if w32 v1 < w32 97 then
    0
  else
    if w32 122 < w32 v1 then
      0
    else
      1
theorem ct_X6_isLetter {l : Launch} {S0 : State} {D : va_G} {cA : Nat → ClassId} (hG : x_G l S0 D cA) (v0 : Nat) (v1 : Int) (M : Mem) (r : Int) (hv0 : m_kd M v0 = 6) (h : d_X6_isLetter v0 v1 M = r) : x_Me l S0 D cA yX6_isLetter cX6_isLetter 2 (some .boolean) [] ({ frames := 1, cells := 0, slots := 0, locals := 24 }) [.ref v0, vI v1] M (.returned (some (vI r))) M := by
  refine x_begin (F := 1) (Lo := 24) (mc := 0) (ms := 0) hG (Nat.le_of_ble_eq_true rfl) (lv := [(0, .ref v0), (1, vI v1)]) rfl rfl rfl rfl rfl (fun X e1 e2 e3 e4 e5 C => ?_)
  unfold d_X6_isLetter at h
  refine z_iload_n (pc := 0) C 1 rfl dX6_isLetter_0 ?_
  refine z_bipush (pc := 1) C (by decide +kernel) dX6_isLetter_1 ?_
  refine z_ic_lt (pc := 3) C dX6_isLetter_3 (tgt := 16) (by decide) (fun c1 => ?_) (fun c1 => ?_)
  · have h := itt c1 h
    refine z_iconst (pc := 16) C dX6_isLetter_16 ?_
    subst h
    exact z_zret (pc := 17) C rfl (Or.inl rfl) (show 0 ≤ 0 from by decide) (show 0 ≤ 0 from by decide) dX6_isLetter_17
  · have h := itf c1 h
    refine z_iload_n (pc := 6) C 1 rfl dX6_isLetter_6 ?_
    refine z_bipush (pc := 7) C (by decide +kernel) dX6_isLetter_7 ?_
    refine z_ic_gt (pc := 9) C dX6_isLetter_9 (tgt := 16) (by decide) (fun c2 => ?_) (fun c2 => ?_)
    · have h := itt c2 h
      refine z_iconst (pc := 16) C dX6_isLetter_16 ?_
      subst h
      exact z_zret (pc := 17) C rfl (Or.inl rfl) (show 0 ≤ 0 from by decide) (show 0 ≤ 0 from by decide) dX6_isLetter_17
    · have h := itf c2 h
      refine z_iconst (pc := 12) C dX6_isLetter_12 ?_
      refine z_goto (pc := 13) C dX6_isLetter_13 (tgt := 17) (by decide) ?_
      subst h
      exact z_zret (pc := 17) C rfl (Or.inr rfl) (show 0 ≤ 0 from by decide) (show 0 ≤ 0 from by decide) dX6_isLetter_17
def d_X6_isDigit (v0 : Nat) (v1 : Int) (M : Mem) : Int :=
  if w32 v1 < w32 48 then
    0
  else
    if w32 57 < w32 v1 then
      0
    else
      1
theorem ct_X6_isDigit {l : Launch} {S0 : State} {D : va_G} {cA : Nat → ClassId} (hG : x_G l S0 D cA) (v0 : Nat) (v1 : Int) (M : Mem) (r : Int) (hv0 : m_kd M v0 = 6) (h : d_X6_isDigit v0 v1 M = r) : x_Me l S0 D cA yX6_isDigit cX6_isDigit 2 (some .boolean) [] ({ frames := 1, cells := 0, slots := 0, locals := 24 }) [.ref v0, vI v1] M (.returned (some (vI r))) M := by
  refine x_begin (F := 1) (Lo := 24) (mc := 0) (ms := 0) hG (Nat.le_of_ble_eq_true rfl) (lv := [(0, .ref v0), (1, vI v1)]) rfl rfl rfl rfl rfl (fun X e1 e2 e3 e4 e5 C => ?_)
  unfold d_X6_isDigit at h
  refine z_iload_n (pc := 0) C 1 rfl dX6_isDigit_0 ?_
  refine z_bipush (pc := 1) C (by decide +kernel) dX6_isDigit_1 ?_
  refine z_ic_lt (pc := 3) C dX6_isDigit_3 (tgt := 16) (by decide) (fun c1 => ?_) (fun c1 => ?_)
  · have h := itt c1 h
    refine z_iconst (pc := 16) C dX6_isDigit_16 ?_
    subst h
    exact z_zret (pc := 17) C rfl (Or.inl rfl) (show 0 ≤ 0 from by decide) (show 0 ≤ 0 from by decide) dX6_isDigit_17
  · have h := itf c1 h
    refine z_iload_n (pc := 6) C 1 rfl dX6_isDigit_6 ?_
    refine z_bipush (pc := 7) C (by decide +kernel) dX6_isDigit_7 ?_
    refine z_ic_gt (pc := 9) C dX6_isDigit_9 (tgt := 16) (by decide) (fun c2 => ?_) (fun c2 => ?_)
    · have h := itt c2 h
      refine z_iconst (pc := 16) C dX6_isDigit_16 ?_
      subst h
      exact z_zret (pc := 17) C rfl (Or.inl rfl) (show 0 ≤ 0 from by decide) (show 0 ≤ 0 from by decide) dX6_isDigit_17
    · have h := itf c2 h
      refine z_iconst (pc := 12) C dX6_isDigit_12 ?_
      refine z_goto (pc := 13) C dX6_isDigit_13 (tgt := 17) (by decide) ?_
      subst h
      exact z_zret (pc := 17) C rfl (Or.inr rfl) (show 0 ≤ 0 from by decide) (show 0 ≤ 0 from by decide) dX6_isDigit_17
def B_X6_next_313  (v0 : Nat) (v1 : Int) (M : Mem) : Option (Int × Mem) :=
  if w32 v1 = w32 59 then
    some (0, (m_si M 603 v0 0 3))
  else
    if w32 v1 = w32 43 then
      some (0, (m_si M 603 v0 0 3))
    else
      if w32 v1 = w32 45 then
        some (0, (m_si M 603 v0 0 3))
      else
        if w32 v1 = w32 60 then
          some (0, (m_si M 603 v0 0 3))
        else
          if w32 v1 = w32 61 then
            some (0, (m_si M 603 v0 0 3))
          else
            if w32 v1 = w32 62 then
              some (0, (m_si M 603 v0 0 3))
            else
              some (0, (m_si M 603 v0 0 4))
def B_X6_next_303  (v0 : Nat) (v1 : Int) (M : Mem) : Option (Int × Mem) :=
  B_X6_next_313 v0 v1 (m_si M 601 v0 0 ((m_i M 601 v0 0) + 1))
def B_X6_next_284  (v0 : Nat) (v1 : Int) (M : Mem) : Option (Int × Mem) :=
  if w32 v1 = w32 62 then
    bR (d_X6_byteAt v0 (m_i M 601 v0 0) M) fun r27 => 
    if w32 r27 = w32 61 then
      B_X6_next_303 v0 v1 M
    else
      B_X6_next_313 v0 v1 M
  else
    B_X6_next_313 v0 v1 M
def B_X6_next_188 (k188 : Nat → Mem → Option (Int × Mem)) (v0 : Nat) (M : Mem) : Option (Int × Mem) :=
  bR (d_X6_byteAt v0 (m_i M 601 v0 0) M) fun r36 => 
  if w32 (d_X6_isDigit v0 r36 M) = 0 then
    if w32 ((m_i M 601 v0 0) - (m_i M 602 v0 0)) ≤ w32 6 then
      some (0, (m_si M 603 v0 0 2))
    else
      some (0, (m_si M 603 v0 0 4))
  else
    k188 v0 (m_si M 601 v0 0 ((m_i M 601 v0 0) + 1))
def L_X6_next_188  : Nat → Nat → Mem → Option (Int × Mem)
  | 0, _, _ => none
  | n + 1, v0, M => B_X6_next_188 (L_X6_next_188  n) v0 M
def B_X6_next_126 (k126 : Nat → Mem → Option (Int × Mem)) (v0 : Nat) (M : Mem) : Option (Int × Mem) :=
  bR (d_X6_byteAt v0 (m_i M 601 v0 0) M) fun r41 => 
  if w32 (d_X6_isLetter v0 r41 M) = 0 then
    if w32 ((m_i M 601 v0 0) - (m_i M 602 v0 0)) ≤ w32 8 then
      some (0, (m_si M 603 v0 0 1))
    else
      some (0, (m_si M 603 v0 0 4))
  else
    k126 v0 (m_si M 601 v0 0 ((m_i M 601 v0 0) + 1))
def L_X6_next_126  : Nat → Nat → Mem → Option (Int × Mem)
  | 0, _, _ => none
  | n + 1, v0, M => B_X6_next_126 (L_X6_next_126  n) v0 M
def B_X6_next_79  (v0 : Nat) (M : Mem) : Option (Int × Mem) :=
  bR (d_X6_byteAt v0 (m_i M 601 v0 0) (m_si M 602 v0 0 (m_i M 601 v0 0))) fun r9 => 
  bR (m_r M 604 v0 0) fun q11 => 
  if m_kd (m_si M 602 v0 0 (m_i M 601 v0 0)) q11 = 1 then 
  if w32 (m_i M 601 v0 0) < w32 (m_i M 115 q11 0) then
    if w32 (d_X6_isLetter v0 r9 (m_si M 602 v0 0 (m_i M 601 v0 0))) = 0 then
      if w32 (d_X6_isDigit v0 r9 (m_si M 602 v0 0 (m_i M 601 v0 0))) = 0 then
        if w32 r9 = w32 60 then
          bR (d_X6_byteAt v0 ((m_i M 601 v0 0) + 1) (m_si (m_si M 602 v0 0 (m_i M 601 v0 0)) 601 v0 0 ((m_i M 601 v0 0) + 1))) fun r30 => 
          if w32 r30 = w32 61 then
            B_X6_next_303 v0 r9 (m_si (m_si M 602 v0 0 (m_i M 601 v0 0)) 601 v0 0 ((m_i M 601 v0 0) + 1))
          else
            bR (d_X6_byteAt v0 ((m_i M 601 v0 0) + 1) (m_si (m_si M 602 v0 0 (m_i M 601 v0 0)) 601 v0 0 ((m_i M 601 v0 0) + 1))) fun r33 => 
            if w32 r33 = w32 62 then
              B_X6_next_303 v0 r9 (m_si (m_si M 602 v0 0 (m_i M 601 v0 0)) 601 v0 0 ((m_i M 601 v0 0) + 1))
            else
              B_X6_next_284 v0 r9 (m_si (m_si M 602 v0 0 (m_i M 601 v0 0)) 601 v0 0 ((m_i M 601 v0 0) + 1))
        else
          B_X6_next_284 v0 r9 (m_si (m_si M 602 v0 0 (m_i M 601 v0 0)) 601 v0 0 ((m_i M 601 v0 0) + 1))
      else
        L_X6_next_188 FU v0 (m_si M 602 v0 0 (m_i M 601 v0 0))
    else
      L_X6_next_126 FU v0 (m_si M 602 v0 0 (m_i M 601 v0 0))
  else
    some (0, (m_si (m_si M 602 v0 0 (m_i M 601 v0 0)) 603 v0 0 0)) else none
def B_X6_next_0 (k0 : Nat → Mem → Option (Int × Mem)) (v0 : Nat) (M : Mem) : Option (Int × Mem) :=
  bR (m_r M 604 v0 0) fun q5 => 
  if m_kd M q5 = 1 then 
  if w32 (m_i M 115 q5 0) ≤ w32 (m_i M 601 v0 0) then
    B_X6_next_79 v0 M
  else
    bR (d_X6_byteAt v0 (m_i M 601 v0 0) M) fun r46 => 
    if w32 r46 = w32 32 then
      k0 v0 (m_si M 601 v0 0 ((m_i M 601 v0 0) + 1))
    else
      bR (d_X6_byteAt v0 (m_i M 601 v0 0) M) fun r49 => 
      if w32 r49 = w32 9 then
        k0 v0 (m_si M 601 v0 0 ((m_i M 601 v0 0) + 1))
      else
        bR (d_X6_byteAt v0 (m_i M 601 v0 0) M) fun r52 => 
        if w32 r52 = w32 10 then
          k0 v0 (m_si M 601 v0 0 ((m_i M 601 v0 0) + 1))
        else
          bR (d_X6_byteAt v0 (m_i M 601 v0 0) M) fun r55 => 
          if w32 r55 = w32 13 then
            k0 v0 (m_si M 601 v0 0 ((m_i M 601 v0 0) + 1))
          else
            B_X6_next_79 v0 M else none
def L_X6_next_0  : Nat → Nat → Mem → Option (Int × Mem)
  | 0, _, _ => none
  | n + 1, v0, M => B_X6_next_0 (L_X6_next_0  n) v0 M
def d_X6_next (v0 : Nat) (M : Mem) : Option (Int × Mem) :=
  L_X6_next_0 FU v0 M
theorem cB_X6_next_313 {X : x_Ctx} {M0 : Mem} (C : x_CC X 2 49 yX6_next cX6_next 2 none [])  (v0 : Nat) (v1 : Int) (M : Mem) (r : Int) (M' : Mem) (hv0 : m_kd M v0 = 6) (h : B_X6_next_313  v0 v1 M = some (r, M'))  : x_Z X 0 0 (x_QF X M0 (.returned none) M' 0 0) M0 M 2 [(0, .ref v0), (1, vI v1)] 313 [] := by
  unfold B_X6_next_313 at h
  refine z_aload_n (pc := 313) C 0 rfl dX6_next_313 ?_
  refine z_iload_n (pc := 314) C 1 rfl dX6_next_314 ?_
  refine z_bipush (pc := 315) C (by decide +kernel) dX6_next_315 ?_
  refine z_ic_eq (pc := 317) C dX6_next_317 (tgt := 350) (by decide) (fun c21 => ?_) (fun c21 => ?_)
  · have h := itt c21 h
    refine z_iconst (pc := 350) C dX6_next_350 ?_
    refine z_goto (pc := 351) C dX6_next_351 (tgt := 355) (by decide) ?_
    refine pX6_603 (pc := 355) C rfl (Or.inl hv0) dX6_next_355 ?_
    cases h
    exact z_vret (pc := 358) C rfl (show 0 ≤ 0 from by decide) (show 0 ≤ 0 from by decide) dX6_next_358
  · have h := itf c21 h
    refine z_iload_n (pc := 320) C 1 rfl dX6_next_320 ?_
    refine z_bipush (pc := 321) C (by decide +kernel) dX6_next_321 ?_
    refine z_ic_eq (pc := 323) C dX6_next_323 (tgt := 350) (by decide) (fun c22 => ?_) (fun c22 => ?_)
    · have h := itt c22 h
      refine z_iconst (pc := 350) C dX6_next_350 ?_
      refine z_goto (pc := 351) C dX6_next_351 (tgt := 355) (by decide) ?_
      refine pX6_603 (pc := 355) C rfl (Or.inl hv0) dX6_next_355 ?_
      cases h
      exact z_vret (pc := 358) C rfl (show 0 ≤ 0 from by decide) (show 0 ≤ 0 from by decide) dX6_next_358
    · have h := itf c22 h
      refine z_iload_n (pc := 326) C 1 rfl dX6_next_326 ?_
      refine z_bipush (pc := 327) C (by decide +kernel) dX6_next_327 ?_
      refine z_ic_eq (pc := 329) C dX6_next_329 (tgt := 350) (by decide) (fun c23 => ?_) (fun c23 => ?_)
      · have h := itt c23 h
        refine z_iconst (pc := 350) C dX6_next_350 ?_
        refine z_goto (pc := 351) C dX6_next_351 (tgt := 355) (by decide) ?_
        refine pX6_603 (pc := 355) C rfl (Or.inl hv0) dX6_next_355 ?_
        cases h
        exact z_vret (pc := 358) C rfl (show 0 ≤ 0 from by decide) (show 0 ≤ 0 from by decide) dX6_next_358
      · have h := itf c23 h
        refine z_iload_n (pc := 332) C 1 rfl dX6_next_332 ?_
        refine z_bipush (pc := 333) C (by decide +kernel) dX6_next_333 ?_
        refine z_ic_eq (pc := 335) C dX6_next_335 (tgt := 350) (by decide) (fun c24 => ?_) (fun c24 => ?_)
        · have h := itt c24 h
          refine z_iconst (pc := 350) C dX6_next_350 ?_
          refine z_goto (pc := 351) C dX6_next_351 (tgt := 355) (by decide) ?_
          refine pX6_603 (pc := 355) C rfl (Or.inl hv0) dX6_next_355 ?_
          cases h
          exact z_vret (pc := 358) C rfl (show 0 ≤ 0 from by decide) (show 0 ≤ 0 from by decide) dX6_next_358
        · have h := itf c24 h
          refine z_iload_n (pc := 338) C 1 rfl dX6_next_338 ?_
          refine z_bipush (pc := 339) C (by decide +kernel) dX6_next_339 ?_
          refine z_ic_eq (pc := 341) C dX6_next_341 (tgt := 350) (by decide) (fun c25 => ?_) (fun c25 => ?_)
          · have h := itt c25 h
            refine z_iconst (pc := 350) C dX6_next_350 ?_
            refine z_goto (pc := 351) C dX6_next_351 (tgt := 355) (by decide) ?_
            refine pX6_603 (pc := 355) C rfl (Or.inl hv0) dX6_next_355 ?_
            cases h
            exact z_vret (pc := 358) C rfl (show 0 ≤ 0 from by decide) (show 0 ≤ 0 from by decide) dX6_next_358
          · have h := itf c25 h
            refine z_iload_n (pc := 344) C 1 rfl dX6_next_344 ?_
            refine z_bipush (pc := 345) C (by decide +kernel) dX6_next_345 ?_
            refine z_ic_ne (pc := 347) C dX6_next_347 (tgt := 354) (by decide) (fun c26 => ?_) (fun c26 => ?_)
            · have h := itf c26 h
              refine z_iconst (pc := 354) C dX6_next_354 ?_
              refine pX6_603 (pc := 355) C rfl (Or.inl hv0) dX6_next_355 ?_
              cases h
              exact z_vret (pc := 358) C rfl (show 0 ≤ 0 from by decide) (show 0 ≤ 0 from by decide) dX6_next_358
            · have h := itt c26 h
              refine z_iconst (pc := 350) C dX6_next_350 ?_
              refine z_goto (pc := 351) C dX6_next_351 (tgt := 355) (by decide) ?_
              refine pX6_603 (pc := 355) C rfl (Or.inl hv0) dX6_next_355 ?_
              cases h
              exact z_vret (pc := 358) C rfl (show 0 ≤ 0 from by decide) (show 0 ≤ 0 from by decide) dX6_next_358
theorem cB_X6_next_303 {X : x_Ctx} {M0 : Mem} (C : x_CC X 2 49 yX6_next cX6_next 2 none [])  (v0 : Nat) (v1 : Int) (M : Mem) (r : Int) (M' : Mem) (hv0 : m_kd M v0 = 6) (h : B_X6_next_303  v0 v1 M = some (r, M'))  : x_Z X 0 0 (x_QF X M0 (.returned none) M' 0 0) M0 M 2 [(0, .ref v0), (1, vI v1)] 303 [] := by
  unfold B_X6_next_303 at h
  refine z_aload_n (pc := 303) C 0 rfl dX6_next_303 ?_
  refine z_dup (pc := 304) C rfl dX6_next_304 ?_
  refine gX6_601 (pc := 305) C rfl (Or.inl hv0) rfl dX6_next_305 ?_
  refine z_iconst (pc := 308) C dX6_next_308 ?_
  refine z_iadd (pc := 309) C dX6_next_309 ?_
  refine pX6_601 (pc := 310) C rfl (Or.inl hv0) dX6_next_310 ?_
  exact cB_X6_next_313 C v0 v1 (m_si M 601 v0 0 ((m_i M 601 v0 0) + 1)) _ _ hv0 h
theorem cB_X6_next_284 {X : x_Ctx} {M0 : Mem} (C : x_CC X 2 49 yX6_next cX6_next 2 none [])  (v0 : Nat) (v1 : Int) (M : Mem) (r : Int) (M' : Mem) (hv0 : m_kd M v0 = 6) (h : B_X6_next_284  v0 v1 M = some (r, M'))  : x_Z X 0 0 (x_QF X M0 (.returned none) M' 0 0) M0 M 2 [(0, .ref v0), (1, vI v1)] 284 [] := by
  unfold B_X6_next_284 at h
  refine z_iload_n (pc := 284) C 1 rfl dX6_next_284 ?_
  refine z_bipush (pc := 285) C (by decide +kernel) dX6_next_285 ?_
  refine z_ic_ne (pc := 287) C dX6_next_287 (tgt := 313) (by decide) (fun c20 => ?_) (fun c20 => ?_)
  · have h := itf c20 h
    exact cB_X6_next_313 C v0 v1 M _ _ hv0 h
  · have h := itt c20 h
    refine z_aload_n (pc := 290) C 0 rfl dX6_next_290 ?_
    refine z_aload_n (pc := 291) C 0 rfl dX6_next_291 ?_
    refine gX6_601 (pc := 292) C rfl (Or.inl hv0) rfl dX6_next_292 ?_
    obtain ⟨r27, e28, h⟩ := bRs h
    refine cX6_33 (pc := 295) (st := []) (st1 := [vI r27]) C rfl (rm := { frames := 1, cells := 0, slots := 0, locals := 24 }) (ct_X6_byteAt C.2.1 v0 (m_i M 601 v0 0) M _ hv0 e28) ⟨by decide, by decide, Nat.zero_le _, Nat.zero_le _⟩ (Or.inl hv0) rfl (Nat.le_of_ble_eq_true rfl) dX6_next_295 (c2 := 0) (s2 := 0) rfl rfl (fun _ => ?_)
    refine z_bipush (pc := 298) C (by decide +kernel) dX6_next_298 ?_
    refine z_ic_ne (pc := 300) C dX6_next_300 (tgt := 313) (by decide) (fun c29 => ?_) (fun c29 => ?_)
    · have h := itf c29 h
      exact cB_X6_next_313 C v0 v1 M _ _ hv0 h
    · have h := itt c29 h
      exact cB_X6_next_303 C v0 v1 M _ _ hv0 h
theorem cB_X6_next_188 {X : x_Ctx} {M0 : Mem} (C : x_CC X 2 49 yX6_next cX6_next 2 none []) {k188 : Nat → Mem → Option (Int × Mem)} (hk188 : ∀ (v0 : Nat) (M : Mem) (r : Int) (M' : Mem), m_kd M v0 = 6 → k188 v0 M = some (r, M') → x_Z X 0 0 (x_QF X M0 (.returned none) M' 0 0) M0 M 2 [(0, .ref v0)] 188 []) (v0 : Nat) (M : Mem) (r : Int) (M' : Mem) (hv0 : m_kd M v0 = 6) (h : B_X6_next_188 k188 v0 M = some (r, M'))  : x_Z X 0 0 (x_QF X M0 (.returned none) M' 0 0) M0 M 2 [(0, .ref v0)] 188 [] := by
  unfold B_X6_next_188 at h
  refine z_aload_n (pc := 188) C 0 rfl dX6_next_188 ?_
  refine z_aload_n (pc := 189) C 0 rfl dX6_next_189 ?_
  refine z_aload_n (pc := 190) C 0 rfl dX6_next_190 ?_
  refine gX6_601 (pc := 191) C rfl (Or.inl hv0) rfl dX6_next_191 ?_
  obtain ⟨r36, e37, h⟩ := bRs h
  refine cX6_33 (pc := 194) (st := [.ref v0]) (st1 := [vI r36, .ref v0]) C rfl (rm := { frames := 1, cells := 0, slots := 0, locals := 24 }) (ct_X6_byteAt C.2.1 v0 (m_i M 601 v0 0) M _ hv0 e37) ⟨by decide, by decide, Nat.zero_le _, Nat.zero_le _⟩ (Or.inl hv0) rfl (Nat.le_of_ble_eq_true rfl) dX6_next_194 (c2 := 0) (s2 := 0) rfl rfl (fun _ => ?_)
  refine cX6_47 (pc := 197) (st := []) (st1 := [vI (d_X6_isDigit v0 r36 M)]) C rfl (rm := { frames := 1, cells := 0, slots := 0, locals := 24 }) (ct_X6_isDigit C.2.1 v0 r36 M _ hv0 rfl) ⟨by decide, by decide, Nat.zero_le _, Nat.zero_le _⟩ (Or.inl hv0) rfl (Nat.le_of_ble_eq_true rfl) dX6_next_197 (c2 := 0) (s2 := 0) rfl rfl (fun _ => ?_)
  refine z_if_eq (pc := 200) C dX6_next_200 (tgt := 216) (by decide) (fun c39 => ?_) (fun c39 => ?_)
  · have h := itt c39 h
    refine z_aload_n (pc := 216) C 0 rfl dX6_next_216 ?_
    refine z_aload_n (pc := 217) C 0 rfl dX6_next_217 ?_
    refine gX6_601 (pc := 218) C rfl (Or.inl hv0) rfl dX6_next_218 ?_
    refine z_aload_n (pc := 221) C 0 rfl dX6_next_221 ?_
    refine gX6_602 (pc := 222) C rfl (Or.inl hv0) rfl dX6_next_222 ?_
    refine z_isub (pc := 225) C dX6_next_225 ?_
    refine z_bipush (pc := 226) C (by decide +kernel) dX6_next_226 ?_
    refine z_ic_le (pc := 228) C dX6_next_228 (tgt := 235) (by decide) (fun c40 => ?_) (fun c40 => ?_)
    · have h := itt c40 h
      refine z_iconst (pc := 235) C dX6_next_235 ?_
      refine pX6_603 (pc := 236) C rfl (Or.inl hv0) dX6_next_236 ?_
      refine z_goto (pc := 239) C dX6_next_239 (tgt := 358) (by decide) ?_
      cases h
      exact z_vret (pc := 358) C rfl (show 0 ≤ 0 from by decide) (show 0 ≤ 0 from by decide) dX6_next_358
    · have h := itf c40 h
      refine z_iconst (pc := 231) C dX6_next_231 ?_
      refine z_goto (pc := 232) C dX6_next_232 (tgt := 236) (by decide) ?_
      refine pX6_603 (pc := 236) C rfl (Or.inl hv0) dX6_next_236 ?_
      refine z_goto (pc := 239) C dX6_next_239 (tgt := 358) (by decide) ?_
      cases h
      exact z_vret (pc := 358) C rfl (show 0 ≤ 0 from by decide) (show 0 ≤ 0 from by decide) dX6_next_358
  · have h := itf c39 h
    refine z_aload_n (pc := 203) C 0 rfl dX6_next_203 ?_
    refine z_dup (pc := 204) C rfl dX6_next_204 ?_
    refine gX6_601 (pc := 205) C rfl (Or.inl hv0) rfl dX6_next_205 ?_
    refine z_iconst (pc := 208) C dX6_next_208 ?_
    refine z_iadd (pc := 209) C dX6_next_209 ?_
    refine pX6_601 (pc := 210) C rfl (Or.inl hv0) dX6_next_210 ?_
    refine z_goto (pc := 213) C dX6_next_213 (tgt := 188) (by decide) ?_
    exact hk188 v0 (m_si M 601 v0 0 ((m_i M 601 v0 0) + 1)) _ _ hv0 h
theorem cL_X6_next_188 {X : x_Ctx} {M0 : Mem} (C : x_CC X 2 49 yX6_next cX6_next 2 none [])  : ∀ (n : Nat) (v0 : Nat) (M : Mem) (r : Int) (M' : Mem) (hv0 : m_kd M v0 = 6) (h : L_X6_next_188  n v0 M = some (r, M')) , x_Z X 0 0 (x_QF X M0 (.returned none) M' 0 0) M0 M 2 [(0, .ref v0)] 188 [] := by
  intro n
  induction n with
  | zero => intro v0 M r M' hv0 h ; cases h
  | succ n ih => intro v0 M r M' hv0 h ; exact cB_X6_next_188 C (fun v0 M r M' hv0 h  => ih v0 M r M' hv0 h ) v0 M r M' hv0 h 
theorem cB_X6_next_126 {X : x_Ctx} {M0 : Mem} (C : x_CC X 2 49 yX6_next cX6_next 2 none []) {k126 : Nat → Mem → Option (Int × Mem)} (hk126 : ∀ (v0 : Nat) (M : Mem) (r : Int) (M' : Mem), m_kd M v0 = 6 → k126 v0 M = some (r, M') → x_Z X 0 0 (x_QF X M0 (.returned none) M' 0 0) M0 M 2 [(0, .ref v0)] 126 []) (v0 : Nat) (M : Mem) (r : Int) (M' : Mem) (hv0 : m_kd M v0 = 6) (h : B_X6_next_126 k126 v0 M = some (r, M'))  : x_Z X 0 0 (x_QF X M0 (.returned none) M' 0 0) M0 M 2 [(0, .ref v0)] 126 [] := by
  unfold B_X6_next_126 at h
  refine z_aload_n (pc := 126) C 0 rfl dX6_next_126 ?_
  refine z_aload_n (pc := 127) C 0 rfl dX6_next_127 ?_
  refine z_aload_n (pc := 128) C 0 rfl dX6_next_128 ?_
  refine gX6_601 (pc := 129) C rfl (Or.inl hv0) rfl dX6_next_129 ?_
  obtain ⟨r41, e42, h⟩ := bRs h
  refine cX6_33 (pc := 132) (st := [.ref v0]) (st1 := [vI r41, .ref v0]) C rfl (rm := { frames := 1, cells := 0, slots := 0, locals := 24 }) (ct_X6_byteAt C.2.1 v0 (m_i M 601 v0 0) M _ hv0 e42) ⟨by decide, by decide, Nat.zero_le _, Nat.zero_le _⟩ (Or.inl hv0) rfl (Nat.le_of_ble_eq_true rfl) dX6_next_132 (c2 := 0) (s2 := 0) rfl rfl (fun _ => ?_)
  refine cX6_43 (pc := 135) (st := []) (st1 := [vI (d_X6_isLetter v0 r41 M)]) C rfl (rm := { frames := 1, cells := 0, slots := 0, locals := 24 }) (ct_X6_isLetter C.2.1 v0 r41 M _ hv0 rfl) ⟨by decide, by decide, Nat.zero_le _, Nat.zero_le _⟩ (Or.inl hv0) rfl (Nat.le_of_ble_eq_true rfl) dX6_next_135 (c2 := 0) (s2 := 0) rfl rfl (fun _ => ?_)
  refine z_if_eq (pc := 138) C dX6_next_138 (tgt := 154) (by decide) (fun c44 => ?_) (fun c44 => ?_)
  · have h := itt c44 h
    refine z_aload_n (pc := 154) C 0 rfl dX6_next_154 ?_
    refine z_aload_n (pc := 155) C 0 rfl dX6_next_155 ?_
    refine gX6_601 (pc := 156) C rfl (Or.inl hv0) rfl dX6_next_156 ?_
    refine z_aload_n (pc := 159) C 0 rfl dX6_next_159 ?_
    refine gX6_602 (pc := 160) C rfl (Or.inl hv0) rfl dX6_next_160 ?_
    refine z_isub (pc := 163) C dX6_next_163 ?_
    refine z_bipush (pc := 164) C (by decide +kernel) dX6_next_164 ?_
    refine z_ic_le (pc := 166) C dX6_next_166 (tgt := 173) (by decide) (fun c45 => ?_) (fun c45 => ?_)
    · have h := itt c45 h
      refine z_iconst (pc := 173) C dX6_next_173 ?_
      refine pX6_603 (pc := 174) C rfl (Or.inl hv0) dX6_next_174 ?_
      refine z_goto (pc := 177) C dX6_next_177 (tgt := 358) (by decide) ?_
      cases h
      exact z_vret (pc := 358) C rfl (show 0 ≤ 0 from by decide) (show 0 ≤ 0 from by decide) dX6_next_358
    · have h := itf c45 h
      refine z_iconst (pc := 169) C dX6_next_169 ?_
      refine z_goto (pc := 170) C dX6_next_170 (tgt := 174) (by decide) ?_
      refine pX6_603 (pc := 174) C rfl (Or.inl hv0) dX6_next_174 ?_
      refine z_goto (pc := 177) C dX6_next_177 (tgt := 358) (by decide) ?_
      cases h
      exact z_vret (pc := 358) C rfl (show 0 ≤ 0 from by decide) (show 0 ≤ 0 from by decide) dX6_next_358
  · have h := itf c44 h
    refine z_aload_n (pc := 141) C 0 rfl dX6_next_141 ?_
    refine z_dup (pc := 142) C rfl dX6_next_142 ?_
    refine gX6_601 (pc := 143) C rfl (Or.inl hv0) rfl dX6_next_143 ?_
    refine z_iconst (pc := 146) C dX6_next_146 ?_
    refine z_iadd (pc := 147) C dX6_next_147 ?_
    refine pX6_601 (pc := 148) C rfl (Or.inl hv0) dX6_next_148 ?_
    refine z_goto (pc := 151) C dX6_next_151 (tgt := 126) (by decide) ?_
    exact hk126 v0 (m_si M 601 v0 0 ((m_i M 601 v0 0) + 1)) _ _ hv0 h
theorem cL_X6_next_126 {X : x_Ctx} {M0 : Mem} (C : x_CC X 2 49 yX6_next cX6_next 2 none [])  : ∀ (n : Nat) (v0 : Nat) (M : Mem) (r : Int) (M' : Mem) (hv0 : m_kd M v0 = 6) (h : L_X6_next_126  n v0 M = some (r, M')) , x_Z X 0 0 (x_QF X M0 (.returned none) M' 0 0) M0 M 2 [(0, .ref v0)] 126 [] := by
  intro n
  induction n with
  | zero => intro v0 M r M' hv0 h ; cases h
  | succ n ih => intro v0 M r M' hv0 h ; exact cB_X6_next_126 C (fun v0 M r M' hv0 h  => ih v0 M r M' hv0 h ) v0 M r M' hv0 h 
theorem cB_X6_next_79 {X : x_Ctx} {M0 : Mem} (C : x_CC X 2 49 yX6_next cX6_next 2 none [])  (v0 : Nat) (M : Mem) (r : Int) (M' : Mem) (hv0 : m_kd M v0 = 6) (h : B_X6_next_79  v0 M = some (r, M'))  : x_Z X 0 0 (x_QF X M0 (.returned none) M' 0 0) M0 M 2 [(0, .ref v0)] 79 [] := by
  unfold B_X6_next_79 at h
  refine z_aload_n (pc := 79) C 0 rfl dX6_next_79 ?_
  refine z_aload_n (pc := 80) C 0 rfl dX6_next_80 ?_
  refine gX6_601 (pc := 81) C rfl (Or.inl hv0) rfl dX6_next_81 ?_
  refine pX6_602 (pc := 84) C rfl (Or.inl hv0) dX6_next_84 ?_
  refine z_aload_n (pc := 87) C 0 rfl dX6_next_87 ?_
  refine z_aload_n (pc := 88) C 0 rfl dX6_next_88 ?_
  refine gX6_601 (pc := 89) C rfl (Or.inl hv0) (x := m_i M 601 v0 0) ((m_i_ne (by decide)).trans rfl) dX6_next_89 ?_
  obtain ⟨r9, e10, h⟩ := bRs h
  refine cX6_33 (pc := 92) (st := []) (st1 := [vI r9]) C rfl (rm := { frames := 1, cells := 0, slots := 0, locals := 24 }) (ct_X6_byteAt C.2.1 v0 (m_i M 601 v0 0) (m_si M 602 v0 0 (m_i M 601 v0 0)) _ hv0 e10) ⟨by decide, by decide, Nat.zero_le _, Nat.zero_le _⟩ (Or.inl hv0) rfl (Nat.le_of_ble_eq_true rfl) dX6_next_92 (c2 := 0) (s2 := 0) rfl rfl (fun _ => ?_)
  refine z_istore_n (pc := 95) C (lv' := [(0, .ref v0), (1, vI r9)]) (by decide) rfl dX6_next_95 ?_
  refine z_aload_n (pc := 96) C 0 rfl dX6_next_96 ?_
  refine gX6_601 (pc := 97) C rfl (Or.inl hv0) (x := m_i M 601 v0 0) ((m_i_ne (by decide)).trans rfl) dX6_next_97 ?_
  refine z_aload_n (pc := 100) C 0 rfl dX6_next_100 ?_
  obtain ⟨q11, e12, h⟩ := bRs h
  refine gX6_604 (pc := 101) C rfl (Or.inl hv0) e12 dX6_next_101 ?_
  obtain ⟨c13, h⟩ := ifn h
  refine gX6_115 (pc := 104) C rfl (Or.inl c13) (x := m_i M 115 q11 0) ((m_i_ne (by decide)).trans rfl) dX6_next_104 ?_
  refine z_ic_lt (pc := 107) C dX6_next_107 (tgt := 118) (by decide) (fun c14 => ?_) (fun c14 => ?_)
  · have h := itt c14 h
    refine z_aload_n (pc := 118) C 0 rfl dX6_next_118 ?_
    refine z_iload_n (pc := 119) C 1 rfl dX6_next_119 ?_
    refine cX6_43 (pc := 120) (st := []) (st1 := [vI (d_X6_isLetter v0 r9 (m_si M 602 v0 0 (m_i M 601 v0 0)))]) C rfl (rm := { frames := 1, cells := 0, slots := 0, locals := 24 }) (ct_X6_isLetter C.2.1 v0 r9 (m_si M 602 v0 0 (m_i M 601 v0 0)) _ hv0 rfl) ⟨by decide, by decide, Nat.zero_le _, Nat.zero_le _⟩ (Or.inl hv0) rfl (Nat.le_of_ble_eq_true rfl) dX6_next_120 (c2 := 0) (s2 := 0) rfl rfl (fun _ => ?_)
    refine z_if_eq (pc := 123) C dX6_next_123 (tgt := 180) (by decide) (fun c16 => ?_) (fun c16 => ?_)
    · have h := itt c16 h
      refine z_aload_n (pc := 180) C 0 rfl dX6_next_180 ?_
      refine z_iload_n (pc := 181) C 1 rfl dX6_next_181 ?_
      refine cX6_47 (pc := 182) (st := []) (st1 := [vI (d_X6_isDigit v0 r9 (m_si M 602 v0 0 (m_i M 601 v0 0)))]) C rfl (rm := { frames := 1, cells := 0, slots := 0, locals := 24 }) (ct_X6_isDigit C.2.1 v0 r9 (m_si M 602 v0 0 (m_i M 601 v0 0)) _ hv0 rfl) ⟨by decide, by decide, Nat.zero_le _, Nat.zero_le _⟩ (Or.inl hv0) rfl (Nat.le_of_ble_eq_true rfl) dX6_next_182 (c2 := 0) (s2 := 0) rfl rfl (fun _ => ?_)
      refine z_if_eq (pc := 185) C dX6_next_185 (tgt := 242) (by decide) (fun c18 => ?_) (fun c18 => ?_)
      · have h := itt c18 h
        refine z_aload_n (pc := 242) C 0 rfl dX6_next_242 ?_
        refine z_dup (pc := 243) C rfl dX6_next_243 ?_
        refine gX6_601 (pc := 244) C rfl (Or.inl hv0) (x := m_i M 601 v0 0) ((m_i_ne (by decide)).trans rfl) dX6_next_244 ?_
        refine z_iconst (pc := 247) C dX6_next_247 ?_
        refine z_iadd (pc := 248) C dX6_next_248 ?_
        refine pX6_601 (pc := 249) C rfl (Or.inl hv0) dX6_next_249 ?_
        refine z_iload_n (pc := 252) C 1 rfl dX6_next_252 ?_
        refine z_bipush (pc := 253) C (by decide +kernel) dX6_next_253 ?_
        refine z_ic_ne (pc := 255) C dX6_next_255 (tgt := 284) (by decide) (fun c19 => ?_) (fun c19 => ?_)
        · have h := itf c19 h
          exact cB_X6_next_284 C v0 r9 (m_si (m_si M 602 v0 0 (m_i M 601 v0 0)) 601 v0 0 ((m_i M 601 v0 0) + 1)) _ _ hv0 h
        · have h := itt c19 h
          refine z_aload_n (pc := 258) C 0 rfl dX6_next_258 ?_
          refine z_aload_n (pc := 259) C 0 rfl dX6_next_259 ?_
          refine gX6_601 (pc := 260) C rfl (Or.inl hv0) (x := (m_i M 601 v0 0) + 1) (m_i_self _ _ _ _ _) dX6_next_260 ?_
          obtain ⟨r30, e31, h⟩ := bRs h
          refine cX6_33 (pc := 263) (st := []) (st1 := [vI r30]) C rfl (rm := { frames := 1, cells := 0, slots := 0, locals := 24 }) (ct_X6_byteAt C.2.1 v0 ((m_i M 601 v0 0) + 1) (m_si (m_si M 602 v0 0 (m_i M 601 v0 0)) 601 v0 0 ((m_i M 601 v0 0) + 1)) _ hv0 e31) ⟨by decide, by decide, Nat.zero_le _, Nat.zero_le _⟩ (Or.inl hv0) rfl (Nat.le_of_ble_eq_true rfl) dX6_next_263 (c2 := 0) (s2 := 0) rfl rfl (fun _ => ?_)
          refine z_bipush (pc := 266) C (by decide +kernel) dX6_next_266 ?_
          refine z_ic_eq (pc := 268) C dX6_next_268 (tgt := 303) (by decide) (fun c32 => ?_) (fun c32 => ?_)
          · have h := itt c32 h
            exact cB_X6_next_303 C v0 r9 (m_si (m_si M 602 v0 0 (m_i M 601 v0 0)) 601 v0 0 ((m_i M 601 v0 0) + 1)) _ _ hv0 h
          · have h := itf c32 h
            refine z_aload_n (pc := 271) C 0 rfl dX6_next_271 ?_
            refine z_aload_n (pc := 272) C 0 rfl dX6_next_272 ?_
            refine gX6_601 (pc := 273) C rfl (Or.inl hv0) (x := (m_i M 601 v0 0) + 1) (m_i_self _ _ _ _ _) dX6_next_273 ?_
            obtain ⟨r33, e34, h⟩ := bRs h
            refine cX6_33 (pc := 276) (st := []) (st1 := [vI r33]) C rfl (rm := { frames := 1, cells := 0, slots := 0, locals := 24 }) (ct_X6_byteAt C.2.1 v0 ((m_i M 601 v0 0) + 1) (m_si (m_si M 602 v0 0 (m_i M 601 v0 0)) 601 v0 0 ((m_i M 601 v0 0) + 1)) _ hv0 e34) ⟨by decide, by decide, Nat.zero_le _, Nat.zero_le _⟩ (Or.inl hv0) rfl (Nat.le_of_ble_eq_true rfl) dX6_next_276 (c2 := 0) (s2 := 0) rfl rfl (fun _ => ?_)
            refine z_bipush (pc := 279) C (by decide +kernel) dX6_next_279 ?_
            refine z_ic_eq (pc := 281) C dX6_next_281 (tgt := 303) (by decide) (fun c35 => ?_) (fun c35 => ?_)
            · have h := itt c35 h
              exact cB_X6_next_303 C v0 r9 (m_si (m_si M 602 v0 0 (m_i M 601 v0 0)) 601 v0 0 ((m_i M 601 v0 0) + 1)) _ _ hv0 h
            · have h := itf c35 h
              exact cB_X6_next_284 C v0 r9 (m_si (m_si M 602 v0 0 (m_i M 601 v0 0)) 601 v0 0 ((m_i M 601 v0 0) + 1)) _ _ hv0 h
      · have h := itf c18 h
        exact z_lv [0] rfl <| cL_X6_next_188 C FU v0 (m_si M 602 v0 0 (m_i M 601 v0 0)) _ _ hv0 h
    · have h := itf c16 h
      exact z_lv [0] rfl <| cL_X6_next_126 C FU v0 (m_si M 602 v0 0 (m_i M 601 v0 0)) _ _ hv0 h
  · have h := itf c14 h
    refine z_aload_n (pc := 110) C 0 rfl dX6_next_110 ?_
    refine z_iconst (pc := 111) C dX6_next_111 ?_
    refine pX6_603 (pc := 112) C rfl (Or.inl hv0) dX6_next_112 ?_
    refine z_goto (pc := 115) C dX6_next_115 (tgt := 358) (by decide) ?_
    cases h
    exact z_vret (pc := 358) C rfl (show 0 ≤ 0 from by decide) (show 0 ≤ 0 from by decide) dX6_next_358
theorem cB_X6_next_0 {X : x_Ctx} {M0 : Mem} (C : x_CC X 2 49 yX6_next cX6_next 2 none []) {k0 : Nat → Mem → Option (Int × Mem)} (hk0 : ∀ (v0 : Nat) (M : Mem) (r : Int) (M' : Mem), m_kd M v0 = 6 → k0 v0 M = some (r, M') → x_Z X 0 0 (x_QF X M0 (.returned none) M' 0 0) M0 M 2 [(0, .ref v0)] 0 []) (v0 : Nat) (M : Mem) (r : Int) (M' : Mem) (hv0 : m_kd M v0 = 6) (h : B_X6_next_0 k0 v0 M = some (r, M'))  : x_Z X 0 0 (x_QF X M0 (.returned none) M' 0 0) M0 M 2 [(0, .ref v0)] 0 [] := by
  unfold B_X6_next_0 at h
  refine z_aload_n (pc := 0) C 0 rfl dX6_next_0 ?_
  refine gX6_601 (pc := 1) C rfl (Or.inl hv0) rfl dX6_next_1 ?_
  refine z_aload_n (pc := 4) C 0 rfl dX6_next_4 ?_
  obtain ⟨q5, e6, h⟩ := bRs h
  refine gX6_604 (pc := 5) C rfl (Or.inl hv0) e6 dX6_next_5 ?_
  obtain ⟨c7, h⟩ := ifn h
  refine gX6_115 (pc := 8) C rfl (Or.inl c7) rfl dX6_next_8 ?_
  refine z_ic_ge (pc := 11) C dX6_next_11 (tgt := 79) (by decide) (fun c8 => ?_) (fun c8 => ?_)
  · have h := itt c8 h
    exact cB_X6_next_79 C v0 M _ _ hv0 h
  · have h := itf c8 h
    refine z_aload_n (pc := 14) C 0 rfl dX6_next_14 ?_
    refine z_aload_n (pc := 15) C 0 rfl dX6_next_15 ?_
    refine gX6_601 (pc := 16) C rfl (Or.inl hv0) rfl dX6_next_16 ?_
    obtain ⟨r46, e47, h⟩ := bRs h
    refine cX6_33 (pc := 19) (st := []) (st1 := [vI r46]) C rfl (rm := { frames := 1, cells := 0, slots := 0, locals := 24 }) (ct_X6_byteAt C.2.1 v0 (m_i M 601 v0 0) M _ hv0 e47) ⟨by decide, by decide, Nat.zero_le _, Nat.zero_le _⟩ (Or.inl hv0) rfl (Nat.le_of_ble_eq_true rfl) dX6_next_19 (c2 := 0) (s2 := 0) rfl rfl (fun _ => ?_)
    refine z_bipush (pc := 22) C (by decide +kernel) dX6_next_22 ?_
    refine z_ic_eq (pc := 24) C dX6_next_24 (tgt := 66) (by decide) (fun c48 => ?_) (fun c48 => ?_)
    · have h := itt c48 h
      refine z_aload_n (pc := 66) C 0 rfl dX6_next_66 ?_
      refine z_dup (pc := 67) C rfl dX6_next_67 ?_
      refine gX6_601 (pc := 68) C rfl (Or.inl hv0) rfl dX6_next_68 ?_
      refine z_iconst (pc := 71) C dX6_next_71 ?_
      refine z_iadd (pc := 72) C dX6_next_72 ?_
      refine pX6_601 (pc := 73) C rfl (Or.inl hv0) dX6_next_73 ?_
      refine z_goto (pc := 76) C dX6_next_76 (tgt := 0) (by decide) ?_
      exact hk0 v0 (m_si M 601 v0 0 ((m_i M 601 v0 0) + 1)) _ _ hv0 h
    · have h := itf c48 h
      refine z_aload_n (pc := 27) C 0 rfl dX6_next_27 ?_
      refine z_aload_n (pc := 28) C 0 rfl dX6_next_28 ?_
      refine gX6_601 (pc := 29) C rfl (Or.inl hv0) rfl dX6_next_29 ?_
      obtain ⟨r49, e50, h⟩ := bRs h
      refine cX6_33 (pc := 32) (st := []) (st1 := [vI r49]) C rfl (rm := { frames := 1, cells := 0, slots := 0, locals := 24 }) (ct_X6_byteAt C.2.1 v0 (m_i M 601 v0 0) M _ hv0 e50) ⟨by decide, by decide, Nat.zero_le _, Nat.zero_le _⟩ (Or.inl hv0) rfl (Nat.le_of_ble_eq_true rfl) dX6_next_32 (c2 := 0) (s2 := 0) rfl rfl (fun _ => ?_)
      refine z_bipush (pc := 35) C (by decide +kernel) dX6_next_35 ?_
      refine z_ic_eq (pc := 37) C dX6_next_37 (tgt := 66) (by decide) (fun c51 => ?_) (fun c51 => ?_)
      · have h := itt c51 h
        refine z_aload_n (pc := 66) C 0 rfl dX6_next_66 ?_
        refine z_dup (pc := 67) C rfl dX6_next_67 ?_
        refine gX6_601 (pc := 68) C rfl (Or.inl hv0) rfl dX6_next_68 ?_
        refine z_iconst (pc := 71) C dX6_next_71 ?_
        refine z_iadd (pc := 72) C dX6_next_72 ?_
        refine pX6_601 (pc := 73) C rfl (Or.inl hv0) dX6_next_73 ?_
        refine z_goto (pc := 76) C dX6_next_76 (tgt := 0) (by decide) ?_
        exact hk0 v0 (m_si M 601 v0 0 ((m_i M 601 v0 0) + 1)) _ _ hv0 h
      · have h := itf c51 h
        refine z_aload_n (pc := 40) C 0 rfl dX6_next_40 ?_
        refine z_aload_n (pc := 41) C 0 rfl dX6_next_41 ?_
        refine gX6_601 (pc := 42) C rfl (Or.inl hv0) rfl dX6_next_42 ?_
        obtain ⟨r52, e53, h⟩ := bRs h
        refine cX6_33 (pc := 45) (st := []) (st1 := [vI r52]) C rfl (rm := { frames := 1, cells := 0, slots := 0, locals := 24 }) (ct_X6_byteAt C.2.1 v0 (m_i M 601 v0 0) M _ hv0 e53) ⟨by decide, by decide, Nat.zero_le _, Nat.zero_le _⟩ (Or.inl hv0) rfl (Nat.le_of_ble_eq_true rfl) dX6_next_45 (c2 := 0) (s2 := 0) rfl rfl (fun _ => ?_)
        refine z_bipush (pc := 48) C (by decide +kernel) dX6_next_48 ?_
        refine z_ic_eq (pc := 50) C dX6_next_50 (tgt := 66) (by decide) (fun c54 => ?_) (fun c54 => ?_)
        · have h := itt c54 h
          refine z_aload_n (pc := 66) C 0 rfl dX6_next_66 ?_
          refine z_dup (pc := 67) C rfl dX6_next_67 ?_
          refine gX6_601 (pc := 68) C rfl (Or.inl hv0) rfl dX6_next_68 ?_
          refine z_iconst (pc := 71) C dX6_next_71 ?_
          refine z_iadd (pc := 72) C dX6_next_72 ?_
          refine pX6_601 (pc := 73) C rfl (Or.inl hv0) dX6_next_73 ?_
          refine z_goto (pc := 76) C dX6_next_76 (tgt := 0) (by decide) ?_
          exact hk0 v0 (m_si M 601 v0 0 ((m_i M 601 v0 0) + 1)) _ _ hv0 h
        · have h := itf c54 h
          refine z_aload_n (pc := 53) C 0 rfl dX6_next_53 ?_
          refine z_aload_n (pc := 54) C 0 rfl dX6_next_54 ?_
          refine gX6_601 (pc := 55) C rfl (Or.inl hv0) rfl dX6_next_55 ?_
          obtain ⟨r55, e56, h⟩ := bRs h
          refine cX6_33 (pc := 58) (st := []) (st1 := [vI r55]) C rfl (rm := { frames := 1, cells := 0, slots := 0, locals := 24 }) (ct_X6_byteAt C.2.1 v0 (m_i M 601 v0 0) M _ hv0 e56) ⟨by decide, by decide, Nat.zero_le _, Nat.zero_le _⟩ (Or.inl hv0) rfl (Nat.le_of_ble_eq_true rfl) dX6_next_58 (c2 := 0) (s2 := 0) rfl rfl (fun _ => ?_)
          refine z_bipush (pc := 61) C (by decide +kernel) dX6_next_61 ?_
          refine z_ic_ne (pc := 63) C dX6_next_63 (tgt := 79) (by decide) (fun c57 => ?_) (fun c57 => ?_)
          · have h := itf c57 h
            exact cB_X6_next_79 C v0 M _ _ hv0 h
          · have h := itt c57 h
            refine z_aload_n (pc := 66) C 0 rfl dX6_next_66 ?_
            refine z_dup (pc := 67) C rfl dX6_next_67 ?_
            refine gX6_601 (pc := 68) C rfl (Or.inl hv0) rfl dX6_next_68 ?_
            refine z_iconst (pc := 71) C dX6_next_71 ?_
            refine z_iadd (pc := 72) C dX6_next_72 ?_
            refine pX6_601 (pc := 73) C rfl (Or.inl hv0) dX6_next_73 ?_
            refine z_goto (pc := 76) C dX6_next_76 (tgt := 0) (by decide) ?_
            exact hk0 v0 (m_si M 601 v0 0 ((m_i M 601 v0 0) + 1)) _ _ hv0 h
theorem cL_X6_next_0 {X : x_Ctx} {M0 : Mem} (C : x_CC X 2 49 yX6_next cX6_next 2 none [])  : ∀ (n : Nat) (v0 : Nat) (M : Mem) (r : Int) (M' : Mem) (hv0 : m_kd M v0 = 6) (h : L_X6_next_0  n v0 M = some (r, M')) , x_Z X 0 0 (x_QF X M0 (.returned none) M' 0 0) M0 M 2 [(0, .ref v0)] 0 [] := by
  intro n
  induction n with
  | zero => intro v0 M r M' hv0 h ; cases h
  | succ n ih => intro v0 M r M' hv0 h ; exact cB_X6_next_0 C (fun v0 M r M' hv0 h  => ih v0 M r M' hv0 h ) v0 M r M' hv0 h 
theorem ct_X6_next {l : Launch} {S0 : State} {D : va_G} {cA : Nat → ClassId} (hG : x_G l S0 D cA) (v0 : Nat) (M : Mem) (r : Int) (M' : Mem) (hv0 : m_kd M v0 = 6) (h : d_X6_next v0 M = some (r, M')) : x_Me l S0 D cA yX6_next cX6_next 2 none [] ({ frames := 2, cells := 0, slots := 0, locals := 49 }) [.ref v0] M (.returned none) M' := by
  refine x_begin (F := 2) (Lo := 49) (mc := 0) (ms := 0) hG (Nat.le_of_ble_eq_true rfl) (lv := [(0, .ref v0)]) rfl rfl rfl rfl rfl (fun X e1 e2 e3 e4 e5 C => ?_)
  unfold d_X6_next at h
  exact cL_X6_next_0 C FU v0 M _ _ hv0 h
def d_X6_fault (v0 : Nat) (M : Mem) : Option (Nat × Mem) :=
  bN (d_X7_init (m_sz M) (m_i M 602 v0 0) (m_nw M 107)) fun r4 M5 => 
  if m_kd M5 (m_sz M) = 7 then 
  some (m_sz M, M5) else none
theorem ct_X6_fault {l : Launch} {S0 : State} {D : va_G} {cA : Nat → ClassId} (hG : x_G l S0 D cA) (v0 : Nat) (M : Mem) (r : Nat) (M' : Mem) (hv0 : m_kd M v0 = 6) (h : d_X6_fault v0 M = some (r, M')) : x_Me l S0 D cA yX6_fault cX6_fault 1 (some (.object "CensusOffice$Fault")) [] ({ frames := 5, cells := 1, slots := 7, locals := 225 }) [.ref v0] M (.returned (some (.ref r))) M' := by
  refine x_begin (F := 5) (Lo := 225) (mc := 1) (ms := 7) hG (Nat.le_of_ble_eq_true rfl) (lv := [(0, .ref v0)]) rfl rfl rfl rfl rfl (fun X e1 e2 e3 e4 e5 C => ?_)
  have hR : _ ∧ _ := ⟨Nat.le_of_eq (congrArg Room.cells e5).symm, Nat.le_of_eq (congrArg Room.slots e5).symm⟩
  unfold d_X6_fault at h
  refine nX6_7 (pc := 0) C rfl (a := m_sz M) (Nat.le_trans (show 1 ≤ 1 from by decide) hR.1) (Nat.le_trans (show 7 ≤ 7 from by decide) hR.2) dX6_fault_0 (c2 := 1) (s2 := 7) rfl rfl rfl (fun k1 x2 => ?_)
  have k3 := x2.k hv0 (by decide)
  refine z_dup (pc := 3) C rfl dX6_fault_3 ?_
  refine z_aload_n (pc := 4) C 0 rfl dX6_fault_4 ?_
  refine gX6_602 (pc := 5) C rfl (Or.inl k3) (x := m_i M 602 v0 0) (m_i_nw.trans rfl) dX6_fault_5 ?_
  obtain ⟨r4, M5, e6, h⟩ := bNs h
  refine cX6_62 (pc := 8) (st := [.ref (m_sz M)]) C rfl (rm := { frames := 4, cells := 0, slots := 0, locals := 200 }) (ct_X7_init C.2.1 (m_sz M) (m_i M 602 v0 0) (m_nw M 107) _ _ k1 e6) ⟨by decide, by decide, Nat.le_trans (show 1 ≤ 1 from by decide) hR.1, Nat.le_trans (show 7 ≤ 7 from by decide) hR.2⟩ (Nat.le_of_ble_eq_true rfl) dX6_fault_8 (c2 := 1) (s2 := 7) rfl rfl (fun x7 => ?_)
  obtain ⟨c8, h⟩ := ifn h
  cases h
  exact z_aret (pc := 11) C rfl (show 1 ≤ 1 from by decide) (show 7 ≤ 7 from by decide) dX6_fault_11
def d_X6_want (v0 : Nat) (v1 : Int) (M : Mem) : Option ((Int ⊕ Nat) × Mem) :=
  if w32 v1 = 0 then
    bN (d_X6_fault v0 M) fun r2 M3 => 
    if m_kd M3 r2 = 7 then 
    some (.inr r2, M3) else none
  else
    some (.inl 0, M)
theorem ct_X6_want {l : Launch} {S0 : State} {D : va_G} {cA : Nat → ClassId} (hG : x_G l S0 D cA) (v0 : Nat) (v1 : Int) (M : Mem) (r : Int ⊕ Nat) (M' : Mem) (hv0 : m_kd M v0 = 6) (h : d_X6_want v0 v1 M = some (r, M')) : x_Me l S0 D cA yX6_want cX6_want 2 none [] ({ frames := 6, cells := (ocN r 0 1), slots := (ocN r 0 7), locals := 249 }) [.ref v0, vI v1] M (ocV r) M' := by
  refine x_begin (F := 6) (Lo := 249) (mc := (ocN r 0 1)) (ms := (ocN r 0 7)) hG (Nat.le_of_ble_eq_true rfl) (lv := [(0, .ref v0), (1, vI v1)]) rfl rfl rfl rfl rfl (fun X e1 e2 e3 e4 e5 C => ?_)
  have hR : _ ∧ _ := ⟨Nat.le_of_eq (congrArg Room.cells e5).symm, Nat.le_of_eq (congrArg Room.slots e5).symm⟩
  unfold d_X6_want at h
  refine z_iload_n (pc := 0) C 1 rfl dX6_want_0 ?_
  refine z_if_ne (pc := 1) C dX6_want_1 (tgt := 9) (by decide) (fun c1 => ?_) (fun c1 => ?_)
  · have h := itf c1 h
    cases h
    exact z_vret (pc := 9) C rfl (show 0 ≤ 0 from by decide) (show 0 ≤ 0 from by decide) dX6_want_9
  · have h := itt c1 h
    obtain ⟨r2, M3, e4, h⟩ := bNs h
    obtain ⟨c6, h⟩ := ifn h
    cases h
    refine z_aload_n (pc := 4) C 0 rfl dX6_want_4 ?_
    refine cX6_65 (pc := 5) (st := []) (st1 := [.ref r2]) C rfl (rm := { frames := 5, cells := 1, slots := 7, locals := 225 }) (ct_X6_fault C.2.1 v0 M _ _ hv0 e4) ⟨by decide, by decide, Nat.le_trans (show 1 ≤ 1 from by decide) hR.1, Nat.le_trans (show 7 ≤ 7 from by decide) hR.2⟩ (Or.inl hv0) rfl (Nat.le_of_ble_eq_true rfl) dX6_want_5 (c2 := 1) (s2 := 7) rfl rfl (fun x5 => ?_)
    exact z_athrow (pc := 8) C (by decide) (show 1 ≤ 1 from by decide) (show 7 ≤ 7 from by decide) dX6_want_8
def B_X6_is_40 (k40 : Nat → Nat → Int → Int → Mem → Option Int) (v0 : Nat) (v1 : Nat) (v2 : Int) (v3 : Int) (M : Mem) : Option Int :=
  if w32 v2 = 0 then
    if v2 = 0 ∨ v2 = 1 then 
    some v2 else none
  else
    if w32 (x_sz v1) ≤ w32 v3 then
      if v2 = 0 ∨ v2 = 1 then 
      some v2 else none
    else
      bR (d_X6_byteAt v0 ((m_i M 602 v0 0) + v3) M) fun r7 => 
      if inb v3 (x_sz v1) then 
      if w32 r7 = w32 (x_ch v1 (ixn v3)) then
        k40 v0 v1 1 (v3 + 1) M
      else
        k40 v0 v1 0 (v3 + 1) M else none
def L_X6_is_40  : Nat → Nat → Nat → Int → Int → Mem → Option Int
  | 0, _, _, _, _, _ => none
  | n + 1, v0, v1, v2, v3, M => B_X6_is_40 (L_X6_is_40  n) v0 v1 v2 v3 M
def B_X6_is_16  (v0 : Nat) (v1 : Nat) (M : Mem) : Option Int :=
  if w32 ((m_i M 601 v0 0) - (m_i M 602 v0 0)) = w32 (x_sz v1) then
    L_X6_is_40 FU v0 v1 1 0 M
  else
    L_X6_is_40 FU v0 v1 0 0 M
def d_X6_is (v0 : Nat) (v1 : Nat) (M : Mem) : Option Int :=
  if w32 (m_i M 603 v0 0) = w32 1 then
    B_X6_is_16 v0 v1 M
  else
    if w32 (m_i M 603 v0 0) = w32 3 then
      B_X6_is_16 v0 v1 M
    else
      L_X6_is_40 FU v0 v1 0 0 M
theorem cB_X6_is_40 {X : x_Ctx} {M0 : Mem} (C : x_CC X 5 126 yX6_is cX6_is 4 (some .boolean) []) {k40 : Nat → Nat → Int → Int → Mem → Option Int} (hk40 : ∀ (v0 : Nat) (v1 : Nat) (v2 : Int) (v3 : Int) (M : Mem) (r : Int), m_kd M v0 = 6 → v1 < 23 → k40 v0 v1 v2 v3 M = some r → x_Z X 0 0 (x_QF X M0 (.returned (some (vI r))) M 0 0) M0 M 4 [(0, .ref v0), (1, vS (XD X) v1), (2, vI v2), (3, vI v3)] 40 []) (v0 : Nat) (v1 : Nat) (v2 : Int) (v3 : Int) (M : Mem) (r : Int) (hv0 : m_kd M v0 = 6) (hv1 : v1 < 23) (h : B_X6_is_40 k40 v0 v1 v2 v3 M = some r)  : x_Z X 0 0 (x_QF X M0 (.returned (some (vI r))) M 0 0) M0 M 4 [(0, .ref v0), (1, vS (XD X) v1), (2, vI v2), (3, vI v3)] 40 [] := by
  unfold B_X6_is_40 at h
  refine z_iload_n (pc := 40) C 2 rfl dX6_is_40 ?_
  refine z_if_eq (pc := 41) C dX6_is_41 (tgt := 82) (by decide) (fun c3 => ?_) (fun c3 => ?_)
  · have h := itt c3 h
    refine z_iload_n (pc := 82) C 2 rfl dX6_is_82 ?_
    obtain ⟨c4, h⟩ := ifn h
    cases h
    exact z_zret (pc := 83) C rfl c4 (show 0 ≤ 0 from by decide) (show 0 ≤ 0 from by decide) dX6_is_83
  · have h := itf c3 h
    refine z_iload_n (pc := 44) C 3 rfl dX6_is_44 ?_
    refine z_aload_n (pc := 45) C 1 rfl dX6_is_45 ?_
    refine z_callStr (pc := 46) C hv1 (ct_length C.2.1 v1 hv1 M) q782 q779 q780 q781 (by decide +kernel) ⟨by decide +kernel, by decide +kernel⟩ (by decide +kernel) ⟨by decide, by decide, Nat.zero_le _, Nat.zero_le _⟩ (st1 := [vI (x_sz v1), vI v3]) rfl rfl (Nat.le_of_ble_eq_true rfl) dX6_is_46 (fun _ => ?_)
    refine z_ic_ge (pc := 49) C dX6_is_49 (tgt := 82) (by decide) (fun c5 => ?_) (fun c5 => ?_)
    · have h := itt c5 h
      refine z_iload_n (pc := 82) C 2 rfl dX6_is_82 ?_
      obtain ⟨c6, h⟩ := ifn h
      cases h
      exact z_zret (pc := 83) C rfl c6 (show 0 ≤ 0 from by decide) (show 0 ≤ 0 from by decide) dX6_is_83
    · have h := itf c5 h
      refine z_aload_n (pc := 52) C 0 rfl dX6_is_52 ?_
      refine z_aload_n (pc := 53) C 0 rfl dX6_is_53 ?_
      refine gX6_602 (pc := 54) C rfl (Or.inl hv0) rfl dX6_is_54 ?_
      refine z_iload_n (pc := 57) C 3 rfl dX6_is_57 ?_
      refine z_iadd (pc := 58) C dX6_is_58 ?_
      obtain ⟨r7, e8, h⟩ := bRs h
      refine cX6_33 (pc := 59) (st := []) (st1 := [vI r7]) C rfl (rm := { frames := 1, cells := 0, slots := 0, locals := 24 }) (ct_X6_byteAt C.2.1 v0 ((m_i M 602 v0 0) + v3) M _ hv0 e8) ⟨by decide, by decide, Nat.zero_le _, Nat.zero_le _⟩ (Or.inl hv0) rfl (Nat.le_of_ble_eq_true rfl) dX6_is_59 (c2 := 0) (s2 := 0) rfl rfl (fun _ => ?_)
      refine z_aload_n (pc := 62) C 1 rfl dX6_is_62 ?_
      refine z_iload_n (pc := 63) C 3 rfl dX6_is_63 ?_
      obtain ⟨c9, h⟩ := ifn h
      refine z_callStr (pc := 64) C hv1 (ct_charAt C.2.1 v1 hv1 v3 c9 M) q792 q789 q790 q791 (by decide +kernel) ⟨by decide +kernel, by decide +kernel⟩ (show (parseMethodDescriptor yJ7_charAt.desc).map (fun d => d.parameters.length) = some 1 from by decide +kernel) ⟨by decide, by decide, Nat.zero_le _, Nat.zero_le _⟩ (st := [vI r7]) (st1 := [vI (x_ch v1 (ixn v3)), vI r7]) rfl rfl (Nat.le_of_ble_eq_true rfl) dX6_is_64 (fun _ => ?_)
      refine z_ic_ne (pc := 67) C dX6_is_67 (tgt := 74) (by decide) (fun c10 => ?_) (fun c10 => ?_)
      · have h := itf c10 h
        refine z_iconst (pc := 74) C dX6_is_74 ?_
        refine z_istore_n (pc := 75) C (lv' := [(0, .ref v0), (1, vS (XD X) v1), (2, vI 0), (3, vI v3)]) (by decide) rfl dX6_is_75 ?_
        refine z_iinc (pc := 76) C (lv' := [(0, .ref v0), (1, vS (XD X) v1), (2, vI 0), (3, vI (v3 + 1))]) 3 rfl (by decide) rfl dX6_is_76 ?_
        refine z_goto (pc := 79) C dX6_is_79 (tgt := 40) (by decide) ?_
        exact hk40 v0 v1 0 (v3 + 1) M _ hv0 hv1 h
      · have h := itt c10 h
        refine z_iconst (pc := 70) C dX6_is_70 ?_
        refine z_goto (pc := 71) C dX6_is_71 (tgt := 75) (by decide) ?_
        refine z_istore_n (pc := 75) C (lv' := [(0, .ref v0), (1, vS (XD X) v1), (2, vI 1), (3, vI v3)]) (by decide) rfl dX6_is_75 ?_
        refine z_iinc (pc := 76) C (lv' := [(0, .ref v0), (1, vS (XD X) v1), (2, vI 1), (3, vI (v3 + 1))]) 3 rfl (by decide) rfl dX6_is_76 ?_
        refine z_goto (pc := 79) C dX6_is_79 (tgt := 40) (by decide) ?_
        exact hk40 v0 v1 1 (v3 + 1) M _ hv0 hv1 h
theorem cL_X6_is_40 {X : x_Ctx} {M0 : Mem} (C : x_CC X 5 126 yX6_is cX6_is 4 (some .boolean) [])  : ∀ (n : Nat) (v0 : Nat) (v1 : Nat) (v2 : Int) (v3 : Int) (M : Mem) (r : Int) (hv0 : m_kd M v0 = 6) (hv1 : v1 < 23) (h : L_X6_is_40  n v0 v1 v2 v3 M = some r) , x_Z X 0 0 (x_QF X M0 (.returned (some (vI r))) M 0 0) M0 M 4 [(0, .ref v0), (1, vS (XD X) v1), (2, vI v2), (3, vI v3)] 40 [] := by
  intro n
  induction n with
  | zero => intro v0 v1 v2 v3 M r hv0 hv1 h ; cases h
  | succ n ih => intro v0 v1 v2 v3 M r hv0 hv1 h ; exact cB_X6_is_40 C (fun v0 v1 v2 v3 M r hv0 hv1 h  => ih v0 v1 v2 v3 M r hv0 hv1 h ) v0 v1 v2 v3 M r hv0 hv1 h 
theorem cB_X6_is_16 {X : x_Ctx} {M0 : Mem} (C : x_CC X 5 126 yX6_is cX6_is 4 (some .boolean) [])  (v0 : Nat) (v1 : Nat) (M : Mem) (r : Int) (hv0 : m_kd M v0 = 6) (hv1 : v1 < 23) (h : B_X6_is_16  v0 v1 M = some r)  : x_Z X 0 0 (x_QF X M0 (.returned (some (vI r))) M 0 0) M0 M 4 [(0, .ref v0), (1, vS (XD X) v1)] 16 [] := by
  unfold B_X6_is_16 at h
  refine z_aload_n (pc := 16) C 0 rfl dX6_is_16 ?_
  refine gX6_601 (pc := 17) C rfl (Or.inl hv0) rfl dX6_is_17 ?_
  refine z_aload_n (pc := 20) C 0 rfl dX6_is_20 ?_
  refine gX6_602 (pc := 21) C rfl (Or.inl hv0) rfl dX6_is_21 ?_
  refine z_isub (pc := 24) C dX6_is_24 ?_
  refine z_aload_n (pc := 25) C 1 rfl dX6_is_25 ?_
  refine z_callStr (pc := 26) C hv1 (ct_length C.2.1 v1 hv1 M) q782 q779 q780 q781 (by decide +kernel) ⟨by decide +kernel, by decide +kernel⟩ (by decide +kernel) ⟨by decide, by decide, Nat.zero_le _, Nat.zero_le _⟩ (st1 := [vI (x_sz v1), vI ((m_i M 601 v0 0) - (m_i M 602 v0 0))]) rfl rfl (Nat.le_of_ble_eq_true rfl) dX6_is_26 (fun _ => ?_)
  refine z_ic_ne (pc := 29) C dX6_is_29 (tgt := 36) (by decide) (fun c2 => ?_) (fun c2 => ?_)
  · have h := itf c2 h
    refine z_iconst (pc := 36) C dX6_is_36 ?_
    refine z_istore_n (pc := 37) C (lv' := [(0, .ref v0), (1, vS (XD X) v1), (2, vI 0)]) (by decide) rfl dX6_is_37 ?_
    refine z_iconst (pc := 38) C dX6_is_38 ?_
    refine z_istore_n (pc := 39) C (lv' := [(0, .ref v0), (1, vS (XD X) v1), (2, vI 0), (3, vI 0)]) (by decide) rfl dX6_is_39 ?_
    exact cL_X6_is_40 C FU v0 v1 0 0 M _ hv0 hv1 h
  · have h := itt c2 h
    refine z_iconst (pc := 32) C dX6_is_32 ?_
    refine z_goto (pc := 33) C dX6_is_33 (tgt := 37) (by decide) ?_
    refine z_istore_n (pc := 37) C (lv' := [(0, .ref v0), (1, vS (XD X) v1), (2, vI 1)]) (by decide) rfl dX6_is_37 ?_
    refine z_iconst (pc := 38) C dX6_is_38 ?_
    refine z_istore_n (pc := 39) C (lv' := [(0, .ref v0), (1, vS (XD X) v1), (2, vI 1), (3, vI 0)]) (by decide) rfl dX6_is_39 ?_
    exact cL_X6_is_40 C FU v0 v1 1 0 M _ hv0 hv1 h
theorem ct_X6_is {l : Launch} {S0 : State} {D : va_G} {cA : Nat → ClassId} (hG : x_G l S0 D cA) (v0 : Nat) (v1 : Nat) (M : Mem) (r : Int) (hv0 : m_kd M v0 = 6) (hv1 : v1 < 23) (h : d_X6_is v0 v1 M = some r) : x_Me l S0 D cA yX6_is cX6_is 4 (some .boolean) [] ({ frames := 5, cells := 0, slots := 0, locals := 126 }) [.ref v0, vS D v1] M (.returned (some (vI r))) M := by
  refine x_begin (F := 5) (Lo := 126) (mc := 0) (ms := 0) hG (Nat.le_of_ble_eq_true rfl) (lv := [(0, .ref v0), (1, vS D v1)]) rfl rfl rfl rfl rfl (fun X e1 e2 e3 e4 e5 C => ?_)
  subst e3
  unfold d_X6_is at h
  refine z_aload_n (pc := 0) C 0 rfl dX6_is_0 ?_
  refine gX6_603 (pc := 1) C rfl (Or.inl hv0) rfl dX6_is_1 ?_
  refine z_iconst (pc := 4) C dX6_is_4 ?_
  refine z_ic_eq (pc := 5) C dX6_is_5 (tgt := 16) (by decide) (fun c1 => ?_) (fun c1 => ?_)
  · have h := itt c1 h
    exact cB_X6_is_16 C v0 v1 M _ hv0 hv1 h
  · have h := itf c1 h
    refine z_aload_n (pc := 8) C 0 rfl dX6_is_8 ?_
    refine gX6_603 (pc := 9) C rfl (Or.inl hv0) rfl dX6_is_9 ?_
    refine z_iconst (pc := 12) C dX6_is_12 ?_
    refine z_ic_ne (pc := 13) C dX6_is_13 (tgt := 36) (by decide) (fun c11 => ?_) (fun c11 => ?_)
    · have h := itf c11 h
      refine z_iconst (pc := 36) C dX6_is_36 ?_
      refine z_istore_n (pc := 37) C (lv' := [(0, .ref v0), (1, vS (XD X) v1), (2, vI 0)]) (by decide) rfl dX6_is_37 ?_
      refine z_iconst (pc := 38) C dX6_is_38 ?_
      refine z_istore_n (pc := 39) C (lv' := [(0, .ref v0), (1, vS (XD X) v1), (2, vI 0), (3, vI 0)]) (by decide) rfl dX6_is_39 ?_
      exact cL_X6_is_40 C FU v0 v1 0 0 M _ hv0 hv1 h
    · have h := itt c11 h
      exact cB_X6_is_16 C v0 v1 M _ hv0 hv1 h
def d_X6_isName (v0 : Nat) (M : Mem) : Option Int :=
  if w32 (m_i M 603 v0 0) = w32 1 then
    bR (d_X6_is v0 5 M) fun r2 => 
    if w32 r2 = 0 then
      bR (d_X6_is v0 6 M) fun r5 => 
      if w32 r5 = 0 then
        bR (d_X6_is v0 7 M) fun r8 => 
        if w32 r8 = 0 then
          bR (d_X6_is v0 8 M) fun r11 => 
          if w32 r11 = 0 then
            bR (d_X6_is v0 9 M) fun r14 => 
            if w32 r14 = 0 then
              bR (d_X6_is v0 10 M) fun r17 => 
              if w32 r17 = 0 then
                bR (d_X6_is v0 11 M) fun r20 => 
                if w32 r20 = 0 then
                  bR (d_X6_is v0 12 M) fun r23 => 
                  if w32 r23 = 0 then
                    some 1
                  else
                    some 0
                else
                  some 0
              else
                some 0
            else
              some 0
          else
            some 0
        else
          some 0
      else
        some 0
    else
      some 0
  else
    some 0
theorem ct_X6_isName {l : Launch} {S0 : State} {D : va_G} {cA : Nat → ClassId} (hG : x_G l S0 D cA) (v0 : Nat) (M : Mem) (r : Int) (hv0 : m_kd M v0 = 6) (h : d_X6_isName v0 M = some r) : x_Me l S0 D cA yX6_isName cX6_isName 1 (some .boolean) [] ({ frames := 6, cells := 0, slots := 0, locals := 153 }) [.ref v0] M (.returned (some (vI r))) M := by
  refine x_begin (F := 6) (Lo := 153) (mc := 0) (ms := 0) hG (Nat.le_of_ble_eq_true rfl) (lv := [(0, .ref v0)]) rfl rfl rfl rfl rfl (fun X e1 e2 e3 e4 e5 C => ?_)
  unfold d_X6_isName at h
  refine z_aload_n (pc := 0) C 0 rfl dX6_isName_0 ?_
  refine gX6_603 (pc := 1) C rfl (Or.inl hv0) rfl dX6_isName_1 ?_
  refine z_iconst (pc := 4) C dX6_isName_4 ?_
  refine z_ic_ne (pc := 5) C dX6_isName_5 (tgt := 84) (by decide) (fun c1 => ?_) (fun c1 => ?_)
  · have h := itf c1 h
    refine z_iconst (pc := 84) C dX6_isName_84 ?_
    cases h
    exact z_zret (pc := 85) C rfl (Or.inl rfl) (show 0 ≤ 0 from by decide) (show 0 ≤ 0 from by decide) dX6_isName_85
  · have h := itt c1 h
    refine z_aload_n (pc := 8) C 0 rfl dX6_isName_8 ?_
    refine z_lds (pc := 9) C 5 (by decide) rfl dX6_isName_9 ?_
    obtain ⟨r2, e3, h⟩ := bRs h
    refine cX6_69 (pc := 11) (st := []) (st1 := [vI r2]) C rfl (rm := { frames := 5, cells := 0, slots := 0, locals := 126 }) (ct_X6_is C.2.1 v0 5 M _ hv0 (by decide) e3) ⟨by decide, by decide, Nat.zero_le _, Nat.zero_le _⟩ (Or.inl hv0) rfl (Nat.le_of_ble_eq_true rfl) dX6_isName_11 (c2 := 0) (s2 := 0) rfl rfl (fun _ => ?_)
    refine z_if_ne (pc := 14) C dX6_isName_14 (tgt := 84) (by decide) (fun c4 => ?_) (fun c4 => ?_)
    · have h := itf c4 h
      refine z_iconst (pc := 84) C dX6_isName_84 ?_
      cases h
      exact z_zret (pc := 85) C rfl (Or.inl rfl) (show 0 ≤ 0 from by decide) (show 0 ≤ 0 from by decide) dX6_isName_85
    · have h := itt c4 h
      refine z_aload_n (pc := 17) C 0 rfl dX6_isName_17 ?_
      refine z_lds (pc := 18) C 6 (by decide) rfl dX6_isName_18 ?_
      obtain ⟨r5, e6, h⟩ := bRs h
      refine cX6_69 (pc := 20) (st := []) (st1 := [vI r5]) C rfl (rm := { frames := 5, cells := 0, slots := 0, locals := 126 }) (ct_X6_is C.2.1 v0 6 M _ hv0 (by decide) e6) ⟨by decide, by decide, Nat.zero_le _, Nat.zero_le _⟩ (Or.inl hv0) rfl (Nat.le_of_ble_eq_true rfl) dX6_isName_20 (c2 := 0) (s2 := 0) rfl rfl (fun _ => ?_)
      refine z_if_ne (pc := 23) C dX6_isName_23 (tgt := 84) (by decide) (fun c7 => ?_) (fun c7 => ?_)
      · have h := itf c7 h
        refine z_iconst (pc := 84) C dX6_isName_84 ?_
        cases h
        exact z_zret (pc := 85) C rfl (Or.inl rfl) (show 0 ≤ 0 from by decide) (show 0 ≤ 0 from by decide) dX6_isName_85
      · have h := itt c7 h
        refine z_aload_n (pc := 26) C 0 rfl dX6_isName_26 ?_
        refine z_lds (pc := 27) C 7 (by decide) rfl dX6_isName_27 ?_
        obtain ⟨r8, e9, h⟩ := bRs h
        refine cX6_69 (pc := 29) (st := []) (st1 := [vI r8]) C rfl (rm := { frames := 5, cells := 0, slots := 0, locals := 126 }) (ct_X6_is C.2.1 v0 7 M _ hv0 (by decide) e9) ⟨by decide, by decide, Nat.zero_le _, Nat.zero_le _⟩ (Or.inl hv0) rfl (Nat.le_of_ble_eq_true rfl) dX6_isName_29 (c2 := 0) (s2 := 0) rfl rfl (fun _ => ?_)
        refine z_if_ne (pc := 32) C dX6_isName_32 (tgt := 84) (by decide) (fun c10 => ?_) (fun c10 => ?_)
        · have h := itf c10 h
          refine z_iconst (pc := 84) C dX6_isName_84 ?_
          cases h
          exact z_zret (pc := 85) C rfl (Or.inl rfl) (show 0 ≤ 0 from by decide) (show 0 ≤ 0 from by decide) dX6_isName_85
        · have h := itt c10 h
          refine z_aload_n (pc := 35) C 0 rfl dX6_isName_35 ?_
          refine z_lds (pc := 36) C 8 (by decide) rfl dX6_isName_36 ?_
          obtain ⟨r11, e12, h⟩ := bRs h
          refine cX6_69 (pc := 38) (st := []) (st1 := [vI r11]) C rfl (rm := { frames := 5, cells := 0, slots := 0, locals := 126 }) (ct_X6_is C.2.1 v0 8 M _ hv0 (by decide) e12) ⟨by decide, by decide, Nat.zero_le _, Nat.zero_le _⟩ (Or.inl hv0) rfl (Nat.le_of_ble_eq_true rfl) dX6_isName_38 (c2 := 0) (s2 := 0) rfl rfl (fun _ => ?_)
          refine z_if_ne (pc := 41) C dX6_isName_41 (tgt := 84) (by decide) (fun c13 => ?_) (fun c13 => ?_)
          · have h := itf c13 h
            refine z_iconst (pc := 84) C dX6_isName_84 ?_
            cases h
            exact z_zret (pc := 85) C rfl (Or.inl rfl) (show 0 ≤ 0 from by decide) (show 0 ≤ 0 from by decide) dX6_isName_85
          · have h := itt c13 h
            refine z_aload_n (pc := 44) C 0 rfl dX6_isName_44 ?_
            refine z_lds (pc := 45) C 9 (by decide) rfl dX6_isName_45 ?_
            obtain ⟨r14, e15, h⟩ := bRs h
            refine cX6_69 (pc := 47) (st := []) (st1 := [vI r14]) C rfl (rm := { frames := 5, cells := 0, slots := 0, locals := 126 }) (ct_X6_is C.2.1 v0 9 M _ hv0 (by decide) e15) ⟨by decide, by decide, Nat.zero_le _, Nat.zero_le _⟩ (Or.inl hv0) rfl (Nat.le_of_ble_eq_true rfl) dX6_isName_47 (c2 := 0) (s2 := 0) rfl rfl (fun _ => ?_)
            refine z_if_ne (pc := 50) C dX6_isName_50 (tgt := 84) (by decide) (fun c16 => ?_) (fun c16 => ?_)
            · have h := itf c16 h
              refine z_iconst (pc := 84) C dX6_isName_84 ?_
              cases h
              exact z_zret (pc := 85) C rfl (Or.inl rfl) (show 0 ≤ 0 from by decide) (show 0 ≤ 0 from by decide) dX6_isName_85
            · have h := itt c16 h
              refine z_aload_n (pc := 53) C 0 rfl dX6_isName_53 ?_
              refine z_lds (pc := 54) C 10 (by decide) rfl dX6_isName_54 ?_
              obtain ⟨r17, e18, h⟩ := bRs h
              refine cX6_69 (pc := 56) (st := []) (st1 := [vI r17]) C rfl (rm := { frames := 5, cells := 0, slots := 0, locals := 126 }) (ct_X6_is C.2.1 v0 10 M _ hv0 (by decide) e18) ⟨by decide, by decide, Nat.zero_le _, Nat.zero_le _⟩ (Or.inl hv0) rfl (Nat.le_of_ble_eq_true rfl) dX6_isName_56 (c2 := 0) (s2 := 0) rfl rfl (fun _ => ?_)
              refine z_if_ne (pc := 59) C dX6_isName_59 (tgt := 84) (by decide) (fun c19 => ?_) (fun c19 => ?_)
              · have h := itf c19 h
                refine z_iconst (pc := 84) C dX6_isName_84 ?_
                cases h
                exact z_zret (pc := 85) C rfl (Or.inl rfl) (show 0 ≤ 0 from by decide) (show 0 ≤ 0 from by decide) dX6_isName_85
              · have h := itt c19 h
                refine z_aload_n (pc := 62) C 0 rfl dX6_isName_62 ?_
                refine z_lds (pc := 63) C 11 (by decide) rfl dX6_isName_63 ?_
                obtain ⟨r20, e21, h⟩ := bRs h
                refine cX6_69 (pc := 65) (st := []) (st1 := [vI r20]) C rfl (rm := { frames := 5, cells := 0, slots := 0, locals := 126 }) (ct_X6_is C.2.1 v0 11 M _ hv0 (by decide) e21) ⟨by decide, by decide, Nat.zero_le _, Nat.zero_le _⟩ (Or.inl hv0) rfl (Nat.le_of_ble_eq_true rfl) dX6_isName_65 (c2 := 0) (s2 := 0) rfl rfl (fun _ => ?_)
                refine z_if_ne (pc := 68) C dX6_isName_68 (tgt := 84) (by decide) (fun c22 => ?_) (fun c22 => ?_)
                · have h := itf c22 h
                  refine z_iconst (pc := 84) C dX6_isName_84 ?_
                  cases h
                  exact z_zret (pc := 85) C rfl (Or.inl rfl) (show 0 ≤ 0 from by decide) (show 0 ≤ 0 from by decide) dX6_isName_85
                · have h := itt c22 h
                  refine z_aload_n (pc := 71) C 0 rfl dX6_isName_71 ?_
                  refine z_lds (pc := 72) C 12 (by decide) rfl dX6_isName_72 ?_
                  obtain ⟨r23, e24, h⟩ := bRs h
                  refine cX6_69 (pc := 74) (st := []) (st1 := [vI r23]) C rfl (rm := { frames := 5, cells := 0, slots := 0, locals := 126 }) (ct_X6_is C.2.1 v0 12 M _ hv0 (by decide) e24) ⟨by decide, by decide, Nat.zero_le _, Nat.zero_le _⟩ (Or.inl hv0) rfl (Nat.le_of_ble_eq_true rfl) dX6_isName_74 (c2 := 0) (s2 := 0) rfl rfl (fun _ => ?_)
                  refine z_if_ne (pc := 77) C dX6_isName_77 (tgt := 84) (by decide) (fun c25 => ?_) (fun c25 => ?_)
                  · have h := itf c25 h
                    refine z_iconst (pc := 84) C dX6_isName_84 ?_
                    cases h
                    exact z_zret (pc := 85) C rfl (Or.inl rfl) (show 0 ≤ 0 from by decide) (show 0 ≤ 0 from by decide) dX6_isName_85
                  · have h := itt c25 h
                    refine z_iconst (pc := 80) C dX6_isName_80 ?_
                    refine z_goto (pc := 81) C dX6_isName_81 (tgt := 85) (by decide) ?_
                    cases h
                    exact z_zret (pc := 85) C rfl (Or.inr rfl) (show 0 ≤ 0 from by decide) (show 0 ≤ 0 from by decide) dX6_isName_85
def B_X6_nameHere_7 (k7 : Nat → Int → Int → Mem → Option Int) (v0 : Nat) (v1 : Int) (v3 : Int) (M : Mem) : Option Int :=
  if w32 (m_i M 601 v0 0) ≤ w32 v3 then
    some v1
  else
    bR (d_X6_byteAt v0 v3 M) fun r2 => 
    k7 v0 (o64 (l64 v1 8) (w32 r2)) (v3 + 1) M
def L_X6_nameHere_7  : Nat → Nat → Int → Int → Mem → Option Int
  | 0, _, _, _, _ => none
  | n + 1, v0, v1, v3, M => B_X6_nameHere_7 (L_X6_nameHere_7  n) v0 v1 v3 M
def d_X6_nameHere (v0 : Nat) (M : Mem) : Option Int :=
  L_X6_nameHere_7 FU v0 0 (m_i M 602 v0 0) M
theorem cB_X6_nameHere_7 {X : x_Ctx} {M0 : Mem} (C : x_CC X 2 49 yX6_nameHere cX6_nameHere 4 (some .long) []) {k7 : Nat → Int → Int → Mem → Option Int} (hk7 : ∀ (v0 : Nat) (v1 : Int) (v3 : Int) (M : Mem) (r : Int), m_kd M v0 = 6 → k7 v0 v1 v3 M = some r → x_Z X 0 0 (x_QF X M0 (.returned (some (vL r))) M 0 0) M0 M 4 [(0, .ref v0), (1, vL v1), (3, vI v3)] 7 []) (v0 : Nat) (v1 : Int) (v3 : Int) (M : Mem) (r : Int) (hv0 : m_kd M v0 = 6) (h : B_X6_nameHere_7 k7 v0 v1 v3 M = some r)  : x_Z X 0 0 (x_QF X M0 (.returned (some (vL r))) M 0 0) M0 M 4 [(0, .ref v0), (1, vL v1), (3, vI v3)] 7 [] := by
  unfold B_X6_nameHere_7 at h
  refine z_iload_n (pc := 7) C 2 rfl dX6_nameHere_7 ?_
  refine z_aload_n (pc := 8) C 0 rfl dX6_nameHere_8 ?_
  refine gX6_601 (pc := 9) C rfl (Or.inl hv0) rfl dX6_nameHere_9 ?_
  refine z_ic_ge (pc := 12) C dX6_nameHere_12 (tgt := 33) (by decide) (fun c1 => ?_) (fun c1 => ?_)
  · have h := itt c1 h
    refine z_lload_n (pc := 33) C 1 rfl dX6_nameHere_33 ?_
    cases h
    exact z_lret (pc := 34) C rfl (show 0 ≤ 0 from by decide) (show 0 ≤ 0 from by decide) dX6_nameHere_34
  · have h := itf c1 h
    refine z_lload_n (pc := 15) C 1 rfl dX6_nameHere_15 ?_
    refine z_bipush (pc := 16) C (by decide +kernel) dX6_nameHere_16 ?_
    refine z_lshl (pc := 18) C dX6_nameHere_18 ?_
    refine z_aload_n (pc := 19) C 0 rfl dX6_nameHere_19 ?_
    refine z_iload_n (pc := 20) C 2 rfl dX6_nameHere_20 ?_
    obtain ⟨r2, e3, h⟩ := bRs h
    refine cX6_33 (pc := 21) (st := [vL (l64 v1 8)]) (st1 := [vI r2, vL (l64 v1 8)]) C rfl (rm := { frames := 1, cells := 0, slots := 0, locals := 24 }) (ct_X6_byteAt C.2.1 v0 v3 M _ hv0 e3) ⟨by decide, by decide, Nat.zero_le _, Nat.zero_le _⟩ (Or.inl hv0) rfl (Nat.le_of_ble_eq_true rfl) dX6_nameHere_21 (c2 := 0) (s2 := 0) rfl rfl (fun _ => ?_)
    refine z_i2l (pc := 24) C dX6_nameHere_24 ?_
    refine z_lor (pc := 25) C dX6_nameHere_25 ?_
    refine z_lstore_n (pc := 26) C (lv' := [(0, .ref v0), (1, vL (o64 (l64 v1 8) (w32 r2))), (3, vI v3)]) (by decide) rfl dX6_nameHere_26 ?_
    refine z_iinc (pc := 27) C (lv' := [(0, .ref v0), (1, vL (o64 (l64 v1 8) (w32 r2))), (3, vI (v3 + 1))]) 2 rfl (by decide) rfl dX6_nameHere_27 ?_
    refine z_goto (pc := 30) C dX6_nameHere_30 (tgt := 7) (by decide) ?_
    exact hk7 v0 (o64 (l64 v1 8) (w32 r2)) (v3 + 1) M _ hv0 h
theorem cL_X6_nameHere_7 {X : x_Ctx} {M0 : Mem} (C : x_CC X 2 49 yX6_nameHere cX6_nameHere 4 (some .long) [])  : ∀ (n : Nat) (v0 : Nat) (v1 : Int) (v3 : Int) (M : Mem) (r : Int) (hv0 : m_kd M v0 = 6) (h : L_X6_nameHere_7  n v0 v1 v3 M = some r) , x_Z X 0 0 (x_QF X M0 (.returned (some (vL r))) M 0 0) M0 M 4 [(0, .ref v0), (1, vL v1), (3, vI v3)] 7 [] := by
  intro n
  induction n with
  | zero => intro v0 v1 v3 M r hv0 h ; cases h
  | succ n ih => intro v0 v1 v3 M r hv0 h ; exact cB_X6_nameHere_7 C (fun v0 v1 v3 M r hv0 h  => ih v0 v1 v3 M r hv0 h ) v0 v1 v3 M r hv0 h 
theorem ct_X6_nameHere {l : Launch} {S0 : State} {D : va_G} {cA : Nat → ClassId} (hG : x_G l S0 D cA) (v0 : Nat) (M : Mem) (r : Int) (hv0 : m_kd M v0 = 6) (h : d_X6_nameHere v0 M = some r) : x_Me l S0 D cA yX6_nameHere cX6_nameHere 4 (some .long) [] ({ frames := 2, cells := 0, slots := 0, locals := 49 }) [.ref v0] M (.returned (some (vL r))) M := by
  refine x_begin (F := 2) (Lo := 49) (mc := 0) (ms := 0) hG (Nat.le_of_ble_eq_true rfl) (lv := [(0, .ref v0)]) rfl rfl rfl rfl rfl (fun X e1 e2 e3 e4 e5 C => ?_)
  unfold d_X6_nameHere at h
  refine z_lconst (pc := 0) C (x := 0) (by decide +kernel) dX6_nameHere_0 ?_
  refine z_lstore_n (pc := 1) C (lv' := [(0, .ref v0), (1, vL 0)]) (by decide) rfl dX6_nameHere_1 ?_
  refine z_aload_n (pc := 2) C 0 rfl dX6_nameHere_2 ?_
  refine gX6_602 (pc := 3) C rfl (Or.inl hv0) rfl dX6_nameHere_3 ?_
  refine z_istore_n (pc := 6) C (lv' := [(0, .ref v0), (1, vL 0), (3, vI (m_i M 602 v0 0))]) (by decide) rfl dX6_nameHere_6 ?_
  exact cL_X6_nameHere_7 C FU v0 0 (m_i M 602 v0 0) M _ hv0 h
def B_X6_item_5 (k5 : Nat → Int → Int → Int → Mem → Option Int) (v0 : Nat) (v1 : Int) (v3 : Int) (v4 : Int) (M : Mem) : Option Int :=
  bR (m_r M 600 v0 0) fun q10 => 
  if w32 (m_i M 200 q10 0) ≤ w32 v4 then
    some v3
  else
    bR (m_r M 600 v0 0) fun q14 => 
    if inb v4 20 then 
    if w32 1 < w32 (m_i M 202 q14 (ixn v4)) then
      k5 v0 v1 v3 (v4 + 1) M
    else
      bR (m_r M 600 v0 0) fun q19 => 
      if w64 (m_i M 206 q19 (ixn v4)) = w64 v1 then
        k5 v0 v1 v4 (v4 + 1) M
      else
        k5 v0 v1 v3 (v4 + 1) M else none
def L_X6_item_5  : Nat → Nat → Int → Int → Int → Mem → Option Int
  | 0, _, _, _, _, _ => none
  | n + 1, v0, v1, v3, v4, M => B_X6_item_5 (L_X6_item_5  n) v0 v1 v3 v4 M
def d_X6_item (v0 : Nat) (v1 : Int) (M : Mem) : Option Int :=
  L_X6_item_5 FU v0 v1 (-1) 0 M
theorem cB_X6_item_5 {X : x_Ctx} {M0 : Mem} (C : x_CC X 1 24 yX6_item cX6_item 5 (some .int) []) {k5 : Nat → Int → Int → Int → Mem → Option Int} (hk5 : ∀ (v0 : Nat) (v1 : Int) (v3 : Int) (v4 : Int) (M : Mem) (r : Int), m_kd M v0 = 6 → k5 v0 v1 v3 v4 M = some r → x_Z X 0 0 (x_QF X M0 (.returned (some (vI r))) M 0 0) M0 M 5 [(0, .ref v0), (1, vL v1), (3, vI v3), (4, vI v4)] 5 []) (v0 : Nat) (v1 : Int) (v3 : Int) (v4 : Int) (M : Mem) (r : Int) (hv0 : m_kd M v0 = 6) (h : B_X6_item_5 k5 v0 v1 v3 v4 M = some r)  : x_Z X 0 0 (x_QF X M0 (.returned (some (vI r))) M 0 0) M0 M 5 [(0, .ref v0), (1, vL v1), (3, vI v3), (4, vI v4)] 5 [] := by
  unfold B_X6_item_5 at h
  refine z_iload (pc := 5) C 3 rfl dX6_item_5 ?_
  refine z_aload_n (pc := 7) C 0 rfl dX6_item_7 ?_
  obtain ⟨q10, e11, h⟩ := bRs h
  refine gX6_600 (pc := 8) C rfl (Or.inl hv0) e11 dX6_item_8 (fun k12 => ?_)
  refine gX6_200 (pc := 11) C rfl (Or.inl k12) rfl dX6_item_11 ?_
  refine z_ic_ge (pc := 14) C dX6_item_14 (tgt := 55) (by decide) (fun c13 => ?_) (fun c13 => ?_)
  · have h := itt c13 h
    refine z_iload_n (pc := 55) C 2 rfl dX6_item_55 ?_
    cases h
    exact z_iret (pc := 56) C rfl (show 0 ≤ 0 from by decide) (show 0 ≤ 0 from by decide) dX6_item_56
  · have h := itf c13 h
    refine z_aload_n (pc := 17) C 0 rfl dX6_item_17 ?_
    obtain ⟨q14, e15, h⟩ := bRs h
    refine gX6_600 (pc := 18) C rfl (Or.inl hv0) e15 dX6_item_18 (fun k16 => ?_)
    refine gX6_202 (pc := 21) C rfl k16 dX6_item_21 ?_
    refine z_iload (pc := 24) C 3 rfl dX6_item_24 ?_
    obtain ⟨c17, h⟩ := ifn h
    refine z_iaO (pc := 26) (k := 2) (j := 2) C 202 rfl (by decide) (by decide) (by decide) rfl rfl rfl rfl k16 c17 rfl dX6_item_26 ?_
    refine z_iconst (pc := 27) C dX6_item_27 ?_
    refine z_ic_gt (pc := 28) C dX6_item_28 (tgt := 49) (by decide) (fun c18 => ?_) (fun c18 => ?_)
    · have h := itt c18 h
      refine z_iinc (pc := 49) C (lv' := [(0, .ref v0), (1, vL v1), (3, vI v3), (4, vI (v4 + 1))]) 3 rfl (by decide) rfl dX6_item_49 ?_
      refine z_goto (pc := 52) C dX6_item_52 (tgt := 5) (by decide) ?_
      exact hk5 v0 v1 v3 (v4 + 1) M _ hv0 h
    · have h := itf c18 h
      refine z_aload_n (pc := 31) C 0 rfl dX6_item_31 ?_
      obtain ⟨q19, e20, h⟩ := bRs h
      refine gX6_600 (pc := 32) C rfl (Or.inl hv0) e20 dX6_item_32 (fun k21 => ?_)
      refine gX6_206 (pc := 35) C rfl k21 dX6_item_35 ?_
      refine z_iload (pc := 38) C 3 rfl dX6_item_38 ?_
      refine z_laO (pc := 40) (k := 2) (j := 6) C 206 rfl (by decide) (by decide) (by decide) rfl rfl rfl rfl k21 c17 rfl dX6_item_40 ?_
      refine z_lload_n (pc := 41) C 1 rfl dX6_item_41 ?_
      refine z_lc_ne (pc := 42) C dX6_item_42 dX6_item_43 (tgt := 49) (by decide) (fun c22 => ?_) (fun c22 => ?_)
      · have h := itf c22 h
        refine z_iinc (pc := 49) C (lv' := [(0, .ref v0), (1, vL v1), (3, vI v3), (4, vI (v4 + 1))]) 3 rfl (by decide) rfl dX6_item_49 ?_
        refine z_goto (pc := 52) C dX6_item_52 (tgt := 5) (by decide) ?_
        exact hk5 v0 v1 v3 (v4 + 1) M _ hv0 h
      · have h := itt c22 h
        refine z_iload (pc := 46) C 3 rfl dX6_item_46 ?_
        refine z_istore_n (pc := 48) C (lv' := [(0, .ref v0), (1, vL v1), (3, vI v4), (4, vI v4)]) (by decide) rfl dX6_item_48 ?_
        refine z_iinc (pc := 49) C (lv' := [(0, .ref v0), (1, vL v1), (3, vI v4), (4, vI (v4 + 1))]) 3 rfl (by decide) rfl dX6_item_49 ?_
        refine z_goto (pc := 52) C dX6_item_52 (tgt := 5) (by decide) ?_
        exact hk5 v0 v1 v4 (v4 + 1) M _ hv0 h
theorem cL_X6_item_5 {X : x_Ctx} {M0 : Mem} (C : x_CC X 1 24 yX6_item cX6_item 5 (some .int) [])  : ∀ (n : Nat) (v0 : Nat) (v1 : Int) (v3 : Int) (v4 : Int) (M : Mem) (r : Int) (hv0 : m_kd M v0 = 6) (h : L_X6_item_5  n v0 v1 v3 v4 M = some r) , x_Z X 0 0 (x_QF X M0 (.returned (some (vI r))) M 0 0) M0 M 5 [(0, .ref v0), (1, vL v1), (3, vI v3), (4, vI v4)] 5 [] := by
  intro n
  induction n with
  | zero => intro v0 v1 v3 v4 M r hv0 h ; cases h
  | succ n ih => intro v0 v1 v3 v4 M r hv0 h ; exact cB_X6_item_5 C (fun v0 v1 v3 v4 M r hv0 h  => ih v0 v1 v3 v4 M r hv0 h ) v0 v1 v3 v4 M r hv0 h 
theorem ct_X6_item {l : Launch} {S0 : State} {D : va_G} {cA : Nat → ClassId} (hG : x_G l S0 D cA) (v0 : Nat) (v1 : Int) (M : Mem) (r : Int) (hv0 : m_kd M v0 = 6) (h : d_X6_item v0 v1 M = some r) : x_Me l S0 D cA yX6_item cX6_item 5 (some .int) [] ({ frames := 1, cells := 0, slots := 0, locals := 24 }) [.ref v0, vL v1] M (.returned (some (vI r))) M := by
  refine x_begin (F := 1) (Lo := 24) (mc := 0) (ms := 0) hG (Nat.le_of_ble_eq_true rfl) (lv := [(0, .ref v0), (1, vL v1)]) rfl rfl rfl rfl rfl (fun X e1 e2 e3 e4 e5 C => ?_)
  unfold d_X6_item at h
  refine z_iconst (pc := 0) C dX6_item_0 ?_
  refine z_istore_n (pc := 1) C (lv' := [(0, .ref v0), (1, vL v1), (3, vI (-1))]) (by decide) rfl dX6_item_1 ?_
  refine z_iconst (pc := 2) C dX6_item_2 ?_
  refine z_istore (pc := 3) C (lv' := [(0, .ref v0), (1, vL v1), (3, vI (-1)), (4, vI 0)]) (by decide) rfl dX6_item_3 ?_
  exact cL_X6_item_5 C FU v0 v1 (-1) 0 M _ hv0 h
def B_X6_told_25  (v0 : Nat) (v1 : Int) (s0 : Nat) (s1 : Int) (M : Mem) : Option ((Int ⊕ Nat) × Mem) :=
  bT (d_X6_want s0 s1 M) fun r7 M8 => 
  bR (m_r M8 600 v0 0) fun q13 => 
  bR (d_X6_nameHere v0 M8) fun r16 => 
  if inb v1 20 then 
  bN (d_X6_next v0 (m_si M8 206 q13 (ixn v1) r16)) fun r19 M20 => 
  some (.inl 0, M20) else none
def B_X6_told_24  (v0 : Nat) (v1 : Int) (s0 : Nat) (M : Mem) : Option ((Int ⊕ Nat) × Mem) :=
  B_X6_told_25 v0 v1 s0 0 M
def d_X6_told (v0 : Nat) (v1 : Int) (M : Mem) : Option ((Int ⊕ Nat) × Mem) :=
  bR (d_X6_isName v0 M) fun r4 => 
  if w32 r4 = 0 then
    B_X6_told_24 v0 v1 v0 M
  else
    bR (d_X6_nameHere v0 M) fun r23 => 
    bR (d_X6_item v0 r23 M) fun r25 => 
    if w32 r25 = w32 (-1) then
      B_X6_told_25 v0 v1 v0 1 M
    else
      B_X6_told_24 v0 v1 v0 M
theorem cB_X6_told_25 {X : x_Ctx} {M0 : Mem} (C : x_CC X 7 274 yX6_told cX6_told 2 none [])  (v0 : Nat) (v1 : Int) (s0 : Nat) (s1 : Int) (M : Mem) (r : Int ⊕ Nat) (M' : Mem) (hv0 : m_kd M v0 = 6) (hs0 : m_kd M s0 = 6) (h : B_X6_told_25  v0 v1 s0 s1 M = some (r, M')) (hR : ocN r 0 1 ≤ (XR X).cells ∧ ocN r 0 7 ≤ (XR X).slots) : x_Z X 0 0 (x_QF X M0 (ocV r) M' (ocN r 0 1) (ocN r 0 7)) M0 M 2 [(0, .ref v0), (1, vI v1)] 25 [vI s1, .ref s0] := by
  unfold B_X6_told_25 at h
  rcases bTs h with ⟨x11, e9, er⟩ | ⟨r7, M8, e9, h⟩
  · subst er; exact tX6_108 (pc := 25) C rfl (rm := { frames := 6, cells := 1, slots := 7, locals := 249 }) (ct_X6_want C.2.1 s0 s1 M _ _ hs0 e9) ⟨by decide, by decide, Nat.le_trans (show 1 ≤ 1 from by decide) hR.1, Nat.le_trans (show 7 ≤ 7 from by decide) hR.2⟩ (Or.inl hs0) (Nat.le_of_ble_eq_true rfl) dX6_told_25 (by decide) (show 1 ≤ 1 from by decide) (show 7 ≤ 7 from by decide)
  refine cX6_108 (pc := 25) (st := []) (st1 := []) C rfl (rm := { frames := 6, cells := 0, slots := 0, locals := 249 }) (ct_X6_want C.2.1 s0 s1 M _ _ hs0 e9) ⟨by decide, by decide, Nat.zero_le _, Nat.zero_le _⟩ (Or.inl hs0) rfl (Nat.le_of_ble_eq_true rfl) dX6_told_25 (c2 := 0) (s2 := 0) rfl rfl (fun x10 => ?_)
  have k12 := x10 _ 6 (by decide) (Or.inl (by decide)) hv0
  refine z_aload_n (pc := 28) C 0 rfl dX6_told_28 ?_
  obtain ⟨q13, e14, h⟩ := bRs h
  refine gX6_600 (pc := 29) C rfl (Or.inl k12) e14 dX6_told_29 (fun k15 => ?_)
  refine gX6_206 (pc := 32) C rfl k15 dX6_told_32 ?_
  refine z_iload_n (pc := 35) C 1 rfl dX6_told_35 ?_
  refine z_aload_n (pc := 36) C 0 rfl dX6_told_36 ?_
  obtain ⟨r16, e17, h⟩ := bRs h
  refine cX6_163 (pc := 37) (st := [vI v1, .ref (q13 + 5)]) (st1 := [vL r16, vI v1, .ref (q13 + 5)]) C rfl (rm := { frames := 2, cells := 0, slots := 0, locals := 49 }) (ct_X6_nameHere C.2.1 v0 M8 _ k12 e17) ⟨by decide, by decide, Nat.zero_le _, Nat.zero_le _⟩ (Or.inl k12) rfl (Nat.le_of_ble_eq_true rfl) dX6_told_37 (c2 := 0) (s2 := 0) rfl rfl (fun _ => ?_)
  obtain ⟨c18, h⟩ := ifn h
  refine z_lsO (pc := 40) (k := 2) (j := 6) C 206 rfl (by decide) (by decide) (by decide) rfl rfl rfl rfl k15 c18 dX6_told_40 ?_
  refine z_aload_n (pc := 41) C 0 rfl dX6_told_41 ?_
  obtain ⟨r19, M20, e21, h⟩ := bNs h
  refine cX6_73 (pc := 42) (st := []) (st1 := []) C rfl (rm := { frames := 2, cells := 0, slots := 0, locals := 49 }) (ct_X6_next C.2.1 v0 (m_si M8 206 q13 (ixn v1) r16) _ _ k12 e21) ⟨by decide, by decide, Nat.zero_le _, Nat.zero_le _⟩ (Or.inl k12) rfl (Nat.le_of_ble_eq_true rfl) dX6_told_42 (c2 := 0) (s2 := 0) rfl rfl (fun x22 => ?_)
  cases h
  exact z_vret (pc := 45) C rfl (show 0 ≤ 0 from by decide) (show 0 ≤ 0 from by decide) dX6_told_45
theorem cB_X6_told_24 {X : x_Ctx} {M0 : Mem} (C : x_CC X 7 274 yX6_told cX6_told 2 none [])  (v0 : Nat) (v1 : Int) (s0 : Nat) (M : Mem) (r : Int ⊕ Nat) (M' : Mem) (hv0 : m_kd M v0 = 6) (hs0 : m_kd M s0 = 6) (h : B_X6_told_24  v0 v1 s0 M = some (r, M')) (hR : ocN r 0 1 ≤ (XR X).cells ∧ ocN r 0 7 ≤ (XR X).slots) : x_Z X 0 0 (x_QF X M0 (ocV r) M' (ocN r 0 1) (ocN r 0 7)) M0 M 2 [(0, .ref v0), (1, vI v1)] 24 [.ref s0] := by
  unfold B_X6_told_24 at h
  refine z_iconst (pc := 24) C dX6_told_24 ?_
  exact cB_X6_told_25 C v0 v1 s0 0 M _ _ hv0 hs0 h hR
theorem ct_X6_told {l : Launch} {S0 : State} {D : va_G} {cA : Nat → ClassId} (hG : x_G l S0 D cA) (v0 : Nat) (v1 : Int) (M : Mem) (r : Int ⊕ Nat) (M' : Mem) (hv0 : m_kd M v0 = 6) (h : d_X6_told v0 v1 M = some (r, M')) : x_Me l S0 D cA yX6_told cX6_told 2 none [] ({ frames := 7, cells := (ocN r 0 1), slots := (ocN r 0 7), locals := 274 }) [.ref v0, vI v1] M (ocV r) M' := by
  refine x_begin (F := 7) (Lo := 274) (mc := (ocN r 0 1)) (ms := (ocN r 0 7)) hG (Nat.le_of_ble_eq_true rfl) (lv := [(0, .ref v0), (1, vI v1)]) rfl rfl rfl rfl rfl (fun X e1 e2 e3 e4 e5 C => ?_)
  have hR : _ ∧ _ := ⟨Nat.le_of_eq (congrArg Room.cells e5).symm, Nat.le_of_eq (congrArg Room.slots e5).symm⟩
  unfold d_X6_told at h
  refine z_aload_n (pc := 0) C 0 rfl dX6_told_0 ?_
  refine z_aload_n (pc := 1) C 0 rfl dX6_told_1 ?_
  obtain ⟨r4, e5, h⟩ := bRs h
  refine cX6_159 (pc := 2) (st := [.ref v0]) (st1 := [vI r4, .ref v0]) C rfl (rm := { frames := 6, cells := 0, slots := 0, locals := 153 }) (ct_X6_isName C.2.1 v0 M _ hv0 e5) ⟨by decide, by decide, Nat.zero_le _, Nat.zero_le _⟩ (Or.inl hv0) rfl (Nat.le_of_ble_eq_true rfl) dX6_told_2 (c2 := 0) (s2 := 0) rfl rfl (fun _ => ?_)
  refine z_if_eq (pc := 5) C dX6_told_5 (tgt := 24) (by decide) (fun c6 => ?_) (fun c6 => ?_)
  · have h := itt c6 h
    exact cB_X6_told_24 C v0 v1 v0 M _ _ hv0 hv0 h hR
  · have h := itf c6 h
    refine z_aload_n (pc := 8) C 0 rfl dX6_told_8 ?_
    refine z_aload_n (pc := 9) C 0 rfl dX6_told_9 ?_
    obtain ⟨r23, e24, h⟩ := bRs h
    refine cX6_163 (pc := 10) (st := [.ref v0, .ref v0]) (st1 := [vL r23, .ref v0, .ref v0]) C rfl (rm := { frames := 2, cells := 0, slots := 0, locals := 49 }) (ct_X6_nameHere C.2.1 v0 M _ hv0 e24) ⟨by decide, by decide, Nat.zero_le _, Nat.zero_le _⟩ (Or.inl hv0) rfl (Nat.le_of_ble_eq_true rfl) dX6_told_10 (c2 := 0) (s2 := 0) rfl rfl (fun _ => ?_)
    obtain ⟨r25, e26, h⟩ := bRs h
    refine cX6_167 (pc := 13) (st := [.ref v0]) (st1 := [vI r25, .ref v0]) C rfl (rm := { frames := 1, cells := 0, slots := 0, locals := 24 }) (ct_X6_item C.2.1 v0 r23 M _ hv0 e26) ⟨by decide, by decide, Nat.zero_le _, Nat.zero_le _⟩ (Or.inl hv0) rfl (Nat.le_of_ble_eq_true rfl) dX6_told_13 (c2 := 0) (s2 := 0) rfl rfl (fun _ => ?_)
    refine z_iconst (pc := 16) C dX6_told_16 ?_
    refine z_ic_ne (pc := 17) C dX6_told_17 (tgt := 24) (by decide) (fun c27 => ?_) (fun c27 => ?_)
    · have h := itf c27 h
      exact cB_X6_told_24 C v0 v1 v0 M _ _ hv0 hv0 h hR
    · have h := itt c27 h
      refine z_iconst (pc := 20) C dX6_told_20 ?_
      refine z_goto (pc := 21) C dX6_told_21 (tgt := 25) (by decide) ?_
      exact cB_X6_told_25 C v0 v1 v0 1 M _ _ hv0 hv0 h hR
def d_X6_passes (v0 : Nat) (v1 : Nat) (M : Mem) : Option (Int × Mem) :=
  bR (d_X6_is v0 v1 M) fun r1 => 
  if w32 r1 = 0 then
    some (0, M)
  else
    bN (d_X6_next v0 M) fun r4 M5 => 
    some (1, M5)
theorem ct_X6_passes {l : Launch} {S0 : State} {D : va_G} {cA : Nat → ClassId} (hG : x_G l S0 D cA) (v0 : Nat) (v1 : Nat) (M : Mem) (r : Int) (M' : Mem) (hv0 : m_kd M v0 = 6) (hv1 : v1 < 23) (h : d_X6_passes v0 v1 M = some (r, M')) : x_Me l S0 D cA yX6_passes cX6_passes 2 (some .boolean) [] ({ frames := 6, cells := 0, slots := 0, locals := 153 }) [.ref v0, vS D v1] M (.returned (some (vI r))) M' := by
  refine x_begin (F := 6) (Lo := 153) (mc := 0) (ms := 0) hG (Nat.le_of_ble_eq_true rfl) (lv := [(0, .ref v0), (1, vS D v1)]) rfl rfl rfl rfl rfl (fun X e1 e2 e3 e4 e5 C => ?_)
  subst e3
  unfold d_X6_passes at h
  refine z_aload_n (pc := 0) C 0 rfl dX6_passes_0 ?_
  refine z_aload_n (pc := 1) C 1 rfl dX6_passes_1 ?_
  obtain ⟨r1, e2, h⟩ := bRs h
  refine cX6_69 (pc := 2) (st := []) (st1 := [vI r1]) C rfl (rm := { frames := 5, cells := 0, slots := 0, locals := 126 }) (ct_X6_is C.2.1 v0 v1 M _ hv0 hv1 e2) ⟨by decide, by decide, Nat.zero_le _, Nat.zero_le _⟩ (Or.inl hv0) rfl (Nat.le_of_ble_eq_true rfl) dX6_passes_2 (c2 := 0) (s2 := 0) rfl rfl (fun _ => ?_)
  refine z_if_ne (pc := 5) C dX6_passes_5 (tgt := 10) (by decide) (fun c3 => ?_) (fun c3 => ?_)
  · have h := itf c3 h
    refine z_aload_n (pc := 10) C 0 rfl dX6_passes_10 ?_
    obtain ⟨r4, M5, e6, h⟩ := bNs h
    refine cX6_73 (pc := 11) (st := []) (st1 := []) C rfl (rm := { frames := 2, cells := 0, slots := 0, locals := 49 }) (ct_X6_next C.2.1 v0 M _ _ hv0 e6) ⟨by decide, by decide, Nat.zero_le _, Nat.zero_le _⟩ (Or.inl hv0) rfl (Nat.le_of_ble_eq_true rfl) dX6_passes_11 (c2 := 0) (s2 := 0) rfl rfl (fun x7 => ?_)
    refine z_iconst (pc := 14) C dX6_passes_14 ?_
    cases h
    exact z_zret (pc := 15) C rfl (Or.inr rfl) (show 0 ≤ 0 from by decide) (show 0 ≤ 0 from by decide) dX6_passes_15
  · have h := itt c3 h
    refine z_iconst (pc := 8) C dX6_passes_8 ?_
    cases h
    exact z_zret (pc := 9) C rfl (Or.inl rfl) (show 0 ≤ 0 from by decide) (show 0 ≤ 0 from by decide) dX6_passes_9
def B_X6_digits_7 (k7 : Nat → Int → Int → Mem → Option Int) (v0 : Nat) (v1 : Int) (v2 : Int) (M : Mem) : Option Int :=
  if w32 (m_i M 601 v0 0) ≤ w32 v2 then
    some v1
  else
    bR (d_X6_byteAt v0 v2 M) fun r2 => 
    k7 v0 (((10 * v1) + r2) - 48) (v2 + 1) M
def L_X6_digits_7  : Nat → Nat → Int → Int → Mem → Option Int
  | 0, _, _, _, _ => none
  | n + 1, v0, v1, v2, M => B_X6_digits_7 (L_X6_digits_7  n) v0 v1 v2 M
def d_X6_digits (v0 : Nat) (M : Mem) : Option Int :=
  L_X6_digits_7 FU v0 0 (m_i M 602 v0 0) M
theorem cB_X6_digits_7 {X : x_Ctx} {M0 : Mem} (C : x_CC X 2 49 yX6_digits cX6_digits 3 (some .int) []) {k7 : Nat → Int → Int → Mem → Option Int} (hk7 : ∀ (v0 : Nat) (v1 : Int) (v2 : Int) (M : Mem) (r : Int), m_kd M v0 = 6 → k7 v0 v1 v2 M = some r → x_Z X 0 0 (x_QF X M0 (.returned (some (vI r))) M 0 0) M0 M 3 [(0, .ref v0), (1, vI v1), (2, vI v2)] 7 []) (v0 : Nat) (v1 : Int) (v2 : Int) (M : Mem) (r : Int) (hv0 : m_kd M v0 = 6) (h : B_X6_digits_7 k7 v0 v1 v2 M = some r)  : x_Z X 0 0 (x_QF X M0 (.returned (some (vI r))) M 0 0) M0 M 3 [(0, .ref v0), (1, vI v1), (2, vI v2)] 7 [] := by
  unfold B_X6_digits_7 at h
  refine z_iload_n (pc := 7) C 2 rfl dX6_digits_7 ?_
  refine z_aload_n (pc := 8) C 0 rfl dX6_digits_8 ?_
  refine gX6_601 (pc := 9) C rfl (Or.inl hv0) rfl dX6_digits_9 ?_
  refine z_ic_ge (pc := 12) C dX6_digits_12 (tgt := 35) (by decide) (fun c1 => ?_) (fun c1 => ?_)
  · have h := itt c1 h
    refine z_iload_n (pc := 35) C 1 rfl dX6_digits_35 ?_
    cases h
    exact z_iret (pc := 36) C rfl (show 0 ≤ 0 from by decide) (show 0 ≤ 0 from by decide) dX6_digits_36
  · have h := itf c1 h
    refine z_bipush (pc := 15) C (by decide +kernel) dX6_digits_15 ?_
    refine z_iload_n (pc := 17) C 1 rfl dX6_digits_17 ?_
    refine z_imul (pc := 18) C dX6_digits_18 ?_
    refine z_aload_n (pc := 19) C 0 rfl dX6_digits_19 ?_
    refine z_iload_n (pc := 20) C 2 rfl dX6_digits_20 ?_
    obtain ⟨r2, e3, h⟩ := bRs h
    refine cX6_33 (pc := 21) (st := [vI (10 * v1)]) (st1 := [vI r2, vI (10 * v1)]) C rfl (rm := { frames := 1, cells := 0, slots := 0, locals := 24 }) (ct_X6_byteAt C.2.1 v0 v2 M _ hv0 e3) ⟨by decide, by decide, Nat.zero_le _, Nat.zero_le _⟩ (Or.inl hv0) rfl (Nat.le_of_ble_eq_true rfl) dX6_digits_21 (c2 := 0) (s2 := 0) rfl rfl (fun _ => ?_)
    refine z_iadd (pc := 24) C dX6_digits_24 ?_
    refine z_bipush (pc := 25) C (by decide +kernel) dX6_digits_25 ?_
    refine z_isub (pc := 27) C dX6_digits_27 ?_
    refine z_istore_n (pc := 28) C (lv' := [(0, .ref v0), (1, vI (((10 * v1) + r2) - 48)), (2, vI v2)]) (by decide) rfl dX6_digits_28 ?_
    refine z_iinc (pc := 29) C (lv' := [(0, .ref v0), (1, vI (((10 * v1) + r2) - 48)), (2, vI (v2 + 1))]) 2 rfl (by decide) rfl dX6_digits_29 ?_
    refine z_goto (pc := 32) C dX6_digits_32 (tgt := 7) (by decide) ?_
    exact hk7 v0 (((10 * v1) + r2) - 48) (v2 + 1) M _ hv0 h
theorem cL_X6_digits_7 {X : x_Ctx} {M0 : Mem} (C : x_CC X 2 49 yX6_digits cX6_digits 3 (some .int) [])  : ∀ (n : Nat) (v0 : Nat) (v1 : Int) (v2 : Int) (M : Mem) (r : Int) (hv0 : m_kd M v0 = 6) (h : L_X6_digits_7  n v0 v1 v2 M = some r) , x_Z X 0 0 (x_QF X M0 (.returned (some (vI r))) M 0 0) M0 M 3 [(0, .ref v0), (1, vI v1), (2, vI v2)] 7 [] := by
  intro n
  induction n with
  | zero => intro v0 v1 v2 M r hv0 h ; cases h
  | succ n ih => intro v0 v1 v2 M r hv0 h ; exact cB_X6_digits_7 C (fun v0 v1 v2 M r hv0 h  => ih v0 v1 v2 M r hv0 h ) v0 v1 v2 M r hv0 h 
theorem ct_X6_digits {l : Launch} {S0 : State} {D : va_G} {cA : Nat → ClassId} (hG : x_G l S0 D cA) (v0 : Nat) (M : Mem) (r : Int) (hv0 : m_kd M v0 = 6) (h : d_X6_digits v0 M = some r) : x_Me l S0 D cA yX6_digits cX6_digits 3 (some .int) [] ({ frames := 2, cells := 0, slots := 0, locals := 49 }) [.ref v0] M (.returned (some (vI r))) M := by
  refine x_begin (F := 2) (Lo := 49) (mc := 0) (ms := 0) hG (Nat.le_of_ble_eq_true rfl) (lv := [(0, .ref v0)]) rfl rfl rfl rfl rfl (fun X e1 e2 e3 e4 e5 C => ?_)
  unfold d_X6_digits at h
  refine z_iconst (pc := 0) C dX6_digits_0 ?_
  refine z_istore_n (pc := 1) C (lv' := [(0, .ref v0), (1, vI 0)]) (by decide) rfl dX6_digits_1 ?_
  refine z_aload_n (pc := 2) C 0 rfl dX6_digits_2 ?_
  refine gX6_602 (pc := 3) C rfl (Or.inl hv0) rfl dX6_digits_3 ?_
  refine z_istore_n (pc := 6) C (lv' := [(0, .ref v0), (1, vI 0), (2, vI (m_i M 602 v0 0))]) (by decide) rfl dX6_digits_6 ?_
  exact cL_X6_digits_7 C FU v0 0 (m_i M 602 v0 0) M _ hv0 h
def B_X6_bound_45  (v0 : Nat) (v1 : Int) (v2 : Int) (s0 : Int) (M : Mem) : Option ((Int ⊕ Nat) × Mem) :=
  if w32 v1 ≤ w32 s0 then
    bN (d_X6_next v0 M) fun r17 M18 => 
    some (.inl s0, M18)
  else
    bN (d_X7_init (m_sz M) v2 (m_nw M 107)) fun r23 M24 => 
    if m_kd M24 (m_sz M) = 7 then 
    some (.inr (m_sz M), M24) else none
def B_X6_bound_26  (v0 : Nat) (v1 : Int) (v2 : Int) (v3 : Int) (s0 : Nat) (s1 : Int) (M : Mem) : Option ((Int ⊕ Nat) × Mem) :=
  bT (d_X6_want s0 s1 M) fun r7 M8 => 
  if w32 v3 = 0 then
    bR (d_X6_digits v0 M8) fun r14 => 
    B_X6_bound_45 v0 v1 v2 r14 M8
  else
    bR (d_X6_digits v0 M8) fun r28 => 
    B_X6_bound_45 v0 v1 v2 (-r28) M8
def d_X6_bound (v0 : Nat) (v1 : Int) (M : Mem) : Option ((Int ⊕ Nat) × Mem) :=
  bN (d_X6_passes v0 13 M) fun r1 M2 => 
  if w32 (m_i M2 603 v0 0) = w32 2 then
    B_X6_bound_26 v0 v1 (m_i M 602 v0 0) r1 v0 1 M2
  else
    B_X6_bound_26 v0 v1 (m_i M 602 v0 0) r1 v0 0 M2
theorem cB_X6_bound_45 {X : x_Ctx} {M0 : Mem} (C : x_CC X 7 274 yX6_bound cX6_bound 5 (some .int) [])  (v0 : Nat) (v1 : Int) (v2 : Int) (s0 : Int) (M : Mem) (r : Int ⊕ Nat) (M' : Mem) (hv0 : m_kd M v0 = 6) (h : B_X6_bound_45  v0 v1 v2 s0 M = some (r, M')) (hR : ocN r 0 1 ≤ (XR X).cells ∧ ocN r 0 7 ≤ (XR X).slots) : x_Z X 0 0 (x_QF X M0 (ocI r) M' (ocN r 0 1) (ocN r 0 7)) M0 M 5 [(0, .ref v0), (1, vI v1), (2, vI v2)] 45 [vI s0] := by
  unfold B_X6_bound_45 at h
  refine z_istore (pc := 45) C (lv' := [(0, .ref v0), (1, vI v1), (2, vI v2), (4, vI s0)]) (by decide) rfl dX6_bound_45 ?_
  refine z_iload (pc := 47) C 3 rfl dX6_bound_47 ?_
  refine z_iload_n (pc := 49) C 1 rfl dX6_bound_49 ?_
  refine z_ic_ge (pc := 50) C dX6_bound_50 (tgt := 62) (by decide) (fun c16 => ?_) (fun c16 => ?_)
  · have h := itt c16 h
    refine z_aload_n (pc := 62) C 0 rfl dX6_bound_62 ?_
    obtain ⟨r17, M18, e19, h⟩ := bNs h
    refine cX6_73 (pc := 63) (st := []) (st1 := []) C rfl (rm := { frames := 2, cells := 0, slots := 0, locals := 49 }) (ct_X6_next C.2.1 v0 M _ _ hv0 e19) ⟨by decide, by decide, Nat.zero_le _, Nat.zero_le _⟩ (Or.inl hv0) rfl (Nat.le_of_ble_eq_true rfl) dX6_bound_63 (c2 := 0) (s2 := 0) rfl rfl (fun x20 => ?_)
    refine z_iload (pc := 66) C 3 rfl dX6_bound_66 ?_
    cases h
    exact z_iret (pc := 68) C rfl (show 0 ≤ 0 from by decide) (show 0 ≤ 0 from by decide) dX6_bound_68
  · have h := itf c16 h
    obtain ⟨r23, M24, e25, h⟩ := bNs h
    obtain ⟨c27, h⟩ := ifn h
    cases h
    refine nX6_7 (pc := 53) C rfl (a := m_sz M) (Nat.le_trans (show 1 ≤ 1 from by decide) hR.1) (Nat.le_trans (show 7 ≤ 7 from by decide) hR.2) dX6_bound_53 (c2 := 1) (s2 := 7) rfl rfl rfl (fun k21 x22 => ?_)
    refine z_dup (pc := 56) C rfl dX6_bound_56 ?_
    refine z_iload_n (pc := 57) C 2 rfl dX6_bound_57 ?_
    refine cX6_62 (pc := 58) (st := [.ref (m_sz M)]) C rfl (rm := { frames := 4, cells := 0, slots := 0, locals := 200 }) (ct_X7_init C.2.1 (m_sz M) v2 (m_nw M 107) _ _ k21 e25) ⟨by decide, by decide, Nat.le_trans (show 1 ≤ 1 from by decide) hR.1, Nat.le_trans (show 7 ≤ 7 from by decide) hR.2⟩ (Nat.le_of_ble_eq_true rfl) dX6_bound_58 (c2 := 1) (s2 := 7) rfl rfl (fun x26 => ?_)
    exact z_athrow (pc := 61) C (by decide) (show 1 ≤ 1 from by decide) (show 7 ≤ 7 from by decide) dX6_bound_61
theorem cB_X6_bound_26 {X : x_Ctx} {M0 : Mem} (C : x_CC X 7 274 yX6_bound cX6_bound 5 (some .int) [])  (v0 : Nat) (v1 : Int) (v2 : Int) (v3 : Int) (s0 : Nat) (s1 : Int) (M : Mem) (r : Int ⊕ Nat) (M' : Mem) (hv0 : m_kd M v0 = 6) (hs0 : m_kd M s0 = 6) (h : B_X6_bound_26  v0 v1 v2 v3 s0 s1 M = some (r, M')) (hR : ocN r 0 1 ≤ (XR X).cells ∧ ocN r 0 7 ≤ (XR X).slots) : x_Z X 0 0 (x_QF X M0 (ocI r) M' (ocN r 0 1) (ocN r 0 7)) M0 M 5 [(0, .ref v0), (1, vI v1), (2, vI v2), (3, vI v3)] 26 [vI s1, .ref s0] := by
  unfold B_X6_bound_26 at h
  rcases bTs h with ⟨x11, e9, er⟩ | ⟨r7, M8, e9, h⟩
  · subst er; exact tX6_108 (pc := 26) C rfl (rm := { frames := 6, cells := 1, slots := 7, locals := 249 }) (ct_X6_want C.2.1 s0 s1 M _ _ hs0 e9) ⟨by decide, by decide, Nat.le_trans (show 1 ≤ 1 from by decide) hR.1, Nat.le_trans (show 7 ≤ 7 from by decide) hR.2⟩ (Or.inl hs0) (Nat.le_of_ble_eq_true rfl) dX6_bound_26 (by decide) (show 1 ≤ 1 from by decide) (show 7 ≤ 7 from by decide)
  refine cX6_108 (pc := 26) (st := []) (st1 := []) C rfl (rm := { frames := 6, cells := 0, slots := 0, locals := 249 }) (ct_X6_want C.2.1 s0 s1 M _ _ hs0 e9) ⟨by decide, by decide, Nat.zero_le _, Nat.zero_le _⟩ (Or.inl hs0) rfl (Nat.le_of_ble_eq_true rfl) dX6_bound_26 (c2 := 0) (s2 := 0) rfl rfl (fun x10 => ?_)
  have k12 := x10 _ 6 (by decide) (Or.inl (by decide)) hv0
  refine z_iload_n (pc := 29) C 3 rfl dX6_bound_29 ?_
  refine z_if_eq (pc := 30) C dX6_bound_30 (tgt := 41) (by decide) (fun c13 => ?_) (fun c13 => ?_)
  · have h := itt c13 h
    refine z_aload_n (pc := 41) C 0 rfl dX6_bound_41 ?_
    obtain ⟨r14, e15, h⟩ := bRs h
    refine cX6_173 (pc := 42) (st := []) (st1 := [vI r14]) C rfl (rm := { frames := 2, cells := 0, slots := 0, locals := 49 }) (ct_X6_digits C.2.1 v0 M8 _ k12 e15) ⟨by decide, by decide, Nat.zero_le _, Nat.zero_le _⟩ (Or.inl k12) rfl (Nat.le_of_ble_eq_true rfl) dX6_bound_42 (c2 := 0) (s2 := 0) rfl rfl (fun _ => ?_)
    exact z_lv [0, 1, 2] rfl <| cB_X6_bound_45 C v0 v1 v2 r14 M8 _ _ k12 h hR
  · have h := itf c13 h
    refine z_aload_n (pc := 33) C 0 rfl dX6_bound_33 ?_
    obtain ⟨r28, e29, h⟩ := bRs h
    refine cX6_173 (pc := 34) (st := []) (st1 := [vI r28]) C rfl (rm := { frames := 2, cells := 0, slots := 0, locals := 49 }) (ct_X6_digits C.2.1 v0 M8 _ k12 e29) ⟨by decide, by decide, Nat.zero_le _, Nat.zero_le _⟩ (Or.inl k12) rfl (Nat.le_of_ble_eq_true rfl) dX6_bound_34 (c2 := 0) (s2 := 0) rfl rfl (fun _ => ?_)
    refine z_ineg (pc := 37) C dX6_bound_37 ?_
    refine z_goto (pc := 38) C dX6_bound_38 (tgt := 45) (by decide) ?_
    exact z_lv [0, 1, 2] rfl <| cB_X6_bound_45 C v0 v1 v2 (-r28) M8 _ _ k12 h hR
theorem ct_X6_bound {l : Launch} {S0 : State} {D : va_G} {cA : Nat → ClassId} (hG : x_G l S0 D cA) (v0 : Nat) (v1 : Int) (M : Mem) (r : Int ⊕ Nat) (M' : Mem) (hv0 : m_kd M v0 = 6) (h : d_X6_bound v0 v1 M = some (r, M')) : x_Me l S0 D cA yX6_bound cX6_bound 5 (some .int) [] ({ frames := 7, cells := (ocN r 0 1), slots := (ocN r 0 7), locals := 274 }) [.ref v0, vI v1] M (ocI r) M' := by
  refine x_begin (F := 7) (Lo := 274) (mc := (ocN r 0 1)) (ms := (ocN r 0 7)) hG (Nat.le_of_ble_eq_true rfl) (lv := [(0, .ref v0), (1, vI v1)]) rfl rfl rfl rfl rfl (fun X e1 e2 e3 e4 e5 C => ?_)
  have hR : _ ∧ _ := ⟨Nat.le_of_eq (congrArg Room.cells e5).symm, Nat.le_of_eq (congrArg Room.slots e5).symm⟩
  unfold d_X6_bound at h
  refine z_aload_n (pc := 0) C 0 rfl dX6_bound_0 ?_
  refine gX6_602 (pc := 1) C rfl (Or.inl hv0) rfl dX6_bound_1 ?_
  refine z_istore_n (pc := 4) C (lv' := [(0, .ref v0), (1, vI v1), (2, vI (m_i M 602 v0 0))]) (by decide) rfl dX6_bound_4 ?_
  refine z_aload_n (pc := 5) C 0 rfl dX6_bound_5 ?_
  refine z_lds (pc := 6) C 13 (by decide) rfl dX6_bound_6 ?_
  obtain ⟨r1, M2, e3, h⟩ := bNs h
  refine cX6_147 (pc := 8) (st := []) (st1 := [vI r1]) C rfl (rm := { frames := 6, cells := 0, slots := 0, locals := 153 }) (ct_X6_passes C.2.1 v0 13 M _ _ hv0 (by decide) e3) ⟨by decide, by decide, Nat.zero_le _, Nat.zero_le _⟩ (Or.inl hv0) rfl (Nat.le_of_ble_eq_true rfl) dX6_bound_8 (c2 := 0) (s2 := 0) rfl rfl (fun x4 => ?_)
  have k5 := x4 _ 6 (by decide) (Or.inl (by decide)) hv0
  refine z_istore_n (pc := 11) C (lv' := [(0, .ref v0), (1, vI v1), (2, vI (m_i M 602 v0 0)), (3, vI r1)]) (by decide) rfl dX6_bound_11 ?_
  refine z_aload_n (pc := 12) C 0 rfl dX6_bound_12 ?_
  refine z_aload_n (pc := 13) C 0 rfl dX6_bound_13 ?_
  refine gX6_603 (pc := 14) C rfl (Or.inl k5) rfl dX6_bound_14 ?_
  refine z_iconst (pc := 17) C dX6_bound_17 ?_
  refine z_ic_ne (pc := 18) C dX6_bound_18 (tgt := 25) (by decide) (fun c6 => ?_) (fun c6 => ?_)
  · have h := itf c6 h
    refine z_iconst (pc := 25) C dX6_bound_25 ?_
    exact cB_X6_bound_26 C v0 v1 (m_i M 602 v0 0) r1 v0 0 M2 _ _ k5 k5 h hR
  · have h := itt c6 h
    refine z_iconst (pc := 21) C dX6_bound_21 ?_
    refine z_goto (pc := 22) C dX6_bound_22 (tgt := 26) (by decide) ?_
    exact cB_X6_bound_26 C v0 v1 (m_i M 602 v0 0) r1 v0 1 M2 _ _ k5 k5 h hR
